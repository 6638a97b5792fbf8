def s_Mod_access (N : tS) (p t k pg kd ph fr : Nat) : Int32 × tS :=
  if kd = 1 then (if ph = 4 then (if N 22 (16 * p + pg) = 0 then (nI 0, tset N 10 t (nI 5))
      else if N 24 (16 * p + pg) = 0 then (nI 1, tset N 6 k (-2))
        else (nI 1, tset (tset N 21 fr (N 5 k)) 6 k (N 21 fr)))
    else if ph = 5 then (if N 20 (pg / 4) = 0 then (nI 1, tset N 6 k (-2))
        else (nI 0, tset N 10 t (nI 6)))
      else if N 18 pg < 0 then (nI 1, tset N 6 k (-2))
        else if N 19 pg = 0 then (nI 1, tset N 6 k (-2))
          else (nI 0, tset (s_know N p pg (N 31 0)) 10 t (nI 4)))
  else if ph = 4 then (if N 22 (16 * p + pg) = 0 then (nI 0, tset N 10 t (nI 5))
      else (nI 1, tset N 6 k (N 21 fr)))
    else if ph = 5 then (if N 20 (pg / 4) = 0 then (nI 1, tset N 6 k (-2))
        else (nI 0, tset N 10 t (nI 6)))
      else if N 18 pg < 0 then (nI 1, tset N 6 k (-2))
        else (nI 0, tset (s_know N p pg (N 31 0)) 10 t (nI 4))
set_option maxHeartbeats 1000000 in
theorem c_Mod_access (X : gCx) (l : Launch) (h nx : Nat) (N : tS) (p t k pg kd ph fr : Nat) (hp : p < 4) (ht : t < 8) (hk : k < 80) (hpg : N 3 k = nI pg) (hpg2 : pg < 16) (hkd : N 2 k = nI kd) (hkd2 : kd < 6) (hph : N 10 t = nI ph) (hph2 : ph < 16) (hfr : ¬ N 22 (16 * p + pg) = 0 → N 23 (16 * p + pg) = nI fr ∧ fr < 10) (hwb : narrow .boolean (.int (N 19 pg)) = .int (N 19 pg)) : gMi X l (HoldT X h nx) M_Mod_access 2 0 0 [.ref h, .int (nI p), .int (nI t), .int (nI k)] N (s_Mod_access N p t k pg kd ph fr).1 (s_Mod_access N p t k pg kd ph fr).2 := by
  refine gM_intro (by decide) (Nat.le_of_ble_eq_true rfl) (fun K hK => ?_)
  show K 0 [(0, .ref h), (1, .int (nI p)), (2, .int (nI t)), (3, .int (nI k))] [] N 0 0
  refine r_aload_n hK d_Mod_access_0 rfl 0 rfl ?_
  refine w_first hK d_Mod_access_1 rfl ?_
  refine r_iload_n hK d_Mod_access_4 rfl 3 rfl ?_
  refine w_iald (n := 3) (L := 80) hK d_Mod_access_5 (by decide) rfl rfl k rfl (by omega) (v := nI pg) (hpg) ?_
  refine r_istore (lv' := [(4, .int (nI pg)), (0, .ref h), (1, .int (nI p)), (2, .int (nI t)), (3, .int (nI k))]) hK d_Mod_access_6 (by decide) rfl ?_
  refine r_bipush (v := nI 16) hK d_Mod_access_8 (by decide) ?_
  refine r_iload_n hK d_Mod_access_10 rfl 2 rfl ?_
  refine r_imul hK d_Mod_access_11 ?_
  refine r_tp (b := nI (16 * p)) (pk_mul _ _) ?_
  refine r_iload hK d_Mod_access_12 0 rfl ?_
  refine r_iadd hK d_Mod_access_14 ?_
  refine r_tp (b := nI (16 * p + pg)) (nI_add _ _) ?_
  refine r_istore (lv' := [(5, .int (nI (16 * p + pg))), (4, .int (nI pg)), (0, .ref h), (1, .int (nI p)), (2, .int (nI t)), (3, .int (nI k))]) hK d_Mod_access_15 (by decide) rfl ?_
  refine r_aload_n hK d_Mod_access_17 rfl 2 rfl ?_
  refine w_kind hK d_Mod_access_18 rfl ?_
  refine r_iload_n hK d_Mod_access_21 rfl 5 rfl ?_
  refine w_iald (n := 2) (L := 80) hK d_Mod_access_22 (by decide) rfl rfl k rfl (by omega) (v := nI kd) (hkd) ?_
  refine r_iconst (v := nI 1) hK d_Mod_access_23 (by decide) ?_
  refine r_ncmp_ne (a := kd) (b := 1) (tgt := 31) hK d_Mod_access_24 (by decide) (by omega) (by omega) (fun c24 => ?_) (fun c24 => ?_)
  · refine r_iconst (v := nI 0) hK d_Mod_access_31 (by decide) ?_
    refine r_istore (lv' := [(6, .int (nI 0)), (5, .int (nI (16 * p + pg))), (4, .int (nI pg)), (0, .ref h), (1, .int (nI p)), (2, .int (nI t)), (3, .int (nI k))]) hK d_Mod_access_32 (by decide) rfl ?_
    refine r_aload_n hK d_Mod_access_34 rfl 3 rfl ?_
    refine w_phase hK d_Mod_access_35 rfl ?_
    refine r_iload_n hK d_Mod_access_38 rfl 5 rfl ?_
    refine w_iald (n := 10) (L := 8) hK d_Mod_access_39 (by decide) rfl rfl t rfl (by omega) (v := nI ph) (hph) ?_
    refine r_iconst (v := nI 4) hK d_Mod_access_40 (by decide) ?_
    refine r_ncmp_ne (a := ph) (b := 4) (tgt := 131) hK d_Mod_access_41 (by decide) (by omega) (by omega) (fun c41 => ?_) (fun c41 => ?_)
    · refine r_aload_n hK d_Mod_access_131 rfl 3 rfl ?_
      refine w_phase hK d_Mod_access_132 rfl ?_
      refine r_iload_n hK d_Mod_access_135 rfl 5 rfl ?_
      refine w_iald (n := 10) (L := 8) hK d_Mod_access_136 (by decide) rfl rfl t rfl (by omega) (v := nI ph) (hph) ?_
      refine r_iconst (v := nI 5) hK d_Mod_access_137 (by decide) ?_
      refine r_ncmp_ne (a := ph) (b := 5) (tgt := 171) hK d_Mod_access_138 (by decide) (by omega) (by omega) (fun c138 => ?_) (fun c138 => ?_)
      · refine r_aload_n hK d_Mod_access_171 rfl 3 rfl ?_
        refine w_frameOf hK d_Mod_access_172 rfl ?_
        refine r_iload hK d_Mod_access_175 2 rfl ?_
        refine w_iald (n := 18) (L := 16) hK d_Mod_access_177 (by decide) rfl rfl pg rfl (by omega) (v := N 18 pg) (rfl) ?_
        refine r_if_lt (tgt := 196) hK d_Mod_access_178 (by decide) (fun c178 => ?_) (fun c178 => ?_)
        · refine r_aload_n hK d_Mod_access_196 rfl 3 rfl ?_
          refine r_iload_n hK d_Mod_access_197 rfl 6 rfl ?_
          refine r_bipush (v := -2) hK d_Mod_access_198 (by decide) ?_
          refine r_callVi (As := [.int (nI k), .int (-2)]) (b := h) (st := []) hK (c_Mod_end X l h nx N k (-2) (by omega)) d_Mod_access_200 ml_Mod_171 cv_Mod_end rfl (by decide) w_recv (Nat.le_of_ble_eq_true rfl) ?_ rfl
          refine r_iret hK d_Mod_access_203 rfl (rfl) ?_
          have hs : s_Mod_access N p t k pg kd ph fr = (nI 1, tset N 6 k (-2)) := by unfold s_Mod_access; rw [if_neg c24, if_neg c41, if_neg c138, if_pos c178]
          exact ⟨by rw [hs], by rw [hs]⟩
        · refine r_iload hK d_Mod_access_181 0 rfl ?_
          refine r_nif_eq (a := 0) (tgt := 204) hK d_Mod_access_183 (by decide) (by decide) (fun z => ?_) (fun z => absurd z (by decide))
          refine r_aload_n hK d_Mod_access_204 rfl 3 rfl ?_
          refine r_iload_n hK d_Mod_access_205 rfl 4 rfl ?_
          refine r_iload hK d_Mod_access_206 2 rfl ?_
          refine r_callVv (As := [.int (nI p), .int (nI pg)]) (b := h) (st := []) hK (c_Mod_know X l h nx N p pg (N 31 0) (by omega) (by omega) (rfl) hwb) d_Mod_access_208 ml_Mod_174 cv_Mod_know rfl (by decide) w_recv (Nat.le_of_ble_eq_true rfl) ?_ rfl
          refine r_aload_n hK d_Mod_access_211 rfl 3 rfl ?_
          refine w_phase hK d_Mod_access_212 rfl ?_
          refine r_iload_n hK d_Mod_access_215 rfl 5 rfl ?_
          refine r_iconst (v := nI 4) hK d_Mod_access_216 (by decide) ?_
          refine w_iast (n := 10) (L := 8) hK d_Mod_access_217 (by decide) rfl rfl t rfl (by omega) ?_
          refine r_iconst (v := nI 0) hK d_Mod_access_218 (by decide) ?_
          refine r_iret hK d_Mod_access_219 rfl (rfl) ?_
          have hs : s_Mod_access N p t k pg kd ph fr = (nI 0, tset (s_know N p pg (N 31 0)) 10 t (nI 4)) := by unfold s_Mod_access; rw [if_neg c24, if_neg c41, if_neg c138, if_neg c178]
          exact ⟨by rw [hs], by rw [hs]⟩
      · refine r_aload_n hK d_Mod_access_141 rfl 3 rfl ?_
        refine w_entered hK d_Mod_access_142 rfl ?_
        refine r_iload hK d_Mod_access_145 2 rfl ?_
        refine r_iconst (v := nI 4) hK d_Mod_access_147 (by decide) ?_
        refine r_idiv hK d_Mod_access_148 (by decide) ?_
        refine r_tp (b := nI (pg / 4)) (pk_div (by omega) (by decide) (by decide)) ?_
        refine w_zald (n := 20) (L := 4) hK d_Mod_access_149 (by decide) rfl rfl (pg / 4) rfl (by omega) (v := N 20 (pg / 4)) (rfl) ?_
        refine r_if_ne (tgt := 161) hK d_Mod_access_150 (by decide) (fun c150 => ?_) (fun c150 => ?_)
        · refine r_aload_n hK d_Mod_access_161 rfl 3 rfl ?_
          refine w_phase hK d_Mod_access_162 rfl ?_
          refine r_iload_n hK d_Mod_access_165 rfl 5 rfl ?_
          refine r_bipush (v := nI 6) hK d_Mod_access_166 (by decide) ?_
          refine w_iast (n := 10) (L := 8) hK d_Mod_access_168 (by decide) rfl rfl t rfl (by omega) ?_
          refine r_iconst (v := nI 0) hK d_Mod_access_169 (by decide) ?_
          refine r_iret hK d_Mod_access_170 rfl (rfl) ?_
          have hs : s_Mod_access N p t k pg kd ph fr = (nI 0, tset N 10 t (nI 6)) := by unfold s_Mod_access; rw [if_neg c24, if_neg c41, if_pos c138, if_neg c150]
          exact ⟨by rw [hs], by rw [hs]⟩
        · refine r_aload_n hK d_Mod_access_153 rfl 3 rfl ?_
          refine r_iload_n hK d_Mod_access_154 rfl 6 rfl ?_
          refine r_bipush (v := -2) hK d_Mod_access_155 (by decide) ?_
          refine r_callVi (As := [.int (nI k), .int (-2)]) (b := h) (st := []) hK (c_Mod_end X l h nx N k (-2) (by omega)) d_Mod_access_157 ml_Mod_171 cv_Mod_end rfl (by decide) w_recv (Nat.le_of_ble_eq_true rfl) ?_ rfl
          refine r_iret hK d_Mod_access_160 rfl (rfl) ?_
          have hs : s_Mod_access N p t k pg kd ph fr = (nI 1, tset N 6 k (-2)) := by unfold s_Mod_access; rw [if_neg c24, if_neg c41, if_pos c138, if_pos c150]
          exact ⟨by rw [hs], by rw [hs]⟩
    · refine r_aload_n hK d_Mod_access_44 rfl 3 rfl ?_
      refine w_known hK d_Mod_access_45 rfl ?_
      refine r_iload hK d_Mod_access_48 1 rfl ?_
      refine w_iald (n := 22) (L := 64) hK d_Mod_access_50 (by decide) rfl rfl (16 * p + pg) rfl (by omega) (v := N 22 (16 * p + pg)) (rfl) ?_
      refine r_if_ne (tgt := 63) hK d_Mod_access_51 (by decide) (fun c51 => ?_) (fun c51 => ?_)
      · refine r_iload hK d_Mod_access_63 0 rfl ?_
        refine r_nif_eq (a := 0) (tgt := 86) hK d_Mod_access_65 (by decide) (by decide) (fun z => ?_) (fun z => absurd z (by decide))
        obtain ⟨hf1, hf2⟩ := hfr c51
        refine r_aload_n hK d_Mod_access_86 rfl 3 rfl ?_
        refine w_word hK d_Mod_access_87 rfl ?_
        refine r_aload_n hK d_Mod_access_90 rfl 3 rfl ?_
        refine w_knownFrame hK d_Mod_access_91 rfl ?_
        refine r_iload hK d_Mod_access_94 1 rfl ?_
        refine w_iald (n := 23) (L := 64) hK d_Mod_access_96 (by decide) rfl rfl (16 * p + pg) rfl (by omega) (v := nI fr) (hf1) ?_
        refine w_iald (n := 21) (L := 10) hK d_Mod_access_97 (by decide) rfl rfl fr rfl (by omega) (v := N 21 fr) (rfl) ?_
        refine r_istore (lv' := [(7, .int (N 21 fr)), (6, .int (nI 0)), (5, .int (nI (16 * p + pg))), (4, .int (nI pg)), (0, .ref h), (1, .int (nI p)), (2, .int (nI t)), (3, .int (nI k))]) hK d_Mod_access_98 (by decide) rfl ?_
        refine r_iload hK d_Mod_access_100 1 rfl ?_
        refine r_nif_eq (a := 0) (tgt := 123) hK d_Mod_access_102 (by decide) (by decide) (fun z => ?_) (fun z => absurd z (by decide))
        refine r_aload_n hK d_Mod_access_123 rfl 4 rfl ?_
        refine r_iload_n hK d_Mod_access_124 rfl 7 rfl ?_
        refine r_iload hK d_Mod_access_125 0 rfl ?_
        refine r_callVi (As := [.int (nI k), .int (N 21 fr)]) (b := h) (st := []) hK (c_Mod_end X l h nx N k (N 21 fr) (by omega)) d_Mod_access_127 ml_Mod_171 cv_Mod_end rfl (by decide) w_recv (Nat.le_of_ble_eq_true rfl) ?_ rfl
        refine r_iret hK d_Mod_access_130 rfl (rfl) ?_
        have hs : s_Mod_access N p t k pg kd ph fr = (nI 1, tset N 6 k (N 21 fr)) := by unfold s_Mod_access; rw [if_neg c24, if_pos c41, if_neg c51]
        exact ⟨by rw [hs], by rw [hs]⟩
      · refine r_aload_n hK d_Mod_access_54 rfl 3 rfl ?_
        refine w_phase hK d_Mod_access_55 rfl ?_
        refine r_iload_n hK d_Mod_access_58 rfl 5 rfl ?_
        refine r_iconst (v := nI 5) hK d_Mod_access_59 (by decide) ?_
        refine w_iast (n := 10) (L := 8) hK d_Mod_access_60 (by decide) rfl rfl t rfl (by omega) ?_
        refine r_iconst (v := nI 0) hK d_Mod_access_61 (by decide) ?_
        refine r_iret hK d_Mod_access_62 rfl (rfl) ?_
        have hs : s_Mod_access N p t k pg kd ph fr = (nI 0, tset N 10 t (nI 5)) := by unfold s_Mod_access; rw [if_neg c24, if_pos c41, if_pos c51]
        exact ⟨by rw [hs], by rw [hs]⟩
  · refine r_iconst (v := nI 1) hK d_Mod_access_27 (by decide) ?_
    refine r_goto (tgt := 32) hK d_Mod_access_28 (by decide) ?_
    refine r_istore (lv' := [(6, .int (nI 1)), (5, .int (nI (16 * p + pg))), (4, .int (nI pg)), (0, .ref h), (1, .int (nI p)), (2, .int (nI t)), (3, .int (nI k))]) hK d_Mod_access_32 (by decide) rfl ?_
    refine r_aload_n hK d_Mod_access_34 rfl 3 rfl ?_
    refine w_phase hK d_Mod_access_35 rfl ?_
    refine r_iload_n hK d_Mod_access_38 rfl 5 rfl ?_
    refine w_iald (n := 10) (L := 8) hK d_Mod_access_39 (by decide) rfl rfl t rfl (by omega) (v := nI ph) (hph) ?_
    refine r_iconst (v := nI 4) hK d_Mod_access_40 (by decide) ?_
    refine r_ncmp_ne (a := ph) (b := 4) (tgt := 131) hK d_Mod_access_41 (by decide) (by omega) (by omega) (fun c41 => ?_) (fun c41 => ?_)
    · refine r_aload_n hK d_Mod_access_131 rfl 3 rfl ?_
      refine w_phase hK d_Mod_access_132 rfl ?_
      refine r_iload_n hK d_Mod_access_135 rfl 5 rfl ?_
      refine w_iald (n := 10) (L := 8) hK d_Mod_access_136 (by decide) rfl rfl t rfl (by omega) (v := nI ph) (hph) ?_
      refine r_iconst (v := nI 5) hK d_Mod_access_137 (by decide) ?_
      refine r_ncmp_ne (a := ph) (b := 5) (tgt := 171) hK d_Mod_access_138 (by decide) (by omega) (by omega) (fun c138 => ?_) (fun c138 => ?_)
      · refine r_aload_n hK d_Mod_access_171 rfl 3 rfl ?_
        refine w_frameOf hK d_Mod_access_172 rfl ?_
        refine r_iload hK d_Mod_access_175 2 rfl ?_
        refine w_iald (n := 18) (L := 16) hK d_Mod_access_177 (by decide) rfl rfl pg rfl (by omega) (v := N 18 pg) (rfl) ?_
        refine r_if_lt (tgt := 196) hK d_Mod_access_178 (by decide) (fun c178 => ?_) (fun c178 => ?_)
        · refine r_aload_n hK d_Mod_access_196 rfl 3 rfl ?_
          refine r_iload_n hK d_Mod_access_197 rfl 6 rfl ?_
          refine r_bipush (v := -2) hK d_Mod_access_198 (by decide) ?_
          refine r_callVi (As := [.int (nI k), .int (-2)]) (b := h) (st := []) hK (c_Mod_end X l h nx N k (-2) (by omega)) d_Mod_access_200 ml_Mod_171 cv_Mod_end rfl (by decide) w_recv (Nat.le_of_ble_eq_true rfl) ?_ rfl
          refine r_iret hK d_Mod_access_203 rfl (rfl) ?_
          have hs : s_Mod_access N p t k pg kd ph fr = (nI 1, tset N 6 k (-2)) := by unfold s_Mod_access; rw [if_pos c24, if_neg c41, if_neg c138, if_pos c178]
          exact ⟨by rw [hs], by rw [hs]⟩
        · refine r_iload hK d_Mod_access_181 0 rfl ?_
          refine r_nif_eq (a := 1) (tgt := 204) hK d_Mod_access_183 (by decide) (by decide) (fun z => absurd z (by decide)) (fun z => ?_)
          refine r_aload_n hK d_Mod_access_186 rfl 3 rfl ?_
          refine w_writableOf hK d_Mod_access_187 rfl ?_
          refine r_iload hK d_Mod_access_190 2 rfl ?_
          refine w_zald (n := 19) (L := 16) hK d_Mod_access_192 (by decide) rfl rfl pg rfl (by omega) (v := N 19 pg) (rfl) ?_
          refine r_if_ne (tgt := 204) hK d_Mod_access_193 (by decide) (fun c193 => ?_) (fun c193 => ?_)
          · refine r_aload_n hK d_Mod_access_204 rfl 3 rfl ?_
            refine r_iload_n hK d_Mod_access_205 rfl 4 rfl ?_
            refine r_iload hK d_Mod_access_206 2 rfl ?_
            refine r_callVv (As := [.int (nI p), .int (nI pg)]) (b := h) (st := []) hK (c_Mod_know X l h nx N p pg (N 31 0) (by omega) (by omega) (rfl) hwb) d_Mod_access_208 ml_Mod_174 cv_Mod_know rfl (by decide) w_recv (Nat.le_of_ble_eq_true rfl) ?_ rfl
            refine r_aload_n hK d_Mod_access_211 rfl 3 rfl ?_
            refine w_phase hK d_Mod_access_212 rfl ?_
            refine r_iload_n hK d_Mod_access_215 rfl 5 rfl ?_
            refine r_iconst (v := nI 4) hK d_Mod_access_216 (by decide) ?_
            refine w_iast (n := 10) (L := 8) hK d_Mod_access_217 (by decide) rfl rfl t rfl (by omega) ?_
            refine r_iconst (v := nI 0) hK d_Mod_access_218 (by decide) ?_
            refine r_iret hK d_Mod_access_219 rfl (rfl) ?_
            have hs : s_Mod_access N p t k pg kd ph fr = (nI 0, tset (s_know N p pg (N 31 0)) 10 t (nI 4)) := by unfold s_Mod_access; rw [if_pos c24, if_neg c41, if_neg c138, if_neg c178, if_neg c193]
            exact ⟨by rw [hs], by rw [hs]⟩
          · refine r_aload_n hK d_Mod_access_196 rfl 3 rfl ?_
            refine r_iload_n hK d_Mod_access_197 rfl 6 rfl ?_
            refine r_bipush (v := -2) hK d_Mod_access_198 (by decide) ?_
            refine r_callVi (As := [.int (nI k), .int (-2)]) (b := h) (st := []) hK (c_Mod_end X l h nx N k (-2) (by omega)) d_Mod_access_200 ml_Mod_171 cv_Mod_end rfl (by decide) w_recv (Nat.le_of_ble_eq_true rfl) ?_ rfl
            refine r_iret hK d_Mod_access_203 rfl (rfl) ?_
            have hs : s_Mod_access N p t k pg kd ph fr = (nI 1, tset N 6 k (-2)) := by unfold s_Mod_access; rw [if_pos c24, if_neg c41, if_neg c138, if_neg c178, if_pos c193]
            exact ⟨by rw [hs], by rw [hs]⟩
      · refine r_aload_n hK d_Mod_access_141 rfl 3 rfl ?_
        refine w_entered hK d_Mod_access_142 rfl ?_
        refine r_iload hK d_Mod_access_145 2 rfl ?_
        refine r_iconst (v := nI 4) hK d_Mod_access_147 (by decide) ?_
        refine r_idiv hK d_Mod_access_148 (by decide) ?_
        refine r_tp (b := nI (pg / 4)) (pk_div (by omega) (by decide) (by decide)) ?_
        refine w_zald (n := 20) (L := 4) hK d_Mod_access_149 (by decide) rfl rfl (pg / 4) rfl (by omega) (v := N 20 (pg / 4)) (rfl) ?_
        refine r_if_ne (tgt := 161) hK d_Mod_access_150 (by decide) (fun c150 => ?_) (fun c150 => ?_)
        · refine r_aload_n hK d_Mod_access_161 rfl 3 rfl ?_
          refine w_phase hK d_Mod_access_162 rfl ?_
          refine r_iload_n hK d_Mod_access_165 rfl 5 rfl ?_
          refine r_bipush (v := nI 6) hK d_Mod_access_166 (by decide) ?_
          refine w_iast (n := 10) (L := 8) hK d_Mod_access_168 (by decide) rfl rfl t rfl (by omega) ?_
          refine r_iconst (v := nI 0) hK d_Mod_access_169 (by decide) ?_
          refine r_iret hK d_Mod_access_170 rfl (rfl) ?_
          have hs : s_Mod_access N p t k pg kd ph fr = (nI 0, tset N 10 t (nI 6)) := by unfold s_Mod_access; rw [if_pos c24, if_neg c41, if_pos c138, if_neg c150]
          exact ⟨by rw [hs], by rw [hs]⟩
        · refine r_aload_n hK d_Mod_access_153 rfl 3 rfl ?_
          refine r_iload_n hK d_Mod_access_154 rfl 6 rfl ?_
          refine r_bipush (v := -2) hK d_Mod_access_155 (by decide) ?_
          refine r_callVi (As := [.int (nI k), .int (-2)]) (b := h) (st := []) hK (c_Mod_end X l h nx N k (-2) (by omega)) d_Mod_access_157 ml_Mod_171 cv_Mod_end rfl (by decide) w_recv (Nat.le_of_ble_eq_true rfl) ?_ rfl
          refine r_iret hK d_Mod_access_160 rfl (rfl) ?_
          have hs : s_Mod_access N p t k pg kd ph fr = (nI 1, tset N 6 k (-2)) := by unfold s_Mod_access; rw [if_pos c24, if_neg c41, if_pos c138, if_pos c150]
          exact ⟨by rw [hs], by rw [hs]⟩
    · refine r_aload_n hK d_Mod_access_44 rfl 3 rfl ?_
      refine w_known hK d_Mod_access_45 rfl ?_
      refine r_iload hK d_Mod_access_48 1 rfl ?_
      refine w_iald (n := 22) (L := 64) hK d_Mod_access_50 (by decide) rfl rfl (16 * p + pg) rfl (by omega) (v := N 22 (16 * p + pg)) (rfl) ?_
      refine r_if_ne (tgt := 63) hK d_Mod_access_51 (by decide) (fun c51 => ?_) (fun c51 => ?_)
      · refine r_iload hK d_Mod_access_63 0 rfl ?_
        refine r_nif_eq (a := 1) (tgt := 86) hK d_Mod_access_65 (by decide) (by decide) (fun z => absurd z (by decide)) (fun z => ?_)
        refine r_aload_n hK d_Mod_access_68 rfl 3 rfl ?_
        refine w_knownWritable hK d_Mod_access_69 rfl ?_
        refine r_iload hK d_Mod_access_72 1 rfl ?_
        refine w_zald (n := 24) (L := 64) hK d_Mod_access_74 (by decide) rfl rfl (16 * p + pg) rfl (by omega) (v := N 24 (16 * p + pg)) (rfl) ?_
        refine r_if_ne (tgt := 86) hK d_Mod_access_75 (by decide) (fun c75 => ?_) (fun c75 => ?_)
        · obtain ⟨hf1, hf2⟩ := hfr c51
          refine r_aload_n hK d_Mod_access_86 rfl 3 rfl ?_
          refine w_word hK d_Mod_access_87 rfl ?_
          refine r_aload_n hK d_Mod_access_90 rfl 3 rfl ?_
          refine w_knownFrame hK d_Mod_access_91 rfl ?_
          refine r_iload hK d_Mod_access_94 1 rfl ?_
          refine w_iald (n := 23) (L := 64) hK d_Mod_access_96 (by decide) rfl rfl (16 * p + pg) rfl (by omega) (v := nI fr) (hf1) ?_
          refine w_iald (n := 21) (L := 10) hK d_Mod_access_97 (by decide) rfl rfl fr rfl (by omega) (v := N 21 fr) (rfl) ?_
          refine r_istore (lv' := [(7, .int (N 21 fr)), (6, .int (nI 1)), (5, .int (nI (16 * p + pg))), (4, .int (nI pg)), (0, .ref h), (1, .int (nI p)), (2, .int (nI t)), (3, .int (nI k))]) hK d_Mod_access_98 (by decide) rfl ?_
          refine r_iload hK d_Mod_access_100 1 rfl ?_
          refine r_nif_eq (a := 1) (tgt := 123) hK d_Mod_access_102 (by decide) (by decide) (fun z => absurd z (by decide)) (fun z => ?_)
          refine r_aload_n hK d_Mod_access_105 rfl 4 rfl ?_
          refine w_word hK d_Mod_access_106 rfl ?_
          refine r_aload_n hK d_Mod_access_109 rfl 4 rfl ?_
          refine w_knownFrame hK d_Mod_access_110 rfl ?_
          refine r_iload hK d_Mod_access_113 2 rfl ?_
          refine w_iald (n := 23) (L := 64) hK d_Mod_access_115 (by decide) rfl rfl (16 * p + pg) rfl (by omega) (v := nI fr) (hf1) ?_
          refine r_aload_n hK d_Mod_access_116 rfl 4 rfl ?_
          refine w_value hK d_Mod_access_117 rfl ?_
          refine r_iload_n hK d_Mod_access_120 rfl 7 rfl ?_
          refine w_iald (n := 5) (L := 80) hK d_Mod_access_121 (by decide) rfl rfl k rfl (by omega) (v := N 5 k) (rfl) ?_
          refine w_iast (n := 21) (L := 10) hK d_Mod_access_122 (by decide) rfl rfl fr rfl (by omega) ?_
          refine r_aload_n hK d_Mod_access_123 rfl 4 rfl ?_
          refine r_iload_n hK d_Mod_access_124 rfl 7 rfl ?_
          refine r_iload hK d_Mod_access_125 0 rfl ?_
          refine r_callVi (As := [.int (nI k), .int (N 21 fr)]) (b := h) (st := []) hK (c_Mod_end X l h nx (tset N 21 fr (N 5 k)) k (N 21 fr) (by omega)) d_Mod_access_127 ml_Mod_171 cv_Mod_end rfl (by decide) w_recv (Nat.le_of_ble_eq_true rfl) ?_ rfl
          refine r_iret hK d_Mod_access_130 rfl (rfl) ?_
          have hs : s_Mod_access N p t k pg kd ph fr = (nI 1, tset (tset N 21 fr (N 5 k)) 6 k (N 21 fr)) := by unfold s_Mod_access; rw [if_pos c24, if_pos c41, if_neg c51, if_neg c75]
          exact ⟨by rw [hs], by rw [hs]⟩
        · refine r_aload_n hK d_Mod_access_78 rfl 3 rfl ?_
          refine r_iload_n hK d_Mod_access_79 rfl 6 rfl ?_
          refine r_bipush (v := -2) hK d_Mod_access_80 (by decide) ?_
          refine r_callVi (As := [.int (nI k), .int (-2)]) (b := h) (st := []) hK (c_Mod_end X l h nx N k (-2) (by omega)) d_Mod_access_82 ml_Mod_171 cv_Mod_end rfl (by decide) w_recv (Nat.le_of_ble_eq_true rfl) ?_ rfl
          refine r_iret hK d_Mod_access_85 rfl (rfl) ?_
          have hs : s_Mod_access N p t k pg kd ph fr = (nI 1, tset N 6 k (-2)) := by unfold s_Mod_access; rw [if_pos c24, if_pos c41, if_neg c51, if_pos c75]
          exact ⟨by rw [hs], by rw [hs]⟩
      · refine r_aload_n hK d_Mod_access_54 rfl 3 rfl ?_
        refine w_phase hK d_Mod_access_55 rfl ?_
        refine r_iload_n hK d_Mod_access_58 rfl 5 rfl ?_
        refine r_iconst (v := nI 5) hK d_Mod_access_59 (by decide) ?_
        refine w_iast (n := 10) (L := 8) hK d_Mod_access_60 (by decide) rfl rfl t rfl (by omega) ?_
        refine r_iconst (v := nI 0) hK d_Mod_access_61 (by decide) ?_
        refine r_iret hK d_Mod_access_62 rfl (rfl) ?_
        have hs : s_Mod_access N p t k pg kd ph fr = (nI 0, tset N 10 t (nI 5)) := by unfold s_Mod_access; rw [if_pos c24, if_pos c41, if_pos c51]
        exact ⟨by rw [hs], by rw [hs]⟩
def s_Mod_changed (N : tS) (p t k pg kd kp : Nat) : Int32 × tS :=
  if kd = 2 then (if N 5 k = nI 1 then (nI 1, tset (tset (tset (tset (tset N 25 (s_frame N (nI p) - 1) (-1)) 21 (s_frame N (nI p) - 1) (nI 0)) 18 pg (dI (s_frame N (nI p)))) 19 pg (nI 1)) 20 (pg / 4) (nI 1))
    else (nI 1, tset (tset (tset (tset (tset N 25 (s_frame N (nI p) - 1) (-1)) 21 (s_frame N (nI p) - 1) (nI 0)) 18 pg (dI (s_frame N (nI p)))) 19 pg (nI 0)) 20 (pg / 4) (nI 1)))
  else if N 18 pg < 0 then (nI 0, N)
    else if kd = 4 then (if N 19 pg = 0 then (nI 0, N)
        else if kd = 4 then (nI 1, tset N 19 pg (nI 0))
          else (nI 1, tset (tset (tset N 16 (4 * t + kp) (N 18 pg)) 17 t (nI (kp + 1))) 18 pg (-1)))
      else if kd = 4 then (nI 1, tset N 19 pg (nI 0))
        else (nI 1, tset (tset (tset N 16 (4 * t + kp) (N 18 pg)) 17 t (nI (kp + 1))) 18 pg (-1))
set_option maxHeartbeats 1000000 in
theorem c_Mod_changed (X : gCx) (l : Launch) (h nx : Nat) (N : tS) (p t k pg kd kp : Nat) (hp : p < 4) (ht : t < 8) (hk : k < 80) (hpg2 : pg < 16) (hkd : N 2 k = nI kd) (hkd2 : kd < 6) (hkp : N 17 t = nI kp) (hkp2 : kp < 4) (hfr : kd = 2 → s_frame N (nI p) ≠ 0) : gMi X l (HoldT X h nx) M_Mod_changed 1 0 0 [.ref h, .int (nI p), .int (nI t), .int (nI k), .int (nI pg)] N (s_Mod_changed N p t k pg kd kp).1 (s_Mod_changed N p t k pg kd kp).2 := by
  refine gM_intro (by decide) (Nat.le_of_ble_eq_true rfl) (fun K hK => ?_)
  show K 0 [(0, .ref h), (1, .int (nI p)), (2, .int (nI t)), (3, .int (nI k)), (4, .int (nI pg))] [] N 0 0
  refine r_aload_n hK d_Mod_changed_0 rfl 0 rfl ?_
  refine w_kind hK d_Mod_changed_1 rfl ?_
  refine r_iload_n hK d_Mod_changed_4 rfl 3 rfl ?_
  refine w_iald (n := 2) (L := 80) hK d_Mod_changed_5 (by decide) rfl rfl k rfl (by omega) (v := nI kd) (hkd) ?_
  refine r_iconst (v := nI 2) hK d_Mod_changed_6 (by decide) ?_
  refine r_ncmp_ne (a := kd) (b := 2) (tgt := 76) hK d_Mod_changed_7 (by decide) (by omega) (by omega) (fun c7 => ?_) (fun c7 => ?_)
  · refine r_aload_n hK d_Mod_changed_76 rfl 0 rfl ?_
    refine w_frameOf hK d_Mod_changed_77 rfl ?_
    refine r_iload hK d_Mod_changed_80 4 rfl ?_
    refine w_iald (n := 18) (L := 16) hK d_Mod_changed_82 (by decide) rfl rfl pg rfl (by omega) (v := N 18 pg) (rfl) ?_
    refine r_if_lt (tgt := 106) hK d_Mod_changed_83 (by decide) (fun c83 => ?_) (fun c83 => ?_)
    · refine r_iconst (v := nI 0) hK d_Mod_changed_106 (by decide) ?_
      refine r_iret hK d_Mod_changed_107 rfl (rfl) ?_
      have hs : s_Mod_changed N p t k pg kd kp = (nI 0, N) := by unfold s_Mod_changed; rw [if_neg c7, if_pos c83]
      exact ⟨by rw [hs], by rw [hs]⟩
    · refine r_aload_n hK d_Mod_changed_86 rfl 0 rfl ?_
      refine w_kind hK d_Mod_changed_87 rfl ?_
      refine r_iload_n hK d_Mod_changed_90 rfl 3 rfl ?_
      refine w_iald (n := 2) (L := 80) hK d_Mod_changed_91 (by decide) rfl rfl k rfl (by omega) (v := nI kd) (hkd) ?_
      refine r_iconst (v := nI 4) hK d_Mod_changed_92 (by decide) ?_
      refine r_ncmp_ne (a := kd) (b := 4) (tgt := 108) hK d_Mod_changed_93 (by decide) (by omega) (by omega) (fun c93 => ?_) (fun c93 => ?_)
      · refine r_aload_n hK d_Mod_changed_108 rfl 0 rfl ?_
        refine w_kind hK d_Mod_changed_109 rfl ?_
        refine r_iload_n hK d_Mod_changed_112 rfl 3 rfl ?_
        refine w_iald (n := 2) (L := 80) hK d_Mod_changed_113 (by decide) rfl rfl k rfl (by omega) (v := nI kd) (hkd) ?_
        refine r_iconst (v := nI 4) hK d_Mod_changed_114 (by decide) ?_
        refine r_ncmp_ne (a := kd) (b := 4) (tgt := 128) hK d_Mod_changed_115 (by decide) (by omega) (by omega) (fun c115 => ?_) (fun c115 => ?_)
        · refine r_aload_n hK d_Mod_changed_128 rfl 0 rfl ?_
          refine w_kept hK d_Mod_changed_129 rfl ?_
          refine r_iconst (v := nI 4) hK d_Mod_changed_132 (by decide) ?_
          refine r_iload_n hK d_Mod_changed_133 rfl 2 rfl ?_
          refine r_imul hK d_Mod_changed_134 ?_
          refine r_tp (b := nI (4 * t)) (pk_mul _ _) ?_
          refine r_aload_n hK d_Mod_changed_135 rfl 0 rfl ?_
          refine w_keeps hK d_Mod_changed_136 rfl ?_
          refine r_iload_n hK d_Mod_changed_139 rfl 2 rfl ?_
          refine w_iald (n := 17) (L := 8) hK d_Mod_changed_140 (by decide) rfl rfl t rfl (by omega) (v := nI kp) (hkp) ?_
          refine r_iadd hK d_Mod_changed_141 ?_
          refine r_tp (b := nI (4 * t + kp)) (nI_add _ _) ?_
          refine r_aload_n hK d_Mod_changed_142 rfl 0 rfl ?_
          refine w_frameOf hK d_Mod_changed_143 rfl ?_
          refine r_iload hK d_Mod_changed_146 4 rfl ?_
          refine w_iald (n := 18) (L := 16) hK d_Mod_changed_148 (by decide) rfl rfl pg rfl (by omega) (v := N 18 pg) (rfl) ?_
          refine w_iast (n := 16) (L := 32) hK d_Mod_changed_149 (by decide) rfl rfl (4 * t + kp) rfl (by omega) ?_
          refine r_aload_n hK d_Mod_changed_150 rfl 0 rfl ?_
          refine w_keeps hK d_Mod_changed_151 rfl ?_
          refine r_iload_n hK d_Mod_changed_154 rfl 2 rfl ?_
          refine r_dup2 hK d_Mod_changed_155 rfl rfl ?_
          refine w_iald (n := 17) (L := 8) hK d_Mod_changed_156 (by decide) rfl rfl t rfl (by omega) (v := nI kp) (by simp [tset, hkp]) ?_
          refine r_iconst (v := nI 1) hK d_Mod_changed_157 (by decide) ?_
          refine r_iadd hK d_Mod_changed_158 ?_
          refine r_tp (b := nI (kp + 1)) (nI_add _ _) ?_
          refine w_iast (n := 17) (L := 8) hK d_Mod_changed_159 (by decide) rfl rfl t rfl (by omega) ?_
          refine r_aload_n hK d_Mod_changed_160 rfl 0 rfl ?_
          refine w_frameOf hK d_Mod_changed_161 rfl ?_
          refine r_iload hK d_Mod_changed_164 4 rfl ?_
          refine r_iconst (v := -1) hK d_Mod_changed_166 (by decide) ?_
          refine w_iast (n := 18) (L := 16) hK d_Mod_changed_167 (by decide) rfl rfl pg rfl (by omega) ?_
          refine r_iconst (v := nI 1) hK d_Mod_changed_168 (by decide) ?_
          refine r_iret hK d_Mod_changed_169 rfl (rfl) ?_
          have hs : s_Mod_changed N p t k pg kd kp = (nI 1, tset (tset (tset N 16 (4 * t + kp) (N 18 pg)) 17 t (nI (kp + 1))) 18 pg (-1)) := by unfold s_Mod_changed; rw [if_neg c7, if_neg c83, if_neg c93, if_neg c115]
          exact ⟨by rw [hs], by rw [hs]⟩
        · refine r_aload_n hK d_Mod_changed_118 rfl 0 rfl ?_
          refine w_writableOf hK d_Mod_changed_119 rfl ?_
          refine r_iload hK d_Mod_changed_122 4 rfl ?_
          refine r_iconst (v := nI 0) hK d_Mod_changed_124 (by decide) ?_
          refine w_zast (n := 19) (L := 16) hK (rfl) d_Mod_changed_125 (by decide) rfl rfl pg rfl (by omega) ?_
          refine r_iconst (v := nI 1) hK d_Mod_changed_126 (by decide) ?_
          refine r_iret hK d_Mod_changed_127 rfl (rfl) ?_
          have hs : s_Mod_changed N p t k pg kd kp = (nI 1, tset N 19 pg (nI 0)) := by unfold s_Mod_changed; rw [if_neg c7, if_neg c83, if_neg c93, if_pos c115]
          exact ⟨by rw [hs], by rw [hs]⟩
      · refine r_aload_n hK d_Mod_changed_96 rfl 0 rfl ?_
        refine w_writableOf hK d_Mod_changed_97 rfl ?_
        refine r_iload hK d_Mod_changed_100 4 rfl ?_
        refine w_zald (n := 19) (L := 16) hK d_Mod_changed_102 (by decide) rfl rfl pg rfl (by omega) (v := N 19 pg) (rfl) ?_
        refine r_if_ne (tgt := 108) hK d_Mod_changed_103 (by decide) (fun c103 => ?_) (fun c103 => ?_)
        · refine r_aload_n hK d_Mod_changed_108 rfl 0 rfl ?_
          refine w_kind hK d_Mod_changed_109 rfl ?_
          refine r_iload_n hK d_Mod_changed_112 rfl 3 rfl ?_
          refine w_iald (n := 2) (L := 80) hK d_Mod_changed_113 (by decide) rfl rfl k rfl (by omega) (v := nI kd) (hkd) ?_
          refine r_iconst (v := nI 4) hK d_Mod_changed_114 (by decide) ?_
          refine r_ncmp_ne (a := kd) (b := 4) (tgt := 128) hK d_Mod_changed_115 (by decide) (by omega) (by omega) (fun c115 => ?_) (fun c115 => ?_)
          · refine r_aload_n hK d_Mod_changed_128 rfl 0 rfl ?_
            refine w_kept hK d_Mod_changed_129 rfl ?_
            refine r_iconst (v := nI 4) hK d_Mod_changed_132 (by decide) ?_
            refine r_iload_n hK d_Mod_changed_133 rfl 2 rfl ?_
            refine r_imul hK d_Mod_changed_134 ?_
            refine r_tp (b := nI (4 * t)) (pk_mul _ _) ?_
            refine r_aload_n hK d_Mod_changed_135 rfl 0 rfl ?_
            refine w_keeps hK d_Mod_changed_136 rfl ?_
            refine r_iload_n hK d_Mod_changed_139 rfl 2 rfl ?_
            refine w_iald (n := 17) (L := 8) hK d_Mod_changed_140 (by decide) rfl rfl t rfl (by omega) (v := nI kp) (hkp) ?_
            refine r_iadd hK d_Mod_changed_141 ?_
            refine r_tp (b := nI (4 * t + kp)) (nI_add _ _) ?_
            refine r_aload_n hK d_Mod_changed_142 rfl 0 rfl ?_
            refine w_frameOf hK d_Mod_changed_143 rfl ?_
            refine r_iload hK d_Mod_changed_146 4 rfl ?_
            refine w_iald (n := 18) (L := 16) hK d_Mod_changed_148 (by decide) rfl rfl pg rfl (by omega) (v := N 18 pg) (rfl) ?_
            refine w_iast (n := 16) (L := 32) hK d_Mod_changed_149 (by decide) rfl rfl (4 * t + kp) rfl (by omega) ?_
            refine r_aload_n hK d_Mod_changed_150 rfl 0 rfl ?_
            refine w_keeps hK d_Mod_changed_151 rfl ?_
            refine r_iload_n hK d_Mod_changed_154 rfl 2 rfl ?_
            refine r_dup2 hK d_Mod_changed_155 rfl rfl ?_
            refine w_iald (n := 17) (L := 8) hK d_Mod_changed_156 (by decide) rfl rfl t rfl (by omega) (v := nI kp) (by simp [tset, hkp]) ?_
            refine r_iconst (v := nI 1) hK d_Mod_changed_157 (by decide) ?_
            refine r_iadd hK d_Mod_changed_158 ?_
            refine r_tp (b := nI (kp + 1)) (nI_add _ _) ?_
            refine w_iast (n := 17) (L := 8) hK d_Mod_changed_159 (by decide) rfl rfl t rfl (by omega) ?_
            refine r_aload_n hK d_Mod_changed_160 rfl 0 rfl ?_
            refine w_frameOf hK d_Mod_changed_161 rfl ?_
            refine r_iload hK d_Mod_changed_164 4 rfl ?_
            refine r_iconst (v := -1) hK d_Mod_changed_166 (by decide) ?_
            refine w_iast (n := 18) (L := 16) hK d_Mod_changed_167 (by decide) rfl rfl pg rfl (by omega) ?_
            refine r_iconst (v := nI 1) hK d_Mod_changed_168 (by decide) ?_
            refine r_iret hK d_Mod_changed_169 rfl (rfl) ?_
            have hs : s_Mod_changed N p t k pg kd kp = (nI 1, tset (tset (tset N 16 (4 * t + kp) (N 18 pg)) 17 t (nI (kp + 1))) 18 pg (-1)) := by unfold s_Mod_changed; rw [if_neg c7, if_neg c83, if_pos c93, if_neg c103, if_neg c115]
            exact ⟨by rw [hs], by rw [hs]⟩
          · refine r_aload_n hK d_Mod_changed_118 rfl 0 rfl ?_
            refine w_writableOf hK d_Mod_changed_119 rfl ?_
            refine r_iload hK d_Mod_changed_122 4 rfl ?_
            refine r_iconst (v := nI 0) hK d_Mod_changed_124 (by decide) ?_
            refine w_zast (n := 19) (L := 16) hK (rfl) d_Mod_changed_125 (by decide) rfl rfl pg rfl (by omega) ?_
            refine r_iconst (v := nI 1) hK d_Mod_changed_126 (by decide) ?_
            refine r_iret hK d_Mod_changed_127 rfl (rfl) ?_
            have hs : s_Mod_changed N p t k pg kd kp = (nI 1, tset N 19 pg (nI 0)) := by unfold s_Mod_changed; rw [if_neg c7, if_neg c83, if_pos c93, if_neg c103, if_pos c115]
            exact ⟨by rw [hs], by rw [hs]⟩
        · refine r_iconst (v := nI 0) hK d_Mod_changed_106 (by decide) ?_
          refine r_iret hK d_Mod_changed_107 rfl (rfl) ?_
          have hs : s_Mod_changed N p t k pg kd kp = (nI 0, N) := by unfold s_Mod_changed; rw [if_neg c7, if_neg c83, if_pos c93, if_pos c103]
          exact ⟨by rw [hs], by rw [hs]⟩
  · refine r_aload_n hK d_Mod_changed_10 rfl 0 rfl ?_
    refine r_iload_n hK d_Mod_changed_11 rfl 1 rfl ?_
    refine r_callVi (As := [.int (nI p)]) (b := h) (st := []) hK (c_Mod_frameFor X l h nx N (nI p)) d_Mod_changed_12 ml_Mod_193 cv_Mod_frameFor rfl (by decide) w_recv (Nat.le_of_ble_eq_true rfl) ?_ rfl
    refine r_istore (lv' := [(5, .int (dI (s_frame N (nI p)))), (0, .ref h), (1, .int (nI p)), (2, .int (nI t)), (3, .int (nI k)), (4, .int (nI pg))]) hK d_Mod_changed_15 (by decide) rfl ?_
    have c0 := hfr c7
    have b1 := s_frame_le N (nI p)
    refine r_aload_n hK d_Mod_changed_17 rfl 1 rfl ?_
    refine w_home hK d_Mod_changed_18 rfl ?_
    refine r_iload hK d_Mod_changed_21 0 rfl ?_
    refine r_iconst (v := -1) hK d_Mod_changed_23 (by decide) ?_
    refine w_iast (n := 25) (L := 10) hK d_Mod_changed_24 (by decide) rfl rfl (s_frame N (nI p) - 1) (dI_ne c0) (by omega) ?_
    refine r_aload_n hK d_Mod_changed_25 rfl 1 rfl ?_
    refine w_word hK d_Mod_changed_26 rfl ?_
    refine r_iload hK d_Mod_changed_29 0 rfl ?_
    refine r_iconst (v := nI 0) hK d_Mod_changed_31 (by decide) ?_
    refine w_iast (n := 21) (L := 10) hK d_Mod_changed_32 (by decide) rfl rfl (s_frame N (nI p) - 1) (dI_ne c0) (by omega) ?_
    refine r_aload_n hK d_Mod_changed_33 rfl 1 rfl ?_
    refine w_frameOf hK d_Mod_changed_34 rfl ?_
    refine r_iload hK d_Mod_changed_37 5 rfl ?_
    refine r_iload hK d_Mod_changed_39 0 rfl ?_
    refine w_iast (n := 18) (L := 16) hK d_Mod_changed_41 (by decide) rfl rfl pg rfl (by omega) ?_
    refine r_aload_n hK d_Mod_changed_42 rfl 1 rfl ?_
    refine w_writableOf hK d_Mod_changed_43 rfl ?_
    refine r_iload hK d_Mod_changed_46 5 rfl ?_
    refine r_aload_n hK d_Mod_changed_48 rfl 1 rfl ?_
    refine w_value hK d_Mod_changed_49 rfl ?_
    refine r_iload_n hK d_Mod_changed_52 rfl 4 rfl ?_
    refine w_iald (n := 5) (L := 80) hK d_Mod_changed_53 (by decide) rfl rfl k rfl (by omega) (v := N 5 k) (by simp [tset]) ?_
    refine r_iconst (v := nI 1) hK d_Mod_changed_54 (by decide) ?_
    refine r_icmp_ne (tgt := 62) hK d_Mod_changed_55 (by decide) (fun c55 => ?_) (fun c55 => ?_)
    · refine r_iconst (v := nI 0) hK d_Mod_changed_62 (by decide) ?_
      refine w_zast (n := 19) (L := 16) hK (rfl) d_Mod_changed_63 (by decide) rfl rfl pg rfl (by omega) ?_
      refine r_aload_n hK d_Mod_changed_64 rfl 1 rfl ?_
      refine w_entered hK d_Mod_changed_65 rfl ?_
      refine r_iload hK d_Mod_changed_68 5 rfl ?_
      refine r_iconst (v := nI 4) hK d_Mod_changed_70 (by decide) ?_
      refine r_idiv hK d_Mod_changed_71 (by decide) ?_
      refine r_tp (b := nI (pg / 4)) (pk_div (by omega) (by decide) (by decide)) ?_
      refine r_iconst (v := nI 1) hK d_Mod_changed_72 (by decide) ?_
      refine w_zast (n := 20) (L := 4) hK (rfl) d_Mod_changed_73 (by decide) rfl rfl (pg / 4) rfl (by omega) ?_
      refine r_iconst (v := nI 1) hK d_Mod_changed_74 (by decide) ?_
      refine r_iret hK d_Mod_changed_75 rfl (rfl) ?_
      have hs : s_Mod_changed N p t k pg kd kp = (nI 1, tset (tset (tset (tset (tset N 25 (s_frame N (nI p) - 1) (-1)) 21 (s_frame N (nI p) - 1) (nI 0)) 18 pg (dI (s_frame N (nI p)))) 19 pg (nI 0)) 20 (pg / 4) (nI 1)) := by unfold s_Mod_changed; rw [if_pos c7, if_neg c55]
      exact ⟨by rw [hs], by rw [hs]⟩
    · refine r_iconst (v := nI 1) hK d_Mod_changed_58 (by decide) ?_
      refine r_goto (tgt := 63) hK d_Mod_changed_59 (by decide) ?_
      refine w_zast (n := 19) (L := 16) hK (rfl) d_Mod_changed_63 (by decide) rfl rfl pg rfl (by omega) ?_
      refine r_aload_n hK d_Mod_changed_64 rfl 1 rfl ?_
      refine w_entered hK d_Mod_changed_65 rfl ?_
      refine r_iload hK d_Mod_changed_68 5 rfl ?_
      refine r_iconst (v := nI 4) hK d_Mod_changed_70 (by decide) ?_
      refine r_idiv hK d_Mod_changed_71 (by decide) ?_
      refine r_tp (b := nI (pg / 4)) (pk_div (by omega) (by decide) (by decide)) ?_
      refine r_iconst (v := nI 1) hK d_Mod_changed_72 (by decide) ?_
      refine w_zast (n := 20) (L := 4) hK (rfl) d_Mod_changed_73 (by decide) rfl rfl (pg / 4) rfl (by omega) ?_
      refine r_iconst (v := nI 1) hK d_Mod_changed_74 (by decide) ?_
      refine r_iret hK d_Mod_changed_75 rfl (rfl) ?_
      have hs : s_Mod_changed N p t k pg kd kp = (nI 1, tset (tset (tset (tset (tset N 25 (s_frame N (nI p) - 1) (-1)) 21 (s_frame N (nI p) - 1) (nI 0)) 18 pg (dI (s_frame N (nI p)))) 19 pg (nI 1)) 20 (pg / 4) (nI 1)) := by unfold s_Mod_changed; rw [if_pos c7, if_pos c55]
      exact ⟨by rw [hs], by rw [hs]⟩
theorem s_changed_nk (N : tS) (p t k pg kd kp : Nat) {a j : Nat} (h : a ≠ 16 ∧ a ≠ 17 ∧ a ≠ 18 ∧ a ≠ 19 ∧ a ≠ 20 ∧ a ≠ 21 ∧ a ≠ 25) : (s_Mod_changed N p t k pg kd kp).2 a j = N a j := by
  obtain ⟨h1, h2, h3, h4, h5, h6, h7⟩ := h
  unfold s_Mod_changed
  repeat' split
  all_goals simp [tset, h1, h2, h3, h4, h5, h6, h7]
