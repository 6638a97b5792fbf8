def s_Mod_change (N : tS) (p t k ph kd fs mn pr hc kp tk sv nx0 : Nat) : tS :=
  if ph = 7 then tset (tset (tset N 11 t (nI nx0)) 32 0 (nI (nx0 + 1))) 10 t (nI 8)
  else if ph = 8 then (if sv = tk then (if kd = 2 then tset N 10 t (nI 9)
        else tset N 10 t (nI 10))
      else N)
    else if ph = 9 then (if s_some N fs mn = 0 then (if mn ≤ s_frames N (nI p) 10 + s_frames N (nI 4) 10 then tset (tset N 15 t (nI 0)) 10 t (nI 10)
          else tset (tset N 15 t (nI 1)) 10 t (nI 14))
        else tset (tset N 15 t (nI 1)) 10 t (nI 14))
      else if (s_Mod_changed N p t k (fs + pr) kd kp).1 = 0 then (if pr + 1 = mn then (if kd = 2 then tset (tset (tset (tset ((s_Mod_changed N p t k (fs + pr) kd kp).2) 14 t (nI (hc + 0))) 12 t (nI (pr + 1))) 12 t (nI 0)) 10 t (nI 14)
            else if hc + 0 = 0 then tset (tset (tset (tset ((s_Mod_changed N p t k (fs + pr) kd kp).2) 14 t (nI (hc + 0))) 12 t (nI (pr + 1))) 12 t (nI 0)) 10 t (nI 14)
              else tset (tset (tset (tset ((s_Mod_changed N p t k (fs + pr) kd kp).2) 14 t (nI (hc + 0))) 12 t (nI (pr + 1))) 12 t (nI 0)) 10 t (nI 11))
          else tset (tset ((s_Mod_changed N p t k (fs + pr) kd kp).2) 14 t (nI (hc + 0))) 12 t (nI (pr + 1)))
        else if pr + 1 = mn then (if kd = 2 then tset (tset (tset (tset ((s_Mod_changed N p t k (fs + pr) kd kp).2) 14 t (nI (hc + 1))) 12 t (nI (pr + 1))) 12 t (nI 0)) 10 t (nI 14)
            else if hc + 1 = 0 then tset (tset (tset (tset ((s_Mod_changed N p t k (fs + pr) kd kp).2) 14 t (nI (hc + 1))) 12 t (nI (pr + 1))) 12 t (nI 0)) 10 t (nI 14)
              else tset (tset (tset (tset ((s_Mod_changed N p t k (fs + pr) kd kp).2) 14 t (nI (hc + 1))) 12 t (nI (pr + 1))) 12 t (nI 0)) 10 t (nI 11))
          else tset (tset ((s_Mod_changed N p t k (fs + pr) kd kp).2) 14 t (nI (hc + 1))) 12 t (nI (pr + 1))
set_option maxHeartbeats 1000000 in
theorem c_Mod_change (X : gCx) (l : Launch) (h nx : Nat) (N : tS) (p t k ph kd fs mn pr hc kp tk sv nx0 : Nat) (hp : p < 4) (ht : t < 8) (hk : k < 80) (hph : N 10 t = nI ph) (hph2 : 7 ≤ ph ∧ ph ≤ 10) (hkd : N 2 k = nI kd) (hkd2 : kd < 6) (hfs : N 3 k = nI fs) (hmn : N 4 k = nI mn) (hr : fs + mn ≤ 16) (hpr : N 12 t = nI pr) (hhc : N 14 t = nI hc) (hkp : N 17 t = nI kp) (htk : N 11 t = nI tk) (hsv : N 33 0 = nI sv) (hnx : N 32 0 = nI nx0) (hbd : tk < 2 ^ 30 ∧ sv < 2 ^ 30 ∧ nx0 < 2 ^ 30 ∧ hc < 2 ^ 30) (h10 : ph = 10 → pr < mn ∧ mn ≤ 4 ∧ kp < 4 ∧ (kd = 2 → s_frame N (nI p) ≠ 0)) : gMi X l (HoldT X h nx) M_Mod_change 2 0 0 [.ref h, .int (nI p), .int (nI t), .int (nI k)] N (nI 0) (s_Mod_change N p t k ph kd fs mn pr hc kp tk sv nx0) := by
  refine gM_intro (by decide) (Nat.le_of_ble_eq_true rfl) (fun K hK => ?_)
  show K 0 [(0, .ref h), (1, .int (nI p)), (2, .int (nI t)), (3, .int (nI k))] [] N 0 0
  refine r_aload_n hK d_Mod_change_0 rfl 0 rfl ?_
  refine w_phase hK d_Mod_change_1 rfl ?_
  refine r_iload_n hK d_Mod_change_4 rfl 2 rfl ?_
  refine w_iald (n := 10) (L := 8) hK d_Mod_change_5 (by decide) rfl rfl t rfl (by omega) (v := nI ph) (hph) ?_
  refine r_bipush (v := nI 7) hK d_Mod_change_6 (by decide) ?_
  refine r_ncmp_ne (a := ph) (b := 7) (tgt := 42) hK d_Mod_change_8 (by decide) (by omega) (by omega) (fun c8 => ?_) (fun c8 => ?_)
  · refine r_aload_n hK d_Mod_change_42 rfl 0 rfl ?_
    refine w_phase hK d_Mod_change_43 rfl ?_
    refine r_iload_n hK d_Mod_change_46 rfl 2 rfl ?_
    refine w_iald (n := 10) (L := 8) hK d_Mod_change_47 (by decide) rfl rfl t rfl (by omega) (v := nI ph) (hph) ?_
    refine r_bipush (v := nI 8) hK d_Mod_change_48 (by decide) ?_
    refine r_ncmp_ne (a := ph) (b := 8) (tgt := 92) hK d_Mod_change_50 (by decide) (by omega) (by omega) (fun c50 => ?_) (fun c50 => ?_)
    · refine r_aload_n hK d_Mod_change_92 rfl 0 rfl ?_
      refine w_phase hK d_Mod_change_93 rfl ?_
      refine r_iload_n hK d_Mod_change_96 rfl 2 rfl ?_
      refine w_iald (n := 10) (L := 8) hK d_Mod_change_97 (by decide) rfl rfl t rfl (by omega) (v := nI ph) (hph) ?_
      refine r_bipush (v := nI 9) hK d_Mod_change_98 (by decide) ?_
      refine r_ncmp_ne (a := ph) (b := 9) (tgt := 167) hK d_Mod_change_100 (by decide) (by omega) (by omega) (fun c100 => ?_) (fun c100 => ?_)
      · refine r_aload_n hK d_Mod_change_167 rfl 0 rfl ?_
        refine w_first hK d_Mod_change_168 rfl ?_
        refine r_iload_n hK d_Mod_change_171 rfl 3 rfl ?_
        refine w_iald (n := 3) (L := 80) hK d_Mod_change_172 (by decide) rfl rfl k rfl (by omega) (v := nI fs) (hfs) ?_
        refine r_aload_n hK d_Mod_change_173 rfl 0 rfl ?_
        refine w_progress hK d_Mod_change_174 rfl ?_
        refine r_iload_n hK d_Mod_change_177 rfl 2 rfl ?_
        refine w_iald (n := 12) (L := 8) hK d_Mod_change_178 (by decide) rfl rfl t rfl (by omega) (v := nI pr) (hpr) ?_
        refine r_iadd hK d_Mod_change_179 ?_
        refine r_tp (b := nI (fs + pr)) (nI_add _ _) ?_
        refine r_istore (lv' := [(4, .int (nI (fs + pr))), (0, .ref h), (1, .int (nI p)), (2, .int (nI t)), (3, .int (nI k))]) hK d_Mod_change_180 (by decide) rfl ?_
        have c10 := h10 (by omega)
        refine r_aload_n hK d_Mod_change_182 rfl 1 rfl ?_
        refine w_hits hK d_Mod_change_183 rfl ?_
        refine r_iload_n hK d_Mod_change_186 rfl 3 rfl ?_
        refine r_dup2 hK d_Mod_change_187 rfl rfl ?_
        refine w_iald (n := 14) (L := 8) hK d_Mod_change_188 (by decide) rfl rfl t rfl (by omega) (v := nI hc) (hhc) ?_
        refine r_aload_n hK d_Mod_change_189 rfl 1 rfl ?_
        refine r_iload_n hK d_Mod_change_190 rfl 2 rfl ?_
        refine r_iload_n hK d_Mod_change_191 rfl 3 rfl ?_
        refine r_iload_n hK d_Mod_change_192 rfl 4 rfl ?_
        refine r_iload hK d_Mod_change_193 0 rfl ?_
        refine r_callVi (As := [.int (nI p), .int (nI t), .int (nI k), .int (nI (fs + pr))]) (b := h) (st := [.int (nI hc), .int (nI t), .ref (h + 1 + 14)]) hK (c_Mod_changed X l h nx N p t k (fs + pr) kd kp hp ht hk (by omega) hkd hkd2 hkp (by omega) (fun q => (h10 (by omega)).2.2.2 q)) d_Mod_change_195 ml_Mod_189 cv_Mod_changed rfl (by decide) w_recv (Nat.le_of_ble_eq_true rfl) ?_ rfl
        have q12 : (s_Mod_changed N p t k (fs + pr) kd kp).2 12 t = N 12 t := s_changed_nk N p t k (fs + pr) kd kp (by decide)
        have q14 : (s_Mod_changed N p t k (fs + pr) kd kp).2 14 t = N 14 t := s_changed_nk N p t k (fs + pr) kd kp (by decide)
        have q4 : (s_Mod_changed N p t k (fs + pr) kd kp).2 4 k = N 4 k := s_changed_nk N p t k (fs + pr) kd kp (by decide)
        have q2 : (s_Mod_changed N p t k (fs + pr) kd kp).2 2 k = N 2 k := s_changed_nk N p t k (fs + pr) kd kp (by decide)
        refine r_if_eq (tgt := 205) hK d_Mod_change_198 (by decide) (fun c198 => ?_) (fun c198 => ?_)
        · refine r_iconst (v := nI 0) hK d_Mod_change_205 (by decide) ?_
          refine r_iadd hK d_Mod_change_206 ?_
          refine r_tp (b := nI (hc + 0)) (nI_add _ _) ?_
          refine w_iast (n := 14) (L := 8) hK d_Mod_change_207 (by decide) rfl rfl t rfl (by omega) ?_
          refine r_aload_n hK d_Mod_change_208 rfl 1 rfl ?_
          refine w_progress hK d_Mod_change_209 rfl ?_
          refine r_iload_n hK d_Mod_change_212 rfl 3 rfl ?_
          refine r_dup2 hK d_Mod_change_213 rfl rfl ?_
          refine w_iald (n := 12) (L := 8) hK d_Mod_change_214 (by decide) rfl rfl t rfl (by omega) (v := nI pr) (by simp [tset, q12, hpr]) ?_
          refine r_iconst (v := nI 1) hK d_Mod_change_215 (by decide) ?_
          refine r_iadd hK d_Mod_change_216 ?_
          refine r_tp (b := nI (pr + 1)) (nI_add _ _) ?_
          refine w_iast (n := 12) (L := 8) hK d_Mod_change_217 (by decide) rfl rfl t rfl (by omega) ?_
          refine r_aload_n hK d_Mod_change_218 rfl 1 rfl ?_
          refine w_progress hK d_Mod_change_219 rfl ?_
          refine r_iload_n hK d_Mod_change_222 rfl 3 rfl ?_
          refine w_iald (n := 12) (L := 8) hK d_Mod_change_223 (by decide) rfl rfl t rfl (by omega) (v := nI (pr + 1)) (by simp [tset]) ?_
          refine r_aload_n hK d_Mod_change_224 rfl 1 rfl ?_
          refine w_many hK d_Mod_change_225 rfl ?_
          refine r_iload_n hK d_Mod_change_228 rfl 4 rfl ?_
          refine w_iald (n := 4) (L := 80) hK d_Mod_change_229 (by decide) rfl rfl k rfl (by omega) (v := nI mn) (by simp [tset, q4, hmn]) ?_
          refine r_ncmp_ne (a := pr + 1) (b := mn) (tgt := 272) hK d_Mod_change_230 (by decide) (by omega) (by omega) (fun c230 => ?_) (fun c230 => ?_)
          · refine r_iconst (v := nI 0) hK d_Mod_change_272 (by decide) ?_
            refine r_iret hK d_Mod_change_273 rfl (rfl) ?_
            have hs : s_Mod_change N p t k ph kd fs mn pr hc kp tk sv nx0 = tset (tset ((s_Mod_changed N p t k (fs + pr) kd kp).2) 14 t (nI (hc + 0))) 12 t (nI (pr + 1)) := by unfold s_Mod_change; rw [if_neg c8, if_neg c50, if_neg c100, if_pos c198, if_neg c230]
            exact ⟨rfl, by rw [hs]⟩
          · refine r_aload_n hK d_Mod_change_233 rfl 1 rfl ?_
            refine w_progress hK d_Mod_change_234 rfl ?_
            refine r_iload_n hK d_Mod_change_237 rfl 3 rfl ?_
            refine r_iconst (v := nI 0) hK d_Mod_change_238 (by decide) ?_
            refine w_iast (n := 12) (L := 8) hK d_Mod_change_239 (by decide) rfl rfl t rfl (by omega) ?_
            refine r_aload_n hK d_Mod_change_240 rfl 1 rfl ?_
            refine w_phase hK d_Mod_change_241 rfl ?_
            refine r_iload_n hK d_Mod_change_244 rfl 3 rfl ?_
            refine r_aload_n hK d_Mod_change_245 rfl 1 rfl ?_
            refine w_kind hK d_Mod_change_246 rfl ?_
            refine r_iload_n hK d_Mod_change_249 rfl 4 rfl ?_
            refine w_iald (n := 2) (L := 80) hK d_Mod_change_250 (by decide) rfl rfl k rfl (by omega) (v := nI kd) (by simp [tset, q2, hkd]) ?_
            refine r_iconst (v := nI 2) hK d_Mod_change_251 (by decide) ?_
            refine r_ncmp_eq (a := kd) (b := 2) (tgt := 269) hK d_Mod_change_252 (by decide) (by omega) (by omega) (fun c252 => ?_) (fun c252 => ?_)
            · refine r_bipush (v := nI 14) hK d_Mod_change_269 (by decide) ?_
              refine w_iast (n := 10) (L := 8) hK d_Mod_change_271 (by decide) rfl rfl t rfl (by omega) ?_
              refine r_iconst (v := nI 0) hK d_Mod_change_272 (by decide) ?_
              refine r_iret hK d_Mod_change_273 rfl (rfl) ?_
              have hs : s_Mod_change N p t k ph kd fs mn pr hc kp tk sv nx0 = tset (tset (tset (tset ((s_Mod_changed N p t k (fs + pr) kd kp).2) 14 t (nI (hc + 0))) 12 t (nI (pr + 1))) 12 t (nI 0)) 10 t (nI 14) := by unfold s_Mod_change; rw [if_neg c8, if_neg c50, if_neg c100, if_pos c198, if_pos c230, if_pos c252]
              exact ⟨rfl, by rw [hs]⟩
            · refine r_aload_n hK d_Mod_change_255 rfl 1 rfl ?_
              refine w_hits hK d_Mod_change_256 rfl ?_
              refine r_iload_n hK d_Mod_change_259 rfl 3 rfl ?_
              refine w_iald (n := 14) (L := 8) hK d_Mod_change_260 (by decide) rfl rfl t rfl (by omega) (v := nI (hc + 0)) (by simp [tset]) ?_
              refine r_nif_le (a := hc + 0) (tgt := 269) hK d_Mod_change_261 (by decide) (by omega) (fun c261 => ?_) (fun c261 => ?_)
              · refine r_bipush (v := nI 14) hK d_Mod_change_269 (by decide) ?_
                refine w_iast (n := 10) (L := 8) hK d_Mod_change_271 (by decide) rfl rfl t rfl (by omega) ?_
                refine r_iconst (v := nI 0) hK d_Mod_change_272 (by decide) ?_
                refine r_iret hK d_Mod_change_273 rfl (rfl) ?_
                have hs : s_Mod_change N p t k ph kd fs mn pr hc kp tk sv nx0 = tset (tset (tset (tset ((s_Mod_changed N p t k (fs + pr) kd kp).2) 14 t (nI (hc + 0))) 12 t (nI (pr + 1))) 12 t (nI 0)) 10 t (nI 14) := by unfold s_Mod_change; rw [if_neg c8, if_neg c50, if_neg c100, if_pos c198, if_pos c230, if_neg c252, if_pos c261]
                exact ⟨rfl, by rw [hs]⟩
              · refine r_bipush (v := nI 11) hK d_Mod_change_264 (by decide) ?_
                refine r_goto (tgt := 271) hK d_Mod_change_266 (by decide) ?_
                refine w_iast (n := 10) (L := 8) hK d_Mod_change_271 (by decide) rfl rfl t rfl (by omega) ?_
                refine r_iconst (v := nI 0) hK d_Mod_change_272 (by decide) ?_
                refine r_iret hK d_Mod_change_273 rfl (rfl) ?_
                have hs : s_Mod_change N p t k ph kd fs mn pr hc kp tk sv nx0 = tset (tset (tset (tset ((s_Mod_changed N p t k (fs + pr) kd kp).2) 14 t (nI (hc + 0))) 12 t (nI (pr + 1))) 12 t (nI 0)) 10 t (nI 11) := by unfold s_Mod_change; rw [if_neg c8, if_neg c50, if_neg c100, if_pos c198, if_pos c230, if_neg c252, if_neg ((Nat.ne_of_gt c261))]
                exact ⟨rfl, by rw [hs]⟩
        · refine r_iconst (v := nI 1) hK d_Mod_change_201 (by decide) ?_
          refine r_goto (tgt := 206) hK d_Mod_change_202 (by decide) ?_
          refine r_iadd hK d_Mod_change_206 ?_
          refine r_tp (b := nI (hc + 1)) (nI_add _ _) ?_
          refine w_iast (n := 14) (L := 8) hK d_Mod_change_207 (by decide) rfl rfl t rfl (by omega) ?_
          refine r_aload_n hK d_Mod_change_208 rfl 1 rfl ?_
          refine w_progress hK d_Mod_change_209 rfl ?_
          refine r_iload_n hK d_Mod_change_212 rfl 3 rfl ?_
          refine r_dup2 hK d_Mod_change_213 rfl rfl ?_
          refine w_iald (n := 12) (L := 8) hK d_Mod_change_214 (by decide) rfl rfl t rfl (by omega) (v := nI pr) (by simp [tset, q12, hpr]) ?_
          refine r_iconst (v := nI 1) hK d_Mod_change_215 (by decide) ?_
          refine r_iadd hK d_Mod_change_216 ?_
          refine r_tp (b := nI (pr + 1)) (nI_add _ _) ?_
          refine w_iast (n := 12) (L := 8) hK d_Mod_change_217 (by decide) rfl rfl t rfl (by omega) ?_
          refine r_aload_n hK d_Mod_change_218 rfl 1 rfl ?_
          refine w_progress hK d_Mod_change_219 rfl ?_
          refine r_iload_n hK d_Mod_change_222 rfl 3 rfl ?_
          refine w_iald (n := 12) (L := 8) hK d_Mod_change_223 (by decide) rfl rfl t rfl (by omega) (v := nI (pr + 1)) (by simp [tset]) ?_
          refine r_aload_n hK d_Mod_change_224 rfl 1 rfl ?_
          refine w_many hK d_Mod_change_225 rfl ?_
          refine r_iload_n hK d_Mod_change_228 rfl 4 rfl ?_
          refine w_iald (n := 4) (L := 80) hK d_Mod_change_229 (by decide) rfl rfl k rfl (by omega) (v := nI mn) (by simp [tset, q4, hmn]) ?_
          refine r_ncmp_ne (a := pr + 1) (b := mn) (tgt := 272) hK d_Mod_change_230 (by decide) (by omega) (by omega) (fun c230 => ?_) (fun c230 => ?_)
          · refine r_iconst (v := nI 0) hK d_Mod_change_272 (by decide) ?_
            refine r_iret hK d_Mod_change_273 rfl (rfl) ?_
            have hs : s_Mod_change N p t k ph kd fs mn pr hc kp tk sv nx0 = tset (tset ((s_Mod_changed N p t k (fs + pr) kd kp).2) 14 t (nI (hc + 1))) 12 t (nI (pr + 1)) := by unfold s_Mod_change; rw [if_neg c8, if_neg c50, if_neg c100, if_neg c198, if_neg c230]
            exact ⟨rfl, by rw [hs]⟩
          · refine r_aload_n hK d_Mod_change_233 rfl 1 rfl ?_
            refine w_progress hK d_Mod_change_234 rfl ?_
            refine r_iload_n hK d_Mod_change_237 rfl 3 rfl ?_
            refine r_iconst (v := nI 0) hK d_Mod_change_238 (by decide) ?_
            refine w_iast (n := 12) (L := 8) hK d_Mod_change_239 (by decide) rfl rfl t rfl (by omega) ?_
            refine r_aload_n hK d_Mod_change_240 rfl 1 rfl ?_
            refine w_phase hK d_Mod_change_241 rfl ?_
            refine r_iload_n hK d_Mod_change_244 rfl 3 rfl ?_
            refine r_aload_n hK d_Mod_change_245 rfl 1 rfl ?_
            refine w_kind hK d_Mod_change_246 rfl ?_
            refine r_iload_n hK d_Mod_change_249 rfl 4 rfl ?_
            refine w_iald (n := 2) (L := 80) hK d_Mod_change_250 (by decide) rfl rfl k rfl (by omega) (v := nI kd) (by simp [tset, q2, hkd]) ?_
            refine r_iconst (v := nI 2) hK d_Mod_change_251 (by decide) ?_
            refine r_ncmp_eq (a := kd) (b := 2) (tgt := 269) hK d_Mod_change_252 (by decide) (by omega) (by omega) (fun c252 => ?_) (fun c252 => ?_)
            · refine r_bipush (v := nI 14) hK d_Mod_change_269 (by decide) ?_
              refine w_iast (n := 10) (L := 8) hK d_Mod_change_271 (by decide) rfl rfl t rfl (by omega) ?_
              refine r_iconst (v := nI 0) hK d_Mod_change_272 (by decide) ?_
              refine r_iret hK d_Mod_change_273 rfl (rfl) ?_
              have hs : s_Mod_change N p t k ph kd fs mn pr hc kp tk sv nx0 = tset (tset (tset (tset ((s_Mod_changed N p t k (fs + pr) kd kp).2) 14 t (nI (hc + 1))) 12 t (nI (pr + 1))) 12 t (nI 0)) 10 t (nI 14) := by unfold s_Mod_change; rw [if_neg c8, if_neg c50, if_neg c100, if_neg c198, if_pos c230, if_pos c252]
              exact ⟨rfl, by rw [hs]⟩
            · refine r_aload_n hK d_Mod_change_255 rfl 1 rfl ?_
              refine w_hits hK d_Mod_change_256 rfl ?_
              refine r_iload_n hK d_Mod_change_259 rfl 3 rfl ?_
              refine w_iald (n := 14) (L := 8) hK d_Mod_change_260 (by decide) rfl rfl t rfl (by omega) (v := nI (hc + 1)) (by simp [tset]) ?_
              refine r_nif_le (a := hc + 1) (tgt := 269) hK d_Mod_change_261 (by decide) (by omega) (fun c261 => ?_) (fun c261 => ?_)
              · refine r_bipush (v := nI 14) hK d_Mod_change_269 (by decide) ?_
                refine w_iast (n := 10) (L := 8) hK d_Mod_change_271 (by decide) rfl rfl t rfl (by omega) ?_
                refine r_iconst (v := nI 0) hK d_Mod_change_272 (by decide) ?_
                refine r_iret hK d_Mod_change_273 rfl (rfl) ?_
                have hs : s_Mod_change N p t k ph kd fs mn pr hc kp tk sv nx0 = tset (tset (tset (tset ((s_Mod_changed N p t k (fs + pr) kd kp).2) 14 t (nI (hc + 1))) 12 t (nI (pr + 1))) 12 t (nI 0)) 10 t (nI 14) := by unfold s_Mod_change; rw [if_neg c8, if_neg c50, if_neg c100, if_neg c198, if_pos c230, if_neg c252, if_pos c261]
                exact ⟨rfl, by rw [hs]⟩
              · refine r_bipush (v := nI 11) hK d_Mod_change_264 (by decide) ?_
                refine r_goto (tgt := 271) hK d_Mod_change_266 (by decide) ?_
                refine w_iast (n := 10) (L := 8) hK d_Mod_change_271 (by decide) rfl rfl t rfl (by omega) ?_
                refine r_iconst (v := nI 0) hK d_Mod_change_272 (by decide) ?_
                refine r_iret hK d_Mod_change_273 rfl (rfl) ?_
                have hs : s_Mod_change N p t k ph kd fs mn pr hc kp tk sv nx0 = tset (tset (tset (tset ((s_Mod_changed N p t k (fs + pr) kd kp).2) 14 t (nI (hc + 1))) 12 t (nI (pr + 1))) 12 t (nI 0)) 10 t (nI 11) := by unfold s_Mod_change; rw [if_neg c8, if_neg c50, if_neg c100, if_neg c198, if_pos c230, if_neg c252, if_neg ((Nat.ne_of_gt c261))]
                exact ⟨rfl, by rw [hs]⟩
      · refine r_aload_n hK d_Mod_change_103 rfl 0 rfl ?_
        refine w_refused hK d_Mod_change_104 rfl ?_
        refine r_iload_n hK d_Mod_change_107 rfl 2 rfl ?_
        refine r_aload_n hK d_Mod_change_108 rfl 0 rfl ?_
        refine r_iload_n hK d_Mod_change_109 rfl 3 rfl ?_
        refine r_callVi (As := [.int (nI k)]) (b := h) (st := [.int (nI t), .ref (h + 1 + 15)]) hK (c_Mod_some X l h nx N k fs mn (by omega) hfs hmn (by omega)) d_Mod_change_110 ml_Mod_183 cv_Mod_some rfl (by decide) w_recv (Nat.le_of_ble_eq_true rfl) ?_ rfl
        have b0 := s_some_le N fs mn
        refine r_nif_ne (a := s_some N fs mn) (tgt := 136) hK d_Mod_change_113 (by decide) (by omega) (fun c113 => ?_) (fun c113 => ?_)
        · refine r_iconst (v := nI 1) hK d_Mod_change_136 (by decide) ?_
          refine r_goto (tgt := 141) hK d_Mod_change_137 (by decide) ?_
          refine w_zast (n := 15) (L := 8) hK (rfl) d_Mod_change_141 (by decide) rfl rfl t rfl (by omega) ?_
          refine r_aload_n hK d_Mod_change_142 rfl 0 rfl ?_
          refine w_phase hK d_Mod_change_143 rfl ?_
          refine r_iload_n hK d_Mod_change_146 rfl 2 rfl ?_
          refine r_aload_n hK d_Mod_change_147 rfl 0 rfl ?_
          refine w_refused hK d_Mod_change_148 rfl ?_
          refine r_iload_n hK d_Mod_change_151 rfl 2 rfl ?_
          refine w_zald (n := 15) (L := 8) hK d_Mod_change_152 (by decide) rfl rfl t rfl (by omega) (v := nI 1) (by simp [tset]) ?_
          refine r_nif_eq (a := 1) (tgt := 161) hK d_Mod_change_153 (by decide) (by decide) (fun z => absurd z (by decide)) (fun z => ?_)
          refine r_bipush (v := nI 14) hK d_Mod_change_156 (by decide) ?_
          refine r_goto (tgt := 163) hK d_Mod_change_158 (by decide) ?_
          refine w_iast (n := 10) (L := 8) hK d_Mod_change_163 (by decide) rfl rfl t rfl (by omega) ?_
          refine r_goto (tgt := 272) hK d_Mod_change_164 (by decide) ?_
          refine r_iconst (v := nI 0) hK d_Mod_change_272 (by decide) ?_
          refine r_iret hK d_Mod_change_273 rfl (rfl) ?_
          have hs : s_Mod_change N p t k ph kd fs mn pr hc kp tk sv nx0 = tset (tset N 15 t (nI 1)) 10 t (nI 14) := by unfold s_Mod_change; rw [if_neg c8, if_neg c50, if_pos c100, if_neg c113]
          exact ⟨rfl, by rw [hs]⟩
        · refine r_aload_n hK d_Mod_change_116 rfl 0 rfl ?_
          refine r_iload_n hK d_Mod_change_117 rfl 1 rfl ?_
          refine r_callVi (As := [.int (nI p)]) (b := h) (st := [.int (nI t), .ref (h + 1 + 15)]) hK (c_Mod_framesAt X l h nx N (nI p)) d_Mod_change_118 ml_Mod_186 cv_Mod_framesAt rfl (by decide) w_recv (Nat.le_of_ble_eq_true rfl) ?_ rfl
          refine r_aload_n hK d_Mod_change_121 rfl 0 rfl ?_
          refine r_iconst (v := nI 4) hK d_Mod_change_122 (by decide) ?_
          refine r_callVi (As := [.int (nI 4)]) (b := h) (st := [.int (nI (s_frames N (nI p) 10)), .int (nI t), .ref (h + 1 + 15)]) hK (c_Mod_framesAt X l h nx N (nI 4)) d_Mod_change_123 ml_Mod_186 cv_Mod_framesAt rfl (by decide) w_recv (Nat.le_of_ble_eq_true rfl) ?_ rfl
          refine r_iadd hK d_Mod_change_126 ?_
          refine r_tp (b := nI (s_frames N (nI p) 10 + s_frames N (nI 4) 10)) (nI_add _ _) ?_
          refine r_aload_n hK d_Mod_change_127 rfl 0 rfl ?_
          refine w_many hK d_Mod_change_128 rfl ?_
          refine r_iload_n hK d_Mod_change_131 rfl 3 rfl ?_
          refine w_iald (n := 4) (L := 80) hK d_Mod_change_132 (by decide) rfl rfl k rfl (by omega) (v := nI mn) (hmn) ?_
          have b1 := s_frames_le N (nI p) 10
          have b2 := s_frames_le N (nI 4) 10
          refine r_ncmp_ge (a := s_frames N (nI p) 10 + s_frames N (nI 4) 10) (b := mn) (tgt := 140) hK d_Mod_change_133 (by decide) (by omega) (by omega) (fun c133 => ?_) (fun c133 => ?_)
          · refine r_iconst (v := nI 0) hK d_Mod_change_140 (by decide) ?_
            refine w_zast (n := 15) (L := 8) hK (rfl) d_Mod_change_141 (by decide) rfl rfl t rfl (by omega) ?_
            refine r_aload_n hK d_Mod_change_142 rfl 0 rfl ?_
            refine w_phase hK d_Mod_change_143 rfl ?_
            refine r_iload_n hK d_Mod_change_146 rfl 2 rfl ?_
            refine r_aload_n hK d_Mod_change_147 rfl 0 rfl ?_
            refine w_refused hK d_Mod_change_148 rfl ?_
            refine r_iload_n hK d_Mod_change_151 rfl 2 rfl ?_
            refine w_zald (n := 15) (L := 8) hK d_Mod_change_152 (by decide) rfl rfl t rfl (by omega) (v := nI 0) (by simp [tset]) ?_
            refine r_nif_eq (a := 0) (tgt := 161) hK d_Mod_change_153 (by decide) (by decide) (fun z => ?_) (fun z => absurd z (by decide))
            refine r_bipush (v := nI 10) hK d_Mod_change_161 (by decide) ?_
            refine w_iast (n := 10) (L := 8) hK d_Mod_change_163 (by decide) rfl rfl t rfl (by omega) ?_
            refine r_goto (tgt := 272) hK d_Mod_change_164 (by decide) ?_
            refine r_iconst (v := nI 0) hK d_Mod_change_272 (by decide) ?_
            refine r_iret hK d_Mod_change_273 rfl (rfl) ?_
            have hs : s_Mod_change N p t k ph kd fs mn pr hc kp tk sv nx0 = tset (tset N 15 t (nI 0)) 10 t (nI 10) := by unfold s_Mod_change; rw [if_neg c8, if_neg c50, if_pos c100, if_pos c113, if_pos c133]
            exact ⟨rfl, by rw [hs]⟩
          · refine r_iconst (v := nI 1) hK d_Mod_change_136 (by decide) ?_
            refine r_goto (tgt := 141) hK d_Mod_change_137 (by decide) ?_
            refine w_zast (n := 15) (L := 8) hK (rfl) d_Mod_change_141 (by decide) rfl rfl t rfl (by omega) ?_
            refine r_aload_n hK d_Mod_change_142 rfl 0 rfl ?_
            refine w_phase hK d_Mod_change_143 rfl ?_
            refine r_iload_n hK d_Mod_change_146 rfl 2 rfl ?_
            refine r_aload_n hK d_Mod_change_147 rfl 0 rfl ?_
            refine w_refused hK d_Mod_change_148 rfl ?_
            refine r_iload_n hK d_Mod_change_151 rfl 2 rfl ?_
            refine w_zald (n := 15) (L := 8) hK d_Mod_change_152 (by decide) rfl rfl t rfl (by omega) (v := nI 1) (by simp [tset]) ?_
            refine r_nif_eq (a := 1) (tgt := 161) hK d_Mod_change_153 (by decide) (by decide) (fun z => absurd z (by decide)) (fun z => ?_)
            refine r_bipush (v := nI 14) hK d_Mod_change_156 (by decide) ?_
            refine r_goto (tgt := 163) hK d_Mod_change_158 (by decide) ?_
            refine w_iast (n := 10) (L := 8) hK d_Mod_change_163 (by decide) rfl rfl t rfl (by omega) ?_
            refine r_goto (tgt := 272) hK d_Mod_change_164 (by decide) ?_
            refine r_iconst (v := nI 0) hK d_Mod_change_272 (by decide) ?_
            refine r_iret hK d_Mod_change_273 rfl (rfl) ?_
            have hs : s_Mod_change N p t k ph kd fs mn pr hc kp tk sv nx0 = tset (tset N 15 t (nI 1)) 10 t (nI 14) := by unfold s_Mod_change; rw [if_neg c8, if_neg c50, if_pos c100, if_pos c113, if_neg (Nat.not_le.mpr c133)]
            exact ⟨rfl, by rw [hs]⟩
    · refine r_aload_n hK d_Mod_change_53 rfl 0 rfl ?_
      refine w_serving hK d_Mod_change_54 rfl (v := nI sv) (hsv) ?_
      refine r_aload_n hK d_Mod_change_57 rfl 0 rfl ?_
      refine w_ticket hK d_Mod_change_58 rfl ?_
      refine r_iload_n hK d_Mod_change_61 rfl 2 rfl ?_
      refine w_iald (n := 11) (L := 8) hK d_Mod_change_62 (by decide) rfl rfl t rfl (by omega) (v := nI tk) (htk) ?_
      refine r_ncmp_ne (a := sv) (b := tk) (tgt := 272) hK d_Mod_change_63 (by decide) (by omega) (by omega) (fun c63 => ?_) (fun c63 => ?_)
      · refine r_iconst (v := nI 0) hK d_Mod_change_272 (by decide) ?_
        refine r_iret hK d_Mod_change_273 rfl (rfl) ?_
        have hs : s_Mod_change N p t k ph kd fs mn pr hc kp tk sv nx0 = N := by unfold s_Mod_change; rw [if_neg c8, if_pos c50, if_neg c63]
        exact ⟨rfl, by rw [hs]⟩
      · refine r_aload_n hK d_Mod_change_66 rfl 0 rfl ?_
        refine w_phase hK d_Mod_change_67 rfl ?_
        refine r_iload_n hK d_Mod_change_70 rfl 2 rfl ?_
        refine r_aload_n hK d_Mod_change_71 rfl 0 rfl ?_
        refine w_kind hK d_Mod_change_72 rfl ?_
        refine r_iload_n hK d_Mod_change_75 rfl 3 rfl ?_
        refine w_iald (n := 2) (L := 80) hK d_Mod_change_76 (by decide) rfl rfl k rfl (by omega) (v := nI kd) (hkd) ?_
        refine r_iconst (v := nI 2) hK d_Mod_change_77 (by decide) ?_
        refine r_ncmp_ne (a := kd) (b := 2) (tgt := 86) hK d_Mod_change_78 (by decide) (by omega) (by omega) (fun c78 => ?_) (fun c78 => ?_)
        · refine r_bipush (v := nI 10) hK d_Mod_change_86 (by decide) ?_
          refine w_iast (n := 10) (L := 8) hK d_Mod_change_88 (by decide) rfl rfl t rfl (by omega) ?_
          refine r_goto (tgt := 272) hK d_Mod_change_89 (by decide) ?_
          refine r_iconst (v := nI 0) hK d_Mod_change_272 (by decide) ?_
          refine r_iret hK d_Mod_change_273 rfl (rfl) ?_
          have hs : s_Mod_change N p t k ph kd fs mn pr hc kp tk sv nx0 = tset N 10 t (nI 10) := by unfold s_Mod_change; rw [if_neg c8, if_pos c50, if_pos c63, if_neg c78]
          exact ⟨rfl, by rw [hs]⟩
        · refine r_bipush (v := nI 9) hK d_Mod_change_81 (by decide) ?_
          refine r_goto (tgt := 88) hK d_Mod_change_83 (by decide) ?_
          refine w_iast (n := 10) (L := 8) hK d_Mod_change_88 (by decide) rfl rfl t rfl (by omega) ?_
          refine r_goto (tgt := 272) hK d_Mod_change_89 (by decide) ?_
          refine r_iconst (v := nI 0) hK d_Mod_change_272 (by decide) ?_
          refine r_iret hK d_Mod_change_273 rfl (rfl) ?_
          have hs : s_Mod_change N p t k ph kd fs mn pr hc kp tk sv nx0 = tset N 10 t (nI 9) := by unfold s_Mod_change; rw [if_neg c8, if_pos c50, if_pos c63, if_pos c78]
          exact ⟨rfl, by rw [hs]⟩
  · refine r_aload_n hK d_Mod_change_11 rfl 0 rfl ?_
    refine w_ticket hK d_Mod_change_12 rfl ?_
    refine r_iload_n hK d_Mod_change_15 rfl 2 rfl ?_
    refine r_aload_n hK d_Mod_change_16 rfl 0 rfl ?_
    refine w_next hK d_Mod_change_17 rfl (v := nI nx0) (hnx) ?_
    refine w_iast (n := 11) (L := 8) hK d_Mod_change_20 (by decide) rfl rfl t rfl (by omega) ?_
    refine r_aload_n hK d_Mod_change_21 rfl 0 rfl ?_
    refine r_dup hK d_Mod_change_22 rfl ?_
    refine w_next hK d_Mod_change_23 rfl (v := nI nx0) (by simp [tset, hnx]) ?_
    refine r_iconst (v := nI 1) hK d_Mod_change_26 (by decide) ?_
    refine r_iadd hK d_Mod_change_27 ?_
    refine r_tp (b := nI (nx0 + 1)) (nI_add _ _) ?_
    refine w_put_next hK d_Mod_change_28 rfl ?_
    refine r_aload_n hK d_Mod_change_31 rfl 0 rfl ?_
    refine w_phase hK d_Mod_change_32 rfl ?_
    refine r_iload_n hK d_Mod_change_35 rfl 2 rfl ?_
    refine r_bipush (v := nI 8) hK d_Mod_change_36 (by decide) ?_
    refine w_iast (n := 10) (L := 8) hK d_Mod_change_38 (by decide) rfl rfl t rfl (by omega) ?_
    refine r_goto (tgt := 272) hK d_Mod_change_39 (by decide) ?_
    refine r_iconst (v := nI 0) hK d_Mod_change_272 (by decide) ?_
    refine r_iret hK d_Mod_change_273 rfl (rfl) ?_
    have hs : s_Mod_change N p t k ph kd fs mn pr hc kp tk sv nx0 = tset (tset (tset N 11 t (nI nx0)) 32 0 (nI (nx0 + 1))) 10 t (nI 8) := by unfold s_Mod_change; rw [if_pos c8]
    exact ⟨rfl, by rw [hs]⟩
def s_Mod_shoot (N : tS) (p t k ph kd fs mn pr ow kp f hc sv : Nat) : Int32 × tS :=
  if ph = 11 then (if pr = p then (if pr + 1 = 4 then (nI 0, tset (tset (s_forget N (16 * p + fs) mn) 12 t (nI (pr + 1))) 10 t (nI 12))
      else (nI 0, tset (tset (s_forget N (16 * p + fs) mn) 12 t (nI (pr + 1))) 10 t (nI 11)))
    else if pr + 1 = 4 then (nI 0, tset (tset (tset (tset (tset N 27 pr (nI 1)) 28 pr (nI t)) 13 t (nI (ow + 1))) 12 t (nI (pr + 1))) 10 t (nI 12))
      else (nI 0, tset (tset (tset (tset (tset N 27 pr (nI 1)) 28 pr (nI t)) 13 t (nI (ow + 1))) 12 t (nI (pr + 1))) 10 t (nI 11)))
  else if ph = 12 then (if ow = 0 then (if kd = 3 then (nI 0, tset (tset N 12 t (nI 0)) 10 t (nI 13))
        else (nI 0, tset (tset N 12 t (nI 0)) 10 t (nI 14)))
      else (nI 0, tset N 12 t (nI 0)))
    else if ph = 13 then (if 2 ≤ s_frames N (nI p) 10 then (if pr + 1 = kp then (nI 0, tset (tset (tset (tset (tset N 25 f (nI 4)) 31 0 ((N 31 0) + nI 1)) 26 f ((N 31 0) + nI 1)) 12 t (nI (pr + 1))) 10 t (nI 14))
          else (nI 0, tset (tset (tset (tset (tset N 25 f (nI 4)) 31 0 ((N 31 0) + nI 1)) 26 f ((N 31 0) + nI 1)) 12 t (nI (pr + 1))) 10 t (nI 13)))
        else if pr + 1 = kp then (nI 0, tset (tset (tset (tset (tset N 25 f (nI p)) 31 0 ((N 31 0) + nI 1)) 26 f ((N 31 0) + nI 1)) 12 t (nI (pr + 1))) 10 t (nI 14))
          else (nI 0, tset (tset (tset (tset (tset N 25 f (nI p)) 31 0 ((N 31 0) + nI 1)) 26 f ((N 31 0) + nI 1)) 12 t (nI (pr + 1))) 10 t (nI 13)))
      else if ph = 14 then (if N 15 t = 0 then (nI 1, tset (tset N 33 0 (nI (sv + 1))) 6 k (nI hc))
          else (nI 1, tset (tset N 33 0 (nI (sv + 1))) 6 k (-3)))
        else (nI 1, tset N 6 k (nI 0))
set_option maxHeartbeats 1000000 in
theorem c_Mod_shoot (X : gCx) (l : Launch) (h nx : Nat) (N : tS) (p t k dd ph kd fs mn pr ow kp f hc sv : Nat) (hp : p < 4) (ht : t < 8) (hk : k < 80) (hk0 : k = 10 * t + dd) (hdd : N 1 t = nI dd) (hph : N 10 t = nI ph) (hph2 : 11 ≤ ph ∧ ph < 16) (hkd : N 2 k = nI kd) (hkd2 : kd < 6) (hfs : N 3 k = nI fs) (hmn : N 4 k = nI mn) (hr : fs + mn ≤ 16) (hpr : N 12 t = nI pr) (how : N 13 t = nI ow) (hhc : N 14 t = nI hc) (hkp : N 17 t = nI kp) (hsv : N 33 0 = nI sv) (hbd : sv < 2 ^ 30 ∧ ow < 2 ^ 30 ∧ kp < 2 ^ 30 ∧ pr < 2 ^ 30 ∧ hc < 2 ^ 30) (h11 : ph = 11 → pr < 4) (h13 : ph = 13 → N 16 (4 * t + pr) = nI f ∧ f < 10 ∧ pr < 4 ∧ kp ≤ 4) : gMi X l (HoldT X h nx) M_Mod_shoot 1 0 0 [.ref h, .int (nI p), .int (nI t), .int (nI k)] N (s_Mod_shoot N p t k ph kd fs mn pr ow kp f hc sv).1 (s_Mod_shoot N p t k ph kd fs mn pr ow kp f hc sv).2 := by
  refine gM_intro (by decide) (Nat.le_of_ble_eq_true rfl) (fun K hK => ?_)
  show K 0 [(0, .ref h), (1, .int (nI p)), (2, .int (nI t)), (3, .int (nI k))] [] N 0 0
  refine r_aload_n hK d_Mod_shoot_0 rfl 0 rfl ?_
  refine w_phase hK d_Mod_shoot_1 rfl ?_
  refine r_iload_n hK d_Mod_shoot_4 rfl 2 rfl ?_
  refine w_iald (n := 10) (L := 8) hK d_Mod_shoot_5 (by decide) rfl rfl t rfl (by omega) (v := nI ph) (hph) ?_
  refine r_bipush (v := nI 11) hK d_Mod_shoot_6 (by decide) ?_
  refine r_ncmp_ne (a := ph) (b := 11) (tgt := 99) hK d_Mod_shoot_8 (by decide) (by omega) (by omega) (fun c8 => ?_) (fun c8 => ?_)
  · refine r_aload_n hK d_Mod_shoot_99 rfl 0 rfl ?_
    refine w_phase hK d_Mod_shoot_100 rfl ?_
    refine r_iload_n hK d_Mod_shoot_103 rfl 2 rfl ?_
    refine w_iald (n := 10) (L := 8) hK d_Mod_shoot_104 (by decide) rfl rfl t rfl (by omega) (v := nI ph) (hph) ?_
    refine r_bipush (v := nI 12) hK d_Mod_shoot_105 (by decide) ?_
    refine r_ncmp_ne (a := ph) (b := 12) (tgt := 151) hK d_Mod_shoot_107 (by decide) (by omega) (by omega) (fun c107 => ?_) (fun c107 => ?_)
    · refine r_aload_n hK d_Mod_shoot_151 rfl 0 rfl ?_
      refine w_phase hK d_Mod_shoot_152 rfl ?_
      refine r_iload_n hK d_Mod_shoot_155 rfl 2 rfl ?_
      refine w_iald (n := 10) (L := 8) hK d_Mod_shoot_156 (by decide) rfl rfl t rfl (by omega) (v := nI ph) (hph) ?_
      refine r_bipush (v := nI 13) hK d_Mod_shoot_157 (by decide) ?_
      refine r_ncmp_ne (a := ph) (b := 13) (tgt := 251) hK d_Mod_shoot_159 (by decide) (by omega) (by omega) (fun c159 => ?_) (fun c159 => ?_)
      · refine r_aload_n hK d_Mod_shoot_251 rfl 0 rfl ?_
        refine w_phase hK d_Mod_shoot_252 rfl ?_
        refine r_iload_n hK d_Mod_shoot_255 rfl 2 rfl ?_
        refine w_iald (n := 10) (L := 8) hK d_Mod_shoot_256 (by decide) rfl rfl t rfl (by omega) (v := nI ph) (hph) ?_
        refine r_bipush (v := nI 14) hK d_Mod_shoot_257 (by decide) ?_
        refine r_ncmp_ne (a := ph) (b := 14) (tgt := 298) hK d_Mod_shoot_259 (by decide) (by omega) (by omega) (fun c259 => ?_) (fun c259 => ?_)
        · refine r_aload_n hK d_Mod_shoot_298 rfl 0 rfl ?_
          refine r_iload_n hK d_Mod_shoot_299 rfl 3 rfl ?_
          refine r_iconst (v := nI 0) hK d_Mod_shoot_300 (by decide) ?_
          refine r_callVi (As := [.int (nI k), .int (nI 0)]) (b := h) (st := []) hK (c_Mod_end X l h nx N k (nI 0) (by omega)) d_Mod_shoot_301 ml_Mod_171 cv_Mod_end rfl (by decide) w_recv (Nat.le_of_ble_eq_true rfl) ?_ rfl
          refine r_iret hK d_Mod_shoot_304 rfl (rfl) ?_
          have hs : s_Mod_shoot N p t k ph kd fs mn pr ow kp f hc sv = (nI 1, tset N 6 k (nI 0)) := by unfold s_Mod_shoot; rw [if_neg c8, if_neg c107, if_neg c159, if_neg c259]
          exact ⟨by rw [hs], by rw [hs]⟩
        · refine r_aload_n hK d_Mod_shoot_262 rfl 0 rfl ?_
          refine r_dup hK d_Mod_shoot_263 rfl ?_
          refine w_serving hK d_Mod_shoot_264 rfl (v := nI sv) (hsv) ?_
          refine r_iconst (v := nI 1) hK d_Mod_shoot_267 (by decide) ?_
          refine r_iadd hK d_Mod_shoot_268 ?_
          refine r_tp (b := nI (sv + 1)) (nI_add _ _) ?_
          refine w_put_serving hK d_Mod_shoot_269 rfl ?_
          refine r_aload_n hK d_Mod_shoot_272 rfl 0 rfl ?_
          refine r_iload_n hK d_Mod_shoot_273 rfl 3 rfl ?_
          refine r_aload_n hK d_Mod_shoot_274 rfl 0 rfl ?_
          refine w_refused hK d_Mod_shoot_275 rfl ?_
          refine r_iload_n hK d_Mod_shoot_278 rfl 2 rfl ?_
          refine w_zald (n := 15) (L := 8) hK d_Mod_shoot_279 (by decide) rfl rfl t rfl (by omega) (v := N 15 t) (by simp [tset]) ?_
          refine r_if_eq (tgt := 288) hK d_Mod_shoot_280 (by decide) (fun c280 => ?_) (fun c280 => ?_)
          · refine r_aload_n hK d_Mod_shoot_288 rfl 0 rfl ?_
            refine w_hits hK d_Mod_shoot_289 rfl ?_
            refine r_iload_n hK d_Mod_shoot_292 rfl 2 rfl ?_
            refine w_iald (n := 14) (L := 8) hK d_Mod_shoot_293 (by decide) rfl rfl t rfl (by omega) (v := nI hc) (by simp [tset, hhc]) ?_
            refine r_callVi (As := [.int (nI k), .int (nI hc)]) (b := h) (st := []) hK (c_Mod_end X l h nx (tset N 33 0 (nI (sv + 1))) k (nI hc) (by omega)) d_Mod_shoot_294 ml_Mod_171 cv_Mod_end rfl (by decide) w_recv (Nat.le_of_ble_eq_true rfl) ?_ rfl
            refine r_iret hK d_Mod_shoot_297 rfl (rfl) ?_
            have hs : s_Mod_shoot N p t k ph kd fs mn pr ow kp f hc sv = (nI 1, tset (tset N 33 0 (nI (sv + 1))) 6 k (nI hc)) := by unfold s_Mod_shoot; rw [if_neg c8, if_neg c107, if_neg c159, if_pos c259, if_pos c280]
            exact ⟨by rw [hs], by rw [hs]⟩
          · refine r_bipush (v := -3) hK d_Mod_shoot_283 (by decide) ?_
            refine r_goto (tgt := 294) hK d_Mod_shoot_285 (by decide) ?_
            refine r_callVi (As := [.int (nI k), .int (-3)]) (b := h) (st := []) hK (c_Mod_end X l h nx (tset N 33 0 (nI (sv + 1))) k (-3) (by omega)) d_Mod_shoot_294 ml_Mod_171 cv_Mod_end rfl (by decide) w_recv (Nat.le_of_ble_eq_true rfl) ?_ rfl
            refine r_iret hK d_Mod_shoot_297 rfl (rfl) ?_
            have hs : s_Mod_shoot N p t k ph kd fs mn pr ow kp f hc sv = (nI 1, tset (tset N 33 0 (nI (sv + 1))) 6 k (-3)) := by unfold s_Mod_shoot; rw [if_neg c8, if_neg c107, if_neg c159, if_pos c259, if_neg c280]
            exact ⟨by rw [hs], by rw [hs]⟩
      · obtain ⟨hf1, hf2, hf3, hf4⟩ := h13 c159
        refine r_aload_n hK d_Mod_shoot_162 rfl 0 rfl ?_
        refine w_kept hK d_Mod_shoot_163 rfl ?_
        refine r_iconst (v := nI 4) hK d_Mod_shoot_166 (by decide) ?_
        refine r_iload_n hK d_Mod_shoot_167 rfl 2 rfl ?_
        refine r_imul hK d_Mod_shoot_168 ?_
        refine r_tp (b := nI (4 * t)) (pk_mul _ _) ?_
        refine r_aload_n hK d_Mod_shoot_169 rfl 0 rfl ?_
        refine w_progress hK d_Mod_shoot_170 rfl ?_
        refine r_iload_n hK d_Mod_shoot_173 rfl 2 rfl ?_
        refine w_iald (n := 12) (L := 8) hK d_Mod_shoot_174 (by decide) rfl rfl t rfl (by omega) (v := nI pr) (hpr) ?_
        refine r_iadd hK d_Mod_shoot_175 ?_
        refine r_tp (b := nI (4 * t + pr)) (nI_add _ _) ?_
        refine w_iald (n := 16) (L := 32) hK d_Mod_shoot_176 (by decide) rfl rfl (4 * t + pr) rfl (by omega) (v := nI f) (hf1) ?_
        refine r_istore (lv' := [(4, .int (nI f)), (0, .ref h), (1, .int (nI p)), (2, .int (nI t)), (3, .int (nI k))]) hK d_Mod_shoot_177 (by decide) rfl ?_
        refine r_aload_n hK d_Mod_shoot_179 rfl 1 rfl ?_
        refine w_home hK d_Mod_shoot_180 rfl ?_
        refine r_iload hK d_Mod_shoot_183 0 rfl ?_
        refine r_aload_n hK d_Mod_shoot_185 rfl 1 rfl ?_
        refine r_iload_n hK d_Mod_shoot_186 rfl 2 rfl ?_
        refine r_callVi (As := [.int (nI p)]) (b := h) (st := [.int (nI f), .ref (h + 1 + 25)]) hK (c_Mod_framesAt X l h nx N (nI p)) d_Mod_shoot_187 ml_Mod_186 cv_Mod_framesAt rfl (by decide) w_recv (Nat.le_of_ble_eq_true rfl) ?_ rfl
        refine r_iconst (v := nI 2) hK d_Mod_shoot_190 (by decide) ?_
        have b1 := s_frames_le N (nI p) 10
        refine r_ncmp_ge (a := s_frames N (nI p) 10) (b := 2) (tgt := 198) hK d_Mod_shoot_191 (by decide) (by omega) (by omega) (fun c191 => ?_) (fun c191 => ?_)
        · refine r_iconst (v := nI 4) hK d_Mod_shoot_198 (by decide) ?_
          refine w_iast (n := 25) (L := 10) hK d_Mod_shoot_199 (by decide) rfl rfl f rfl (by omega) ?_
          refine r_aload_n hK d_Mod_shoot_200 rfl 1 rfl ?_
          refine w_laid hK d_Mod_shoot_201 rfl ?_
          refine r_iload hK d_Mod_shoot_204 0 rfl ?_
          refine r_aload_n hK d_Mod_shoot_206 rfl 1 rfl ?_
          refine r_callVi (As := []) (b := h) (st := [.int (nI f), .ref (h + 1 + 26)]) hK (c_Mod_tick X l h nx (tset N 25 f (nI 4)) (N 31 0) (by simp [tset])) d_Mod_shoot_207 ml_Mod_109 cv_Mod_tick rfl (by decide) w_recv (Nat.le_of_ble_eq_true rfl) ?_ rfl
          refine w_iast (n := 26) (L := 10) hK d_Mod_shoot_210 (by decide) rfl rfl f rfl (by omega) ?_
          refine r_aload_n hK d_Mod_shoot_211 rfl 1 rfl ?_
          refine w_progress hK d_Mod_shoot_212 rfl ?_
          refine r_iload_n hK d_Mod_shoot_215 rfl 3 rfl ?_
          refine r_dup2 hK d_Mod_shoot_216 rfl rfl ?_
          refine w_iald (n := 12) (L := 8) hK d_Mod_shoot_217 (by decide) rfl rfl t rfl (by omega) (v := nI pr) (by simp [tset, hpr]) ?_
          refine r_iconst (v := nI 1) hK d_Mod_shoot_218 (by decide) ?_
          refine r_iadd hK d_Mod_shoot_219 ?_
          refine r_tp (b := nI (pr + 1)) (nI_add _ _) ?_
          refine w_iast (n := 12) (L := 8) hK d_Mod_shoot_220 (by decide) rfl rfl t rfl (by omega) ?_
          refine r_aload_n hK d_Mod_shoot_221 rfl 1 rfl ?_
          refine w_phase hK d_Mod_shoot_222 rfl ?_
          refine r_iload_n hK d_Mod_shoot_225 rfl 3 rfl ?_
          refine r_aload_n hK d_Mod_shoot_226 rfl 1 rfl ?_
          refine w_progress hK d_Mod_shoot_227 rfl ?_
          refine r_iload_n hK d_Mod_shoot_230 rfl 3 rfl ?_
          refine w_iald (n := 12) (L := 8) hK d_Mod_shoot_231 (by decide) rfl rfl t rfl (by omega) (v := nI (pr + 1)) (by simp [tset]) ?_
          refine r_aload_n hK d_Mod_shoot_232 rfl 1 rfl ?_
          refine w_keeps hK d_Mod_shoot_233 rfl ?_
          refine r_iload_n hK d_Mod_shoot_236 rfl 3 rfl ?_
          refine w_iald (n := 17) (L := 8) hK d_Mod_shoot_237 (by decide) rfl rfl t rfl (by omega) (v := nI kp) (by simp [tset, hkp]) ?_
          refine r_ncmp_ne (a := pr + 1) (b := kp) (tgt := 246) hK d_Mod_shoot_238 (by decide) (by omega) (by omega) (fun c238 => ?_) (fun c238 => ?_)
          · refine r_bipush (v := nI 13) hK d_Mod_shoot_246 (by decide) ?_
            refine w_iast (n := 10) (L := 8) hK d_Mod_shoot_248 (by decide) rfl rfl t rfl (by omega) ?_
            refine r_iconst (v := nI 0) hK d_Mod_shoot_249 (by decide) ?_
            refine r_iret hK d_Mod_shoot_250 rfl (rfl) ?_
            have hs : s_Mod_shoot N p t k ph kd fs mn pr ow kp f hc sv = (nI 0, tset (tset (tset (tset (tset N 25 f (nI 4)) 31 0 ((N 31 0) + nI 1)) 26 f ((N 31 0) + nI 1)) 12 t (nI (pr + 1))) 10 t (nI 13)) := by unfold s_Mod_shoot; rw [if_neg c8, if_neg c107, if_pos c159, if_pos c191, if_neg c238]
            exact ⟨by rw [hs], by rw [hs]⟩
          · refine r_bipush (v := nI 14) hK d_Mod_shoot_241 (by decide) ?_
            refine r_goto (tgt := 248) hK d_Mod_shoot_243 (by decide) ?_
            refine w_iast (n := 10) (L := 8) hK d_Mod_shoot_248 (by decide) rfl rfl t rfl (by omega) ?_
            refine r_iconst (v := nI 0) hK d_Mod_shoot_249 (by decide) ?_
            refine r_iret hK d_Mod_shoot_250 rfl (rfl) ?_
            have hs : s_Mod_shoot N p t k ph kd fs mn pr ow kp f hc sv = (nI 0, tset (tset (tset (tset (tset N 25 f (nI 4)) 31 0 ((N 31 0) + nI 1)) 26 f ((N 31 0) + nI 1)) 12 t (nI (pr + 1))) 10 t (nI 14)) := by unfold s_Mod_shoot; rw [if_neg c8, if_neg c107, if_pos c159, if_pos c191, if_pos c238]
            exact ⟨by rw [hs], by rw [hs]⟩
        · refine r_iload_n hK d_Mod_shoot_194 rfl 2 rfl ?_
          refine r_goto (tgt := 199) hK d_Mod_shoot_195 (by decide) ?_
          refine w_iast (n := 25) (L := 10) hK d_Mod_shoot_199 (by decide) rfl rfl f rfl (by omega) ?_
          refine r_aload_n hK d_Mod_shoot_200 rfl 1 rfl ?_
          refine w_laid hK d_Mod_shoot_201 rfl ?_
          refine r_iload hK d_Mod_shoot_204 0 rfl ?_
          refine r_aload_n hK d_Mod_shoot_206 rfl 1 rfl ?_
          refine r_callVi (As := []) (b := h) (st := [.int (nI f), .ref (h + 1 + 26)]) hK (c_Mod_tick X l h nx (tset N 25 f (nI p)) (N 31 0) (by simp [tset])) d_Mod_shoot_207 ml_Mod_109 cv_Mod_tick rfl (by decide) w_recv (Nat.le_of_ble_eq_true rfl) ?_ rfl
          refine w_iast (n := 26) (L := 10) hK d_Mod_shoot_210 (by decide) rfl rfl f rfl (by omega) ?_
          refine r_aload_n hK d_Mod_shoot_211 rfl 1 rfl ?_
          refine w_progress hK d_Mod_shoot_212 rfl ?_
          refine r_iload_n hK d_Mod_shoot_215 rfl 3 rfl ?_
          refine r_dup2 hK d_Mod_shoot_216 rfl rfl ?_
          refine w_iald (n := 12) (L := 8) hK d_Mod_shoot_217 (by decide) rfl rfl t rfl (by omega) (v := nI pr) (by simp [tset, hpr]) ?_
          refine r_iconst (v := nI 1) hK d_Mod_shoot_218 (by decide) ?_
          refine r_iadd hK d_Mod_shoot_219 ?_
          refine r_tp (b := nI (pr + 1)) (nI_add _ _) ?_
          refine w_iast (n := 12) (L := 8) hK d_Mod_shoot_220 (by decide) rfl rfl t rfl (by omega) ?_
          refine r_aload_n hK d_Mod_shoot_221 rfl 1 rfl ?_
          refine w_phase hK d_Mod_shoot_222 rfl ?_
          refine r_iload_n hK d_Mod_shoot_225 rfl 3 rfl ?_
          refine r_aload_n hK d_Mod_shoot_226 rfl 1 rfl ?_
          refine w_progress hK d_Mod_shoot_227 rfl ?_
          refine r_iload_n hK d_Mod_shoot_230 rfl 3 rfl ?_
          refine w_iald (n := 12) (L := 8) hK d_Mod_shoot_231 (by decide) rfl rfl t rfl (by omega) (v := nI (pr + 1)) (by simp [tset]) ?_
          refine r_aload_n hK d_Mod_shoot_232 rfl 1 rfl ?_
          refine w_keeps hK d_Mod_shoot_233 rfl ?_
          refine r_iload_n hK d_Mod_shoot_236 rfl 3 rfl ?_
          refine w_iald (n := 17) (L := 8) hK d_Mod_shoot_237 (by decide) rfl rfl t rfl (by omega) (v := nI kp) (by simp [tset, hkp]) ?_
          refine r_ncmp_ne (a := pr + 1) (b := kp) (tgt := 246) hK d_Mod_shoot_238 (by decide) (by omega) (by omega) (fun c238 => ?_) (fun c238 => ?_)
          · refine r_bipush (v := nI 13) hK d_Mod_shoot_246 (by decide) ?_
            refine w_iast (n := 10) (L := 8) hK d_Mod_shoot_248 (by decide) rfl rfl t rfl (by omega) ?_
            refine r_iconst (v := nI 0) hK d_Mod_shoot_249 (by decide) ?_
            refine r_iret hK d_Mod_shoot_250 rfl (rfl) ?_
            have hs : s_Mod_shoot N p t k ph kd fs mn pr ow kp f hc sv = (nI 0, tset (tset (tset (tset (tset N 25 f (nI p)) 31 0 ((N 31 0) + nI 1)) 26 f ((N 31 0) + nI 1)) 12 t (nI (pr + 1))) 10 t (nI 13)) := by unfold s_Mod_shoot; rw [if_neg c8, if_neg c107, if_pos c159, if_neg (Nat.not_le.mpr c191), if_neg c238]
            exact ⟨by rw [hs], by rw [hs]⟩
          · refine r_bipush (v := nI 14) hK d_Mod_shoot_241 (by decide) ?_
            refine r_goto (tgt := 248) hK d_Mod_shoot_243 (by decide) ?_
            refine w_iast (n := 10) (L := 8) hK d_Mod_shoot_248 (by decide) rfl rfl t rfl (by omega) ?_
            refine r_iconst (v := nI 0) hK d_Mod_shoot_249 (by decide) ?_
            refine r_iret hK d_Mod_shoot_250 rfl (rfl) ?_
            have hs : s_Mod_shoot N p t k ph kd fs mn pr ow kp f hc sv = (nI 0, tset (tset (tset (tset (tset N 25 f (nI p)) 31 0 ((N 31 0) + nI 1)) 26 f ((N 31 0) + nI 1)) 12 t (nI (pr + 1))) 10 t (nI 14)) := by unfold s_Mod_shoot; rw [if_neg c8, if_neg c107, if_pos c159, if_neg (Nat.not_le.mpr c191), if_pos c238]
            exact ⟨by rw [hs], by rw [hs]⟩
    · refine r_aload_n hK d_Mod_shoot_110 rfl 0 rfl ?_
      refine w_progress hK d_Mod_shoot_111 rfl ?_
      refine r_iload_n hK d_Mod_shoot_114 rfl 2 rfl ?_
      refine r_iconst (v := nI 0) hK d_Mod_shoot_115 (by decide) ?_
      refine w_iast (n := 12) (L := 8) hK d_Mod_shoot_116 (by decide) rfl rfl t rfl (by omega) ?_
      refine r_aload_n hK d_Mod_shoot_117 rfl 0 rfl ?_
      refine w_owed hK d_Mod_shoot_118 rfl ?_
      refine r_iload_n hK d_Mod_shoot_121 rfl 2 rfl ?_
      refine w_iald (n := 13) (L := 8) hK d_Mod_shoot_122 (by decide) rfl rfl t rfl (by omega) (v := nI ow) (by simp [tset, how]) ?_
      refine r_nif_ne (a := ow) (tgt := 149) hK d_Mod_shoot_123 (by decide) (by omega) (fun c123 => ?_) (fun c123 => ?_)
      · refine r_iconst (v := nI 0) hK d_Mod_shoot_149 (by decide) ?_
        refine r_iret hK d_Mod_shoot_150 rfl (rfl) ?_
        have hs : s_Mod_shoot N p t k ph kd fs mn pr ow kp f hc sv = (nI 0, tset N 12 t (nI 0)) := by unfold s_Mod_shoot; rw [if_neg c8, if_pos c107, if_neg c123]
        exact ⟨by rw [hs], by rw [hs]⟩
      · refine r_aload_n hK d_Mod_shoot_126 rfl 0 rfl ?_
        refine w_phase hK d_Mod_shoot_127 rfl ?_
        refine r_iload_n hK d_Mod_shoot_130 rfl 2 rfl ?_
        refine r_aload_n hK d_Mod_shoot_131 rfl 0 rfl ?_
        refine w_kind hK d_Mod_shoot_132 rfl ?_
        refine r_iload_n hK d_Mod_shoot_135 rfl 3 rfl ?_
        refine w_iald (n := 2) (L := 80) hK d_Mod_shoot_136 (by decide) rfl rfl k rfl (by omega) (v := nI kd) (by simp [tset, hkd]) ?_
        refine r_iconst (v := nI 3) hK d_Mod_shoot_137 (by decide) ?_
        refine r_ncmp_ne (a := kd) (b := 3) (tgt := 146) hK d_Mod_shoot_138 (by decide) (by omega) (by omega) (fun c138 => ?_) (fun c138 => ?_)
        · refine r_bipush (v := nI 14) hK d_Mod_shoot_146 (by decide) ?_
          refine w_iast (n := 10) (L := 8) hK d_Mod_shoot_148 (by decide) rfl rfl t rfl (by omega) ?_
          refine r_iconst (v := nI 0) hK d_Mod_shoot_149 (by decide) ?_
          refine r_iret hK d_Mod_shoot_150 rfl (rfl) ?_
          have hs : s_Mod_shoot N p t k ph kd fs mn pr ow kp f hc sv = (nI 0, tset (tset N 12 t (nI 0)) 10 t (nI 14)) := by unfold s_Mod_shoot; rw [if_neg c8, if_pos c107, if_pos c123, if_neg c138]
          exact ⟨by rw [hs], by rw [hs]⟩
        · refine r_bipush (v := nI 13) hK d_Mod_shoot_141 (by decide) ?_
          refine r_goto (tgt := 148) hK d_Mod_shoot_143 (by decide) ?_
          refine w_iast (n := 10) (L := 8) hK d_Mod_shoot_148 (by decide) rfl rfl t rfl (by omega) ?_
          refine r_iconst (v := nI 0) hK d_Mod_shoot_149 (by decide) ?_
          refine r_iret hK d_Mod_shoot_150 rfl (rfl) ?_
          have hs : s_Mod_shoot N p t k ph kd fs mn pr ow kp f hc sv = (nI 0, tset (tset N 12 t (nI 0)) 10 t (nI 13)) := by unfold s_Mod_shoot; rw [if_neg c8, if_pos c107, if_pos c123, if_pos c138]
          exact ⟨by rw [hs], by rw [hs]⟩
  · refine r_aload_n hK d_Mod_shoot_11 rfl 0 rfl ?_
    have c11 := h11 c8
    refine w_progress hK d_Mod_shoot_12 rfl ?_
    refine r_iload_n hK d_Mod_shoot_15 rfl 2 rfl ?_
    refine w_iald (n := 12) (L := 8) hK d_Mod_shoot_16 (by decide) rfl rfl t rfl (by omega) (v := nI pr) (hpr) ?_
    refine r_iload_n hK d_Mod_shoot_17 rfl 1 rfl ?_
    refine r_ncmp_ne (a := pr) (b := p) (tgt := 30) hK d_Mod_shoot_18 (by decide) (by omega) (by omega) (fun c18 => ?_) (fun c18 => ?_)
    · refine r_aload_n hK d_Mod_shoot_30 rfl 0 rfl ?_
      refine w_asked hK d_Mod_shoot_31 rfl ?_
      refine r_aload_n hK d_Mod_shoot_34 rfl 0 rfl ?_
      refine w_progress hK d_Mod_shoot_35 rfl ?_
      refine r_iload_n hK d_Mod_shoot_38 rfl 2 rfl ?_
      refine w_iald (n := 12) (L := 8) hK d_Mod_shoot_39 (by decide) rfl rfl t rfl (by omega) (v := nI pr) (hpr) ?_
      refine r_iconst (v := nI 1) hK d_Mod_shoot_40 (by decide) ?_
      refine w_zast (n := 27) (L := 4) hK (rfl) d_Mod_shoot_41 (by decide) rfl rfl pr rfl (by omega) ?_
      refine r_aload_n hK d_Mod_shoot_42 rfl 0 rfl ?_
      refine w_askedBy hK d_Mod_shoot_43 rfl ?_
      refine r_aload_n hK d_Mod_shoot_46 rfl 0 rfl ?_
      refine w_progress hK d_Mod_shoot_47 rfl ?_
      refine r_iload_n hK d_Mod_shoot_50 rfl 2 rfl ?_
      refine w_iald (n := 12) (L := 8) hK d_Mod_shoot_51 (by decide) rfl rfl t rfl (by omega) (v := nI pr) (by simp [tset, hpr]) ?_
      refine r_iload_n hK d_Mod_shoot_52 rfl 2 rfl ?_
      refine w_iast (n := 28) (L := 4) hK d_Mod_shoot_53 (by decide) rfl rfl pr rfl (by omega) ?_
      refine r_aload_n hK d_Mod_shoot_54 rfl 0 rfl ?_
      refine w_owed hK d_Mod_shoot_55 rfl ?_
      refine r_iload_n hK d_Mod_shoot_58 rfl 2 rfl ?_
      refine r_dup2 hK d_Mod_shoot_59 rfl rfl ?_
      refine w_iald (n := 13) (L := 8) hK d_Mod_shoot_60 (by decide) rfl rfl t rfl (by omega) (v := nI ow) (by simp [tset, how]) ?_
      refine r_iconst (v := nI 1) hK d_Mod_shoot_61 (by decide) ?_
      refine r_iadd hK d_Mod_shoot_62 ?_
      refine r_tp (b := nI (ow + 1)) (nI_add _ _) ?_
      refine w_iast (n := 13) (L := 8) hK d_Mod_shoot_63 (by decide) rfl rfl t rfl (by omega) ?_
      refine r_aload_n hK d_Mod_shoot_64 rfl 0 rfl ?_
      refine w_progress hK d_Mod_shoot_65 rfl ?_
      refine r_iload_n hK d_Mod_shoot_68 rfl 2 rfl ?_
      refine r_dup2 hK d_Mod_shoot_69 rfl rfl ?_
      refine w_iald (n := 12) (L := 8) hK d_Mod_shoot_70 (by decide) rfl rfl t rfl (by omega) (v := nI pr) (by simp [tset, hpr]) ?_
      refine r_iconst (v := nI 1) hK d_Mod_shoot_71 (by decide) ?_
      refine r_iadd hK d_Mod_shoot_72 ?_
      refine r_tp (b := nI (pr + 1)) (nI_add _ _) ?_
      refine w_iast (n := 12) (L := 8) hK d_Mod_shoot_73 (by decide) rfl rfl t rfl (by omega) ?_
      refine r_aload_n hK d_Mod_shoot_74 rfl 0 rfl ?_
      refine w_phase hK d_Mod_shoot_75 rfl ?_
      refine r_iload_n hK d_Mod_shoot_78 rfl 2 rfl ?_
      refine r_aload_n hK d_Mod_shoot_79 rfl 0 rfl ?_
      refine w_progress hK d_Mod_shoot_80 rfl ?_
      refine r_iload_n hK d_Mod_shoot_83 rfl 2 rfl ?_
      refine w_iald (n := 12) (L := 8) hK d_Mod_shoot_84 (by decide) rfl rfl t rfl (by omega) (v := nI (pr + 1)) (by simp [tset]) ?_
      refine r_iconst (v := nI 4) hK d_Mod_shoot_85 (by decide) ?_
      refine r_ncmp_ne (a := pr + 1) (b := 4) (tgt := 94) hK d_Mod_shoot_86 (by decide) (by omega) (by omega) (fun c86 => ?_) (fun c86 => ?_)
      · refine r_bipush (v := nI 11) hK d_Mod_shoot_94 (by decide) ?_
        refine w_iast (n := 10) (L := 8) hK d_Mod_shoot_96 (by decide) rfl rfl t rfl (by omega) ?_
        refine r_iconst (v := nI 0) hK d_Mod_shoot_97 (by decide) ?_
        refine r_iret hK d_Mod_shoot_98 rfl (rfl) ?_
        have hs : s_Mod_shoot N p t k ph kd fs mn pr ow kp f hc sv = (nI 0, tset (tset (tset (tset (tset N 27 pr (nI 1)) 28 pr (nI t)) 13 t (nI (ow + 1))) 12 t (nI (pr + 1))) 10 t (nI 11)) := by unfold s_Mod_shoot; rw [if_pos c8, if_neg c18, if_neg c86]
        exact ⟨by rw [hs], by rw [hs]⟩
      · refine r_bipush (v := nI 12) hK d_Mod_shoot_89 (by decide) ?_
        refine r_goto (tgt := 96) hK d_Mod_shoot_91 (by decide) ?_
        refine w_iast (n := 10) (L := 8) hK d_Mod_shoot_96 (by decide) rfl rfl t rfl (by omega) ?_
        refine r_iconst (v := nI 0) hK d_Mod_shoot_97 (by decide) ?_
        refine r_iret hK d_Mod_shoot_98 rfl (rfl) ?_
        have hs : s_Mod_shoot N p t k ph kd fs mn pr ow kp f hc sv = (nI 0, tset (tset (tset (tset (tset N 27 pr (nI 1)) 28 pr (nI t)) 13 t (nI (ow + 1))) 12 t (nI (pr + 1))) 10 t (nI 12)) := by unfold s_Mod_shoot; rw [if_pos c8, if_neg c18, if_pos c86]
        exact ⟨by rw [hs], by rw [hs]⟩
    · refine r_aload_n hK d_Mod_shoot_21 rfl 0 rfl ?_
      refine r_iload_n hK d_Mod_shoot_22 rfl 1 rfl ?_
      refine r_iload_n hK d_Mod_shoot_23 rfl 2 rfl ?_
      refine r_callVv (As := [.int (nI p), .int (nI t)]) (b := h) (st := []) hK (c_Mod_forget X l h nx N p t dd fs mn hp ht hdd (by omega) (by rw [← hk0]; exact hfs) (by rw [← hk0]; exact hmn) hr) d_Mod_shoot_24 ml_Mod_139 cv_Mod_forget rfl (by decide) w_recv (Nat.le_of_ble_eq_true rfl) ?_ rfl
      have q12 : s_forget N (16 * p + fs) mn 12 t = N 12 t := s_forget_nk N (16 * p + fs) (by decide) mn
      refine r_goto (tgt := 64) hK d_Mod_shoot_27 (by decide) ?_
      refine r_aload_n hK d_Mod_shoot_64 rfl 0 rfl ?_
      refine w_progress hK d_Mod_shoot_65 rfl ?_
      refine r_iload_n hK d_Mod_shoot_68 rfl 2 rfl ?_
      refine r_dup2 hK d_Mod_shoot_69 rfl rfl ?_
      refine w_iald (n := 12) (L := 8) hK d_Mod_shoot_70 (by decide) rfl rfl t rfl (by omega) (v := nI pr) (by simp [tset, q12, hpr]) ?_
      refine r_iconst (v := nI 1) hK d_Mod_shoot_71 (by decide) ?_
      refine r_iadd hK d_Mod_shoot_72 ?_
      refine r_tp (b := nI (pr + 1)) (nI_add _ _) ?_
      refine w_iast (n := 12) (L := 8) hK d_Mod_shoot_73 (by decide) rfl rfl t rfl (by omega) ?_
      refine r_aload_n hK d_Mod_shoot_74 rfl 0 rfl ?_
      refine w_phase hK d_Mod_shoot_75 rfl ?_
      refine r_iload_n hK d_Mod_shoot_78 rfl 2 rfl ?_
      refine r_aload_n hK d_Mod_shoot_79 rfl 0 rfl ?_
      refine w_progress hK d_Mod_shoot_80 rfl ?_
      refine r_iload_n hK d_Mod_shoot_83 rfl 2 rfl ?_
      refine w_iald (n := 12) (L := 8) hK d_Mod_shoot_84 (by decide) rfl rfl t rfl (by omega) (v := nI (pr + 1)) (by simp [tset]) ?_
      refine r_iconst (v := nI 4) hK d_Mod_shoot_85 (by decide) ?_
      refine r_ncmp_ne (a := pr + 1) (b := 4) (tgt := 94) hK d_Mod_shoot_86 (by decide) (by omega) (by omega) (fun c86 => ?_) (fun c86 => ?_)
      · refine r_bipush (v := nI 11) hK d_Mod_shoot_94 (by decide) ?_
        refine w_iast (n := 10) (L := 8) hK d_Mod_shoot_96 (by decide) rfl rfl t rfl (by omega) ?_
        refine r_iconst (v := nI 0) hK d_Mod_shoot_97 (by decide) ?_
        refine r_iret hK d_Mod_shoot_98 rfl (rfl) ?_
        have hs : s_Mod_shoot N p t k ph kd fs mn pr ow kp f hc sv = (nI 0, tset (tset (s_forget N (16 * p + fs) mn) 12 t (nI (pr + 1))) 10 t (nI 11)) := by unfold s_Mod_shoot; rw [if_pos c8, if_pos c18, if_neg c86]
        exact ⟨by rw [hs], by rw [hs]⟩
      · refine r_bipush (v := nI 12) hK d_Mod_shoot_89 (by decide) ?_
        refine r_goto (tgt := 96) hK d_Mod_shoot_91 (by decide) ?_
        refine w_iast (n := 10) (L := 8) hK d_Mod_shoot_96 (by decide) rfl rfl t rfl (by omega) ?_
        refine r_iconst (v := nI 0) hK d_Mod_shoot_97 (by decide) ?_
        refine r_iret hK d_Mod_shoot_98 rfl (rfl) ?_
        have hs : s_Mod_shoot N p t k ph kd fs mn pr ow kp f hc sv = (nI 0, tset (tset (s_forget N (16 * p + fs) mn) 12 t (nI (pr + 1))) 10 t (nI 12)) := by unfold s_Mod_shoot; rw [if_pos c8, if_pos c18, if_pos c86]
        exact ⟨by rw [hs], by rw [hs]⟩
