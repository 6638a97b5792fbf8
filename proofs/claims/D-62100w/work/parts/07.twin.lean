/-! the twin's world: one object at h, 29 arrays behind it; its contents N: number of the array (0 to 28) or of the scalar (30 to 34), index -/
def tNs : List Nat := [30, 0, 1, 2, 3, 4, 5, 6, 7, 8, 9, 31, 10, 11, 12, 13, 14, 15, 16, 17, 32, 33, 18, 19, 20, 21, 22, 23, 24, 25, 26, 27, 28, 34]
def tLs : List Nat := [8, 8, 80, 80, 80, 80, 80, 8, 8, 8, 8, 8, 8, 8, 8, 8, 32, 8, 16, 16, 4, 10, 64, 64, 64, 10, 10, 4, 4]
def tN (k : Nat) : Nat := tNs.getD k 0
def tL (k : Nat) : Nat := tLs.getD k 0
def tB (k : Nat) : Nat := if k = 15 ∨ k = 19 ∨ k = 20 ∨ k = 24 ∨ k = 27 then 1 else 0
abbrev tS : Type := Nat → Nat → Int32
def tV (h : Nat) (N : tS) (k : Nat) : Value := if tN k < 29 then .ref (h + 1 + tN k) else .int (N (tN k) 0)
def tset (N : tS) (k j : Nat) (v : Int32) : tS := fun k' j' => if k' = k ∧ j' = j then v else N k' j'
def HoldT (X : gCx) (h nx : Nat) (N : tS) (H : Heap) : Prop :=
  H.size = nx ∧ (cxA X h ∧ ∀ k, k < 29 → cxA X (h + 1 + k)) ∧ t_OB h ((cxD X).1 14) 34 ((cxD X).2 14) H (tV h N) ∧ ∀ k, k < 29 → H[h + 1 + k]? = some (arrV (cxB X (tB k)) (tL k) (fun j => .int (N k j)))
theorem tN_inj : ∀ a, a < 34 → ∀ b, b < 34 → tN a = tN b → a = b := by decide +kernel
theorem tL_lt : ∀ k, k < 29 → tL k < 1000 := by decide +kernel
theorem tset_arr {X : gCx} {h nx : Nat} {N : tS} {H H1 : Heap} (hH : HoldT X h nx N H) {n j : Nat} {v : Int32} (hn : n < 29) (e : H1[h + 1 + n]? = some (arrV (cxB X (tB n)) (tL n) (updV (fun j => .int (N n j)) j (.int v)))) (z : H1.size = H.size) (oq : ∀ q : Nat, q ≠ h + 1 + n → H1[q]? = H[q]?) : HoldT X h nx (tset N n j v) H1 := by
  obtain ⟨h1, h2, h3, h4⟩ := hH
  refine ⟨z.trans h1, h2, (h3.kept (oq h (by omega))).to (fun k hk => ?_), fun k hk => ?_⟩
  · unfold tV
    by_cases hlt : tN k < 29
    · rw [if_pos hlt, if_pos hlt]
    · rw [if_neg hlt, if_neg hlt]
      unfold tset
      rw [if_neg (by omega)]
  · by_cases hkn : k = n
    · subst hkn
      rw [e]
      congr 2
      funext q
      unfold tset updV
      by_cases hq : q = j
      · rw [if_pos hq, if_pos ⟨rfl, hq⟩]
      · rw [if_neg hq, if_neg (fun z => hq z.2)]
    · rw [oq _ (by omega), h4 k hk]
      congr 2
      funext q
      unfold tset
      rw [if_neg (fun z => hkn z.1)]
theorem tset_sc {X : gCx} {h nx : Nat} {N : tS} {H H1 : Heap} (hH : HoldT X h nx N H) {k n : Nat} {v : Int32} (hk : k < 34) (hn : tN k = n) (hg : 29 ≤ n) (e : t_OB h ((cxD X).1 14) 34 ((cxD X).2 14) H1 (updV (tV h N) k (.int v))) (z : H1.size = H.size) (oq : ∀ q : Nat, q ≠ h → H1[q]? = H[q]?) : HoldT X h nx (tset N n 0 v) H1 := by
  obtain ⟨h1, h2, h3, h4⟩ := hH
  refine ⟨z.trans h1, h2, e.to (fun k' hk' => ?_), fun k' hk' => ?_⟩
  · unfold updV
    by_cases hkk : k' = k
    · subst hkk
      rw [if_pos rfl]
      unfold tV tset
      rw [if_neg (by omega), if_pos ⟨hn, rfl⟩]
    · rw [if_neg hkk]
      unfold tV
      by_cases hlt : tN k' < 29
      · rw [if_pos hlt, if_pos hlt]
      · rw [if_neg hlt, if_neg hlt]
        unfold tset
        rw [if_neg (fun z => hkk (tN_inj k' hk' k hk (z.1.trans hn.symm)))]
  · rw [oq _ (by omega), h4 k' hk']
    congr 2
    funext q
    unfold tset
    rw [if_neg (by omega)]
section TWIN
variable {X : gCx} {l : Launch} {h nx : Nat} {M : gMd} {d : Nat} {Po : Option Value → tS → Prop} {K : Nat → List (Nat × Value) → List Value → tS → Nat → Nat → Prop} {pc kc ks : Nat} {lv : List (Nat × Value)} {st : List Value} {x : tS}
theorem w_getA (hK : Good X l (HoldT X h nx) M d Po K) {i k n : Nat} (hd : decode M.2.1 pc = .ok (.getfield i, 3)) (hw : gFw M.1.cls i R_Mod (F_Mod k).2.1 (F_Mod k).2.2.1) (hsm : (F_Mod k).1 = R_Mod) (hk : k < 34) (hn : tN k = n) (hlt : n < 29) (kk : K (pc + 3) lv (.ref (h + 1 + n) :: st) x kc ks) : K pc lv (.ref h :: st) x kc ks := by
  obtain ⟨p, e, R, s, m, args, below, meth, c, Q, ⟨hx, hb, hml, hown, hts⟩, ⟨hT, hA⟩, ⟨hfr, hlo⟩, hnm, hret, rfl⟩ := hK
  intro H locs ls cells slots hH hS hl h1 h2
  refine o_get hx hb hts hT hown k_Mod hH.2.2.1 k hk hw (Or.inl hsm.symm) hd ?_
  have hv : tV h x k = .ref (h + 1 + n) := by unfold tV; rw [hn, if_pos hlt]
  rw [hv]
  exact kk H locs ls cells slots hH hS hl h1 h2
theorem w_getS (hK : Good X l (HoldT X h nx) M d Po K) {i k n : Nat} (hd : decode M.2.1 pc = .ok (.getfield i, 3)) (hw : gFw M.1.cls i R_Mod (F_Mod k).2.1 (F_Mod k).2.2.1) (hsm : (F_Mod k).1 = R_Mod) (hk : k < 34) (hn : tN k = n) (hlt : 29 ≤ n) {v : Int32} (hv0 : x n 0 = v) (kk : K (pc + 3) lv (.int v :: st) x kc ks) : K pc lv (.ref h :: st) x kc ks := by
  obtain ⟨p, e, R, s, m, args, below, meth, c, Q, ⟨hx, hb, hml, hown, hts⟩, ⟨hT, hA⟩, ⟨hfr, hlo⟩, hnm, hret, rfl⟩ := hK
  intro H locs ls cells slots hH hS hl h1 h2
  refine o_get hx hb hts hT hown k_Mod hH.2.2.1 k hk hw (Or.inl hsm.symm) hd ?_
  have hv : tV h x k = .int v := by unfold tV; rw [hn, if_neg (by omega), hv0]
  rw [hv]
  exact kk H locs ls cells slots hH hS hl h1 h2
theorem w_putS (hK : Good X l (HoldT X h nx) M d Po K) {i k n : Nat} {v : Int32} (hd : decode M.2.1 pc = .ok (.putfield i, 3)) (hw : gFw M.1.cls i R_Mod (F_Mod k).2.1 (F_Mod k).2.2.1) (hsm : (F_Mod k).1 = R_Mod) (hk : k < 34) (hn : tN k = n) (hlt : 29 ≤ n) (hfin : (F_Mod k).2.2.2 = false) (hty : gTy 14 k = .int) (kk : K (pc + 3) lv st (tset x n 0 v) kc ks) : K pc lv (.int v :: .ref h :: st) x kc ks := by
  obtain ⟨p, e, R, s, m, args, below, meth, c, Q, ⟨hx, hb, hml, hown, hts⟩, ⟨hT, hA⟩, ⟨hfr, hlo⟩, hnm, hret, rfl⟩ := hK
  intro H locs ls cells slots hH hS hl h1 h2
  refine o_put hx hb hts hT hown k_Mod hH.2.2.1 k hk hw (Or.inl hsm.symm) hfin (by rw [hty]; rfl) (by rw [hty]; rfl) hd (fun H1 z e1 z1 oq => ?_)
  exact kk H1 _ ls cells slots (tset_sc hH hk hn hlt e1 z1 oq) (hS.put z1 oq hH.2.1.1) hl h1 h2
theorem w_iald (hK : Good X l (HoldT X h nx) M d Po K) {i : Int32} {n L : Nat} (hd : decode M.2.1 pc = .ok (.iaload, 1)) (hn : n < 29) (hb0 : tB n = 0) (hL : tL n = L) (j : Nat) (hi : i = nI j) (hj : j < L) {v : Int32} (hv : x n j = v) (kk : K (pc + 1) lv (.int v :: st) x kc ks) : K pc lv (.int i :: .ref (h + 1 + n) :: st) x kc ks := by
  obtain ⟨p, e, R, s, m, args, below, meth, c, Q, ⟨hx, hb, hml, hown, hts⟩, ⟨hT, hA⟩, ⟨hfr, hlo⟩, hnm, hret, rfl⟩ := hK
  intro H locs ls cells slots hH hS hl h1 h2
  subst hv
  have hA := hH.2.2.2 n hn
  rw [hb0, hL] at hA
  exact a_iald hx hb hT hA j hi hj (by have := tL_lt n hn; omega) hd (kk H locs ls cells slots hH hS hl h1 h2)
theorem w_zald (hK : Good X l (HoldT X h nx) M d Po K) {i : Int32} {n L : Nat} (hd : decode M.2.1 pc = .ok (.baload, 1)) (hn : n < 29) (hb0 : tB n = 1) (hL : tL n = L) (j : Nat) (hi : i = nI j) (hj : j < L) {v : Int32} (hv : x n j = v) (kk : K (pc + 1) lv (.int v :: st) x kc ks) : K pc lv (.int i :: .ref (h + 1 + n) :: st) x kc ks := by
  obtain ⟨p, e, R, s, m, args, below, meth, c, Q, ⟨hx, hb, hml, hown, hts⟩, ⟨hT, hA⟩, ⟨hfr, hlo⟩, hnm, hret, rfl⟩ := hK
  intro H locs ls cells slots hH hS hl h1 h2
  subst hv
  have hA := hH.2.2.2 n hn
  rw [hb0, hL] at hA
  exact a_zald hx hb hT hA j hi hj (by have := tL_lt n hn; omega) hd (kk H locs ls cells slots hH hS hl h1 h2)
theorem w_iast (hK : Good X l (HoldT X h nx) M d Po K) {i v : Int32} {n L : Nat} (hd : decode M.2.1 pc = .ok (.iastore, 1)) (hn : n < 29) (hb0 : tB n = 0) (hL : tL n = L) (j : Nat) (hi : i = nI j) (hj : j < L) (kk : K (pc + 1) lv st (tset x n j v) kc ks) : K pc lv (.int v :: .int i :: .ref (h + 1 + n) :: st) x kc ks := by
  obtain ⟨p, e, R, s, m, args, below, meth, c, Q, ⟨hx, hb, hml, hown, hts⟩, ⟨hT, hA⟩, ⟨hfr, hlo⟩, hnm, hret, rfl⟩ := hK
  intro H locs ls cells slots hH hS hl h1 h2
  have hA := hH.2.2.2 n hn
  rw [hb0] at hA
  refine a_iast hx hb hT hA j hi (by rw [hL]; exact hj) (by have := tL_lt n hn; omega) hd (fun H1 z e1 z1 oq => ?_)
  exact kk H1 _ ls cells slots (tset_arr hH hn (by rw [hb0]; exact e1) z1 oq) (hS.put z1 oq (hH.2.1.2 n hn)) hl h1 h2
theorem w_zast (hK : Good X l (HoldT X h nx) M d Po K) {i v : Int32} {n L : Nat} (hv : narrow .boolean (.int v) = .int v) (hd : decode M.2.1 pc = .ok (.bastore, 1)) (hn : n < 29) (hb0 : tB n = 1) (hL : tL n = L) (j : Nat) (hi : i = nI j) (hj : j < L) (kk : K (pc + 1) lv st (tset x n j v) kc ks) : K pc lv (.int v :: .int i :: .ref (h + 1 + n) :: st) x kc ks := by
  obtain ⟨p, e, R, s, m, args, below, meth, c, Q, ⟨hx, hb, hml, hown, hts⟩, ⟨hT, hA⟩, ⟨hfr, hlo⟩, hnm, hret, rfl⟩ := hK
  intro H locs ls cells slots hH hS hl h1 h2
  have hA := hH.2.2.2 n hn
  rw [hb0] at hA
  refine a_zast hx hb hT hA hv j hi (by rw [hL]; exact hj) (by have := tL_lt n hn; omega) hd (fun H1 z e1 z1 oq => ?_)
  exact kk H1 _ ls cells slots (tset_arr hH hn (by rw [hb0]; exact e1) z1 oq) (hS.put z1 oq (hH.2.1.2 n hn)) hl h1 h2
theorem w_recv : gRecv X (HoldT X h nx) x h R_Mod := by
  intro s H locs hT hS hH
  obtain ⟨cell, q1, q2, q3, -⟩ := hH.2.2.1
  exact ⟨cell, q1, by rw [q3]; rfl, by rw [q2]; exact (hT.1.1 14 _ rfl).2.1⟩
/-- the value on top by another name -/
theorem r_top {σ : Type} {X : gCx} {l : Launch} {Hd : σ → Heap → Prop} {M : gMd} {d : Nat} {Po : Option Value → σ → Prop} {K : Nat → List (Nat × Value) → List Value → σ → Nat → Nat → Prop} {pc kc ks : Nat} {lv : List (Nat × Value)} {st : List Value} {x : σ} {a b : Int32} (h : a = b) (k : K pc lv (.int b :: st) x kc ks) : K pc lv (.int a :: st) x kc ks := by rw [h]; exact k
theorem r_st {σ : Type} {K : Nat → List (Nat × Value) → List Value → σ → Nat → Nat → Prop} {pc kc ks : Nat} {lv : List (Nat × Value)} {st : List Value} {x y : σ} (h : x = y) (k : K pc lv st y kc ks) : K pc lv st x kc ks := by rw [h]; exact k
end TWIN
section TWINF
variable {X : gCx} {l : Launch} {h nx : Nat} {M : gMd} {d : Nat} {Po : Option Value → tS → Prop} {K : Nat → List (Nat × Value) → List Value → tS → Nat → Nat → Prop} {pc kc ks : Nat} {lv : List (Nat × Value)} {st : List Value} {x : tS}
theorem fw_Mod_threads : gFw R_Mod 106 R_Mod (F_Mod 0).2.1 (F_Mod 0).2.2.1 := Or.inl (gtbl_all 842 (by decide +kernel) rfl)
theorem w_threads (hK : Good X l (HoldT X h nx) M d Po K) (hd : decode M.2.1 pc = .ok (.getfield 106, 3)) (hM : M.1.cls = R_Mod) {v : Int32} (hv : x 30 0 = v) (kk : K (pc + 3) lv (.int v :: st) x kc ks) : K pc lv (.ref h :: st) x kc ks := w_getS (k := 0) hK hd (by rw [hM]; exact fw_Mod_threads) rfl (by decide) rfl (by decide) hv kk
theorem w_put_threads (hK : Good X l (HoldT X h nx) M d Po K) {v : Int32} (hd : decode M.2.1 pc = .ok (.putfield 106, 3)) (hM : M.1.cls = R_Mod) (kk : K (pc + 3) lv st (tset x 30 0 v) kc ks) : K pc lv (.int v :: .ref h :: st) x kc ks := w_putS (k := 0) hK hd (by rw [hM]; exact fw_Mod_threads) rfl (by decide) rfl (by decide) rfl rfl kk
theorem fw_Mod_count : gFw R_Mod 7 R_Mod (F_Mod 1).2.1 (F_Mod 1).2.2.1 := Or.inl (gtbl_all 843 (by decide +kernel) rfl)
theorem w_count (hK : Good X l (HoldT X h nx) M d Po K) (hd : decode M.2.1 pc = .ok (.getfield 7, 3)) (hM : M.1.cls = R_Mod) (kk : K (pc + 3) lv (.ref (h + 1 + 0) :: st) x kc ks) : K pc lv (.ref h :: st) x kc ks := w_getA (k := 1) hK hd (by rw [hM]; exact fw_Mod_count) rfl (by decide) rfl (by decide) kk
theorem fw_Mod_done : gFw R_Mod 13 R_Mod (F_Mod 2).2.1 (F_Mod 2).2.2.1 := Or.inl (gtbl_all 844 (by decide +kernel) rfl)
theorem w_done (hK : Good X l (HoldT X h nx) M d Po K) (hd : decode M.2.1 pc = .ok (.getfield 13, 3)) (hM : M.1.cls = R_Mod) (kk : K (pc + 3) lv (.ref (h + 1 + 1) :: st) x kc ks) : K pc lv (.ref h :: st) x kc ks := w_getA (k := 2) hK hd (by rw [hM]; exact fw_Mod_done) rfl (by decide) rfl (by decide) kk
theorem fw_Mod_kind : gFw R_Mod 16 R_Mod (F_Mod 3).2.1 (F_Mod 3).2.2.1 := Or.inl (gtbl_all 845 (by decide +kernel) rfl)
theorem w_kind (hK : Good X l (HoldT X h nx) M d Po K) (hd : decode M.2.1 pc = .ok (.getfield 16, 3)) (hM : M.1.cls = R_Mod) (kk : K (pc + 3) lv (.ref (h + 1 + 2) :: st) x kc ks) : K pc lv (.ref h :: st) x kc ks := w_getA (k := 3) hK hd (by rw [hM]; exact fw_Mod_kind) rfl (by decide) rfl (by decide) kk
theorem fw_Mod_first : gFw R_Mod 19 R_Mod (F_Mod 4).2.1 (F_Mod 4).2.2.1 := Or.inl (gtbl_all 846 (by decide +kernel) rfl)
theorem w_first (hK : Good X l (HoldT X h nx) M d Po K) (hd : decode M.2.1 pc = .ok (.getfield 19, 3)) (hM : M.1.cls = R_Mod) (kk : K (pc + 3) lv (.ref (h + 1 + 3) :: st) x kc ks) : K pc lv (.ref h :: st) x kc ks := w_getA (k := 4) hK hd (by rw [hM]; exact fw_Mod_first) rfl (by decide) rfl (by decide) kk
theorem fw_Mod_many : gFw R_Mod 22 R_Mod (F_Mod 5).2.1 (F_Mod 5).2.2.1 := Or.inl (gtbl_all 847 (by decide +kernel) rfl)
theorem w_many (hK : Good X l (HoldT X h nx) M d Po K) (hd : decode M.2.1 pc = .ok (.getfield 22, 3)) (hM : M.1.cls = R_Mod) (kk : K (pc + 3) lv (.ref (h + 1 + 4) :: st) x kc ks) : K pc lv (.ref h :: st) x kc ks := w_getA (k := 5) hK hd (by rw [hM]; exact fw_Mod_many) rfl (by decide) rfl (by decide) kk
theorem fw_Mod_value : gFw R_Mod 25 R_Mod (F_Mod 6).2.1 (F_Mod 6).2.2.1 := Or.inl (gtbl_all 848 (by decide +kernel) rfl)
theorem w_value (hK : Good X l (HoldT X h nx) M d Po K) (hd : decode M.2.1 pc = .ok (.getfield 25, 3)) (hM : M.1.cls = R_Mod) (kk : K (pc + 3) lv (.ref (h + 1 + 5) :: st) x kc ks) : K pc lv (.ref h :: st) x kc ks := w_getA (k := 6) hK hd (by rw [hM]; exact fw_Mod_value) rfl (by decide) rfl (by decide) kk
theorem fw_Mod_outcome : gFw R_Mod 28 R_Mod (F_Mod 7).2.1 (F_Mod 7).2.2.1 := Or.inl (gtbl_all 849 (by decide +kernel) rfl)
theorem w_outcome (hK : Good X l (HoldT X h nx) M d Po K) (hd : decode M.2.1 pc = .ok (.getfield 28, 3)) (hM : M.1.cls = R_Mod) (kk : K (pc + 3) lv (.ref (h + 1 + 6) :: st) x kc ks) : K pc lv (.ref h :: st) x kc ks := w_getA (k := 7) hK hd (by rw [hM]; exact fw_Mod_outcome) rfl (by decide) rfl (by decide) kk
theorem fw_Mod_where : gFw R_Mod 31 R_Mod (F_Mod 8).2.1 (F_Mod 8).2.2.1 := Or.inl (gtbl_all 850 (by decide +kernel) rfl)
theorem w_where (hK : Good X l (HoldT X h nx) M d Po K) (hd : decode M.2.1 pc = .ok (.getfield 31, 3)) (hM : M.1.cls = R_Mod) (kk : K (pc + 3) lv (.ref (h + 1 + 7) :: st) x kc ks) : K pc lv (.ref h :: st) x kc ks := w_getA (k := 8) hK hd (by rw [hM]; exact fw_Mod_where) rfl (by decide) rfl (by decide) kk
theorem fw_Mod_how : gFw R_Mod 34 R_Mod (F_Mod 9).2.1 (F_Mod 9).2.2.1 := Or.inl (gtbl_all 851 (by decide +kernel) rfl)
theorem w_how (hK : Good X l (HoldT X h nx) M d Po K) (hd : decode M.2.1 pc = .ok (.getfield 34, 3)) (hM : M.1.cls = R_Mod) (kk : K (pc + 3) lv (.ref (h + 1 + 8) :: st) x kc ks) : K pc lv (.ref h :: st) x kc ks := w_getA (k := 9) hK hd (by rw [hM]; exact fw_Mod_how) rfl (by decide) rfl (by decide) kk
theorem fw_Mod_since : gFw R_Mod 37 R_Mod (F_Mod 10).2.1 (F_Mod 10).2.2.1 := Or.inl (gtbl_all 852 (by decide +kernel) rfl)
theorem w_since (hK : Good X l (HoldT X h nx) M d Po K) (hd : decode M.2.1 pc = .ok (.getfield 37, 3)) (hM : M.1.cls = R_Mod) (kk : K (pc + 3) lv (.ref (h + 1 + 9) :: st) x kc ks) : K pc lv (.ref h :: st) x kc ks := w_getA (k := 10) hK hd (by rw [hM]; exact fw_Mod_since) rfl (by decide) rfl (by decide) kk
theorem fw_Mod_clock : gFw R_Mod 98 R_Mod (F_Mod 11).2.1 (F_Mod 11).2.2.1 := Or.inl (gtbl_all 853 (by decide +kernel) rfl)
theorem w_clock (hK : Good X l (HoldT X h nx) M d Po K) (hd : decode M.2.1 pc = .ok (.getfield 98, 3)) (hM : M.1.cls = R_Mod) {v : Int32} (hv : x 31 0 = v) (kk : K (pc + 3) lv (.int v :: st) x kc ks) : K pc lv (.ref h :: st) x kc ks := w_getS (k := 11) hK hd (by rw [hM]; exact fw_Mod_clock) rfl (by decide) rfl (by decide) hv kk
theorem w_put_clock (hK : Good X l (HoldT X h nx) M d Po K) {v : Int32} (hd : decode M.2.1 pc = .ok (.putfield 98, 3)) (hM : M.1.cls = R_Mod) (kk : K (pc + 3) lv st (tset x 31 0 v) kc ks) : K pc lv (.int v :: .ref h :: st) x kc ks := w_putS (k := 11) hK hd (by rw [hM]; exact fw_Mod_clock) rfl (by decide) rfl (by decide) rfl rfl kk
theorem fw_Mod_phase : gFw R_Mod 40 R_Mod (F_Mod 12).2.1 (F_Mod 12).2.2.1 := Or.inl (gtbl_all 854 (by decide +kernel) rfl)
theorem w_phase (hK : Good X l (HoldT X h nx) M d Po K) (hd : decode M.2.1 pc = .ok (.getfield 40, 3)) (hM : M.1.cls = R_Mod) (kk : K (pc + 3) lv (.ref (h + 1 + 10) :: st) x kc ks) : K pc lv (.ref h :: st) x kc ks := w_getA (k := 12) hK hd (by rw [hM]; exact fw_Mod_phase) rfl (by decide) rfl (by decide) kk
theorem fw_Mod_ticket : gFw R_Mod 43 R_Mod (F_Mod 13).2.1 (F_Mod 13).2.2.1 := Or.inl (gtbl_all 855 (by decide +kernel) rfl)
theorem w_ticket (hK : Good X l (HoldT X h nx) M d Po K) (hd : decode M.2.1 pc = .ok (.getfield 43, 3)) (hM : M.1.cls = R_Mod) (kk : K (pc + 3) lv (.ref (h + 1 + 11) :: st) x kc ks) : K pc lv (.ref h :: st) x kc ks := w_getA (k := 13) hK hd (by rw [hM]; exact fw_Mod_ticket) rfl (by decide) rfl (by decide) kk
theorem fw_Mod_progress : gFw R_Mod 46 R_Mod (F_Mod 14).2.1 (F_Mod 14).2.2.1 := Or.inl (gtbl_all 856 (by decide +kernel) rfl)
theorem w_progress (hK : Good X l (HoldT X h nx) M d Po K) (hd : decode M.2.1 pc = .ok (.getfield 46, 3)) (hM : M.1.cls = R_Mod) (kk : K (pc + 3) lv (.ref (h + 1 + 12) :: st) x kc ks) : K pc lv (.ref h :: st) x kc ks := w_getA (k := 14) hK hd (by rw [hM]; exact fw_Mod_progress) rfl (by decide) rfl (by decide) kk
theorem fw_Mod_owed : gFw R_Mod 49 R_Mod (F_Mod 15).2.1 (F_Mod 15).2.2.1 := Or.inl (gtbl_all 857 (by decide +kernel) rfl)
theorem w_owed (hK : Good X l (HoldT X h nx) M d Po K) (hd : decode M.2.1 pc = .ok (.getfield 49, 3)) (hM : M.1.cls = R_Mod) (kk : K (pc + 3) lv (.ref (h + 1 + 13) :: st) x kc ks) : K pc lv (.ref h :: st) x kc ks := w_getA (k := 15) hK hd (by rw [hM]; exact fw_Mod_owed) rfl (by decide) rfl (by decide) kk
theorem fw_Mod_hits : gFw R_Mod 52 R_Mod (F_Mod 16).2.1 (F_Mod 16).2.2.1 := Or.inl (gtbl_all 858 (by decide +kernel) rfl)
theorem w_hits (hK : Good X l (HoldT X h nx) M d Po K) (hd : decode M.2.1 pc = .ok (.getfield 52, 3)) (hM : M.1.cls = R_Mod) (kk : K (pc + 3) lv (.ref (h + 1 + 14) :: st) x kc ks) : K pc lv (.ref h :: st) x kc ks := w_getA (k := 16) hK hd (by rw [hM]; exact fw_Mod_hits) rfl (by decide) rfl (by decide) kk
theorem fw_Mod_refused : gFw R_Mod 55 R_Mod (F_Mod 17).2.1 (F_Mod 17).2.2.1 := Or.inl (gtbl_all 859 (by decide +kernel) rfl)
theorem w_refused (hK : Good X l (HoldT X h nx) M d Po K) (hd : decode M.2.1 pc = .ok (.getfield 55, 3)) (hM : M.1.cls = R_Mod) (kk : K (pc + 3) lv (.ref (h + 1 + 15) :: st) x kc ks) : K pc lv (.ref h :: st) x kc ks := w_getA (k := 17) hK hd (by rw [hM]; exact fw_Mod_refused) rfl (by decide) rfl (by decide) kk
theorem fw_Mod_kept : gFw R_Mod 59 R_Mod (F_Mod 18).2.1 (F_Mod 18).2.2.1 := Or.inl (gtbl_all 860 (by decide +kernel) rfl)
theorem w_kept (hK : Good X l (HoldT X h nx) M d Po K) (hd : decode M.2.1 pc = .ok (.getfield 59, 3)) (hM : M.1.cls = R_Mod) (kk : K (pc + 3) lv (.ref (h + 1 + 16) :: st) x kc ks) : K pc lv (.ref h :: st) x kc ks := w_getA (k := 18) hK hd (by rw [hM]; exact fw_Mod_kept) rfl (by decide) rfl (by decide) kk
theorem fw_Mod_keeps : gFw R_Mod 62 R_Mod (F_Mod 19).2.1 (F_Mod 19).2.2.1 := Or.inl (gtbl_all 861 (by decide +kernel) rfl)
theorem w_keeps (hK : Good X l (HoldT X h nx) M d Po K) (hd : decode M.2.1 pc = .ok (.getfield 62, 3)) (hM : M.1.cls = R_Mod) (kk : K (pc + 3) lv (.ref (h + 1 + 17) :: st) x kc ks) : K pc lv (.ref h :: st) x kc ks := w_getA (k := 19) hK hd (by rw [hM]; exact fw_Mod_keeps) rfl (by decide) rfl (by decide) kk
theorem fw_Mod_next : gFw R_Mod 177 R_Mod (F_Mod 20).2.1 (F_Mod 20).2.2.1 := Or.inl (gtbl_all 862 (by decide +kernel) rfl)
theorem w_next (hK : Good X l (HoldT X h nx) M d Po K) (hd : decode M.2.1 pc = .ok (.getfield 177, 3)) (hM : M.1.cls = R_Mod) {v : Int32} (hv : x 32 0 = v) (kk : K (pc + 3) lv (.int v :: st) x kc ks) : K pc lv (.ref h :: st) x kc ks := w_getS (k := 20) hK hd (by rw [hM]; exact fw_Mod_next) rfl (by decide) rfl (by decide) hv kk
theorem w_put_next (hK : Good X l (HoldT X h nx) M d Po K) {v : Int32} (hd : decode M.2.1 pc = .ok (.putfield 177, 3)) (hM : M.1.cls = R_Mod) (kk : K (pc + 3) lv st (tset x 32 0 v) kc ks) : K pc lv (.int v :: .ref h :: st) x kc ks := w_putS (k := 20) hK hd (by rw [hM]; exact fw_Mod_next) rfl (by decide) rfl (by decide) rfl rfl kk
theorem fw_Mod_serving : gFw R_Mod 180 R_Mod (F_Mod 21).2.1 (F_Mod 21).2.2.1 := Or.inl (gtbl_all 863 (by decide +kernel) rfl)
theorem w_serving (hK : Good X l (HoldT X h nx) M d Po K) (hd : decode M.2.1 pc = .ok (.getfield 180, 3)) (hM : M.1.cls = R_Mod) {v : Int32} (hv : x 33 0 = v) (kk : K (pc + 3) lv (.int v :: st) x kc ks) : K pc lv (.ref h :: st) x kc ks := w_getS (k := 21) hK hd (by rw [hM]; exact fw_Mod_serving) rfl (by decide) rfl (by decide) hv kk
theorem w_put_serving (hK : Good X l (HoldT X h nx) M d Po K) {v : Int32} (hd : decode M.2.1 pc = .ok (.putfield 180, 3)) (hM : M.1.cls = R_Mod) (kk : K (pc + 3) lv st (tset x 33 0 v) kc ks) : K pc lv (.int v :: .ref h :: st) x kc ks := w_putS (k := 21) hK hd (by rw [hM]; exact fw_Mod_serving) rfl (by decide) rfl (by decide) rfl rfl kk
theorem fw_Mod_frameOf : gFw R_Mod 65 R_Mod (F_Mod 22).2.1 (F_Mod 22).2.2.1 := Or.inl (gtbl_all 864 (by decide +kernel) rfl)
theorem w_frameOf (hK : Good X l (HoldT X h nx) M d Po K) (hd : decode M.2.1 pc = .ok (.getfield 65, 3)) (hM : M.1.cls = R_Mod) (kk : K (pc + 3) lv (.ref (h + 1 + 18) :: st) x kc ks) : K pc lv (.ref h :: st) x kc ks := w_getA (k := 22) hK hd (by rw [hM]; exact fw_Mod_frameOf) rfl (by decide) rfl (by decide) kk
theorem fw_Mod_writableOf : gFw R_Mod 68 R_Mod (F_Mod 23).2.1 (F_Mod 23).2.2.1 := Or.inl (gtbl_all 865 (by decide +kernel) rfl)
theorem w_writableOf (hK : Good X l (HoldT X h nx) M d Po K) (hd : decode M.2.1 pc = .ok (.getfield 68, 3)) (hM : M.1.cls = R_Mod) (kk : K (pc + 3) lv (.ref (h + 1 + 19) :: st) x kc ks) : K pc lv (.ref h :: st) x kc ks := w_getA (k := 23) hK hd (by rw [hM]; exact fw_Mod_writableOf) rfl (by decide) rfl (by decide) kk
theorem fw_Mod_entered : gFw R_Mod 71 R_Mod (F_Mod 24).2.1 (F_Mod 24).2.2.1 := Or.inl (gtbl_all 866 (by decide +kernel) rfl)
theorem w_entered (hK : Good X l (HoldT X h nx) M d Po K) (hd : decode M.2.1 pc = .ok (.getfield 71, 3)) (hM : M.1.cls = R_Mod) (kk : K (pc + 3) lv (.ref (h + 1 + 20) :: st) x kc ks) : K pc lv (.ref h :: st) x kc ks := w_getA (k := 24) hK hd (by rw [hM]; exact fw_Mod_entered) rfl (by decide) rfl (by decide) kk
theorem fw_Mod_word : gFw R_Mod 74 R_Mod (F_Mod 25).2.1 (F_Mod 25).2.2.1 := Or.inl (gtbl_all 867 (by decide +kernel) rfl)
theorem w_word (hK : Good X l (HoldT X h nx) M d Po K) (hd : decode M.2.1 pc = .ok (.getfield 74, 3)) (hM : M.1.cls = R_Mod) (kk : K (pc + 3) lv (.ref (h + 1 + 21) :: st) x kc ks) : K pc lv (.ref h :: st) x kc ks := w_getA (k := 25) hK hd (by rw [hM]; exact fw_Mod_word) rfl (by decide) rfl (by decide) kk
theorem fw_Mod_known : gFw R_Mod 77 R_Mod (F_Mod 26).2.1 (F_Mod 26).2.2.1 := Or.inl (gtbl_all 868 (by decide +kernel) rfl)
theorem w_known (hK : Good X l (HoldT X h nx) M d Po K) (hd : decode M.2.1 pc = .ok (.getfield 77, 3)) (hM : M.1.cls = R_Mod) (kk : K (pc + 3) lv (.ref (h + 1 + 22) :: st) x kc ks) : K pc lv (.ref h :: st) x kc ks := w_getA (k := 26) hK hd (by rw [hM]; exact fw_Mod_known) rfl (by decide) rfl (by decide) kk
theorem fw_Mod_knownFrame : gFw R_Mod 80 R_Mod (F_Mod 27).2.1 (F_Mod 27).2.2.1 := Or.inl (gtbl_all 869 (by decide +kernel) rfl)
theorem w_knownFrame (hK : Good X l (HoldT X h nx) M d Po K) (hd : decode M.2.1 pc = .ok (.getfield 80, 3)) (hM : M.1.cls = R_Mod) (kk : K (pc + 3) lv (.ref (h + 1 + 23) :: st) x kc ks) : K pc lv (.ref h :: st) x kc ks := w_getA (k := 27) hK hd (by rw [hM]; exact fw_Mod_knownFrame) rfl (by decide) rfl (by decide) kk
theorem fw_Mod_knownWritable : gFw R_Mod 83 R_Mod (F_Mod 28).2.1 (F_Mod 28).2.2.1 := Or.inl (gtbl_all 870 (by decide +kernel) rfl)
theorem w_knownWritable (hK : Good X l (HoldT X h nx) M d Po K) (hd : decode M.2.1 pc = .ok (.getfield 83, 3)) (hM : M.1.cls = R_Mod) (kk : K (pc + 3) lv (.ref (h + 1 + 24) :: st) x kc ks) : K pc lv (.ref h :: st) x kc ks := w_getA (k := 28) hK hd (by rw [hM]; exact fw_Mod_knownWritable) rfl (by decide) rfl (by decide) kk
theorem fw_Mod_home : gFw R_Mod 86 R_Mod (F_Mod 29).2.1 (F_Mod 29).2.2.1 := Or.inl (gtbl_all 871 (by decide +kernel) rfl)
theorem w_home (hK : Good X l (HoldT X h nx) M d Po K) (hd : decode M.2.1 pc = .ok (.getfield 86, 3)) (hM : M.1.cls = R_Mod) (kk : K (pc + 3) lv (.ref (h + 1 + 25) :: st) x kc ks) : K pc lv (.ref h :: st) x kc ks := w_getA (k := 29) hK hd (by rw [hM]; exact fw_Mod_home) rfl (by decide) rfl (by decide) kk
theorem fw_Mod_laid : gFw R_Mod 89 R_Mod (F_Mod 30).2.1 (F_Mod 30).2.2.1 := Or.inl (gtbl_all 872 (by decide +kernel) rfl)
theorem w_laid (hK : Good X l (HoldT X h nx) M d Po K) (hd : decode M.2.1 pc = .ok (.getfield 89, 3)) (hM : M.1.cls = R_Mod) (kk : K (pc + 3) lv (.ref (h + 1 + 26) :: st) x kc ks) : K pc lv (.ref h :: st) x kc ks := w_getA (k := 30) hK hd (by rw [hM]; exact fw_Mod_laid) rfl (by decide) rfl (by decide) kk
theorem fw_Mod_asked : gFw R_Mod 92 R_Mod (F_Mod 31).2.1 (F_Mod 31).2.2.1 := Or.inl (gtbl_all 873 (by decide +kernel) rfl)
theorem w_asked (hK : Good X l (HoldT X h nx) M d Po K) (hd : decode M.2.1 pc = .ok (.getfield 92, 3)) (hM : M.1.cls = R_Mod) (kk : K (pc + 3) lv (.ref (h + 1 + 27) :: st) x kc ks) : K pc lv (.ref h :: st) x kc ks := w_getA (k := 31) hK hd (by rw [hM]; exact fw_Mod_asked) rfl (by decide) rfl (by decide) kk
theorem fw_Mod_askedBy : gFw R_Mod 95 R_Mod (F_Mod 32).2.1 (F_Mod 32).2.2.1 := Or.inl (gtbl_all 874 (by decide +kernel) rfl)
theorem w_askedBy (hK : Good X l (HoldT X h nx) M d Po K) (hd : decode M.2.1 pc = .ok (.getfield 95, 3)) (hM : M.1.cls = R_Mod) (kk : K (pc + 3) lv (.ref (h + 1 + 28) :: st) x kc ks) : K pc lv (.ref h :: st) x kc ks := w_getA (k := 32) hK hd (by rw [hM]; exact fw_Mod_askedBy) rfl (by decide) rfl (by decide) kk
theorem fw_Mod_made : gFw R_Mod 136 R_Mod (F_Mod 33).2.1 (F_Mod 33).2.2.1 := Or.inl (gtbl_all 875 (by decide +kernel) rfl)
theorem w_made (hK : Good X l (HoldT X h nx) M d Po K) (hd : decode M.2.1 pc = .ok (.getfield 136, 3)) (hM : M.1.cls = R_Mod) {v : Int32} (hv : x 34 0 = v) (kk : K (pc + 3) lv (.int v :: st) x kc ks) : K pc lv (.ref h :: st) x kc ks := w_getS (k := 33) hK hd (by rw [hM]; exact fw_Mod_made) rfl (by decide) rfl (by decide) hv kk
theorem w_put_made (hK : Good X l (HoldT X h nx) M d Po K) {v : Int32} (hd : decode M.2.1 pc = .ok (.putfield 136, 3)) (hM : M.1.cls = R_Mod) (kk : K (pc + 3) lv st (tset x 34 0 v) kc ks) : K pc lv (.int v :: .ref h :: st) x kc ks := w_putS (k := 33) hK hd (by rw [hM]; exact fw_Mod_made) rfl (by decide) rfl (by decide) rfl rfl kk
end TWINF
section NROWS
variable {σ : Type} {X : gCx} {l : Launch} {Hd : σ → Heap → Prop} {M : gMd} {d : Nat} {Po : Option Value → σ → Prop} {K : Nat → List (Nat × Value) → List Value → σ → Nat → Nat → Prop} {pc kc ks : Nat} {lv : List (Nat × Value)} {st : List Value} {x : σ}
theorem r_ncmp_eq (hK : Good X l Hd M d Po K) {a b : Nat} {off : Int} {tgt : Nat} (hd : decode M.2.1 pc = .ok (.if_icmp .eq off, 3)) (ht : (pc : Int) + off = (tgt : Int)) (ha : a < 2 ^ 31) (hb2 : b < 2 ^ 31) (kt : a = b → K tgt lv st x kc ks) (kf : a ≠ b → K (pc + 3) lv st x kc ks) : K pc lv (.int (nI b) :: .int (nI a) :: st) x kc ks := r_icmp_eq hK hd ht (fun q => kt ((nI_eq ha hb2).mp q)) (fun q => kf (fun z => q ((nI_eq ha hb2).mpr z)))
theorem r_ncmp_ne (hK : Good X l Hd M d Po K) {a b : Nat} {off : Int} {tgt : Nat} (hd : decode M.2.1 pc = .ok (.if_icmp .ne off, 3)) (ht : (pc : Int) + off = (tgt : Int)) (ha : a < 2 ^ 31) (hb2 : b < 2 ^ 31) (kt : a ≠ b → K tgt lv st x kc ks) (kf : a = b → K (pc + 3) lv st x kc ks) : K pc lv (.int (nI b) :: .int (nI a) :: st) x kc ks := r_icmp_ne hK hd ht (fun q => kt (fun z => q ((nI_eq ha hb2).mpr z))) (fun q => kf ((nI_eq ha hb2).mp q))
theorem r_ncmp_lt (hK : Good X l Hd M d Po K) {a b : Nat} {off : Int} {tgt : Nat} (hd : decode M.2.1 pc = .ok (.if_icmp .lt off, 3)) (ht : (pc : Int) + off = (tgt : Int)) (ha : a < 2 ^ 31) (hb2 : b < 2 ^ 31) (kt : a < b → K tgt lv st x kc ks) (kf : b ≤ a → K (pc + 3) lv st x kc ks) : K pc lv (.int (nI b) :: .int (nI a) :: st) x kc ks := r_icmp_lt hK hd ht (fun q => kt ((nI_ltI ha hb2).mp q)) (fun q => kf (Nat.not_lt.mp (fun z => q ((nI_ltI ha hb2).mpr z))))
theorem r_ncmp_ge (hK : Good X l Hd M d Po K) {a b : Nat} {off : Int} {tgt : Nat} (hd : decode M.2.1 pc = .ok (.if_icmp .ge off, 3)) (ht : (pc : Int) + off = (tgt : Int)) (ha : a < 2 ^ 31) (hb2 : b < 2 ^ 31) (kt : b ≤ a → K tgt lv st x kc ks) (kf : a < b → K (pc + 3) lv st x kc ks) : K pc lv (.int (nI b) :: .int (nI a) :: st) x kc ks := r_icmp_ge hK hd ht (fun q => kt ((nI_leI hb2 ha).mp q)) (fun q => kf (Nat.not_le.mp (fun z => q ((nI_leI hb2 ha).mpr z))))
theorem r_ncmp_gt (hK : Good X l Hd M d Po K) {a b : Nat} {off : Int} {tgt : Nat} (hd : decode M.2.1 pc = .ok (.if_icmp .gt off, 3)) (ht : (pc : Int) + off = (tgt : Int)) (ha : a < 2 ^ 31) (hb2 : b < 2 ^ 31) (kt : b < a → K tgt lv st x kc ks) (kf : a ≤ b → K (pc + 3) lv st x kc ks) : K pc lv (.int (nI b) :: .int (nI a) :: st) x kc ks := r_icmp_gt hK hd ht (fun q => kt ((nI_ltI hb2 ha).mp q)) (fun q => kf (Nat.not_lt.mp (fun z => q ((nI_ltI hb2 ha).mpr z))))
theorem r_ncmp_le (hK : Good X l Hd M d Po K) {a b : Nat} {off : Int} {tgt : Nat} (hd : decode M.2.1 pc = .ok (.if_icmp .le off, 3)) (ht : (pc : Int) + off = (tgt : Int)) (ha : a < 2 ^ 31) (hb2 : b < 2 ^ 31) (kt : a ≤ b → K tgt lv st x kc ks) (kf : b < a → K (pc + 3) lv st x kc ks) : K pc lv (.int (nI b) :: .int (nI a) :: st) x kc ks := r_icmp_le hK hd ht (fun q => kt ((nI_leI ha hb2).mp q)) (fun q => kf (Nat.not_le.mp (fun z => q ((nI_leI ha hb2).mpr z))))
end NROWS
