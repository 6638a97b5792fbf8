/-! objects and arrays at the level of W -/
theorem i_Ker : ∀ w ∈ u_ws R_Ker F_Ker 4, w ∈ gtbl := fun w hw => gtbl_in ((by decide +kernel : ∀ w ∈ u_ws R_Ker F_Ker 4, w ∈ lw_tbl) w hw) ((by decide +kernel : ∀ w ∈ u_ws R_Ker F_Ker 4, goodWord w = true) w hw)
theorem i_Machine : ∀ w ∈ u_ws R_Machine F_Machine 6, w ∈ gtbl := fun w hw => gtbl_in ((by decide +kernel : ∀ w ∈ u_ws R_Machine F_Machine 6, w ∈ lw_tbl) w hw) ((by decide +kernel : ∀ w ∈ u_ws R_Machine F_Machine 6, goodWord w = true) w hw)
theorem i_Processor : ∀ w ∈ u_ws R_Processor F_Processor 8, w ∈ gtbl := fun w hw => gtbl_in ((by decide +kernel : ∀ w ∈ u_ws R_Processor F_Processor 8, w ∈ lw_tbl) w hw) ((by decide +kernel : ∀ w ∈ u_ws R_Processor F_Processor 8, goodWord w = true) w hw)
theorem i_Line : ∀ w ∈ u_ws R_Line F_Line 3, w ∈ gtbl := fun w hw => gtbl_in ((by decide +kernel : ∀ w ∈ u_ws R_Line F_Line 3, w ∈ lw_tbl) w hw) ((by decide +kernel : ∀ w ∈ u_ws R_Line F_Line 3, goodWord w = true) w hw)
theorem i_Cell : ∀ w ∈ u_ws R_Cell F_Cell 2, w ∈ gtbl := fun w hw => gtbl_in ((by decide +kernel : ∀ w ∈ u_ws R_Cell F_Cell 2, w ∈ lw_tbl) w hw) ((by decide +kernel : ∀ w ∈ u_ws R_Cell F_Cell 2, goodWord w = true) w hw)
theorem i_Translation : ∀ w ∈ u_ws R_Translation F_Translation 4, w ∈ gtbl := fun w hw => gtbl_in ((by decide +kernel : ∀ w ∈ u_ws R_Translation F_Translation 4, w ∈ lw_tbl) w hw) ((by decide +kernel : ∀ w ∈ u_ws R_Translation F_Translation 4, goodWord w = true) w hw)
theorem i_Request : ∀ w ∈ u_ws R_Request F_Request 3, w ∈ gtbl := fun w hw => gtbl_in ((by decide +kernel : ∀ w ∈ u_ws R_Request F_Request 3, w ∈ lw_tbl) w hw) ((by decide +kernel : ∀ w ∈ u_ws R_Request F_Request 3, goodWord w = true) w hw)
theorem i_Group : ∀ w ∈ u_ws R_Group F_Group 2, w ∈ gtbl := fun w hw => gtbl_in ((by decide +kernel : ∀ w ∈ u_ws R_Group F_Group 2, w ∈ lw_tbl) w hw) ((by decide +kernel : ∀ w ∈ u_ws R_Group F_Group 2, goodWord w = true) w hw)
theorem i_Task : ∀ w ∈ u_ws R_Task F_Task 4, w ∈ gtbl := fun w hw => gtbl_in ((by decide +kernel : ∀ w ∈ u_ws R_Task F_Task 4, w ∈ lw_tbl) w hw) ((by decide +kernel : ∀ w ∈ u_ws R_Task F_Task 4, goodWord w = true) w hw)
theorem i_Access : ∀ w ∈ u_ws R_Access F_Access 4, w ∈ gtbl := fun w hw => gtbl_in ((by decide +kernel : ∀ w ∈ u_ws R_Access F_Access 4, w ∈ lw_tbl) w hw) ((by decide +kernel : ∀ w ∈ u_ws R_Access F_Access 4, goodWord w = true) w hw)
theorem i_Grant : ∀ w ∈ u_ws R_Grant F_Grant 8, w ∈ gtbl := fun w hw => gtbl_in ((by decide +kernel : ∀ w ∈ u_ws R_Grant F_Grant 8, w ∈ lw_tbl) w hw) ((by decide +kernel : ∀ w ∈ u_ws R_Grant F_Grant 8, goodWord w = true) w hw)
theorem i_Revoke : ∀ w ∈ u_ws R_Revoke F_Revoke 13, w ∈ gtbl := fun w hw => gtbl_in ((by decide +kernel : ∀ w ∈ u_ws R_Revoke F_Revoke 13, w ∈ lw_tbl) w hw) ((by decide +kernel : ∀ w ∈ u_ws R_Revoke F_Revoke 13, goodWord w = true) w hw)
theorem i_Move : ∀ w ∈ u_ws R_Move F_Move 3, w ∈ gtbl := fun w hw => gtbl_in ((by decide +kernel : ∀ w ∈ u_ws R_Move F_Move 3, w ∈ lw_tbl) w hw) ((by decide +kernel : ∀ w ∈ u_ws R_Move F_Move 3, goodWord w = true) w hw)
theorem i_AL : ∀ w ∈ u_ws R_AL F_AL 3, w ∈ gtbl := fun w hw => gtbl_in ((by decide +kernel : ∀ w ∈ u_ws R_AL F_AL 3, w ∈ lw_tbl) w hw) ((by decide +kernel : ∀ w ∈ u_ws R_AL F_AL 3, goodWord w = true) w hw)
theorem i_Mod : ∀ w ∈ u_ws R_Mod F_Mod 34, w ∈ gtbl := fun w hw => gtbl_in ((by decide +kernel : ∀ w ∈ u_ws R_Mod F_Mod 34, w ∈ lw_tbl) w hw) ((by decide +kernel : ∀ w ∈ u_ws R_Mod F_Mod 34, goodWord w = true) w hw)
/-- all that is said of a class that can be made -/
def gCl (ci : Nat) (C : String) (T : u_T) (N : Nat) : Prop := classes[ci]? = some (C, T, N) ∧ (∀ w ∈ u_ws C T N, w ∈ gtbl) ∧ (∀ k, k < N → parseFieldDescriptor (T k).2.2.1 = some (gTy ci k)) ∧ (∀ a, a < N → ∀ b, b < N → a ≠ b → (T a).2.1 ≠ (T b).2.1)
theorem k_Ker : gCl 0 R_Ker F_Ker 4 := ⟨rfl, i_Ker, t_Ker_ok, n_Ker⟩
theorem k_Machine : gCl 1 R_Machine F_Machine 6 := ⟨rfl, i_Machine, t_Machine_ok, n_Machine⟩
theorem k_Processor : gCl 2 R_Processor F_Processor 8 := ⟨rfl, i_Processor, t_Processor_ok, n_Processor⟩
theorem k_Line : gCl 3 R_Line F_Line 3 := ⟨rfl, i_Line, t_Line_ok, n_Line⟩
theorem k_Cell : gCl 4 R_Cell F_Cell 2 := ⟨rfl, i_Cell, t_Cell_ok, n_Cell⟩
theorem k_Translation : gCl 5 R_Translation F_Translation 4 := ⟨rfl, i_Translation, t_Translation_ok, n_Translation⟩
theorem k_Request : gCl 6 R_Request F_Request 3 := ⟨rfl, i_Request, t_Request_ok, n_Request⟩
theorem k_Group : gCl 7 R_Group F_Group 2 := ⟨rfl, i_Group, t_Group_ok, n_Group⟩
theorem k_Task : gCl 8 R_Task F_Task 4 := ⟨rfl, i_Task, t_Task_ok, n_Task⟩
theorem k_Access : gCl 9 R_Access F_Access 4 := ⟨rfl, i_Access, t_Access_ok, n_Access⟩
theorem k_Grant : gCl 10 R_Grant F_Grant 8 := ⟨rfl, i_Grant, t_Grant_ok, n_Grant⟩
theorem k_Revoke : gCl 11 R_Revoke F_Revoke 13 := ⟨rfl, i_Revoke, t_Revoke_ok, n_Revoke⟩
theorem k_Move : gCl 12 R_Move F_Move 3 := ⟨rfl, i_Move, t_Move_ok, n_Move⟩
theorem k_AL : gCl 13 R_AL F_AL 3 := ⟨rfl, i_AL, t_AL_ok, n_AL⟩
theorem k_Mod : gCl 14 R_Mod F_Mod 34 := ⟨rfl, i_Mod, t_Mod_ok, n_Mod⟩
/-- a field's link, of a class's own or of a nest mate's; the name by which it is spelled -/
def gFw (own : String) (i : Nat) (ref name desc : String) : Prop := Cond.fieldLink own i ref name desc ∈ gtbl ∨ ∃ host, Cond.fieldLinkNest own i ref name desc host ∈ lw_tbl
def gSame (ref decl name desc : String) : Prop := ref = decl ∨ Cond.sameField ref decl name desc ∈ gtbl
section OBJS
variable {p : Program} {l : Launch} {e : Env} {R : Room} {s : State} {m : MethodId} {args : Array Value} {below : List Frame} {meth : Method} {c : Code} {H : Heap} {locs : List Loc} {cells slots : Nat} {Q : State → Prop}
variable {cc : ByteArray} {pc : Nat} {ls : Array Slot} {rest : List Value} {X : gCx} {a : Nat}
theorem gSame_use {ref decl name desc : String} (hts : ∀ w ∈ gtbl, w.before args s = true) (h : gSame ref decl name desc) (z : ClassId × Class × Nat × Field) (hz : s.fieldFound? decl name desc = some z) : s.fieldFound? ref name desc = some z := by
  rcases h with h | h
  · rw [h]; exact hz
  · exact u_same (hts _ h) z hz
theorem o_get (hx : p.tables.exec = Jvm.exec) (hb : c.code = cc) (hts : ∀ w ∈ gtbl, w.before args s = true) (hT : gT X s) {own ref C : String} {T : u_T} {N ci i : Nat} (hown : s.vm.findClass own = some m.cls) (hC : gCl ci C T N) {V : Nat → Value} (hO : t_OB a ((cxD X).1 ci) N ((cxD X).2 ci) H V) (k : Nat) (hk : k < N) (hl : gFw own i ref (T k).2.1 (T k).2.2.1) (hsm : gSame ref (T k).1 (T k).2.1 (T k).2.2.1) (hd : decode cc pc = .ok (.getfield i, 3))
    (kk : W p l e R s m args below meth c H locs cells slots Q (F0 m (pc + 3) ls (V k :: rest))) : W p l e R s m args below meth c H locs cells slots Q (F0 m pc ls (.ref a :: rest)) := by
  obtain ⟨hc, hin, -, -⟩ := hC
  obtain ⟨cell, q1, q2, q3, q4⟩ := hO
  obtain ⟨hS, hfc, kC, hkC, hkind⟩ := hT.1.1 ci _ hc
  obtain ⟨cf, kf, fi, f, hi, hsl⟩ := hS k hk
  have hst := (u_facts hfc hkC (u_lays hts hin hk) hi).1
  have hv : cell.slots[f.slot]? = some (V k) := by rw [hsl]; exact q4 k hk
  rcases hl with hl | ⟨host, hl⟩
  · exact W.getf hx hb hown (hts _ hl) (gSame_use hts hsm _ hi) hst q1 (by rw [q3]; exact fun h => by cases h) hv rfl rfl hd kk
  · exact va_Wgetf hx hb hown (va_Nw.use rfl (hT.2.1 _ hl rfl)) (gSame_use hts hsm _ hi) hst q1 (by rw [q3]; exact fun h => by cases h) hv rfl rfl hd kk
theorem o_apart (hts : ∀ w ∈ gtbl, w.before args s = true) (hT : gT X s) {C : String} {T : u_T} {N ci : Nat} (hC : gCl ci C T N) : ∀ x y, x < N → y < N → x ≠ y → (cxD X).2 ci x ≠ (cxD X).2 ci y := by
  obtain ⟨hc, hin, hty, hnm⟩ := hC
  intro x y h1 h2 hne
  obtain ⟨hS, -⟩ := hT.1.1 ci _ hc
  obtain ⟨_, _, _, fa, hia, ea⟩ := hS x h1
  obtain ⟨_, _, _, fb, hib, eb⟩ := hS y h2
  rw [← ea, ← eb]
  refine u_apart (u_lays hts hin h1) (u_lays hts hin h2) hia hib ?_
  rw [(State.fieldFound?_type hia (hty x h1)).1, (State.fieldFound?_type hib (hty y h2)).1]
  exact hnm x h1 y h2 hne
theorem o_put (hx : p.tables.exec = Jvm.exec) (hb : c.code = cc) (hts : ∀ w ∈ gtbl, w.before args s = true) (hT : gT X s) {own ref C : String} {T : u_T} {N ci i : Nat} (hown : s.vm.findClass own = some m.cls) (hC : gCl ci C T N) {V : Nat → Value} (hO : t_OB a ((cxD X).1 ci) N ((cxD X).2 ci) H V) (k : Nat) (hk : k < N) (hl : gFw own i ref (T k).2.1 (T k).2.2.1) (hsm : gSame ref (T k).1 (T k).2.1 (T k).2.2.1) (hfin : (T k).2.2.2 = false) {v : Value} (hn : narrow (gTy ci k) v = v) (hfit : fits (gTy ci k) v = true) (hd : decode cc pc = .ok (.putfield i, 3))
    (kk : ∀ (H1 : Heap) (z : Nat), t_OB a ((cxD X).1 ci) N ((cxD X).2 ci) H1 (updV V k v) → H1.size = H.size → (∀ q : Nat, q ≠ a → H1[q]? = H[q]?) → W p l e R s m args below meth c H1 (locs ++ [⟨a, z⟩]) cells slots Q (F0 m (pc + 3) ls rest)) : W p l e R s m args below meth c H locs cells slots Q (F0 m pc ls (v :: .ref a :: rest)) := by
  have hap := o_apart hts hT hC
  obtain ⟨hc, hin, hty, hnm⟩ := hC
  obtain ⟨cell, q1, q2, q3, q4⟩ := hO
  obtain ⟨hS, hfc, kC, hkC, hkind⟩ := hT.1.1 ci _ hc
  obtain ⟨cf, kf, fi, f, hi, hsl⟩ := hS k hk
  have hlay := hts _ (hin _ (u_in_lay hk))
  unfold u_lay at hlay
  rw [if_neg (by rw [hfin]; decide)] at hlay
  have hst := (u_facts hfc hkC (u_lays hts hin hk) hi).1
  have h6 := u_store hfc hkC hkind hlay hi (hty k hk) hn hfit
  have key : ∀ H' : Heap, H'[a]? = some (cell.setSlot f.slot v) → H'.size = H.size → (∀ q, q ≠ a → H'[q]? = H[q]?) → W p l e R s m args below meth c H' (locs ++ [⟨a, f.slot⟩]) cells slots Q (F0 m (pc + 3) ls rest) := by
    intro H' e1 e2 e3
    rw [hsl] at e1
    exact kk H' f.slot ⟨_, e1, q2, q3, t_set q4 hap hk v⟩ e2 e3
  rcases hl with hl | ⟨host, hl⟩
  · exact W.putK hx hb (f := f) ⟨hown, hts _ hl, ⟨_, _, _, gSame_use hts hsm _ hi⟩, hst⟩ (by rw [q2]; exact h6) q1 q3 (by rw [hsl]; exact k2_hasslot (q4 k hk)) rfl rfl hd key
  · exact va_WputK hx hb hown (va_Nw.use rfl (hT.2.1 _ hl rfl)) (gSame_use hts hsm _ hi) hst (by rw [q2]; exact h6) q1 q3 (by rw [hsl]; exact k2_hasslot (q4 k hk)) rfl rfl hd key
theorem o_putF (hx : p.tables.exec = Jvm.exec) (hb : c.code = cc) (hts : ∀ w ∈ gtbl, w.before args s = true) (hT : gT X s) {own C : String} {T : u_T} {N ci i : Nat} (hown : s.vm.findClass own = some m.cls) (hC : gCl ci C T N) {V : Nat → Value} (hO : t_OB a ((cxD X).1 ci) N ((cxD X).2 ci) H V) (k : Nat) (hk : k < N) (hl : Cond.fieldLink own i own (T k).2.1 (T k).2.2.1 ∈ gtbl) (hfin : (T k).2.2.2 = true) (hin2 : meth.name = "<init>") (hdecl : (T k).1 = own) {v : Value} (hn : narrow (gTy ci k) v = v) (hfit : fits (gTy ci k) v = true) (hd : decode cc pc = .ok (.putfield i, 3))
    (kk : ∀ (H1 : Heap) (z : Nat), t_OB a ((cxD X).1 ci) N ((cxD X).2 ci) H1 (updV V k v) → H1.size = H.size → (∀ q : Nat, q ≠ a → H1[q]? = H[q]?) → W p l e R s m args below meth c H1 (locs ++ [⟨a, z⟩]) cells slots Q (F0 m (pc + 3) ls rest)) : W p l e R s m args below meth c H locs cells slots Q (F0 m pc ls (v :: .ref a :: rest)) := by
  have hap := o_apart hts hT hC
  obtain ⟨hc, hin, hty, hnm⟩ := hC
  obtain ⟨cell, q1, q2, q3, q4⟩ := hO
  obtain ⟨hS, hfc, kC, hkC, hkind⟩ := hT.1.1 ci _ hc
  obtain ⟨cf, kf, fi, f, hi, hsl⟩ := hS k hk
  have hlay := hts _ (hin _ (u_in_lay hk))
  unfold u_lay at hlay
  rw [if_pos hfin] at hlay
  have hst := (u_facts hfc hkC (u_lays hts hin hk) hi).1
  have hcf : m.cls = cf := by
    obtain ⟨_, _, c', _, _, _, -, -, hf', -, -, -, hown2, -⟩ := Cond.laysFinal_spec hlay
    have e1 : c' = cf := by have := hi.symm.trans hf'; simp at this; exact this.1.symm
    rw [hdecl] at hown2
    rw [← e1]; exact Option.some.inj (hown.symm.trans hown2)
  have h6 := u_fits hfc hkC hkind (Or.inr hlay) hi (hty k hk) hn hfit
  refine W.putFinK hx hb hown (hts _ hl) (by rw [← hdecl]; exact hi) hst hcf hin2 (by rw [q2]; exact h6) q1 q3 (by rw [hsl]; exact k2_hasslot (q4 k hk)) rfl rfl hd fun H' e1 e2 e3 => ?_
  rw [hsl] at e1
  exact kk H' f.slot ⟨_, e1, q2, q3, t_set q4 hap hk v⟩ e2 e3
theorem o_new (hx : p.tables.exec = Jvm.exec) (hb : c.code = cc) (hts : ∀ w ∈ gtbl, w.before args s = true) (hT : gT X s) {own C : String} {T : u_T} {N ci i : Nat} (hown : s.vm.findClass own = some m.cls) (hC : gCl ci C T N) (hcl : Cond.classLink own i C ∈ gtbl) (hin : Cond.instantiable C N ∈ gtbl) (hini : Cond.initialized C ∈ gtbl) (hcells : cells + 1 ≤ R.cells) (hslots : slots + N ≤ R.slots) (hd : decode cc pc = .ok (.new i, 3))
    (kk : ∀ H1 : Heap, t_OB H.size ((cxD X).1 ci) N ((cxD X).2 ci) H1 (fun k => defaultValue (gTy ci k)) → H1.size = H.size + 1 → (∀ q : Nat, q < H.size → H1[q]? = H[q]?) → W p l e R s m args below meth c H1 locs (cells + 1) (slots + N) Q (F0 m (pc + 3) ls (.ref H.size :: rest))) : W p l e R s m args below meth c H locs cells slots Q (F0 m pc ls rest) := by
  obtain ⟨hc, hi2, hty, hnm⟩ := hC
  have hKn := hT.1.1 ci _ hc
  refine W.newcK hx hb hown (hts _ hcl) (hts _ hin) (hts _ hini) rfl hd hcells hslots hKn.2.1 rfl fun H1 kC hkC e1 z1 o1 => ?_
  exact kk H1 (u_born (gTy ci) hts hi2 hKn hkC e1 hty) z1 o1
/-- arrays: their classes by number -/
def gAty (t : Nat) : FieldType := match t with
  | 0 => .int
  | 1 => .boolean
  | 2 => .object "FourWayKernel$Processor"
  | 3 => .object "FourWayKernel$Group"
  | _ => .object "java/lang/Object"
theorem gAr (hT : gT X s) {t : Nat} (ht : t < 5) : ArrOfT s (cxB X t) (gAty t) ∧ va_RA s (cxB X t) (gAty t) := by
  have h := hT.1.2
  match t, ht with
  | 0, _ => exact h 0 _ rfl
  | 1, _ => exact h 1 _ rfl
  | 2, _ => exact h 2 _ rfl
  | 3, _ => exact h 3 _ rfl
  | 4, _ => exact h 4 _ rfl
theorem arr_in {n j : Nat} {i : Int32} (hi : i = nI j) (hj : j < n) (hn : n < 2 ^ 31) : ¬ (i < 0 ∨ n ≤ i.toNatClampNeg) := by
  rw [hi]; exact nI_in hj hn
theorem a_iald (hx : p.tables.exec = Jvm.exec) (hb : c.code = cc) (hT : gT X s) {n : Nat} {V : Nat → Value} (hA : H[a]? = some (arrV (cxB X 0) n V)) {i : Int32} (j : Nat) (hi : i = nI j) (hj : j < n) (hn : n < 2 ^ 31) (hd : decode cc pc = .ok (.iaload, 1))
    (kk : W p l e R s m args below meth c H locs cells slots Q (F0 m (pc + 1) ls (V j :: rest))) : W p l e R s m args below meth c H locs cells slots Q (F0 m pc ls (.int i :: .ref a :: rest)) := by
  have hcl : i.toNatClampNeg = j := by rw [hi]; exact nI_clamp (by omega)
  exact W.iald hx hb hA ((gAr hT (t := 0) (by decide)).1 n V) (fun q => by cases q) (by show ¬ (i < 0 ∨ (arrV _ _ _).slots.size ≤ _); rw [arrV_size]; exact arr_in hi hj hn) (by rw [hcl]; exact arrV_read _ _ hj) rfl rfl hd kk
theorem a_zald (hx : p.tables.exec = Jvm.exec) (hb : c.code = cc) (hT : gT X s) {n : Nat} {V : Nat → Value} (hA : H[a]? = some (arrV (cxB X 1) n V)) {i : Int32} (j : Nat) (hi : i = nI j) (hj : j < n) (hn : n < 2 ^ 31) (hd : decode cc pc = .ok (.baload, 1))
    (kk : W p l e R s m args below meth c H locs cells slots Q (F0 m (pc + 1) ls (V j :: rest))) : W p l e R s m args below meth c H locs cells slots Q (F0 m pc ls (.int i :: .ref a :: rest)) := by
  have hcl : i.toNatClampNeg = j := by rw [hi]; exact nI_clamp (by omega)
  exact W.zald hx hb hA ((gAr hT (t := 1) (by decide)).1 n V) (fun q => by cases q) (by show ¬ (i < 0 ∨ (arrV _ _ _).slots.size ≤ _); rw [arrV_size]; exact arr_in hi hj hn) (by rw [hcl]; exact arrV_read _ _ hj) rfl rfl hd kk
theorem a_aald (hx : p.tables.exec = Jvm.exec) (hb : c.code = cc) (hT : gT X s) {n t : Nat} (ht : t < 5) {C : String} (hC : gAty t = .object C) {V : Nat → Value} (hA : H[a]? = some (arrV (cxB X t) n V)) {i : Int32} (j : Nat) (hi : i = nI j) (hj : j < n) (hn : n < 2 ^ 31) (hd : decode cc pc = .ok (.aaload, 1))
    (kk : W p l e R s m args below meth c H locs cells slots Q (F0 m (pc + 1) ls (V j :: rest))) : W p l e R s m args below meth c H locs cells slots Q (F0 m pc ls (.int i :: .ref a :: rest)) := by
  have hcl : i.toNatClampNeg = j := by rw [hi]; exact nI_clamp (by omega)
  have hh := (gAr hT ht).1
  rw [hC] at hh
  exact W.aald (ty := .object C) hx hb hA (hh n V) rfl (fun q => by cases q) (by show ¬ (i < 0 ∨ (arrV _ _ _).slots.size ≤ _); rw [arrV_size]; exact arr_in hi hj hn) (by rw [hcl]; exact arrV_read _ _ hj) rfl rfl hd kk
theorem a_alen (hx : p.tables.exec = Jvm.exec) (hb : c.code = cc) (hT : gT X s) {n t : Nat} (ht : t < 5) {V : Nat → Value} (hA : H[a]? = some (arrV (cxB X t) n V)) (hd : decode cc pc = .ok (.arraylength, 1))
    (kk : W p l e R s m args below meth c H locs cells slots Q (F0 m (pc + 1) ls (.int (nI n) :: rest))) : W p l e R s m args below meth c H locs cells slots Q (F0 m pc ls (.ref a :: rest)) :=
  W.alen (n := nI n) hx hb hA ((gAr hT ht).1 n V) (by rw [arrV_size] <;> rfl) rfl rfl hd kk
theorem a_iast (hx : p.tables.exec = Jvm.exec) (hb : c.code = cc) (hT : gT X s) {n : Nat} {V : Nat → Value} (hA : H[a]? = some (arrV (cxB X 0) n V)) {i v : Int32} (j : Nat) (hi : i = nI j) (hj : j < n) (hn : n < 2 ^ 31) (hd : decode cc pc = .ok (.iastore, 1))
    (kk : ∀ (H1 : Heap) (z : Nat), H1[a]? = some (arrV (cxB X 0) n (updV V j (.int v))) → H1.size = H.size → (∀ q : Nat, q ≠ a → H1[q]? = H[q]?) → W p l e R s m args below meth c H1 (locs ++ [⟨a, z⟩]) cells slots Q (F0 m (pc + 1) ls rest)) : W p l e R s m args below meth c H locs cells slots Q (F0 m pc ls (.int v :: .int i :: .ref a :: rest)) := by
  have hcl : i.toNatClampNeg = j := by rw [hi]; exact nI_clamp (by omega)
  refine W.iast hx hb hA ((gAr hT (t := 0) (by decide)).1 n V) (fun q => by cases q) (by show ¬ (i < 0 ∨ (arrV _ _ _).slots.size ≤ _); rw [arrV_size]; exact arr_in hi hj hn) rfl rfl hd fun H1 e z oq => ?_
  rw [hcl, arrV_store] at e
  exact kk H1 _ e z oq
theorem a_zast (hx : p.tables.exec = Jvm.exec) (hb : c.code = cc) (hT : gT X s) {n : Nat} {V : Nat → Value} (hA : H[a]? = some (arrV (cxB X 1) n V)) {i v : Int32} (hv : narrow .boolean (.int v) = .int v) (j : Nat) (hi : i = nI j) (hj : j < n) (hn : n < 2 ^ 31) (hd : decode cc pc = .ok (.bastore, 1))
    (kk : ∀ (H1 : Heap) (z : Nat), H1[a]? = some (arrV (cxB X 1) n (updV V j (.int v))) → H1.size = H.size → (∀ q : Nat, q ≠ a → H1[q]? = H[q]?) → W p l e R s m args below meth c H1 (locs ++ [⟨a, z⟩]) cells slots Q (F0 m (pc + 1) ls rest)) : W p l e R s m args below meth c H locs cells slots Q (F0 m pc ls (.int v :: .int i :: .ref a :: rest)) := by
  have hcl : i.toNatClampNeg = j := by rw [hi]; exact nI_clamp (by omega)
  refine W.zast hx hb hA ((gAr hT (t := 1) (by decide)).1 n V) (fun q => by cases q) (by show ¬ (i < 0 ∨ (arrV _ _ _).slots.size ≤ _); rw [arrV_size]; exact arr_in hi hj hn) rfl rfl hd fun H1 e z oq => ?_
  rw [hcl, hv, arrV_store] at e
  exact kk H1 _ e z oq
theorem a_aast (hx : p.tables.exec = Jvm.exec) (hb : c.code = cc) (hT : gT X s) {n t : Nat} (ht : t < 5) {C : String} (hC : gAty t = .object C) {V : Nat → Value} (hA : H[a]? = some (arrV (cxB X t) n V)) {i : Int32} {v : Nat} (j : Nat) (hi : i = nI j) (hj : j < n) (hn : n < 2 ^ 31) {C' : String} (hr : ∃ cellV : Cell, H[v]? = some cellV ∧ cellV.vm.isStatics = false ∧ s.vm.findClass C' = some cellV.cls) (hasg : C' = C ∨ Cond.castable C' C ∈ lw_tbl) (hd : decode cc pc = .ok (.aastore, 1))
    (kk : ∀ (H1 : Heap) (z : Nat), H1[a]? = some (arrV (cxB X t) n (updV V j (.ref v))) → H1.size = H.size → (∀ q : Nat, q ≠ a → H1[q]? = H[q]?) → W p l e R s m args below meth c H1 (locs ++ [⟨a, z⟩]) cells slots Q (F0 m (pc + 1) ls rest)) : W p l e R s m args below meth c H locs cells slots Q (F0 m pc ls (.ref v :: .int i :: .ref a :: rest)) := by
  have hcl : i.toNatClampNeg = j := by rw [hi]; exact nI_clamp (by omega)
  obtain ⟨h1, h2⟩ := gAr hT ht
  rw [hC] at h1 h2
  obtain ⟨kA, comp, k1, k2, k3, -⟩ := h2
  obtain ⟨kE, hkE, -⟩ := Vm.findClass_spec k3
  obtain ⟨cellV, g1, g2, g3⟩ := hr
  obtain ⟨kV, hkV, -⟩ := Vm.findClass_spec g3
  have hok : s.vm.assignable cellV.cls comp = true := by
    rcases hasg with h | h
    · subst h
      exact vb_asgS comp cellV.cls k3 g3
    · exact vb_asgC (hT.2.1 _ h rfl) comp cellV.cls k3 g3
  refine W.aast hx hb hA (fun q h => by cases h) (fun h => by cases h) k1 k2 rfl hkE ⟨fun q => arr_in hi hj hn (Or.inl q), by show _ < (arrV _ _ _).slots.size; rw [arrV_size, hcl]; exact hj⟩ g1 (fun q h => by rw [h] at g2; cases g2) hkV hok rfl rfl hd fun H1 e z oq => ?_
  rw [hcl, arrV_store] at e
  exact kk H1 _ e z oq
theorem a_newi (hx : p.tables.exec = Jvm.exec) (hb : c.code = cc) (hts : ∀ w ∈ gtbl, w.before args s = true) (hT : gT X s) {at' : ArrayType} {t : Nat} (ht : t < 2) (hat : newarray.typeOf at' = gAty t) (hw : Cond.arrayClass (gAty t) ∈ gtbl) {i : Int32} (n : Nat) (hi : i = nI n) (hn : n < 1000) (hcells : cells + 1 ≤ R.cells) (hslots : slots + n ≤ R.slots) (hd : decode cc pc = .ok (.newarray at', 2))
    (kk : ∀ H1 : Heap, H1[H.size]? = some (arrV (cxB X t) n (fun _ => .int 0)) → H1.size = H.size + 1 → (∀ q : Nat, q < H.size → H1[q]? = H[q]?) → W p l e R s m args below meth c H1 locs (cells + 1) (slots + n) Q (F0 m (pc + 2) ls (.ref H.size :: rest))) : W p l e R s m args below meth c H locs cells slots Q (F0 m pc ls (.int i :: rest)) := by
  have hcl : i.toNatClampNeg = n := by rw [hi]; exact nI_clamp (by omega)
  have h0 : ¬ i < 0 := by rw [hi]; exact nI_pos (by omega)
  have hnm : s.vm.findClass ("[" ++ (gAty t).toString) = some (cxB X t) := by
    have h2 := (gAr hT (t := t) (by omega)).2
    match t, ht with
    | 0, _ => exact h2
    | 1, _ => exact h2
  refine va_newaK hx hb (by rw [hat]; exact hts _ hw) rfl hd rfl h0 hcl ?_ hcells hslots rfl fun H1 cA e1 z1 o1 hAr hNm => ?_
  · rw [hat]
    match t, ht with
    | 0, _ => show n * 4 ≤ _; omega
    | 1, _ => show n * 1 ≤ _; omega
  · rw [hat, hnm] at hNm
    cases hNm
    have hdv : defaultValue (newarray.typeOf at') = .int 0 := by
      rw [hat]
      match t, ht with
      | 0, _ => rfl
      | 1, _ => rfl
    rw [hdv] at e1
    exact kk H1 e1 z1 o1
theorem a_newa (hx : p.tables.exec = Jvm.exec) (hb : c.code = cc) (hts : ∀ w ∈ gtbl, w.before args s = true) (hT : gT X s) {own C : String} {k t : Nat} (hown : s.vm.findClass own = some m.cls) (ht : t < 5) (hC : gAty t = .object C) (hAO : va_AO C s) (hw : Cond.classLink own k C ∈ gtbl) {i : Int32} (n : Nat) (hi : i = nI n) (hn : n < 1000) (hcells : cells + 1 ≤ R.cells) (hslots : slots + n ≤ R.slots) (hd : decode cc pc = .ok (.anewarray k, 3))
    (kk : ∀ H1 : Heap, H1[H.size]? = some (arrV (cxB X t) n (fun _ => .null)) → H1.size = H.size + 1 → (∀ q : Nat, q < H.size → H1[q]? = H[q]?) → W p l e R s m args below meth c H1 locs (cells + 1) (slots + n) Q (F0 m (pc + 3) ls (.ref H.size :: rest))) : W p l e R s m args below meth c H locs cells slots Q (F0 m pc ls (.int i :: rest)) := by
  have hcl : i.toNatClampNeg = n := by rw [hi]; exact nI_clamp (by omega)
  have h0 : ¬ i < 0 := by rw [hi]; exact nI_pos (by omega)
  have h2 := (gAr hT ht).2
  rw [hC] at h2
  obtain ⟨kA0, comp0, -, -, -, k4⟩ := h2
  refine W.anew hx hb hown (hts _ hw) (va_AO.use hAO) rfl hd rfl h0 (by rw [hcl]; omega) hcells (by rw [hcl]; exact hslots) fun cA kA comp f1 f2 f3 f4 => ?_
  cases k4.symm.trans f1
  rw [hcl]
  refine kk _ ?_ ?_ ?_
  · rw [← arrV_new]; simp
  · simp
  · intro q hq
    rw [Array.getElem?_push, if_neg (Nat.ne_of_lt hq)]
end OBJS
