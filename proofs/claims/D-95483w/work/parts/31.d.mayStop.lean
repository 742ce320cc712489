set_option maxRecDepth 100000
/-- a house's class's word on whether it may stop -/
def V_mayStop : Nat → Int32
  | 1 => 0
  | _ => 1
theorem V_mayStop_b01 (kd : Nat) : b01 (V_mayStop kd) := by
  unfold V_mayStop
  split
  · exact b01_0
  · exact b01_1
section MS
variable {p : Program} {l : Launch} {e : Env} {R : Room} {s : State} {m : MethodId} {args : Array Value} {below : List Frame} {meth : Method} {c : Code} {H : Heap} {locs : List Loc} {cells slots : Nat} {Q : State → Prop} {cc : ByteArray} {pc nL : Nat} {ls : Array Slot} {rest : List Value} {D : va_G} {dI dH dB : ClassId} {K : State → Prop}
/-- the default's row -/
theorem mz_row {own C : String} {index : Nat} {x : MethodName} (hexec : p.tables.exec = Jvm.exec) (hb : c.code = cc) (hml : c.maxLocals = nL) (hown : s.vm.findClass own = some m.cls) (hlink : (Cond.methodLink own index x).before args s = true) (hsame : (Cond.sameMethod x.cls "TownOnWeight$Hangs" x.name x.desc).before args s = true)
    (hd0 : va_Decl s ⟨"TownOnWeight$Hangs", x.name, x.desc⟩) (hsel : (Cond.landsInDefault C x yX9_mayStop).before args s = true) (hinst : (Cond.instanceMethod yX9_mayStop).before args s = true) (hcode : (Cond.code yX9_mayStop cX9_mayStop 1 (some .boolean)).before args s = true)
    (hx0 : ∀ sig, parseMethodDescriptor x.desc = some sig → ([] : List Value).length = sig.parameters.length) {b : Addr} (hr : ∃ cell : Cell, H[b]? = some cell ∧ cell.vm.isStatics = false ∧ s.vm.findClass C = some cell.cls) (hsz : ls.size = nL) (hst : (rest.map fun v => v.category).sum ≤ 8) (hR : 1 ≤ R.frames ∧ 20 ≤ R.locals) (hdg : decode cc pc = .ok (.invokevirtual index, 3))
    (kk : W p l e R s m args below meth c H locs cells slots Q (F0 m (pc + 3) ls (.int 1 :: rest))) : W p l e R s m args below meth c H locs cells slots Q (F0 m pc ls (.ref b :: rest)) := by
  intro T hT X
  obtain ⟨cellB, hcell, hobj, hcls⟩ := hr
  obtain ⟨r0, r, hn, hrm, hstR, hsigR⟩ := hd0
  obtain ⟨cn, ck, r1, hcn, hck, hni, hf, hn1⟩ := Cond.sameMethod_found hsame
  cases hn.symm.trans hn1
  obtain ⟨mk, methM, hnamed, hmethM, -, habM⟩ := Cond.instanceMethod_spec hinst
  obtain ⟨methM', cM, hmethM', hcM, hbM, hlM, hretM, hlockM, -, hsigM⟩ := Cond.code_spec hnamed hcode
  cases hmethM.symm.trans hmethM'
  obtain ⟨c2, r2, m2, rm, q1, q2, q3, q5, q4, ⟨kP, hkP, hkPi⟩, q7⟩ := mz_word hsel
  cases hcls.symm.trans q1
  cases hf.symm.trans q2
  cases hnamed.symm.trans q3
  cases hrm.symm.trans q5
  have hselP : selectMethod e.platform s.vm cellB.cls r0 = .method mk := by rw [Launch.admits_selectMethod X.admits]; exact q4
  obtain ⟨vm₁, X₁, hstep₁⟩ := mz_step X hexec hown hlink hsame ⟨by decide, by decide⟩ hn hrm hstR (a := b) (cell := cellB) (by rw [hT]; exact hcell)
    (fun z h => by rw [h] at hobj; cases hobj) hselP hmethM habM hkP hkPi q7 (g := F0 m pc ls (.ref b :: rest)) rfl (argsL := []) (rest := rest) (hx0 _ hsigR) rfl (by rw [hb]; exact hdg)
  obtain ⟨t, a1, b1⟩ := kk (T.setVm vm₁) hT X₁
  have hm₁ : (T.setVm vm₁).vm.method? mk = some methM := by rw [X₁.warmed.alike.method?]; exact hmethM
  refine ⟨t, hstep₁ t (fun acts => ?_), b1⟩
  exact mz_leaf X₁ hexec (g := F0 m pc ls rest) rfl (hsz.trans hml.symm) acts hm₁ hcM hbM hlockM hretM (State.plainMethod.of_named (x := yX9_mayStop) (by decide) (X₁.named hnamed) hm₁) hR.1 (by
    have h2 : 2 * (F0 m pc ls rest).monitorRoom + (rest.map fun v => v.category).sum ≤ 8 := lv_room (m := m) (pc := pc) (ls := ls) hst
    have h3 := hR.2
    rw [hlM]
    show 2 * (F0 m pc ls rest).monitorRoom + (rest.map fun v => v.category).sum + (1 + 11) ≤ R.locals
    omega) (by rw [hb]; exact hdg) a1
end MS
theorem mz_args {args : Array Value} {s : State} {C : String} {x y : MethodName} (h : va_Nw (.landsInDefault C x y) s) : (Cond.landsInDefault C x y).before args s = true := h
theorem mz_sel {args : Array Value} {s : State} {C : String} {x x' y : MethodName} (h : (Cond.selects C x' y).before args s = true) (hf : s.methodFound? x.cls x.name x.desc = s.methodFound? x'.cls x'.name x'.desc) : (Cond.selects C x y).before args s = true := by
  simp only [Cond.before, Cond.holds, Cond.value] at h ⊢
  rw [hf]
  exact h
set_option maxHeartbeats 4000000 in
theorem x_vmayStop {p : Program} {l : Launch} {e : Env} {R : Room} {s : State} {m : MethodId} {args : Array Value} {below : List Frame} {meth : Method} {c : Code} {H : Heap} {locs : List Loc} {cells slots : Nat} {Q : State → Prop} {cc : ByteArray} {pc nL : Nat} {ls : Array Slot} {rest : List Value} {D : va_G} {dI dH dB : ClassId} {K : State → Prop} (hKO : KOK D dI dH dB K) (hs : K s) (S : CallFix p m c cc nL s args lw_all RX0) (hK : va_K D vwCl (tyL dI dH dB) s) {h t kd : Nat} {num par : Int32} {tl : Nat → Int32} (hw : HW1 D dI h t kd num par tl H)  (hsz : ls.size = nL) (hst : (rest.map fun v => v.category).sum ≤ 8) (hR : 2 ≤ R.frames ∧ 60 ≤ R.locals) (hf : cells ≤ R.cells ∧ slots ≤ R.slots) (hdg : decode cc pc = .ok (.invokevirtual 191, 3))
    (kk : W p l e R s m args below meth c H locs cells slots Q (F0 m (pc + 3) ls (.int (V_mayStop kd) :: rest))) : W p l e R s m args below meth c H locs cells slots Q (F0 m pc ls (.ref h :: rest)) := by
  obtain ⟨h5, hP⟩ := hw
  have hlink : (Cond.methodLink "TownOnWeight" 191 ⟨"TownOnWeight$House", "mayStop", "()Z"⟩).before args s = true := va_Nw.use rfl (hKO.nw hs 11 rfl)
  have hsame : (Cond.sameMethod "TownOnWeight$House" "TownOnWeight$Hangs" "mayStop" "()Z").before args s = true := va_Nw.use rfl (hKO.nw hs 12 rfl)
  have hdecl : va_Decl s ⟨"TownOnWeight$Hangs", "mayStop", "()Z"⟩ := va_Decl.abs (hKO.nw hs 13 rfl)
  have hx0 : ∀ sig, parseMethodDescriptor "()Z" = some sig → ([] : List Value).length = sig.parameters.length := fun sig hh => by
    rw [show parseMethodDescriptor "()Z" = some ⟨[], some .boolean⟩ from by decide +kernel] at hh
    rw [← Option.some.inj hh]
    rfl
  have hR1 : 1 ≤ R.frames ∧ 20 ≤ R.locals := ⟨by omega, by omega⟩
  match kd, h5, hP, kk with
  | 0, _, hP, kk => exact mz_row (x := ⟨"TownOnWeight$House", "mayStop", "()Z"⟩) S.1 S.2.1 S.2.2.1 S.2.2.2.1 hlink hsame hdecl (mz_args (hKO.nw hs 14 rfl)) (S.2.2.2.2 _ q516) (S.2.2.2.2 _ q518) hx0 (x_recvH hK hP rfl) hsz hst hR1 hdg kk
  | 2, _, hP, kk => exact mz_row (x := ⟨"TownOnWeight$House", "mayStop", "()Z"⟩) S.1 S.2.1 S.2.2.1 S.2.2.2.1 hlink hsame hdecl (mz_args (hKO.nw hs 15 rfl)) (S.2.2.2.2 _ q516) (S.2.2.2.2 _ q518) hx0 (x_recvH hK hP rfl) hsz hst hR1 hdg kk
  | 3, _, hP, kk => exact mz_row (x := ⟨"TownOnWeight$House", "mayStop", "()Z"⟩) S.1 S.2.1 S.2.2.1 S.2.2.2.1 hlink hsame hdecl (mz_args (hKO.nw hs 16 rfl)) (S.2.2.2.2 _ q516) (S.2.2.2.2 _ q518) hx0 (x_recvH hK hP rfl) hsz hst hR1 hdg kk
  | 4, _, hP, kk => exact mz_row (x := ⟨"TownOnWeight$House", "mayStop", "()Z"⟩) S.1 S.2.1 S.2.2.1 S.2.2.2.1 hlink hsame hdecl (mz_args (hKO.nw hs 17 rfl)) (S.2.2.2.2 _ q516) (S.2.2.2.2 _ q518) hx0 (x_recvH hK hP rfl) hsz hst hR1 hdg kk
  | 1, _, hP, kk =>
    have hsel : (Cond.selects "TownOnWeight$Clock" ⟨"TownOnWeight$House", "mayStop", "()Z"⟩ yX5_mayStop).before args s = true := by
      obtain ⟨cn, ck, r1, hcn, hck, hni, hfd, hn1⟩ := Cond.sameMethod_found hsame
      exact mz_sel (x' := ⟨"TownOnWeight$Hangs", "mayStop", "()Z"⟩) (S.2.2.2.2 _ q509) (hfd.trans (State.methodFound?_of_named hn1 ⟨by decide, by decide⟩).symm)
    exact x_callR (va_runU (C := "TownOnWeight$Clock") (owner := "TownOnWeight$Hangs") (x := ⟨"TownOnWeight$House", "mayStop", "()Z"⟩) (As := []) (rest := rest) S (met_H_mayStop1 l hKO h t 1 num par tl)
      ⟨⟨rfl, rfl, by show 0 + 1 ≤ _; omega, by show 8 + (1 + 11) + 0 ≤ _; omega, pay_in S.2.2.2.2 (lw_meth q511), List.mem_cons_self⟩, S.2.2.2.2 _ q511, S.2.2.2.2 _ q60, ⟨by decide, by decide⟩, hx0, hlink, hsame, hdecl, hsel, S.2.2.2.2 _ q510⟩
      ⟨xP_blind hKO, x_recvH hK hP rfl, xP_pre hKO hs ⟨by decide, hP⟩⟩ rfl rfl hsz rfl (lv_room hst) hdg ⟨hf.1, hf.2⟩).run kk
  | n + 5, h5, _, _ => exact absurd h5 (by omega)
