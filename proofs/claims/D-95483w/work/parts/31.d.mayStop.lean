set_option maxRecDepth 100000
/-- a house's class's word on whether it may stop -/
def V_mayStop : Nat → Int32
  | 1 => 0
  | _ => 1
theorem V_mayStop_b01 (kd : Nat) : b01 (V_mayStop kd) := by
  unfold V_mayStop
  split
  · exact b01_0
  · exact b01_1
section MS
variable {p : Program} {l : Launch} {e : Env} {R : Room} {s : State} {m : MethodId} {args : Array Value} {below : List Frame} {meth : Method} {c : Code} {H : Heap} {locs : List Loc} {cells slots : Nat} {Q : State → Prop} {cc : ByteArray} {pc nL : Nat} {ls : Array Slot} {rest : List Value} {D : va_G} {dI dH dB : ClassId} {K : State → Prop}
/-- the default's row -/
theorem mz_row {own C : String} {index : Nat} {x : MethodName} (hexec : p.tables.exec = Jvm.exec) (hb : c.code = cc) (hml : c.maxLocals = nL) (hown : s.vm.findClass own = some m.cls) (hlink : (Cond.methodLink own index x).before args s = true) (hsame : (Cond.sameMethod x.cls "TownOnWeight$Hangs" x.name x.desc).before args s = true)
    (hd0 : va_Decl s ⟨"TownOnWeight$Hangs", x.name, x.desc⟩) (hsel : (Cond.landsInDefault C x yX9_mayStop).before args s = true) (hinst : (Cond.instanceMethod yX9_mayStop).before args s = true) (hcode : (Cond.code yX9_mayStop cX9_mayStop 1 (some .boolean)).before args s = true)
    (hx0 : ∀ sig, parseMethodDescriptor x.desc = some sig → ([] : List Value).length = sig.parameters.length) {b : Addr} (hr : ∃ cell : Cell, H[b]? = some cell ∧ cell.vm.isStatics = false ∧ s.vm.findClass C = some cell.cls) (hsz : ls.size = nL) (hst : (rest.map fun v => v.category).sum ≤ 8) (hR : 1 ≤ R.frames ∧ 20 ≤ R.locals) (hdg : decode cc pc = .ok (.invokevirtual index, 3))
    (kk : W p l e R s m args below meth c H locs cells slots Q (F0 m (pc + 3) ls (.int 1 :: rest))) : W p l e R s m args below meth c H locs cells slots Q (F0 m pc ls (.ref b :: rest)) := by
  intro T hT X
  obtain ⟨cellB, hcell, hobj, hcls⟩ := hr
  obtain ⟨r0, r, hn, hrm, hstR, hsigR⟩ := hd0
  obtain ⟨cn, ck, r1, hcn, hck, hni, hf, hn1⟩ := Cond.sameMethod_found hsame
  cases hn.symm.trans hn1
  obtain ⟨mk, methM, hnamed, hmethM, -, habM⟩ := Cond.instanceMethod_spec hinst
  obtain ⟨methM', cM, hmethM', hcM, hbM, hlM, hretM, hlockM, -, hsigM⟩ := Cond.code_spec hnamed hcode
  cases hmethM.symm.trans hmethM'
  obtain ⟨c2, r2, m2, rm, q1, q2, q3, q5, q4, ⟨kP, hkP, hkPi⟩, q7⟩ := mz_word hsel
  cases hcls.symm.trans q1
  cases hf.symm.trans q2
  cases hnamed.symm.trans q3
  cases hrm.symm.trans q5
  have hselP : selectMethod e.platform s.vm cellB.cls r0 = .method mk := by rw [Launch.admits_selectMethod X.admits]; exact q4
  obtain ⟨vm₁, X₁, hstep₁⟩ := mz_step X hexec hown hlink hsame ⟨by decide, by decide⟩ hn hrm hstR (a := b) (cell := cellB) (by rw [hT]; exact hcell)
    (fun z h => by rw [h] at hobj; cases hobj) hselP hmethM habM hkP hkPi q7 (g := F0 m pc ls (.ref b :: rest)) rfl (argsL := []) (rest := rest) (hx0 _ hsigR) rfl (by rw [hb]; exact hdg)
  obtain ⟨t, a1, b1⟩ := kk (T.setVm vm₁) hT X₁
  have hm₁ : (T.setVm vm₁).vm.method? mk = some methM := by rw [X₁.warmed.alike.method?]; exact hmethM
  refine ⟨t, hstep₁ t (fun acts => ?_), b1⟩
  exact mz_leaf X₁ hexec (g := F0 m pc ls rest) rfl (hsz.trans hml.symm) acts hm₁ hcM hbM hlockM hretM (State.plainMethod.of_named (x := yX9_mayStop) (by decide) (X₁.named hnamed) hm₁) hR.1 (by
    have h2 : 2 * (F0 m pc ls rest).monitorRoom + (rest.map fun v => v.category).sum ≤ 8 := lv_room (m := m) (pc := pc) (ls := ls) hst
    have h3 := hR.2
    rw [hlM]
    show 2 * (F0 m pc ls rest).monitorRoom + (rest.map fun v => v.category).sum + (1 + 11) ≤ R.locals
    omega) (by rw [hb]; exact hdg) a1
end MS
