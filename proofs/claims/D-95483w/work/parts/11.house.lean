set_option maxRecDepth 100000
/-- one house as a heap holds it -/
def HW1 (D : va_G) (dI : ClassId) (h t kd : Nat) (num par : Int32) (tl : Nat → Int32) (H : Heap) : Prop := kd < 5 ∧ va_P D vwCl (hW dI h t kd num par tl) H
theorem HC.at {D : va_G} {dI : ClassId} {ha ta : Nat → Nat} {g : HG} {n : Nat} {H : Heap} (h : HC D dI ha ta g n H) (k : Nat) (hk : k < n) : HW1 D dI (ha k) (ta k) (g.1 k) (nI k) (g.2.1 k) (g.2.2 k) H := h k hk
section HX
variable {p : Program} {l : Launch} {e : Env} {R : Room} {s : State} {m : MethodId} {args : Array Value} {below : List Frame} {meth : Method} {c : Code} {H : Heap} {locs : List Loc} {cells slots : Nat} {Q : State → Prop}
variable {cc : ByteArray} {pc : Nat} {ls : Array Slot} {rest st0 : List Value} {D : va_G} {dI dH dB : ClassId} {ws : va_W}
theorem x_ghs {own ref : String} (hexec : p.tables.exec = Jvm.exec) (hb : c.code = cc) (hts : ∀ w ∈ lw_all, w.before args s = true) (hown : s.vm.findClass own = some m.cls) (hK : va_K D vwCl (tyL dI dH dB) s) {h t kd : Nat} {num par : Int32} {tl : Nat → Int32} (hw : HW1 D dI h t kd num par tl H) (k : Nat) {index : Nat} (hk : k < 3) (hlink : (Cond.fieldLink own index ref (TX4 k).2.1 (TX4 k).2.2.1).before args s = true) (hsame : ∀ x, s.fieldFound? (TX4 k).1 (TX4 k).2.1 (TX4 k).2.2.1 = some x → s.fieldFound? ref (TX4 k).2.1 (TX4 k).2.2.1 = some x) {v : Value} (hv : ([.int num, .int par, .ref t] : List Value)[k]? = some v) (hdg : decode cc pc = .ok (.getfield index, 3))
    (kk : W p l e R s m args below meth c H locs cells slots Q (F0 m (pc + 3) ls (v :: rest))) : W p l e R s m args below meth c H locs cells slots Q (F0 m pc ls (.ref h :: rest)) := by
  obtain ⟨h5, hP⟩ := hw
  match kd, h5, hP with
  | 0, _, hP => exact va_get (C := RX4) (T := TX4) (N := 3) (ci := 4) hexec hb hts in_X4 hown hK hP 0 rfl rfl k hk hlink hsame hv hdg kk
  | 1, _, hP => exact va_get (C := RX5) (T := TX5) (N := 3) (ci := 5) hexec hb hts in_X5 hown hK hP 0 rfl rfl k hk hlink hsame hv hdg kk
  | 2, _, hP => exact va_get (C := RX6) (T := TX6) (N := 3) (ci := 6) hexec hb hts in_X6 hown hK hP 0 rfl rfl k hk hlink hsame hv hdg kk
  | 3, _, hP => exact va_get (C := RX7) (T := TX7) (N := 3) (ci := 7) hexec hb hts in_X7 hown hK hP 0 rfl rfl k hk hlink hsame hv hdg kk
  | 4, _, hP => exact va_get (C := RX8) (T := TX8) (N := 3) (ci := 8) hexec hb hts in_X8 hown hK hP 0 rfl rfl k hk hlink hsame hv hdg kk
  | n + 5, h5, _ => exact absurd h5 (by omega)
theorem x_gh {own : String} (hexec : p.tables.exec = Jvm.exec) (hb : c.code = cc) (hts : ∀ w ∈ lw_all, w.before args s = true) (hown : s.vm.findClass own = some m.cls) (hK : va_K D vwCl (tyL dI dH dB) s) {h t kd : Nat} {num par : Int32} {tl : Nat → Int32} (hw : HW1 D dI h t kd num par tl H) (k : Nat) {index : Nat} (hk : k < 3) (hlink : (Cond.fieldLink own index (TX4 k).1 (TX4 k).2.1 (TX4 k).2.2.1).before args s = true) {v : Value} (hv : ([.int num, .int par, .ref t] : List Value)[k]? = some v) (hdg : decode cc pc = .ok (.getfield index, 3))
    (kk : W p l e R s m args below meth c H locs cells slots Q (F0 m (pc + 3) ls (v :: rest))) : W p l e R s m args below meth c H locs cells slots Q (F0 m pc ls (.ref h :: rest)) :=
  x_ghs hexec hb hts hown hK hw k hk hlink (fun _ h => h) hv hdg kk
theorem x_gH {own : String} (hexec : p.tables.exec = Jvm.exec) (hb : c.code = cc) (hts : ∀ w ∈ lw_all, w.before args s = true) (hown : s.vm.findClass own = some m.cls) (hK : va_K D vwCl (tyL dI dH dB) s) {ha ta : Nat → Nat} {g : HG} {n : Nat} (hH : HC D dI ha ta g n H) (i : Nat) (hi : i < n) (k : Nat) {index : Nat} {v : Value} (hlink : (Cond.fieldLink own index (TX4 k).1 (TX4 k).2.1 (TX4 k).2.2.1).before args s = true) (hv : ([.int (nI i), .int (g.2.1 i), .ref (ta i)] : List Value)[k]? = some v) (hdg : decode cc pc = .ok (.getfield index, 3))
    (kk : W p l e R s m args below meth c H locs cells slots Q (F0 m (pc + 3) ls (v :: rest))) : W p l e R s m args below meth c H locs cells slots Q (F0 m pc ls (.ref (ha i) :: rest)) :=
  x_gh hexec hb hts hown hK (hH.at i hi) k (List.getElem?_eq_some_iff.mp hv).1 hlink hv hdg kk
theorem x_told1 (hexec : p.tables.exec = Jvm.exec) (hb : c.code = cc) (hK : va_K D vwCl (tyL dI dH dB) s) {h t kd : Nat} {num par : Int32} {tl : Nat → Int32} (hw : HW1 D dI h t kd num par tl H) {i : Int32} (j : Nat) (hi : i = nI j) (hj : j < 4) {x : Int32} (hx : tl j = x) (hdg : decode cc pc = .ok (.iaload, 1))
    (kk : W p l e R s m args below meth c H locs cells slots Q (F0 m (pc + 1) ls (.int x :: rest))) : W p l e R s m args below meth c H locs cells slots Q (F0 m pc ls (.int i :: .ref t :: rest)) :=
  x_ald hexec hb hK hw.2 1 rfl j hi hj (by decide) hx hdg kk
theorem x_told (hexec : p.tables.exec = Jvm.exec) (hb : c.code = cc) (hK : va_K D vwCl (tyL dI dH dB) s) {ha ta : Nat → Nat} {g : HG} {n : Nat} (hH : HC D dI ha ta g n H) (k : Nat) (hk : k < n) {i : Int32} (j : Nat) (hi : i = nI j) (hj : j < 4) {x : Int32} (hx : g.2.2 k j = x) (hdg : decode cc pc = .ok (.iaload, 1))
    (kk : W p l e R s m args below meth c H locs cells slots Q (F0 m (pc + 1) ls (.int x :: rest))) : W p l e R s m args below meth c H locs cells slots Q (F0 m pc ls (.int i :: .ref (ta k) :: rest)) :=
  x_told1 hexec hb hK (hH.at k hk) j hi hj hx hdg kk
theorem x_aaH (hexec : p.tables.exec = Jvm.exec) (hb : c.code = cc) (hK : va_K D vwCl (tyL dI dH dB) s) {a ha : Nat → Nat} {hg : Nat → Option Nat} {n pN rN : Nat} {v : Nat → Nat → Int32} {hh : Int64} (hP : va_P D vwCl (cW a dI dH hg n pN rN v hh) H) (hC : CQ ha hg n pN rN) (k : Nat) (hk : k < n) (hdg : decode cc pc = .ok (.aaload, 1))
    (kk : W p l e R s m args below meth c H locs cells slots Q (F0 m (pc + 1) ls (.ref (ha k) :: rest))) : W p l e R s m args below meth c H locs cells slots Q (F0 m pc ls (.int (nI k) :: .ref (a 1) :: rest)) := by
  have hn8 : n ≤ 8 := hC.1
  refine va_aldq hexec hb hK hP 1 1 rfl rfl (vp_in_nI (show k < 8 by omega) (by decide)) hdg ?_
  rw [nI_clamp (by omega), hC.2.2.2 k hk]
  exact kk
/-- the class of a house's object -/
theorem x_recvH (hK : va_K D vwCl (tyL dI dH dB) s) {h t kd : Nat} {num par : Int32} {tl : Nat → Int32} {C : vw_C} (hP : va_P D vwCl (hW dI h t kd num par tl) H) (hc : vwCl[4 + kd]? = some C) : ∃ cell : Cell, H[h]? = some cell ∧ cell.vm.isStatics = false ∧ s.vm.findClass C.1 = some cell.cls := va_recv hK hP (ci := 4 + kd) (q0 := 0) hc rfl
end HX
section CPY
variable {p : Program} {l : Launch} {e : Env} {R : Room} {s : State} {m : MethodId} {args : Array Value} {below : List Frame} {meth : Method} {c : Code} {H : Heap} {locs : List Loc} {cells slots : Nat} {Q : State → Prop}
variable {cc : ByteArray} {pc : Nat} {ls : Array Slot} {rest : List Value} {D : va_G} {A : Nat → Prop} {a : Nat} {dI dH dB : ClassId} {ws : va_W} {H0 : Heap}
/-- System.arraycopy of ints from the start of one array to the start of another -/
theorem x_copy (hexec : p.tables.exec = Jvm.exec) (hb : c.code = cc) (hml : c.maxLocals = ls.size) {own : String} {index : Nat} (hown : s.vm.findClass own = some m.cls) (hlink : (Cond.methodLink own index arraycopyName).before args s = true) (hnat : (Cond.native arraycopyName).before args s = true) (hstat : (Cond.static arraycopyName).before args s = true) (hini : (Cond.initialized "java/lang/System").before args s = true)
    (hK : va_K D vwCl (tyL dI dH dB) s) (hI : Wd D A H0 ws H locs) (q0 q1 : Nat) {a0 n0 n1 : Nat} {f g : Nat → Int32} (ha0 : ws[q0]? = some (a0, .inl (dI, n0, .inl f))) (ha1 : ws[q1]? = some (a, .inl (dI, n1, .inl g))) (N : Nat) {n : Int32} (hn : n = nI N) (hN : N < 2 ^ 31) (h0 : N ≤ n0) (h1 : N ≤ n1) {ws' : va_W} (hw : ws.set q1 (a, .inl (dI, n1, .inl (va_cpy f g 0 0 N))) = ws')
    (hframes : 1 ≤ R.frames) (hlocals : (rest.map fun v => v.category).sum + (nativeFrameWords "java/lang/System" "arraycopy" 5 + 11) ≤ R.locals) (hdg : decode cc pc = .ok (.invokestatic index, 3))
    (kk : ∀ (H1 : Heap) (locs1 : List Loc), Wd D A H0 ws' H1 locs1 → W p l e R s m args below meth c H1 locs1 cells slots Q (F0 m (pc + 3) ls rest)) : W p l e R s m args below meth c H locs cells slots Q (F0 m pc ls (.int n :: .int 0 :: .ref a :: .int 0 :: .ref a0 :: rest)) := by
  subst hn
  subst hw
  have e0 : (0 : Int32).toNatClampNeg = 0 := sb_cl0
  have eN : (nI N).toNatClampNeg = N := nI_clamp hN
  refine va_copyi hexec hb hml hown hlink hnat hstat hini hK hI.1 hI.2.1 hI.2.2 q0 q1 0 0 ha0 ha1 rfl rfl rfl (by decide) (by decide) (nI_pos hN) (by rw [e0, eN]; omega) (by rw [e0, eN]; omega) (fun _ _ => rfl) hframes hlocals hdg (fun H1 locs1 h1 h2 h3 => ?_)
  rw [e0, eN] at h1 h2
  exact kk H1 locs1 ⟨h1, h2, h3⟩
end CPY
/-- a loop held by a measure that ends at one place: its end is a function of its start -/
theorem x_whileS {p : Program} {l : Launch} {e : Env} {R : Room} {s : State} {m : MethodId} {args : Array Value} {below : List Frame} {meth : Method} {c : Code} {H : Heap} {locs : List Loc} {cells slots : Nat} {Q : State → Prop} {pc : Nat} {ls : Array Slot} {D : va_G} {A : Nat → Prop} {H0 : Heap}
    {σ : Type} {nL : Nat} (ex : Nat) (F : Nat → σ → σ) (I : Nat → σ → Prop) (St : σ → va_W) (L : σ → List (Nat × Value)) {st : List Value} (f0 : Nat) (s0 : σ) (i0 : I f0 s0) (h0 : lv_has ls nL (L s0)) (hI : Wd D A H0 (St s0) H locs) (zero : ∀ x, ¬ I 0 x)
    (step : ∀ (f : Nat) (x : σ), I (f + 1) x → (∀ y : σ, I f y → F (f + 1) x = F f y → ∀ (H' : Heap) (locs' : List Loc) (ls' : Array Slot), Wd D A H0 (St y) H' locs' → lv_has ls' nL (L y) → W p l e R s m args below meth c H' locs' cells slots Q (F0 m pc ls' st)) → (∀ y : σ, F (f + 1) x = y → ∀ (H' : Heap) (locs' : List Loc) (ls' : Array Slot), Wd D A H0 (St y) H' locs' → lv_has ls' nL (L y) → W p l e R s m args below meth c H' locs' cells slots Q (F0 m ex ls' st)) → ∀ (H' : Heap) (locs' : List Loc) (ls' : Array Slot), Wd D A H0 (St x) H' locs' → lv_has ls' nL (L x) → W p l e R s m args below meth c H' locs' cells slots Q (F0 m pc ls' st))
    (last : ∀ x : σ, x = F f0 s0 → ∀ (H' : Heap) (locs' : List Loc) (ls' : Array Slot), Wd D A H0 (St x) H' locs' → lv_has ls' nL (L x) → W p l e R s m args below meth c H' locs' cells slots Q (F0 m ex ls' st)) : W p l e R s m args below meth c H locs cells slots Q (F0 m pc ls st) := by
  have key : ∀ (f : Nat) (x : σ), I f x → F f0 s0 = F f x → ∀ (H' : Heap) (locs' : List Loc) (ls' : Array Slot), Wd D A H0 (St x) H' locs' → lv_has ls' nL (L x) → W p l e R s m args below meth c H' locs' cells slots Q (F0 m pc ls' st) := by
    intro f
    induction f with
    | zero => intro x hx; exact absurd hx (zero x)
    | succ f ih => intro x hx hF; exact step f x hx (fun y hy e => ih y hy (hF.trans e)) (fun y e => last y (hF.trans e).symm)
  exact key f0 s0 i0 rfl H locs ls hI h0
