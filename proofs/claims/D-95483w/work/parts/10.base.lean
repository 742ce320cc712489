/-! BASE: the classes' list, worlds of the two objects, the houses as a read-only context, rows for calls, loops and joins -/
set_option maxRecDepth 100000
abbrev vwCl : List vw_C := [(RX0, TX0, 15), (RX1, TX1, 9), (RX2, TX2, 47), (RX3, TX3, 5), (RX4, TX4, 3), (RX5, TX5, 3), (RX6, TX6, 3), (RX7, TX7, 3), (RX8, TX8, 3)]
/-- a state of numbers: a row of cells, each a row of numbers -/
def up2 (v : Nat → Nat → Int32) (i k : Nat) (x : Int32) : Nat → Nat → Int32 := fun j => bif Nat.beq j i then upd (v j) k x else v j
def upr (v : Nat → Nat → Int32) (i : Nat) (f : Nat → Int32) : Nat → Nat → Int32 := fun j => bif Nat.beq j i then f else v j
/-- a boolean as a field holds it -/
def nb (x : Int32) : Int32 := if x = 0 then 0 else 1
theorem nb_narrow (x : Int32) : narrow .boolean (.int (nb x)) = .int (nb x) := by
  unfold nb
  split <;> decide
theorem nb_fits (x : Int32) : fits .boolean (.int (nb x)) = true := by
  unfold nb
  split <;> decide
/-- nought or one -/
def b01 (x : Int32) : Prop := x = 0 ∨ x = 1
theorem b01_0 : b01 0 := Or.inl rfl
theorem b01_1 : b01 1 := Or.inr rfl
theorem b01_ite {c : Prop} [Decidable c] {x y : Int32} (hx : b01 x) (hy : b01 y) : b01 (if c then x else y) := by
  split
  · exact hx
  · exact hy
theorem b01_nb (x : Int32) : b01 (nb x) := by
  unfold nb
  exact b01_ite b01_0 b01_1
theorem b01_narrow {x : Int32} (h : b01 x) : narrow .boolean (.int x) = .int x := by
  rcases h with rfl | rfl <;> decide
theorem b01_and {x y : Int32} (h : b01 x) (h2 : b01 y) : b01 (x &&& y) := by
  rcases h with rfl | rfl <;> rcases h2 with rfl | rfl <;> first | exact Or.inl (by decide) | exact Or.inr (by decide)
theorem nb_of {x : Int32} (h : b01 x) : x = nb x := by
  rcases h with rfl | rfl <;> decide
/-- iteration -/
def itr {α : Type} (f : Nat → α → α) (x : α) : Nat → α
  | 0 => x
  | k + 1 => f k (itr f x k)
/-- a counter that goes down -/
def pI (n : Nat) : Int32 := nI n - 1
theorem pI_succ (n : Nat) : pI (n + 1) = nI n := nI_pred n
theorem nI_inc (n : Nat) : nI n + Int32.ofInt 1 = nI (n + 1) := nI_1 n
theorem nI_dec (n : Nat) : nI n + Int32.ofInt (-1) = pI n := by
  show nI n + (-1) = nI n - 1
  rw [Int32.sub_eq_add_neg]
theorem pI_neg : pI 0 < 0 := by decide +kernel
theorem pI_at {n j : Nat} (h : j < n) : pI (n - j) = nI (n - 1 - j) := by
  rw [show n - j = (n - 1 - j) + 1 by omega]
  exact pI_succ _
theorem nI_next {n j : Nat} (h : j < n) : nI (n - 1 - j) + Int32.ofInt (-1) = pI (n - (j + 1)) := by
  rw [nI_dec, show n - (j + 1) = n - 1 - j by omega]

/-! what the tables say all through -/
def nwl : List Cond := [
  .methodLinkNest "TownOnWeight" 34 yX1_init "TownOnWeight",
  .methodLinkNest "TownOnWeight" 3 yX4_init "TownOnWeight",
  .methodLinkNest "TownOnWeight" 9 yX5_init "TownOnWeight",
  .methodLinkNest "TownOnWeight" 12 yX6_init "TownOnWeight",
  .methodLinkNest "TownOnWeight" 15 yX7_init "TownOnWeight",
  .methodLinkNest "TownOnWeight" 18 yX8_init "TownOnWeight",
  .methodLinkNest "TownOnWeight$Clock" 1 yX4_init "TownOnWeight",
  .methodLinkNest "TownOnWeight$Hungry" 1 yX4_init "TownOnWeight",
  .methodLinkNest "TownOnWeight$Storing" 1 yX4_init "TownOnWeight",
  .methodLinkNest "TownOnWeight$Secret" 1 yX6_init "TownOnWeight",
  .methodLinkNest "TownOnWeight$Reader" 32 yX0_isIn "TownOnWeight",
  .methodLink "TownOnWeight" 191 ⟨"TownOnWeight$House", "mayStop", "()Z"⟩,
  .sameMethod "TownOnWeight$House" "TownOnWeight$Hangs" "mayStop" "()Z",
  .declares ⟨"TownOnWeight$Hangs", "mayStop", "()Z"⟩,
  .landsInDefault "TownOnWeight$House" ⟨"TownOnWeight$House", "mayStop", "()Z"⟩ ⟨"TownOnWeight$Hangs", "mayStop", "()Z"⟩,
  .landsInDefault "TownOnWeight$Hungry" ⟨"TownOnWeight$House", "mayStop", "()Z"⟩ ⟨"TownOnWeight$Hangs", "mayStop", "()Z"⟩,
  .landsInDefault "TownOnWeight$Storing" ⟨"TownOnWeight$House", "mayStop", "()Z"⟩ ⟨"TownOnWeight$Hangs", "mayStop", "()Z"⟩,
  .landsInDefault "TownOnWeight$Secret" ⟨"TownOnWeight$House", "mayStop", "()Z"⟩ ⟨"TownOnWeight$Hangs", "mayStop", "()Z"⟩]
abbrev tyL (dI dH dB : ClassId) : List (ClassId × FieldType) := [(dI, .int), (dH, .object "TownOnWeight$House"), (dB, .byte)]
/-- K: what is known of the tables in any state of the run -/
def KOK (D : va_G) (dI dH dB : ClassId) (K : State → Prop) : Prop := (∀ U, K U → va_K D vwCl (tyL dI dH dB) U) ∧ (∀ U, K U → ∀ w ∈ nwl, va_Nw w U) ∧ (∀ s U : State, s.vm = U.vm → K s → K U) ∧ (∀ s U : State, s.WarmedH U.vm → K s → K U)
theorem KOK.k {D : va_G} {dI dH dB : ClassId} {K : State → Prop} (h : KOK D dI dH dB K) {U : State} (hU : K U) : va_K D vwCl (tyL dI dH dB) U := h.1 U hU
theorem KOK.nw {D : va_G} {dI dH dB : ClassId} {K : State → Prop} (h : KOK D dI dH dB K) {U : State} (hU : K U) (i : Nat) {w : Cond} (hw : nwl[i]? = some w) : va_Nw w U := h.2.1 U hU w (List.mem_of_getElem? hw)

/-! starts and ends of contracts -/
def xP (av : List Value) (P : Heap → Prop) (K : State → Prop) : Array Value → State → Prop := fun v U => v = av.toArray ∧ P U.heap ∧ K U
theorem xP_blind {av : List Value} {P : Heap → Prop} {K : State → Prop} {D : va_G} {dI dH dB : ClassId} (hK : KOK D dI dH dB K) : FrameBlind (xP av P K) := fun a U g mk q => ⟨q.1, q.2.1, hK.2.2.1 U (U.calling g mk a) rfl q.2.2⟩
theorem xP_pre {av : List Value} {P : Heap → Prop} {K : State → Prop} {D : va_G} {dI dH dB : ClassId} {s : State} {H : Heap} (hK : KOK D dI dH dB K) (hs : K s) (hP : P H) : ∀ U : State, U.heap = H → s.WarmedH U.vm → xP av P K av.toArray U := fun U hU hW => ⟨rfl, by rw [hU]; exact hP, hK.2.2.2 s U hW hs⟩
/-- a reader's end: the answer, the heap as it was -/
abbrev QrI (r : Int32) : Array Value → State → Outcome → State → Prop := QcRead r
/-- a writer's end: the answer, what the heap holds, what isn't its own unchanged -/
def QwI (r : Int32) (P : Heap → Prop) (A : Nat → Prop) : Array Value → State → Outcome → State → Prop := fun _ st oc t => oc = .returned (some (.int r)) ∧ P t.heap ∧ va_F A st t
def QwL (r : Int64) (P : Heap → Prop) (A : Nat → Prop) : Array Value → State → Outcome → State → Prop := fun _ st oc t => oc = .returned (some (.long r)) ∧ P t.heap ∧ va_F A st t
def QwV (P : Heap → Prop) (A : Nat → Prop) : Array Value → State → Outcome → State → Prop := fun _ st oc t => oc = .returned none ∧ P t.heap ∧ va_F A st t
def QwA (P : Nat → Heap → Prop) (A : Nat → Prop) : Array Value → State → Outcome → State → Prop := fun _ st oc t => ∃ q : Nat, oc = .returned (some (.ref q)) ∧ P q t.heap ∧ va_F A st t

section BX
variable {p : Program} {l : Launch} {e : Env} {R : Room} {s : State} {m : MethodId} {args : Array Value} {below : List Frame} {meth : Method} {c : Code} {H : Heap} {locs : List Loc} {cells slots : Nat} {Q : State → Prop}
variable {cc : ByteArray} {pc : Nat} {ls : Array Slot} {rest st0 : List Value} {D : va_G} {A A1 : Nat → Prop} {a : Nat} {tys : List (ClassId × FieldType)} {ws : va_W} {H0 : Heap} {mc ms : Nat} {free : Addr → Prop} {aa : Array Value}
/-- the world: cells, apart and in A, and all else unchanged since H0 -/
def Wd (D : va_G) (A : Nat → Prop) (H0 : Heap) (ws : va_W) (H : Heap) (locs : List Loc) : Prop := va_P D vwCl ws H ∧ va_D A ws ∧ va_S A H0 H locs
/-- a value on the stack by another name -/
theorem x_top {x y : Int32} (h : x = y) (k : W p l e R s m args below meth c H locs cells slots Q (F0 m pc ls (.int y :: rest))) : W p l e R s m args below meth c H locs cells slots Q (F0 m pc ls (.int x :: rest)) := h ▸ k
theorem x_topL {x y : Int64} (h : x = y) (k : W p l e R s m args below meth c H locs cells slots Q (F0 m pc ls (.long y :: rest))) : W p l e R s m args below meth c H locs cells slots Q (F0 m pc ls (.long x :: rest)) := h ▸ k
theorem x_val {x y : Value} (h : x = y) (k : W p l e R s m args below meth c H locs cells slots Q (F0 m pc ls (y :: rest))) : W p l e R s m args below meth c H locs cells slots Q (F0 m pc ls (x :: rest)) := h ▸ k
/-- where branches meet -/
theorem x_cut {α : Type} (tgt : Nat) (nL : Nat) (X : α) (L : α → List (Nat × Value)) (st : α → List Value)
    (K : ∀ ls' : Array Slot, lv_has ls' nL (L X) → W p l e R s m args below meth c H locs cells slots Q (F0 m tgt ls' (st X)))
    {g : JFrame} (k : (∀ x : α, x = X → ∀ ls' : Array Slot, lv_has ls' nL (L x) → W p l e R s m args below meth c H locs cells slots Q (F0 m tgt ls' (st x))) → W p l e R s m args below meth c H locs cells slots Q g) : W p l e R s m args below meth c H locs cells slots Q g :=
  k (fun x hx => by subst hx; exact K)
/-- a counted loop over an unchanged heap -/
theorem x_loop {nL N : Nat} (L : Nat → List (Nat × Value)) {st : List Value} (k0 : Nat) (hk0 : k0 ≤ N) (h0 : lv_has ls nL (L k0))
    (step : ∀ k, k < N → (∀ ls' : Array Slot, lv_has ls' nL (L (k + 1)) → W p l e R s m args below meth c H locs cells slots Q (F0 m pc ls' st)) → ∀ ls' : Array Slot, lv_has ls' nL (L k) → W p l e R s m args below meth c H locs cells slots Q (F0 m pc ls' st))
    (last : ∀ ls' : Array Slot, lv_has ls' nL (L N) → W p l e R s m args below meth c H locs cells slots Q (F0 m pc ls' st)) : W p l e R s m args below meth c H locs cells slots Q (F0 m pc ls st) := by
  have key : ∀ (d k : Nat), k + d = N → ∀ ls' : Array Slot, lv_has ls' nL (L k) → W p l e R s m args below meth c H locs cells slots Q (F0 m pc ls' st) := by
    intro d
    induction d with
    | zero => intro k hk; rw [Nat.add_zero] at hk; subst hk; exact last
    | succ d ih => intro k hk; exact step k (by omega) (ih (k + 1) (by omega))
  exact key (N - k0) k0 (by omega) ls h0
/-- a counted loop that changes the world -/
theorem x_loopW {nL N : Nat} (St : Nat → va_W) (L : Nat → List (Nat × Value)) {st : List Value} (k0 : Nat) (hk0 : k0 ≤ N) (h0 : lv_has ls nL (L k0)) (hI : Wd D A H0 (St k0) H locs)
    (step : ∀ k, k < N → (∀ (H' : Heap) (locs' : List Loc) (ls' : Array Slot), Wd D A H0 (St (k + 1)) H' locs' → lv_has ls' nL (L (k + 1)) → W p l e R s m args below meth c H' locs' cells slots Q (F0 m pc ls' st)) → ∀ (H' : Heap) (locs' : List Loc) (ls' : Array Slot), Wd D A H0 (St k) H' locs' → lv_has ls' nL (L k) → W p l e R s m args below meth c H' locs' cells slots Q (F0 m pc ls' st))
    (last : ∀ (H' : Heap) (locs' : List Loc) (ls' : Array Slot), Wd D A H0 (St N) H' locs' → lv_has ls' nL (L N) → W p l e R s m args below meth c H' locs' cells slots Q (F0 m pc ls' st)) : W p l e R s m args below meth c H locs cells slots Q (F0 m pc ls st) := by
  have key : ∀ (d k : Nat), k + d = N → ∀ (H' : Heap) (locs' : List Loc) (ls' : Array Slot), Wd D A H0 (St k) H' locs' → lv_has ls' nL (L k) → W p l e R s m args below meth c H' locs' cells slots Q (F0 m pc ls' st) := by
    intro d
    induction d with
    | zero => intro k hk; rw [Nat.add_zero] at hk; subst hk; exact last
    | succ d ih => intro k hk; exact step k (by omega) (ih (k + 1) (by omega))
  exact key (N - k0) k0 (by omega) H locs ls hI h0
/-- a call of a reader goes on -/
theorem x_callR {r : Int32} (hr : CallRun p l e R s m args below meth c H locs cells slots 0 0 (F0 m pc ls st0) rest (QcRead r aa) (fun _ => False)) (kk : W p l e R s m args below meth c H locs cells slots Q (F0 m (pc + 3) ls (.int r :: rest))) : W p l e R s m args below meth c H locs cells slots Q (F0 m pc ls st0) := W.callR hr kk
/-- a call of a writer goes on -/
theorem x_callWI {r : Int32} {P : Heap → Prop} (hr : va_Run p l e R s m args below meth c H locs cells slots mc ms (F0 m pc ls st0) rest (QwI r P A1 aa) free) (hS : va_S A H0 H locs) (hA : ∀ q, A1 q → A q) (hf : ∀ q, free q → A q)
    (kk : ∀ (H1 : Heap) (locs1 : List Loc), P H1 → va_S A H0 H1 locs1 → H.size ≤ H1.size → (∀ q : Nat, q < H.size → ¬ A1 q → H1[q]? = H[q]?) → W p l e R s m args below meth c H1 locs1 (cells + mc) (slots + ms) Q (F0 m (pc + 3) ls (.int r :: rest))) : W p l e R s m args below meth c H locs cells slots Q (F0 m pc ls st0) := by
  intro T hT X
  obtain ⟨v, st₀, t, T', L, h0, X', hL, e1, e2, ⟨hv, hp, hz, hk⟩, st⟩ := hr T hT X
  cases hv
  rw [h0] at hz hk
  obtain ⟨t2, a1, b1⟩ := kk T'.heap (locs ++ L) (by rw [e1]; exact hp)
    ⟨Nat.le_trans hS.1 (by rw [e1]; exact hz), fun q h1 h2 => by rw [e1, hk q (Nat.lt_of_lt_of_le h1 hS.1) (fun z => h2 (hA q z))]; exact hS.2.1 q h1 h2, fun q hq => by
      rcases List.mem_append.mp hq with h | h
      · exact hS.2.2 q h
      · exact hf _ (hL q h)⟩ (by rw [e1]; exact hz) (fun q h1 h2 => by rw [e1]; exact hk q h1 h2) T' rfl X'
  exact ⟨t2, st t2 a1, b1⟩
theorem x_callWL {r : Int64} {P : Heap → Prop} (hr : va_Run p l e R s m args below meth c H locs cells slots mc ms (F0 m pc ls st0) rest (QwL r P A1 aa) free) (hS : va_S A H0 H locs) (hA : ∀ q, A1 q → A q) (hf : ∀ q, free q → A q)
    (kk : ∀ (H1 : Heap) (locs1 : List Loc), P H1 → va_S A H0 H1 locs1 → H.size ≤ H1.size → (∀ q : Nat, q < H.size → ¬ A1 q → H1[q]? = H[q]?) → W p l e R s m args below meth c H1 locs1 (cells + mc) (slots + ms) Q (F0 m (pc + 3) ls (.long r :: rest))) : W p l e R s m args below meth c H locs cells slots Q (F0 m pc ls st0) := by
  intro T hT X
  obtain ⟨v, st₀, t, T', L, h0, X', hL, e1, e2, ⟨hv, hp, hz, hk⟩, st⟩ := hr T hT X
  cases hv
  rw [h0] at hz hk
  obtain ⟨t2, a1, b1⟩ := kk T'.heap (locs ++ L) (by rw [e1]; exact hp)
    ⟨Nat.le_trans hS.1 (by rw [e1]; exact hz), fun q h1 h2 => by rw [e1, hk q (Nat.lt_of_lt_of_le h1 hS.1) (fun z => h2 (hA q z))]; exact hS.2.1 q h1 h2, fun q hq => by
      rcases List.mem_append.mp hq with h | h
      · exact hS.2.2 q h
      · exact hf _ (hL q h)⟩ (by rw [e1]; exact hz) (fun q h1 h2 => by rw [e1]; exact hk q h1 h2) T' rfl X'
  exact ⟨t2, st t2 a1, b1⟩
theorem x_callWV {P : Heap → Prop} (hr : va_Run p l e R s m args below meth c H locs cells slots mc ms (F0 m pc ls st0) rest (QwV P A1 aa) free) (hS : va_S A H0 H locs) (hA : ∀ q, A1 q → A q) (hf : ∀ q, free q → A q)
    (kk : ∀ (H1 : Heap) (locs1 : List Loc), P H1 → va_S A H0 H1 locs1 → H.size ≤ H1.size → (∀ q : Nat, q < H.size → ¬ A1 q → H1[q]? = H[q]?) → W p l e R s m args below meth c H1 locs1 (cells + mc) (slots + ms) Q (F0 m (pc + 3) ls rest)) : W p l e R s m args below meth c H locs cells slots Q (F0 m pc ls st0) := by
  intro T hT X
  obtain ⟨v, st₀, t, T', L, h0, X', hL, e1, e2, ⟨hv, hp, hz, hk⟩, st⟩ := hr T hT X
  cases hv
  rw [h0] at hz hk
  obtain ⟨t2, a1, b1⟩ := kk T'.heap (locs ++ L) (by rw [e1]; exact hp)
    ⟨Nat.le_trans hS.1 (by rw [e1]; exact hz), fun q h1 h2 => by rw [e1, hk q (Nat.lt_of_lt_of_le h1 hS.1) (fun z => h2 (hA q z))]; exact hS.2.1 q h1 h2, fun q hq => by
      rcases List.mem_append.mp hq with h | h
      · exact hS.2.2 q h
      · exact hf _ (hL q h)⟩ (by rw [e1]; exact hz) (fun q h1 h2 => by rw [e1]; exact hk q h1 h2) T' rfl X'
  exact ⟨t2, st t2 a1, b1⟩
theorem x_callWA {P : Nat → Heap → Prop} (hr : va_Run p l e R s m args below meth c H locs cells slots mc ms (F0 m pc ls st0) rest (QwA P A1 aa) free) (hS : va_S A H0 H locs) (hA : ∀ q, A1 q → A q) (hf : ∀ q, free q → A q)
    (kk : ∀ (r : Nat) (H1 : Heap) (locs1 : List Loc), P r H1 → va_S A H0 H1 locs1 → H.size ≤ H1.size → (∀ q : Nat, q < H.size → ¬ A1 q → H1[q]? = H[q]?) → W p l e R s m args below meth c H1 locs1 (cells + mc) (slots + ms) Q (F0 m (pc + 3) ls (.ref r :: rest))) : W p l e R s m args below meth c H locs cells slots Q (F0 m pc ls st0) := by
  intro T hT X
  obtain ⟨v, st₀, t, T', L, h0, X', hL, e1, e2, ⟨r, hv, hp, hz, hk⟩, st⟩ := hr T hT X
  cases hv
  rw [h0] at hz hk
  obtain ⟨t2, a1, b1⟩ := kk r T'.heap (locs ++ L) (by rw [e1]; exact hp)
    ⟨Nat.le_trans hS.1 (by rw [e1]; exact hz), fun q h1 h2 => by rw [e1, hk q (Nat.lt_of_lt_of_le h1 hS.1) (fun z => h2 (hA q z))]; exact hS.2.1 q h1 h2, fun q hq => by
      rcases List.mem_append.mp hq with h | h
      · exact hS.2.2 q h
      · exact hf _ (hL q h)⟩ (by rw [e1]; exact hz) (fun q h1 h2 => by rw [e1]; exact hk q h1 h2) T' rfl X'
  exact ⟨t2, st t2 a1, b1⟩
/-- an int of an array at a place that is a natural number -/
theorem x_ald (hexec : p.tables.exec = Jvm.exec) (hb : c.code = cc) {dI dH dB : ClassId} (hK : va_K D vwCl (tyL dI dH dB) s) (hP : va_P D vwCl ws H) (q0 : Nat) {n : Nat} {f : Nat → Int32} (ha : ws[q0]? = some (a, .inl (dI, n, .inl f))) {i : Int32} (k : Nat) (hi : i = nI k) (hk : k < n) (hn : n < 2 ^ 31) {x : Int32} (hx : f k = x) (hdg : decode cc pc = .ok (.iaload, 1))
    (kk : W p l e R s m args below meth c H locs cells slots Q (F0 m (pc + 1) ls (.int x :: rest))) : W p l e R s m args below meth c H locs cells slots Q (F0 m pc ls (.int i :: .ref a :: rest)) := by
  subst hi
  refine va_iald hexec hb hK hP q0 0 ha rfl (vp_in_nI hk hn) hdg ?_
  rw [nI_clamp (Nat.lt_trans hk hn), hx]
  exact kk
theorem x_bald (hexec : p.tables.exec = Jvm.exec) (hb : c.code = cc) {dI dH dB : ClassId} (hK : va_K D vwCl (tyL dI dH dB) s) (hP : va_P D vwCl ws H) (q0 : Nat) {n : Nat} {f : Nat → Int32} (ha : ws[q0]? = some (a, .inl (dB, n, .inl f))) {i : Int32} (k : Nat) (hi : i = nI k) (hk : k < n) (hn : n < 2 ^ 31) {x : Int32} (hx : f k = x) (hdg : decode cc pc = .ok (.baload, 1))
    (kk : W p l e R s m args below meth c H locs cells slots Q (F0 m (pc + 1) ls (.int x :: rest))) : W p l e R s m args below meth c H locs cells slots Q (F0 m pc ls (.int i :: .ref a :: rest)) := by
  subst hi
  refine va_bald hexec hb hK hP q0 2 ha rfl (vp_in_nI hk hn) hdg ?_
  rw [nI_clamp (Nat.lt_trans hk hn), hx]
  exact kk
theorem x_ast (hexec : p.tables.exec = Jvm.exec) (hb : c.code = cc) {dI dH dB : ClassId} (hK : va_K D vwCl (tyL dI dH dB) s) (hI : Wd D A H0 ws H locs) (q0 : Nat) {n : Nat} {f : Nat → Int32} (ha : ws[q0]? = some (a, .inl (dI, n, .inl f))) {i x : Int32} (k : Nat) (hi : i = nI k) (hk : k < n) (hn : n < 2 ^ 31) {ws' : va_W} (hw : ws.set q0 (a, .inl (dI, n, .inl (upd f k x))) = ws') (hdg : decode cc pc = .ok (.iastore, 1))
    (kk : ∀ (H1 : Heap) (locs1 : List Loc), Wd D A H0 ws' H1 locs1 → W p l e R s m args below meth c H1 locs1 cells slots Q (F0 m (pc + 1) ls rest)) : W p l e R s m args below meth c H locs cells slots Q (F0 m pc ls (.int x :: .int i :: .ref a :: rest)) := by
  subst hi
  subst hw
  refine va_iast hexec hb hK hI.1 hI.2.1 hI.2.2 q0 0 ha rfl (vp_in_nI hk hn) hdg (fun H1 locs1 h1 h2 h3 => ?_)
  rw [nI_clamp (Nat.lt_trans hk hn)] at h1 h2
  exact kk H1 locs1 ⟨h1, h2, h3⟩
end BX

/-! the component's world -/
/-- what houses are: kinds, parents, what was told of them -/
abbrev HG : Type := (Nat → Nat) × (Nat → Int32) × (Nat → Nat → Int32)
def cDay (v : Nat → Nat → Int32) (d t : Nat) : List Value := [.int (v d 0), .int (v d 1), .int (v d 2), .int (v d 3), .int (v d 4), .int (v d 5), .int (nb (v d 6)), .int (nb (v d 7)), .ref t]
def cFs (a : Nat → Nat) (n pN rN : Nat) (v : Nat → Nat → Int32) (hh : Int64) : List Value := [.ref (a 1), .ref (a 2), .int (nI n), .ref (a 3), .ref (a 5), .ref (a 9), .int (nI rN), .ref (a 10), .int (nI pN), .ref (a 7), .ref (a 11), .ref (a 12), .int (v 0 12), .int (v 0 13), .long hh]
def cW (a : Nat → Nat) (dI dH : ClassId) (hg : Nat → Option Nat) (n pN rN : Nat) (v : Nat → Nat → Int32) (hh : Int64) : va_W :=
  [(a 0, .inr (0, cFs a n pN rN v hh)),
   (a 1, .inl (dH, 8, .inr (.inr (.inr (.inr hg))))),
   (a 2, .inl (dI, 8, .inl (v 4))),
   (a 3, .inr (1, cDay v 1 (a 4))), (a 4, .inl (dI, 8, .inl (v 9))),
   (a 5, .inr (1, cDay v 2 (a 6))), (a 6, .inl (dI, 8, .inl (v 10))),
   (a 7, .inr (1, cDay v 3 (a 8))), (a 8, .inl (dI, 8, .inl (v 11))),
   (a 9, .inl (dI, 16, .inl (v 5))),
   (a 10, .inl (dI, 12, .inl (v 6))),
   (a 11, .inl (dI, 8, .inl (v 7))),
   (a 12, .inl (dI, 16, .inl (v 8)))]
/-- one house: its object and its row -/
def hW (dI : ClassId) (h t kd : Nat) (num par : Int32) (tl : Nat → Int32) : va_W := [(h, .inr (4 + kd, [.int num, .int par, .ref t])), (t, .inl (dI, 4, .inl tl))]
/-- the houses as a heap holds them -/
def HC (D : va_G) (dI : ClassId) (ha ta : Nat → Nat) (g : HG) (n : Nat) (H : Heap) : Prop := ∀ k, k < n → g.1 k < 5 ∧ va_P D vwCl (hW dI (ha k) (ta k) (g.1 k) (nI k) (g.2.1 k) (g.2.2 k)) H
def HF (A : Nat → Prop) (ha ta : Nat → Nat) (n : Nat) : Prop := ∀ k, k < n → ¬ A (ha k) ∧ ¬ A (ta k)
theorem HC.kept {D : va_G} {dI : ClassId} {ha ta : Nat → Nat} {g : HG} {n : Nat} {H0 H : Heap} {A : Nat → Prop} {locs : List Loc} (h : HC D dI ha ta g n H0) (hF : HF A ha ta n) (hS : va_S A H0 H locs) : HC D dI ha ta g n H := by
  intro k hk
  obtain ⟨h1, h2⟩ := h k hk
  refine ⟨h1, h2.kept (fun j q hq => ?_)⟩
  have hlt := (h2 j q hq).lt
  refine hS.2.1 q.1 hlt ?_
  match j, hq with
  | 0, hq => cases hq; exact (hF k hk).1
  | 1, hq => cases hq; exact (hF k hk).2
  | j + 2, hq => simp [hW] at hq
theorem HF.sub {A B : Nat → Prop} {ha ta : Nat → Nat} {n : Nat} (h : HF A ha ta n) (hB : ∀ q, B q → A q) : HF B ha ta n := fun k hk => ⟨fun z => (h k hk).1 (hB _ z), fun z => (h k hk).2 (hB _ z)⟩
/-- what the component's counts are held to -/
def CQ (ha : Nat → Nat) (hg : Nat → Option Nat) (n pN rN : Nat) : Prop := n ≤ 8 ∧ pN ≤ 12 ∧ rN ≤ 8 ∧ ∀ k, k < n → hg k = some (ha k)
def CP (D : va_G) (dI dH : ClassId) (a ha ta : Nat → Nat) (hg : Nat → Option Nat) (g : HG) (n pN rN : Nat) (v : Nat → Nat → Int32) (hh : Int64) (H : Heap) : Prop := va_P D vwCl (cW a dI dH hg n pN rN v hh) H ∧ HC D dI ha ta g n H
def CP0 (D : va_G) (dI dH : ClassId) (a ha ta : Nat → Nat) (hg : Nat → Option Nat) (g : HG) (n pN rN : Nat) (v : Nat → Nat → Int32) (hh : Int64) (sz : Nat) (H : Heap) : Prop := H.size = sz ∧ va_P D vwCl (cW a dI dH hg n pN rN v hh) H ∧ va_D (fun _ => True) (cW a dI dH hg n pN rN v hh) ∧ HC D dI ha ta g n H ∧ HF (va_A (cW a dI dH hg n pN rN v hh) sz) ha ta n
def P1 (D : va_G) (A : Nat → Prop) (ws : va_W) (H : Heap) : Prop := va_P D vwCl ws H ∧ va_D A ws

/-! the reference's world -/
def mFs (b : Nat → Nat) (n pN rN : Nat) (u : Nat → Nat → Int32) (sd hh : Int64) : List Value := [.int (nI n), .ref (b 1), .ref (b 2), .ref (b 3), .ref (b 4), .ref (b 5), .ref (b 6), .ref (b 7), .ref (b 8), .int (u 0 9), .int (u 0 10), .int (u 0 11), .int (u 0 12), .int (u 0 13), .int (u 0 14), .int (nb (u 0 15)), .int (nb (u 0 16)), .int (nI rN), .ref (b 18), .ref (b 19), .int (nI pN), .ref (b 21), .ref (b 22), .int (u 0 23), .int (u 0 24), .int (u 0 25), .int (u 0 26), .int (u 0 27), .int (nb (u 0 28)), .int (nb (u 0 29)), .long sd, .int (nb (u 0 31)), .int (u 0 32), .int (u 0 33), .int (u 0 34), .int (u 0 35), .int (u 0 36), .int (u 0 37), .int (u 0 38), .int (nb (u 0 39)), .int (nb (u 0 40)), .int (u 0 41), .ref (b 42), .ref (b 43), .ref (b 44), .ref (b 45), .long hh]
def mW (b : Nat → Nat) (dI dB : ClassId) (n pN rN : Nat) (u : Nat → Nat → Int32) (sd hh : Int64) : va_W :=
  [(b 0, .inr (2, mFs b n pN rN u sd hh)),
   (b 1, .inl (dI, 8, .inl (u 1))), (b 2, .inl (dI, 8, .inl (u 2))), (b 3, .inl (dI, 8, .inl (u 3))), (b 4, .inl (dI, 8, .inl (u 4))), (b 5, .inl (dI, 8, .inl (u 5))), (b 6, .inl (dI, 8, .inl (u 6))), (b 7, .inl (dI, 8, .inl (u 7))), (b 8, .inl (dI, 8, .inl (u 8))),
   (b 18, .inl (dI, 8, .inl (u 18))), (b 19, .inl (dI, 8, .inl (u 19))), (b 21, .inl (dB, 12, .inl (u 21))), (b 22, .inl (dI, 8, .inl (u 22))),
   (b 42, .inl (dI, 8, .inl (u 42))), (b 43, .inl (dI, 8, .inl (u 43))), (b 44, .inl (dI, 8, .inl (u 44))), (b 45, .inl (dI, 8, .inl (u 45)))]
theorem mp_0 {b : Nat → Nat} {dI dB : ClassId} {n pN rN : Nat} {u : Nat → Nat → Int32} {sd hh : Int64} {x : Nat} : (mW b dI dB n pN rN u sd hh).set 0 (b 0, .inr (2, (mFs b n pN rN u sd hh).set 0 (.int (nI x)))) = mW b dI dB x pN rN u sd hh := rfl
theorem mp_9 {b : Nat → Nat} {dI dB : ClassId} {n pN rN : Nat} {u : Nat → Nat → Int32} {sd hh : Int64} {x : Int32} : (mW b dI dB n pN rN u sd hh).set 0 (b 0, .inr (2, (mFs b n pN rN u sd hh).set 9 (.int x))) = mW b dI dB n pN rN (up2 u 0 9 x) sd hh := rfl
theorem mp_10 {b : Nat → Nat} {dI dB : ClassId} {n pN rN : Nat} {u : Nat → Nat → Int32} {sd hh : Int64} {x : Int32} : (mW b dI dB n pN rN u sd hh).set 0 (b 0, .inr (2, (mFs b n pN rN u sd hh).set 10 (.int x))) = mW b dI dB n pN rN (up2 u 0 10 x) sd hh := rfl
theorem mp_11 {b : Nat → Nat} {dI dB : ClassId} {n pN rN : Nat} {u : Nat → Nat → Int32} {sd hh : Int64} {x : Int32} : (mW b dI dB n pN rN u sd hh).set 0 (b 0, .inr (2, (mFs b n pN rN u sd hh).set 11 (.int x))) = mW b dI dB n pN rN (up2 u 0 11 x) sd hh := rfl
theorem mp_12 {b : Nat → Nat} {dI dB : ClassId} {n pN rN : Nat} {u : Nat → Nat → Int32} {sd hh : Int64} {x : Int32} : (mW b dI dB n pN rN u sd hh).set 0 (b 0, .inr (2, (mFs b n pN rN u sd hh).set 12 (.int x))) = mW b dI dB n pN rN (up2 u 0 12 x) sd hh := rfl
theorem mp_13 {b : Nat → Nat} {dI dB : ClassId} {n pN rN : Nat} {u : Nat → Nat → Int32} {sd hh : Int64} {x : Int32} : (mW b dI dB n pN rN u sd hh).set 0 (b 0, .inr (2, (mFs b n pN rN u sd hh).set 13 (.int x))) = mW b dI dB n pN rN (up2 u 0 13 x) sd hh := rfl
theorem mp_14 {b : Nat → Nat} {dI dB : ClassId} {n pN rN : Nat} {u : Nat → Nat → Int32} {sd hh : Int64} {x : Int32} : (mW b dI dB n pN rN u sd hh).set 0 (b 0, .inr (2, (mFs b n pN rN u sd hh).set 14 (.int x))) = mW b dI dB n pN rN (up2 u 0 14 x) sd hh := rfl
theorem mp_15 {b : Nat → Nat} {dI dB : ClassId} {n pN rN : Nat} {u : Nat → Nat → Int32} {sd hh : Int64} {x : Int32} : (mW b dI dB n pN rN u sd hh).set 0 (b 0, .inr (2, (mFs b n pN rN u sd hh).set 15 (.int (nb x)))) = mW b dI dB n pN rN (up2 u 0 15 x) sd hh := rfl
theorem mp_16 {b : Nat → Nat} {dI dB : ClassId} {n pN rN : Nat} {u : Nat → Nat → Int32} {sd hh : Int64} {x : Int32} : (mW b dI dB n pN rN u sd hh).set 0 (b 0, .inr (2, (mFs b n pN rN u sd hh).set 16 (.int (nb x)))) = mW b dI dB n pN rN (up2 u 0 16 x) sd hh := rfl
theorem mp_17 {b : Nat → Nat} {dI dB : ClassId} {n pN rN : Nat} {u : Nat → Nat → Int32} {sd hh : Int64} {x : Nat} : (mW b dI dB n pN rN u sd hh).set 0 (b 0, .inr (2, (mFs b n pN rN u sd hh).set 17 (.int (nI x)))) = mW b dI dB n pN x u sd hh := rfl
theorem mp_20 {b : Nat → Nat} {dI dB : ClassId} {n pN rN : Nat} {u : Nat → Nat → Int32} {sd hh : Int64} {x : Nat} : (mW b dI dB n pN rN u sd hh).set 0 (b 0, .inr (2, (mFs b n pN rN u sd hh).set 20 (.int (nI x)))) = mW b dI dB n x rN u sd hh := rfl
theorem mp_23 {b : Nat → Nat} {dI dB : ClassId} {n pN rN : Nat} {u : Nat → Nat → Int32} {sd hh : Int64} {x : Int32} : (mW b dI dB n pN rN u sd hh).set 0 (b 0, .inr (2, (mFs b n pN rN u sd hh).set 23 (.int x))) = mW b dI dB n pN rN (up2 u 0 23 x) sd hh := rfl
theorem mp_24 {b : Nat → Nat} {dI dB : ClassId} {n pN rN : Nat} {u : Nat → Nat → Int32} {sd hh : Int64} {x : Int32} : (mW b dI dB n pN rN u sd hh).set 0 (b 0, .inr (2, (mFs b n pN rN u sd hh).set 24 (.int x))) = mW b dI dB n pN rN (up2 u 0 24 x) sd hh := rfl
theorem mp_25 {b : Nat → Nat} {dI dB : ClassId} {n pN rN : Nat} {u : Nat → Nat → Int32} {sd hh : Int64} {x : Int32} : (mW b dI dB n pN rN u sd hh).set 0 (b 0, .inr (2, (mFs b n pN rN u sd hh).set 25 (.int x))) = mW b dI dB n pN rN (up2 u 0 25 x) sd hh := rfl
theorem mp_26 {b : Nat → Nat} {dI dB : ClassId} {n pN rN : Nat} {u : Nat → Nat → Int32} {sd hh : Int64} {x : Int32} : (mW b dI dB n pN rN u sd hh).set 0 (b 0, .inr (2, (mFs b n pN rN u sd hh).set 26 (.int x))) = mW b dI dB n pN rN (up2 u 0 26 x) sd hh := rfl
theorem mp_27 {b : Nat → Nat} {dI dB : ClassId} {n pN rN : Nat} {u : Nat → Nat → Int32} {sd hh : Int64} {x : Int32} : (mW b dI dB n pN rN u sd hh).set 0 (b 0, .inr (2, (mFs b n pN rN u sd hh).set 27 (.int x))) = mW b dI dB n pN rN (up2 u 0 27 x) sd hh := rfl
theorem mp_28 {b : Nat → Nat} {dI dB : ClassId} {n pN rN : Nat} {u : Nat → Nat → Int32} {sd hh : Int64} {x : Int32} : (mW b dI dB n pN rN u sd hh).set 0 (b 0, .inr (2, (mFs b n pN rN u sd hh).set 28 (.int (nb x)))) = mW b dI dB n pN rN (up2 u 0 28 x) sd hh := rfl
theorem mp_29 {b : Nat → Nat} {dI dB : ClassId} {n pN rN : Nat} {u : Nat → Nat → Int32} {sd hh : Int64} {x : Int32} : (mW b dI dB n pN rN u sd hh).set 0 (b 0, .inr (2, (mFs b n pN rN u sd hh).set 29 (.int (nb x)))) = mW b dI dB n pN rN (up2 u 0 29 x) sd hh := rfl
theorem mp_30 {b : Nat → Nat} {dI dB : ClassId} {n pN rN : Nat} {u : Nat → Nat → Int32} {sd hh : Int64} {x : Int64} : (mW b dI dB n pN rN u sd hh).set 0 (b 0, .inr (2, (mFs b n pN rN u sd hh).set 30 (.long x))) = mW b dI dB n pN rN u x hh := rfl
theorem mp_31 {b : Nat → Nat} {dI dB : ClassId} {n pN rN : Nat} {u : Nat → Nat → Int32} {sd hh : Int64} {x : Int32} : (mW b dI dB n pN rN u sd hh).set 0 (b 0, .inr (2, (mFs b n pN rN u sd hh).set 31 (.int (nb x)))) = mW b dI dB n pN rN (up2 u 0 31 x) sd hh := rfl
theorem mp_32 {b : Nat → Nat} {dI dB : ClassId} {n pN rN : Nat} {u : Nat → Nat → Int32} {sd hh : Int64} {x : Int32} : (mW b dI dB n pN rN u sd hh).set 0 (b 0, .inr (2, (mFs b n pN rN u sd hh).set 32 (.int x))) = mW b dI dB n pN rN (up2 u 0 32 x) sd hh := rfl
theorem mp_33 {b : Nat → Nat} {dI dB : ClassId} {n pN rN : Nat} {u : Nat → Nat → Int32} {sd hh : Int64} {x : Int32} : (mW b dI dB n pN rN u sd hh).set 0 (b 0, .inr (2, (mFs b n pN rN u sd hh).set 33 (.int x))) = mW b dI dB n pN rN (up2 u 0 33 x) sd hh := rfl
theorem mp_34 {b : Nat → Nat} {dI dB : ClassId} {n pN rN : Nat} {u : Nat → Nat → Int32} {sd hh : Int64} {x : Int32} : (mW b dI dB n pN rN u sd hh).set 0 (b 0, .inr (2, (mFs b n pN rN u sd hh).set 34 (.int x))) = mW b dI dB n pN rN (up2 u 0 34 x) sd hh := rfl
theorem mp_35 {b : Nat → Nat} {dI dB : ClassId} {n pN rN : Nat} {u : Nat → Nat → Int32} {sd hh : Int64} {x : Int32} : (mW b dI dB n pN rN u sd hh).set 0 (b 0, .inr (2, (mFs b n pN rN u sd hh).set 35 (.int x))) = mW b dI dB n pN rN (up2 u 0 35 x) sd hh := rfl
theorem mp_36 {b : Nat → Nat} {dI dB : ClassId} {n pN rN : Nat} {u : Nat → Nat → Int32} {sd hh : Int64} {x : Int32} : (mW b dI dB n pN rN u sd hh).set 0 (b 0, .inr (2, (mFs b n pN rN u sd hh).set 36 (.int x))) = mW b dI dB n pN rN (up2 u 0 36 x) sd hh := rfl
theorem mp_37 {b : Nat → Nat} {dI dB : ClassId} {n pN rN : Nat} {u : Nat → Nat → Int32} {sd hh : Int64} {x : Int32} : (mW b dI dB n pN rN u sd hh).set 0 (b 0, .inr (2, (mFs b n pN rN u sd hh).set 37 (.int x))) = mW b dI dB n pN rN (up2 u 0 37 x) sd hh := rfl
theorem mp_38 {b : Nat → Nat} {dI dB : ClassId} {n pN rN : Nat} {u : Nat → Nat → Int32} {sd hh : Int64} {x : Int32} : (mW b dI dB n pN rN u sd hh).set 0 (b 0, .inr (2, (mFs b n pN rN u sd hh).set 38 (.int x))) = mW b dI dB n pN rN (up2 u 0 38 x) sd hh := rfl
theorem mp_39 {b : Nat → Nat} {dI dB : ClassId} {n pN rN : Nat} {u : Nat → Nat → Int32} {sd hh : Int64} {x : Int32} : (mW b dI dB n pN rN u sd hh).set 0 (b 0, .inr (2, (mFs b n pN rN u sd hh).set 39 (.int (nb x)))) = mW b dI dB n pN rN (up2 u 0 39 x) sd hh := rfl
theorem mp_40 {b : Nat → Nat} {dI dB : ClassId} {n pN rN : Nat} {u : Nat → Nat → Int32} {sd hh : Int64} {x : Int32} : (mW b dI dB n pN rN u sd hh).set 0 (b 0, .inr (2, (mFs b n pN rN u sd hh).set 40 (.int (nb x)))) = mW b dI dB n pN rN (up2 u 0 40 x) sd hh := rfl
theorem mp_41 {b : Nat → Nat} {dI dB : ClassId} {n pN rN : Nat} {u : Nat → Nat → Int32} {sd hh : Int64} {x : Int32} : (mW b dI dB n pN rN u sd hh).set 0 (b 0, .inr (2, (mFs b n pN rN u sd hh).set 41 (.int x))) = mW b dI dB n pN rN (up2 u 0 41 x) sd hh := rfl
theorem mp_46 {b : Nat → Nat} {dI dB : ClassId} {n pN rN : Nat} {u : Nat → Nat → Int32} {sd hh : Int64} {x : Int64} : (mW b dI dB n pN rN u sd hh).set 0 (b 0, .inr (2, (mFs b n pN rN u sd hh).set 46 (.long x))) = mW b dI dB n pN rN u sd x := rfl
theorem ms_1 {b : Nat → Nat} {dI dB : ClassId} {n pN rN : Nat} {u : Nat → Nat → Int32} {sd hh : Int64} {k : Nat} {x : Int32} : (mW b dI dB n pN rN u sd hh).set 1 (b 1, .inl (dI, 8, .inl (upd (u 1) k x))) = mW b dI dB n pN rN (up2 u 1 k x) sd hh := rfl
theorem ms_2 {b : Nat → Nat} {dI dB : ClassId} {n pN rN : Nat} {u : Nat → Nat → Int32} {sd hh : Int64} {k : Nat} {x : Int32} : (mW b dI dB n pN rN u sd hh).set 2 (b 2, .inl (dI, 8, .inl (upd (u 2) k x))) = mW b dI dB n pN rN (up2 u 2 k x) sd hh := rfl
theorem ms_3 {b : Nat → Nat} {dI dB : ClassId} {n pN rN : Nat} {u : Nat → Nat → Int32} {sd hh : Int64} {k : Nat} {x : Int32} : (mW b dI dB n pN rN u sd hh).set 3 (b 3, .inl (dI, 8, .inl (upd (u 3) k x))) = mW b dI dB n pN rN (up2 u 3 k x) sd hh := rfl
theorem ms_4 {b : Nat → Nat} {dI dB : ClassId} {n pN rN : Nat} {u : Nat → Nat → Int32} {sd hh : Int64} {k : Nat} {x : Int32} : (mW b dI dB n pN rN u sd hh).set 4 (b 4, .inl (dI, 8, .inl (upd (u 4) k x))) = mW b dI dB n pN rN (up2 u 4 k x) sd hh := rfl
theorem ms_5 {b : Nat → Nat} {dI dB : ClassId} {n pN rN : Nat} {u : Nat → Nat → Int32} {sd hh : Int64} {k : Nat} {x : Int32} : (mW b dI dB n pN rN u sd hh).set 5 (b 5, .inl (dI, 8, .inl (upd (u 5) k x))) = mW b dI dB n pN rN (up2 u 5 k x) sd hh := rfl
theorem ms_6 {b : Nat → Nat} {dI dB : ClassId} {n pN rN : Nat} {u : Nat → Nat → Int32} {sd hh : Int64} {k : Nat} {x : Int32} : (mW b dI dB n pN rN u sd hh).set 6 (b 6, .inl (dI, 8, .inl (upd (u 6) k x))) = mW b dI dB n pN rN (up2 u 6 k x) sd hh := rfl
theorem ms_7 {b : Nat → Nat} {dI dB : ClassId} {n pN rN : Nat} {u : Nat → Nat → Int32} {sd hh : Int64} {k : Nat} {x : Int32} : (mW b dI dB n pN rN u sd hh).set 7 (b 7, .inl (dI, 8, .inl (upd (u 7) k x))) = mW b dI dB n pN rN (up2 u 7 k x) sd hh := rfl
theorem ms_8 {b : Nat → Nat} {dI dB : ClassId} {n pN rN : Nat} {u : Nat → Nat → Int32} {sd hh : Int64} {k : Nat} {x : Int32} : (mW b dI dB n pN rN u sd hh).set 8 (b 8, .inl (dI, 8, .inl (upd (u 8) k x))) = mW b dI dB n pN rN (up2 u 8 k x) sd hh := rfl
theorem ms_18 {b : Nat → Nat} {dI dB : ClassId} {n pN rN : Nat} {u : Nat → Nat → Int32} {sd hh : Int64} {k : Nat} {x : Int32} : (mW b dI dB n pN rN u sd hh).set 9 (b 18, .inl (dI, 8, .inl (upd (u 18) k x))) = mW b dI dB n pN rN (up2 u 18 k x) sd hh := rfl
theorem ms_19 {b : Nat → Nat} {dI dB : ClassId} {n pN rN : Nat} {u : Nat → Nat → Int32} {sd hh : Int64} {k : Nat} {x : Int32} : (mW b dI dB n pN rN u sd hh).set 10 (b 19, .inl (dI, 8, .inl (upd (u 19) k x))) = mW b dI dB n pN rN (up2 u 19 k x) sd hh := rfl
theorem ms_21 {b : Nat → Nat} {dI dB : ClassId} {n pN rN : Nat} {u : Nat → Nat → Int32} {sd hh : Int64} {k : Nat} {x : Int32} : (mW b dI dB n pN rN u sd hh).set 11 (b 21, .inl (dB, 12, .inl (upd (u 21) k x))) = mW b dI dB n pN rN (up2 u 21 k x) sd hh := rfl
theorem ms_22 {b : Nat → Nat} {dI dB : ClassId} {n pN rN : Nat} {u : Nat → Nat → Int32} {sd hh : Int64} {k : Nat} {x : Int32} : (mW b dI dB n pN rN u sd hh).set 12 (b 22, .inl (dI, 8, .inl (upd (u 22) k x))) = mW b dI dB n pN rN (up2 u 22 k x) sd hh := rfl
theorem ms_42 {b : Nat → Nat} {dI dB : ClassId} {n pN rN : Nat} {u : Nat → Nat → Int32} {sd hh : Int64} {k : Nat} {x : Int32} : (mW b dI dB n pN rN u sd hh).set 13 (b 42, .inl (dI, 8, .inl (upd (u 42) k x))) = mW b dI dB n pN rN (up2 u 42 k x) sd hh := rfl
theorem ms_43 {b : Nat → Nat} {dI dB : ClassId} {n pN rN : Nat} {u : Nat → Nat → Int32} {sd hh : Int64} {k : Nat} {x : Int32} : (mW b dI dB n pN rN u sd hh).set 14 (b 43, .inl (dI, 8, .inl (upd (u 43) k x))) = mW b dI dB n pN rN (up2 u 43 k x) sd hh := rfl
theorem ms_44 {b : Nat → Nat} {dI dB : ClassId} {n pN rN : Nat} {u : Nat → Nat → Int32} {sd hh : Int64} {k : Nat} {x : Int32} : (mW b dI dB n pN rN u sd hh).set 15 (b 44, .inl (dI, 8, .inl (upd (u 44) k x))) = mW b dI dB n pN rN (up2 u 44 k x) sd hh := rfl
theorem ms_45 {b : Nat → Nat} {dI dB : ClassId} {n pN rN : Nat} {u : Nat → Nat → Int32} {sd hh : Int64} {k : Nat} {x : Int32} : (mW b dI dB n pN rN u sd hh).set 16 (b 45, .inl (dI, 8, .inl (upd (u 45) k x))) = mW b dI dB n pN rN (up2 u 45 k x) sd hh := rfl
theorem cp_2 {a : Nat → Nat} {dI dH : ClassId} {hg : Nat → Option Nat} {n pN rN : Nat} {v : Nat → Nat → Int32} {hh : Int64} {x : Nat} : (cW a dI dH hg n pN rN v hh).set 0 (a 0, .inr (0, (cFs a n pN rN v hh).set 2 (.int (nI x)))) = cW a dI dH hg x pN rN v hh := rfl
theorem cp_6 {a : Nat → Nat} {dI dH : ClassId} {hg : Nat → Option Nat} {n pN rN : Nat} {v : Nat → Nat → Int32} {hh : Int64} {x : Nat} : (cW a dI dH hg n pN rN v hh).set 0 (a 0, .inr (0, (cFs a n pN rN v hh).set 6 (.int (nI x)))) = cW a dI dH hg n pN x v hh := rfl
theorem cp_8 {a : Nat → Nat} {dI dH : ClassId} {hg : Nat → Option Nat} {n pN rN : Nat} {v : Nat → Nat → Int32} {hh : Int64} {x : Nat} : (cW a dI dH hg n pN rN v hh).set 0 (a 0, .inr (0, (cFs a n pN rN v hh).set 8 (.int (nI x)))) = cW a dI dH hg n x rN v hh := rfl
theorem cp_12 {a : Nat → Nat} {dI dH : ClassId} {hg : Nat → Option Nat} {n pN rN : Nat} {v : Nat → Nat → Int32} {hh : Int64} {x : Int32} : (cW a dI dH hg n pN rN v hh).set 0 (a 0, .inr (0, (cFs a n pN rN v hh).set 12 (.int x))) = cW a dI dH hg n pN rN (up2 v 0 12 x) hh := rfl
theorem cp_13 {a : Nat → Nat} {dI dH : ClassId} {hg : Nat → Option Nat} {n pN rN : Nat} {v : Nat → Nat → Int32} {hh : Int64} {x : Int32} : (cW a dI dH hg n pN rN v hh).set 0 (a 0, .inr (0, (cFs a n pN rN v hh).set 13 (.int x))) = cW a dI dH hg n pN rN (up2 v 0 13 x) hh := rfl
theorem cp_14 {a : Nat → Nat} {dI dH : ClassId} {hg : Nat → Option Nat} {n pN rN : Nat} {v : Nat → Nat → Int32} {hh : Int64} {x : Int64} : (cW a dI dH hg n pN rN v hh).set 0 (a 0, .inr (0, (cFs a n pN rN v hh).set 14 (.long x))) = cW a dI dH hg n pN rN v x := rfl
theorem cd_1_0 {a : Nat → Nat} {dI dH : ClassId} {hg : Nat → Option Nat} {n pN rN : Nat} {v : Nat → Nat → Int32} {hh : Int64} {x : Int32} : (cW a dI dH hg n pN rN v hh).set 3 (a 3, .inr (1, (cDay v 1 (a 4)).set 0 (.int x))) = cW a dI dH hg n pN rN (up2 v 1 0 x) hh := rfl
theorem cd_1_1 {a : Nat → Nat} {dI dH : ClassId} {hg : Nat → Option Nat} {n pN rN : Nat} {v : Nat → Nat → Int32} {hh : Int64} {x : Int32} : (cW a dI dH hg n pN rN v hh).set 3 (a 3, .inr (1, (cDay v 1 (a 4)).set 1 (.int x))) = cW a dI dH hg n pN rN (up2 v 1 1 x) hh := rfl
theorem cd_1_2 {a : Nat → Nat} {dI dH : ClassId} {hg : Nat → Option Nat} {n pN rN : Nat} {v : Nat → Nat → Int32} {hh : Int64} {x : Int32} : (cW a dI dH hg n pN rN v hh).set 3 (a 3, .inr (1, (cDay v 1 (a 4)).set 2 (.int x))) = cW a dI dH hg n pN rN (up2 v 1 2 x) hh := rfl
theorem cd_1_3 {a : Nat → Nat} {dI dH : ClassId} {hg : Nat → Option Nat} {n pN rN : Nat} {v : Nat → Nat → Int32} {hh : Int64} {x : Int32} : (cW a dI dH hg n pN rN v hh).set 3 (a 3, .inr (1, (cDay v 1 (a 4)).set 3 (.int x))) = cW a dI dH hg n pN rN (up2 v 1 3 x) hh := rfl
theorem cd_1_4 {a : Nat → Nat} {dI dH : ClassId} {hg : Nat → Option Nat} {n pN rN : Nat} {v : Nat → Nat → Int32} {hh : Int64} {x : Int32} : (cW a dI dH hg n pN rN v hh).set 3 (a 3, .inr (1, (cDay v 1 (a 4)).set 4 (.int x))) = cW a dI dH hg n pN rN (up2 v 1 4 x) hh := rfl
theorem cd_1_5 {a : Nat → Nat} {dI dH : ClassId} {hg : Nat → Option Nat} {n pN rN : Nat} {v : Nat → Nat → Int32} {hh : Int64} {x : Int32} : (cW a dI dH hg n pN rN v hh).set 3 (a 3, .inr (1, (cDay v 1 (a 4)).set 5 (.int x))) = cW a dI dH hg n pN rN (up2 v 1 5 x) hh := rfl
theorem cd_1_6 {a : Nat → Nat} {dI dH : ClassId} {hg : Nat → Option Nat} {n pN rN : Nat} {v : Nat → Nat → Int32} {hh : Int64} {x : Int32} : (cW a dI dH hg n pN rN v hh).set 3 (a 3, .inr (1, (cDay v 1 (a 4)).set 6 (.int (nb x)))) = cW a dI dH hg n pN rN (up2 v 1 6 x) hh := rfl
theorem cd_1_7 {a : Nat → Nat} {dI dH : ClassId} {hg : Nat → Option Nat} {n pN rN : Nat} {v : Nat → Nat → Int32} {hh : Int64} {x : Int32} : (cW a dI dH hg n pN rN v hh).set 3 (a 3, .inr (1, (cDay v 1 (a 4)).set 7 (.int (nb x)))) = cW a dI dH hg n pN rN (up2 v 1 7 x) hh := rfl
theorem cd_2_0 {a : Nat → Nat} {dI dH : ClassId} {hg : Nat → Option Nat} {n pN rN : Nat} {v : Nat → Nat → Int32} {hh : Int64} {x : Int32} : (cW a dI dH hg n pN rN v hh).set 5 (a 5, .inr (1, (cDay v 2 (a 6)).set 0 (.int x))) = cW a dI dH hg n pN rN (up2 v 2 0 x) hh := rfl
theorem cd_2_1 {a : Nat → Nat} {dI dH : ClassId} {hg : Nat → Option Nat} {n pN rN : Nat} {v : Nat → Nat → Int32} {hh : Int64} {x : Int32} : (cW a dI dH hg n pN rN v hh).set 5 (a 5, .inr (1, (cDay v 2 (a 6)).set 1 (.int x))) = cW a dI dH hg n pN rN (up2 v 2 1 x) hh := rfl
theorem cd_2_2 {a : Nat → Nat} {dI dH : ClassId} {hg : Nat → Option Nat} {n pN rN : Nat} {v : Nat → Nat → Int32} {hh : Int64} {x : Int32} : (cW a dI dH hg n pN rN v hh).set 5 (a 5, .inr (1, (cDay v 2 (a 6)).set 2 (.int x))) = cW a dI dH hg n pN rN (up2 v 2 2 x) hh := rfl
theorem cd_2_3 {a : Nat → Nat} {dI dH : ClassId} {hg : Nat → Option Nat} {n pN rN : Nat} {v : Nat → Nat → Int32} {hh : Int64} {x : Int32} : (cW a dI dH hg n pN rN v hh).set 5 (a 5, .inr (1, (cDay v 2 (a 6)).set 3 (.int x))) = cW a dI dH hg n pN rN (up2 v 2 3 x) hh := rfl
theorem cd_2_4 {a : Nat → Nat} {dI dH : ClassId} {hg : Nat → Option Nat} {n pN rN : Nat} {v : Nat → Nat → Int32} {hh : Int64} {x : Int32} : (cW a dI dH hg n pN rN v hh).set 5 (a 5, .inr (1, (cDay v 2 (a 6)).set 4 (.int x))) = cW a dI dH hg n pN rN (up2 v 2 4 x) hh := rfl
theorem cd_2_5 {a : Nat → Nat} {dI dH : ClassId} {hg : Nat → Option Nat} {n pN rN : Nat} {v : Nat → Nat → Int32} {hh : Int64} {x : Int32} : (cW a dI dH hg n pN rN v hh).set 5 (a 5, .inr (1, (cDay v 2 (a 6)).set 5 (.int x))) = cW a dI dH hg n pN rN (up2 v 2 5 x) hh := rfl
theorem cd_2_6 {a : Nat → Nat} {dI dH : ClassId} {hg : Nat → Option Nat} {n pN rN : Nat} {v : Nat → Nat → Int32} {hh : Int64} {x : Int32} : (cW a dI dH hg n pN rN v hh).set 5 (a 5, .inr (1, (cDay v 2 (a 6)).set 6 (.int (nb x)))) = cW a dI dH hg n pN rN (up2 v 2 6 x) hh := rfl
theorem cd_2_7 {a : Nat → Nat} {dI dH : ClassId} {hg : Nat → Option Nat} {n pN rN : Nat} {v : Nat → Nat → Int32} {hh : Int64} {x : Int32} : (cW a dI dH hg n pN rN v hh).set 5 (a 5, .inr (1, (cDay v 2 (a 6)).set 7 (.int (nb x)))) = cW a dI dH hg n pN rN (up2 v 2 7 x) hh := rfl
theorem cd_3_0 {a : Nat → Nat} {dI dH : ClassId} {hg : Nat → Option Nat} {n pN rN : Nat} {v : Nat → Nat → Int32} {hh : Int64} {x : Int32} : (cW a dI dH hg n pN rN v hh).set 7 (a 7, .inr (1, (cDay v 3 (a 8)).set 0 (.int x))) = cW a dI dH hg n pN rN (up2 v 3 0 x) hh := rfl
theorem cd_3_1 {a : Nat → Nat} {dI dH : ClassId} {hg : Nat → Option Nat} {n pN rN : Nat} {v : Nat → Nat → Int32} {hh : Int64} {x : Int32} : (cW a dI dH hg n pN rN v hh).set 7 (a 7, .inr (1, (cDay v 3 (a 8)).set 1 (.int x))) = cW a dI dH hg n pN rN (up2 v 3 1 x) hh := rfl
theorem cd_3_2 {a : Nat → Nat} {dI dH : ClassId} {hg : Nat → Option Nat} {n pN rN : Nat} {v : Nat → Nat → Int32} {hh : Int64} {x : Int32} : (cW a dI dH hg n pN rN v hh).set 7 (a 7, .inr (1, (cDay v 3 (a 8)).set 2 (.int x))) = cW a dI dH hg n pN rN (up2 v 3 2 x) hh := rfl
theorem cd_3_3 {a : Nat → Nat} {dI dH : ClassId} {hg : Nat → Option Nat} {n pN rN : Nat} {v : Nat → Nat → Int32} {hh : Int64} {x : Int32} : (cW a dI dH hg n pN rN v hh).set 7 (a 7, .inr (1, (cDay v 3 (a 8)).set 3 (.int x))) = cW a dI dH hg n pN rN (up2 v 3 3 x) hh := rfl
theorem cd_3_4 {a : Nat → Nat} {dI dH : ClassId} {hg : Nat → Option Nat} {n pN rN : Nat} {v : Nat → Nat → Int32} {hh : Int64} {x : Int32} : (cW a dI dH hg n pN rN v hh).set 7 (a 7, .inr (1, (cDay v 3 (a 8)).set 4 (.int x))) = cW a dI dH hg n pN rN (up2 v 3 4 x) hh := rfl
theorem cd_3_5 {a : Nat → Nat} {dI dH : ClassId} {hg : Nat → Option Nat} {n pN rN : Nat} {v : Nat → Nat → Int32} {hh : Int64} {x : Int32} : (cW a dI dH hg n pN rN v hh).set 7 (a 7, .inr (1, (cDay v 3 (a 8)).set 5 (.int x))) = cW a dI dH hg n pN rN (up2 v 3 5 x) hh := rfl
theorem cd_3_6 {a : Nat → Nat} {dI dH : ClassId} {hg : Nat → Option Nat} {n pN rN : Nat} {v : Nat → Nat → Int32} {hh : Int64} {x : Int32} : (cW a dI dH hg n pN rN v hh).set 7 (a 7, .inr (1, (cDay v 3 (a 8)).set 6 (.int (nb x)))) = cW a dI dH hg n pN rN (up2 v 3 6 x) hh := rfl
theorem cd_3_7 {a : Nat → Nat} {dI dH : ClassId} {hg : Nat → Option Nat} {n pN rN : Nat} {v : Nat → Nat → Int32} {hh : Int64} {x : Int32} : (cW a dI dH hg n pN rN v hh).set 7 (a 7, .inr (1, (cDay v 3 (a 8)).set 7 (.int (nb x)))) = cW a dI dH hg n pN rN (up2 v 3 7 x) hh := rfl
theorem cs_owed {a : Nat → Nat} {dI dH : ClassId} {hg : Nat → Option Nat} {n pN rN : Nat} {v : Nat → Nat → Int32} {hh : Int64} {k : Nat} {x : Int32} : (cW a dI dH hg n pN rN v hh).set 2 (a 2, .inl (dI, 8, .inl (upd (v 4) k x))) = cW a dI dH hg n pN rN (up2 v 4 k x) hh := rfl
theorem cr_owed {a : Nat → Nat} {dI dH : ClassId} {hg : Nat → Option Nat} {n pN rN : Nat} {v : Nat → Nat → Int32} {hh : Int64} {f : Nat → Int32} : (cW a dI dH hg n pN rN v hh).set 2 (a 2, .inl (dI, 8, .inl f)) = cW a dI dH hg n pN rN (upr v 4 f) hh := rfl
theorem cs_tk1 {a : Nat → Nat} {dI dH : ClassId} {hg : Nat → Option Nat} {n pN rN : Nat} {v : Nat → Nat → Int32} {hh : Int64} {k : Nat} {x : Int32} : (cW a dI dH hg n pN rN v hh).set 4 (a 4, .inl (dI, 8, .inl (upd (v 9) k x))) = cW a dI dH hg n pN rN (up2 v 9 k x) hh := rfl
theorem cr_tk1 {a : Nat → Nat} {dI dH : ClassId} {hg : Nat → Option Nat} {n pN rN : Nat} {v : Nat → Nat → Int32} {hh : Int64} {f : Nat → Int32} : (cW a dI dH hg n pN rN v hh).set 4 (a 4, .inl (dI, 8, .inl f)) = cW a dI dH hg n pN rN (upr v 9 f) hh := rfl
theorem cs_tk2 {a : Nat → Nat} {dI dH : ClassId} {hg : Nat → Option Nat} {n pN rN : Nat} {v : Nat → Nat → Int32} {hh : Int64} {k : Nat} {x : Int32} : (cW a dI dH hg n pN rN v hh).set 6 (a 6, .inl (dI, 8, .inl (upd (v 10) k x))) = cW a dI dH hg n pN rN (up2 v 10 k x) hh := rfl
theorem cr_tk2 {a : Nat → Nat} {dI dH : ClassId} {hg : Nat → Option Nat} {n pN rN : Nat} {v : Nat → Nat → Int32} {hh : Int64} {f : Nat → Int32} : (cW a dI dH hg n pN rN v hh).set 6 (a 6, .inl (dI, 8, .inl f)) = cW a dI dH hg n pN rN (upr v 10 f) hh := rfl
theorem cs_tk3 {a : Nat → Nat} {dI dH : ClassId} {hg : Nat → Option Nat} {n pN rN : Nat} {v : Nat → Nat → Int32} {hh : Int64} {k : Nat} {x : Int32} : (cW a dI dH hg n pN rN v hh).set 8 (a 8, .inl (dI, 8, .inl (upd (v 11) k x))) = cW a dI dH hg n pN rN (up2 v 11 k x) hh := rfl
theorem cr_tk3 {a : Nat → Nat} {dI dH : ClassId} {hg : Nat → Option Nat} {n pN rN : Nat} {v : Nat → Nat → Int32} {hh : Int64} {f : Nat → Int32} : (cW a dI dH hg n pN rN v hh).set 8 (a 8, .inl (dI, 8, .inl f)) = cW a dI dH hg n pN rN (upr v 11 f) hh := rfl
theorem cs_readings {a : Nat → Nat} {dI dH : ClassId} {hg : Nat → Option Nat} {n pN rN : Nat} {v : Nat → Nat → Int32} {hh : Int64} {k : Nat} {x : Int32} : (cW a dI dH hg n pN rN v hh).set 9 (a 9, .inl (dI, 16, .inl (upd (v 5) k x))) = cW a dI dH hg n pN rN (up2 v 5 k x) hh := rfl
theorem cr_readings {a : Nat → Nat} {dI dH : ClassId} {hg : Nat → Option Nat} {n pN rN : Nat} {v : Nat → Nat → Int32} {hh : Int64} {f : Nat → Int32} : (cW a dI dH hg n pN rN v hh).set 9 (a 9, .inl (dI, 16, .inl f)) = cW a dI dH hg n pN rN (upr v 5 f) hh := rfl
theorem cs_page {a : Nat → Nat} {dI dH : ClassId} {hg : Nat → Option Nat} {n pN rN : Nat} {v : Nat → Nat → Int32} {hh : Int64} {k : Nat} {x : Int32} : (cW a dI dH hg n pN rN v hh).set 10 (a 10, .inl (dI, 12, .inl (upd (v 6) k x))) = cW a dI dH hg n pN rN (up2 v 6 k x) hh := rfl
theorem cr_page {a : Nat → Nat} {dI dH : ClassId} {hg : Nat → Option Nat} {n pN rN : Nat} {v : Nat → Nat → Int32} {hh : Int64} {f : Nat → Int32} : (cW a dI dH hg n pN rN v hh).set 10 (a 10, .inl (dI, 12, .inl f)) = cW a dI dH hg n pN rN (upr v 6 f) hh := rfl
theorem cs_keptOwed {a : Nat → Nat} {dI dH : ClassId} {hg : Nat → Option Nat} {n pN rN : Nat} {v : Nat → Nat → Int32} {hh : Int64} {k : Nat} {x : Int32} : (cW a dI dH hg n pN rN v hh).set 11 (a 11, .inl (dI, 8, .inl (upd (v 7) k x))) = cW a dI dH hg n pN rN (up2 v 7 k x) hh := rfl
theorem cr_keptOwed {a : Nat → Nat} {dI dH : ClassId} {hg : Nat → Option Nat} {n pN rN : Nat} {v : Nat → Nat → Int32} {hh : Int64} {f : Nat → Int32} : (cW a dI dH hg n pN rN v hh).set 11 (a 11, .inl (dI, 8, .inl f)) = cW a dI dH hg n pN rN (upr v 7 f) hh := rfl
theorem cs_keptReadings {a : Nat → Nat} {dI dH : ClassId} {hg : Nat → Option Nat} {n pN rN : Nat} {v : Nat → Nat → Int32} {hh : Int64} {k : Nat} {x : Int32} : (cW a dI dH hg n pN rN v hh).set 12 (a 12, .inl (dI, 16, .inl (upd (v 8) k x))) = cW a dI dH hg n pN rN (up2 v 8 k x) hh := rfl
theorem cr_keptReadings {a : Nat → Nat} {dI dH : ClassId} {hg : Nat → Option Nat} {n pN rN : Nat} {v : Nat → Nat → Int32} {hh : Int64} {f : Nat → Int32} : (cW a dI dH hg n pN rN v hh).set 12 (a 12, .inl (dI, 16, .inl f)) = cW a dI dH hg n pN rN (upr v 8 f) hh := rfl
def MQN (n pN rN : Nat) : Prop := n ≤ 8 ∧ pN ≤ 12 ∧ rN ≤ 8
def MP (D : va_G) (dI dB : ClassId) (b : Nat → Nat) (n pN rN : Nat) (u : Nat → Nat → Int32) (sd hh : Int64) (H : Heap) : Prop := va_P D vwCl (mW b dI dB n pN rN u sd hh) H
def MP0 (D : va_G) (dI dB : ClassId) (b : Nat → Nat) (n pN rN : Nat) (u : Nat → Nat → Int32) (sd hh : Int64) (sz : Nat) (H : Heap) : Prop := H.size = sz ∧ va_P D vwCl (mW b dI dB n pN rN u sd hh) H ∧ va_D (fun _ => True) (mW b dI dB n pN rN u sd hh)

section BY
variable {p : Program} {l : Launch} {e : Env} {R : Room} {s : State} {m : MethodId} {args : Array Value} {below : List Frame} {meth : Method} {c : Code} {H : Heap} {locs : List Loc} {cells slots : Nat} {Q : State → Prop}
variable {cc : ByteArray} {pc : Nat} {ls : Array Slot} {rest st0 : List Value} {D : va_G} {A A1 : Nat → Prop} {a : Nat} {dI dH dB : ClassId} {ws : va_W} {H0 : Heap} {mc ms : Nat} {free : Addr → Prop} {aa : Array Value}
/-- a contract out of a walk -/
theorem x_met {y : MethodName} {rm : Room} {av : List Value} {P : Heap → Prop} {K : State → Prop} {Qc : Array Value → State → Outcome → State → Prop} {maxL : Nat} {ret : Option FieldType} (hy : plainName y.cls = true) (hlen : (lg_sl av).length ≤ maxL)
    (body : ∀ (p : Program) (e : Env) (s : State) (m : MethodId) (below : List Frame) (meth : Method) (c : Code) (ls : Array Slot), p.tables.exec = Jvm.exec → c.code = cc → meth.sig.returnType = ret → (∀ w ∈ lw_all, w.before av.toArray s = true) → s.vm.findClass y.cls = some m.cls → meth.locks = false → c.maxLocals = maxL → meth.name = y.name → P s.heap → K s → lv_has ls maxL (lv_args 0 av) →
      W p l e (headSpec (ws_ y cc maxL ret) rm).room s m av.toArray below meth c s.heap [] 0 0 (MQ below Qc av.toArray s mc ms free) (F0 m 0 ls [])) : Met l y (ws_ y cc maxL ret) rm (xP av P K) Qc mc ms free := by
  refine Met.ofW (cc := cc) (maxL := maxL) (ret := ret) hy rfl ?_
  intro p e s m args below meth c s₁ B hml hv
  obtain ⟨rfl, hP, hs⟩ := hv
  have hts := atoms_spec (ws := ws_ y cc maxL ret) B.pre
  rw [lg_entry_eq]
  exact body p e s m below meth c _ B.exec B.bytes B.returns (fun w h => hts w (List.mem_cons_of_mem _ h)) (findClass_of_methodNamed B.named) B.notSynchronized hml (name_of_methodNamed B.named B.method).1 hP hs (lv_entry av hlen)
theorem x_retR {r v : Int32} (hx : p.tables.exec = Jvm.exec) (hb : c.code = cc) (hr : meth.sig.returnType = some .int) (hlocks : meth.locks = false) (hd : decode cc pc = .ok (.ireturn, 1)) (ev : v = r) : W p l e R s m args below meth c s.heap [] 0 0 (MQ below (QcRead r) args s 0 0 (fun _ => False)) (F0 m pc ls [.int v]) := by
  subst ev
  exact W.iret hx hb hr (fun t ht _ => ⟨rfl, ht⟩) (fun _ h => by cases h) hd hlocks
theorem x_retRZ {r v : Int32} (hx : p.tables.exec = Jvm.exec) (hb : c.code = cc) (hr : meth.sig.returnType = some .boolean) (hlocks : meth.locks = false) (hd : decode cc pc = .ok (.ireturn, 1)) (h01 : b01 v) (ev : v = r) : W p l e R s m args below meth c s.heap [] 0 0 (MQ below (QcRead r) args s 0 0 (fun _ => False)) (F0 m pc ls [.int v]) := by
  subst ev
  exact W.zret hx hb hr (b01_narrow h01) (fun t ht _ => ⟨rfl, ht⟩) (fun _ h => by cases h) hd hlocks
theorem x_retW {r v : Int32} {P : Heap → Prop} (hx : p.tables.exec = Jvm.exec) (hb : c.code = cc) (hr : meth.sig.returnType = some .int) (hlocks : meth.locks = false) (hd : decode cc pc = .ok (.ireturn, 1)) (ev : v = r) (hP : P H) (hS : va_S A s.heap H locs) : W p l e R s m args below meth c H locs cells slots (MQ below (QwI r P A) args s cells slots A) (F0 m pc ls [.int v]) := by
  subst ev
  exact W.iret hx hb hr (fun t ht _ => ⟨rfl, by rw [ht]; exact hP, hS.F ht⟩) hS.2.2 hd hlocks
theorem x_retWZ {r v : Int32} {P : Heap → Prop} (hx : p.tables.exec = Jvm.exec) (hb : c.code = cc) (hr : meth.sig.returnType = some .boolean) (hlocks : meth.locks = false) (hd : decode cc pc = .ok (.ireturn, 1)) (h01 : b01 v) (ev : v = r) (hP : P H) (hS : va_S A s.heap H locs) : W p l e R s m args below meth c H locs cells slots (MQ below (QwI r P A) args s cells slots A) (F0 m pc ls [.int v]) := by
  subst ev
  exact W.zret hx hb hr (b01_narrow h01) (fun t ht _ => ⟨rfl, by rw [ht]; exact hP, hS.F ht⟩) hS.2.2 hd hlocks
theorem x_retWL {r v : Int64} {P : Heap → Prop} (hx : p.tables.exec = Jvm.exec) (hb : c.code = cc) (hr : meth.sig.returnType = some .long) (hlocks : meth.locks = false) (hd : decode cc pc = .ok (.lreturn, 1)) (ev : v = r) (hP : P H) (hS : va_S A s.heap H locs) : W p l e R s m args below meth c H locs cells slots (MQ below (QwL r P A) args s cells slots A) (F0 m pc ls [.long v]) := by
  subst ev
  exact W.lret hx hb hr (fun t ht _ => ⟨rfl, by rw [ht]; exact hP, hS.F ht⟩) hS.2.2 hd hlocks
theorem x_retWV {P : Heap → Prop} (hx : p.tables.exec = Jvm.exec) (hb : c.code = cc) (hr : meth.sig.returnType = none) (hlocks : meth.locks = false) (hd : decode cc pc = .ok (.return_, 1)) (hP : P H) (hS : va_S A s.heap H locs) : W p l e R s m args below meth c H locs cells slots (MQ below (QwV P A) args s cells slots A) (F0 m pc ls []) :=
  W.vret hx hb hr (fun t ht _ => ⟨rfl, by rw [ht]; exact hP, hS.F ht⟩) hS.2.2 hd hlocks
/-- where two branches meet with a number on the stack -/
theorem x_cut1 (tgt : Nat) {x0 : Int32} (X : Int32) (K : W p l e R s m args below meth c H locs cells slots Q (F0 m tgt ls (.int X :: rest)))
    (k : (∀ x : Int32, x = X → W p l e R s m args below meth c H locs cells slots Q (F0 m tgt ls (.int x :: rest))) → W p l e R s m args below meth c H locs cells slots Q (F0 m pc ls (.int x0 :: rest))) : W p l e R s m args below meth c H locs cells slots Q (F0 m pc ls (.int x0 :: rest)) := k (fun x hx => by rw [hx]; exact K)
theorem x_cut2 (tgt : Nat) {x0 y0 : Int32} (X : Int32) (K : W p l e R s m args below meth c H locs cells slots Q (F0 m tgt ls (.int X :: rest)))
    (k : (∀ x : Int32, x = X → W p l e R s m args below meth c H locs cells slots Q (F0 m tgt ls (.int x :: rest))) → W p l e R s m args below meth c H locs cells slots Q (F0 m pc ls (.int y0 :: .int x0 :: rest))) : W p l e R s m args below meth c H locs cells slots Q (F0 m pc ls (.int y0 :: .int x0 :: rest)) := k (fun x hx => by rw [hx]; exact K)
theorem Wd.fr (hI : Wd D A H0 ws H locs) (hA : ∀ q, H0.size ≤ q → A q) : ∀ q, va_A ws H.size q → A q := by
  intro q h
  rcases h with ⟨k, e, h⟩ | h
  · exact hI.2.1.2 k (q, e) h
  · exact hA q (Nat.le_trans hI.2.2.1 h)
theorem Wd.start {sz : Nat} (hsz : s.heap.size = sz) (hP : va_P D vwCl ws s.heap) (hD : va_D (fun _ => True) ws) : Wd D (va_A ws sz) s.heap ws s.heap [] := ⟨hP, hD.self, va_S.rf⟩
theorem Wd.hA {sz : Nat} (hsz : s.heap.size = sz) : ∀ q, s.heap.size ≤ q → va_A ws sz q := fun q h => Or.inr (by omega)
/-- calls of a writer that has the whole world -/
theorem x_wcallI {r : Int32} {ws' : va_W} (hI : Wd D A H0 ws H locs) (hA : ∀ q, H0.size ≤ q → A q) (hr : va_Run p l e R s m args below meth c H locs cells slots mc ms (F0 m pc ls st0) rest (QwI r (P1 D (va_A ws H.size) ws') (va_A ws H.size) aa) (va_A ws H.size))
    (kk : ∀ (H1 : Heap) (locs1 : List Loc), Wd D A H0 ws' H1 locs1 → W p l e R s m args below meth c H1 locs1 (cells + mc) (slots + ms) Q (F0 m (pc + 3) ls (.int r :: rest))) : W p l e R s m args below meth c H locs cells slots Q (F0 m pc ls st0) :=
  x_callWI hr hI.2.2 (hI.fr hA) (hI.fr hA) (fun H1 locs1 hP hS _ _ => kk H1 locs1 ⟨hP.1, hP.2.weaken (fun _ _ _ h => hI.fr hA _ h), hS⟩)
theorem x_wcallL {r : Int64} {ws' : va_W} (hI : Wd D A H0 ws H locs) (hA : ∀ q, H0.size ≤ q → A q) (hr : va_Run p l e R s m args below meth c H locs cells slots mc ms (F0 m pc ls st0) rest (QwL r (P1 D (va_A ws H.size) ws') (va_A ws H.size) aa) (va_A ws H.size))
    (kk : ∀ (H1 : Heap) (locs1 : List Loc), Wd D A H0 ws' H1 locs1 → W p l e R s m args below meth c H1 locs1 (cells + mc) (slots + ms) Q (F0 m (pc + 3) ls (.long r :: rest))) : W p l e R s m args below meth c H locs cells slots Q (F0 m pc ls st0) :=
  x_callWL hr hI.2.2 (hI.fr hA) (hI.fr hA) (fun H1 locs1 hP hS _ _ => kk H1 locs1 ⟨hP.1, hP.2.weaken (fun _ _ _ h => hI.fr hA _ h), hS⟩)
theorem x_wcallV {ws' : va_W} (hI : Wd D A H0 ws H locs) (hA : ∀ q, H0.size ≤ q → A q) (hr : va_Run p l e R s m args below meth c H locs cells slots mc ms (F0 m pc ls st0) rest (QwV (P1 D (va_A ws H.size) ws') (va_A ws H.size) aa) (va_A ws H.size))
    (kk : ∀ (H1 : Heap) (locs1 : List Loc), Wd D A H0 ws' H1 locs1 → W p l e R s m args below meth c H1 locs1 (cells + mc) (slots + ms) Q (F0 m (pc + 3) ls rest)) : W p l e R s m args below meth c H locs cells slots Q (F0 m pc ls st0) :=
  x_callWV hr hI.2.2 (hI.fr hA) (hI.fr hA) (fun H1 locs1 hP hS _ _ => kk H1 locs1 ⟨hP.1, hP.2.weaken (fun _ _ _ h => hI.fr hA _ h), hS⟩)
/-- fields, class by class -/
theorem x_g0 {own : String} (hexec : p.tables.exec = Jvm.exec) (hb : c.code = cc) (hts : ∀ w ∈ lw_all, w.before args s = true) (hown : s.vm.findClass own = some m.cls) (hK : va_K D vwCl (tyL dI dH dB) s) (hP : va_P D vwCl ws H) (q0 : Nat) {fs : List Value} (he : ws[q0]? = some (a, .inr (0, fs))) (k : Nat) {index : Nat} (hk : k < 15) (hlink : (Cond.fieldLink own index (TX0 k).1 (TX0 k).2.1 (TX0 k).2.2.1).before args s = true) {v : Value} (hv : fs[k]? = some v) (hdg : decode cc pc = .ok (.getfield index, 3))
    (kk : W p l e R s m args below meth c H locs cells slots Q (F0 m (pc + 3) ls (v :: rest))) : W p l e R s m args below meth c H locs cells slots Q (F0 m pc ls (.ref a :: rest)) :=
  va_get (C := RX0) (T := TX0) (N := 15) (ci := 0) hexec hb hts in_X0 hown hK hP q0 he rfl k hk hlink (fun _ h => h) hv hdg kk
theorem x_g1 {own : String} (hexec : p.tables.exec = Jvm.exec) (hb : c.code = cc) (hts : ∀ w ∈ lw_all, w.before args s = true) (hown : s.vm.findClass own = some m.cls) (hK : va_K D vwCl (tyL dI dH dB) s) (hP : va_P D vwCl ws H) (q0 : Nat) {fs : List Value} (he : ws[q0]? = some (a, .inr (1, fs))) (k : Nat) {index : Nat} (hk : k < 9) (hlink : (Cond.fieldLink own index (TX1 k).1 (TX1 k).2.1 (TX1 k).2.2.1).before args s = true) {v : Value} (hv : fs[k]? = some v) (hdg : decode cc pc = .ok (.getfield index, 3))
    (kk : W p l e R s m args below meth c H locs cells slots Q (F0 m (pc + 3) ls (v :: rest))) : W p l e R s m args below meth c H locs cells slots Q (F0 m pc ls (.ref a :: rest)) :=
  va_get (C := RX1) (T := TX1) (N := 9) (ci := 1) hexec hb hts in_X1 hown hK hP q0 he rfl k hk hlink (fun _ h => h) hv hdg kk
theorem x_g2 {own : String} (hexec : p.tables.exec = Jvm.exec) (hb : c.code = cc) (hts : ∀ w ∈ lw_all, w.before args s = true) (hown : s.vm.findClass own = some m.cls) (hK : va_K D vwCl (tyL dI dH dB) s) (hP : va_P D vwCl ws H) (q0 : Nat) {fs : List Value} (he : ws[q0]? = some (a, .inr (2, fs))) (k : Nat) {index : Nat} (hk : k < 47) (hlink : (Cond.fieldLink own index (TX2 k).1 (TX2 k).2.1 (TX2 k).2.2.1).before args s = true) {v : Value} (hv : fs[k]? = some v) (hdg : decode cc pc = .ok (.getfield index, 3))
    (kk : W p l e R s m args below meth c H locs cells slots Q (F0 m (pc + 3) ls (v :: rest))) : W p l e R s m args below meth c H locs cells slots Q (F0 m pc ls (.ref a :: rest)) :=
  va_get (C := RX2) (T := TX2) (N := 47) (ci := 2) hexec hb hts in_X2 hown hK hP q0 he rfl k hk hlink (fun _ h => h) hv hdg kk
theorem x_g3 {own : String} (hexec : p.tables.exec = Jvm.exec) (hb : c.code = cc) (hts : ∀ w ∈ lw_all, w.before args s = true) (hown : s.vm.findClass own = some m.cls) (hK : va_K D vwCl (tyL dI dH dB) s) (hP : va_P D vwCl ws H) (q0 : Nat) {fs : List Value} (he : ws[q0]? = some (a, .inr (3, fs))) (k : Nat) {index : Nat} (hk : k < 5) (hlink : (Cond.fieldLink own index (TX3 k).1 (TX3 k).2.1 (TX3 k).2.2.1).before args s = true) {v : Value} (hv : fs[k]? = some v) (hdg : decode cc pc = .ok (.getfield index, 3))
    (kk : W p l e R s m args below meth c H locs cells slots Q (F0 m (pc + 3) ls (v :: rest))) : W p l e R s m args below meth c H locs cells slots Q (F0 m pc ls (.ref a :: rest)) :=
  va_get (C := RX3) (T := TX3) (N := 5) (ci := 3) hexec hb hts in_X3 hown hK hP q0 he rfl k hk hlink (fun _ h => h) hv hdg kk
theorem x_p0 {own : String} (hexec : p.tables.exec = Jvm.exec) (hb : c.code = cc) (hts : ∀ w ∈ lw_all, w.before args s = true) (hown : s.vm.findClass own = some m.cls) (hK : va_K D vwCl (tyL dI dH dB) s) (hI : Wd D A H0 ws H locs) (q0 : Nat) {fs : List Value} (he : ws[q0]? = some (a, .inr (0, fs))) (k : Nat) {index : Nat} (hk : k < 15) (hlink : (Cond.fieldLink own index (TX0 k).1 (TX0 k).2.1 (TX0 k).2.2.1).before args s = true) (hfin : (TX0 k).2.2.2 = false) {ty : FieldType} {v : Value} (hd : parseFieldDescriptor (TX0 k).2.2.1 = some ty) (hn : narrow ty v = v) (hfit : fits ty v = true) (hl : k < fs.length) {ws' : va_W} (hw : ws.set q0 (a, .inr (0, fs.set k v)) = ws') (hdg : decode cc pc = .ok (.putfield index, 3))
    (kk : ∀ (H1 : Heap) (locs1 : List Loc), Wd D A H0 ws' H1 locs1 → W p l e R s m args below meth c H1 locs1 cells slots Q (F0 m (pc + 3) ls rest)) : W p l e R s m args below meth c H locs cells slots Q (F0 m pc ls (v :: .ref a :: rest)) := by
  subst hw
  exact va_put (C := RX0) (T := TX0) (N := 15) (ci := 0) hexec hb hts in_X0 tyX0 tyX0_ok nmX0 hown hK hI.1 hI.2.1 hI.2.2 q0 he rfl k hk hlink (fun _ h => h) hfin hd hn hfit hl hdg (fun H1 locs1 h1 h2 h3 => kk H1 locs1 ⟨h1, h2, h3⟩)
theorem x_p1 {own : String} (hexec : p.tables.exec = Jvm.exec) (hb : c.code = cc) (hts : ∀ w ∈ lw_all, w.before args s = true) (hown : s.vm.findClass own = some m.cls) (hK : va_K D vwCl (tyL dI dH dB) s) (hI : Wd D A H0 ws H locs) (q0 : Nat) {fs : List Value} (he : ws[q0]? = some (a, .inr (1, fs))) (k : Nat) {index : Nat} (hk : k < 9) (hlink : (Cond.fieldLink own index (TX1 k).1 (TX1 k).2.1 (TX1 k).2.2.1).before args s = true) (hfin : (TX1 k).2.2.2 = false) {ty : FieldType} {v : Value} (hd : parseFieldDescriptor (TX1 k).2.2.1 = some ty) (hn : narrow ty v = v) (hfit : fits ty v = true) (hl : k < fs.length) {ws' : va_W} (hw : ws.set q0 (a, .inr (1, fs.set k v)) = ws') (hdg : decode cc pc = .ok (.putfield index, 3))
    (kk : ∀ (H1 : Heap) (locs1 : List Loc), Wd D A H0 ws' H1 locs1 → W p l e R s m args below meth c H1 locs1 cells slots Q (F0 m (pc + 3) ls rest)) : W p l e R s m args below meth c H locs cells slots Q (F0 m pc ls (v :: .ref a :: rest)) := by
  subst hw
  exact va_put (C := RX1) (T := TX1) (N := 9) (ci := 1) hexec hb hts in_X1 tyX1 tyX1_ok nmX1 hown hK hI.1 hI.2.1 hI.2.2 q0 he rfl k hk hlink (fun _ h => h) hfin hd hn hfit hl hdg (fun H1 locs1 h1 h2 h3 => kk H1 locs1 ⟨h1, h2, h3⟩)
theorem x_p2 {own : String} (hexec : p.tables.exec = Jvm.exec) (hb : c.code = cc) (hts : ∀ w ∈ lw_all, w.before args s = true) (hown : s.vm.findClass own = some m.cls) (hK : va_K D vwCl (tyL dI dH dB) s) (hI : Wd D A H0 ws H locs) (q0 : Nat) {fs : List Value} (he : ws[q0]? = some (a, .inr (2, fs))) (k : Nat) {index : Nat} (hk : k < 47) (hlink : (Cond.fieldLink own index (TX2 k).1 (TX2 k).2.1 (TX2 k).2.2.1).before args s = true) (hfin : (TX2 k).2.2.2 = false) {ty : FieldType} {v : Value} (hd : parseFieldDescriptor (TX2 k).2.2.1 = some ty) (hn : narrow ty v = v) (hfit : fits ty v = true) (hl : k < fs.length) {ws' : va_W} (hw : ws.set q0 (a, .inr (2, fs.set k v)) = ws') (hdg : decode cc pc = .ok (.putfield index, 3))
    (kk : ∀ (H1 : Heap) (locs1 : List Loc), Wd D A H0 ws' H1 locs1 → W p l e R s m args below meth c H1 locs1 cells slots Q (F0 m (pc + 3) ls rest)) : W p l e R s m args below meth c H locs cells slots Q (F0 m pc ls (v :: .ref a :: rest)) := by
  subst hw
  exact va_put (C := RX2) (T := TX2) (N := 47) (ci := 2) hexec hb hts in_X2 tyX2 tyX2_ok nmX2 hown hK hI.1 hI.2.1 hI.2.2 q0 he rfl k hk hlink (fun _ h => h) hfin hd hn hfit hl hdg (fun H1 locs1 h1 h2 h3 => kk H1 locs1 ⟨h1, h2, h3⟩)
theorem x_p3 {own : String} (hexec : p.tables.exec = Jvm.exec) (hb : c.code = cc) (hts : ∀ w ∈ lw_all, w.before args s = true) (hown : s.vm.findClass own = some m.cls) (hK : va_K D vwCl (tyL dI dH dB) s) (hI : Wd D A H0 ws H locs) (q0 : Nat) {fs : List Value} (he : ws[q0]? = some (a, .inr (3, fs))) (k : Nat) {index : Nat} (hk : k < 5) (hlink : (Cond.fieldLink own index (TX3 k).1 (TX3 k).2.1 (TX3 k).2.2.1).before args s = true) (hfin : (TX3 k).2.2.2 = false) {ty : FieldType} {v : Value} (hd : parseFieldDescriptor (TX3 k).2.2.1 = some ty) (hn : narrow ty v = v) (hfit : fits ty v = true) (hl : k < fs.length) {ws' : va_W} (hw : ws.set q0 (a, .inr (3, fs.set k v)) = ws') (hdg : decode cc pc = .ok (.putfield index, 3))
    (kk : ∀ (H1 : Heap) (locs1 : List Loc), Wd D A H0 ws' H1 locs1 → W p l e R s m args below meth c H1 locs1 cells slots Q (F0 m (pc + 3) ls rest)) : W p l e R s m args below meth c H locs cells slots Q (F0 m pc ls (v :: .ref a :: rest)) := by
  subst hw
  exact va_put (C := RX3) (T := TX3) (N := 5) (ci := 3) hexec hb hts in_X3 tyX3 tyX3_ok nmX3 hown hK hI.1 hI.2.1 hI.2.2 q0 he rfl k hk hlink (fun _ h => h) hfin hd hn hfit hl hdg (fun H1 locs1 h1 h2 h3 => kk H1 locs1 ⟨h1, h2, h3⟩)
end BY
theorem pI_out (n : Nat) : pI (n - n) < 0 := by rw [Nat.sub_self]; exact pI_neg
def tN (x : Int32) : Nat := x.toNatClampNeg
theorem natz {n : Nat} {h : Int32} (hn : n ≤ 8) (h0 : ¬ h < 0) (h1 : ¬ nI n - 1 < h) : tN h < n ∧ h = nI (tN h) := by
  obtain ⟨j, hj, rfl⟩ := nI_of h0
  have e : tN (nI j) = j := nI_clamp hj
  rw [e]
  refine ⟨?_, rfl⟩
  have h2 : ¬ (nI n - 1).toInt < (nI j).toInt := fun z => h1 (Int32.lt_iff_toInt_lt.mpr z)
  rw [show (1:Int32) = nI 1 from rfl, pk_sub_toInt (by omega) (by omega), nI_toInt hj] at h2
  omega
/-- a counted loop that may be left early: the answer is a function of what is left -/
theorem x_loopR {p : Program} {l : Launch} {e : Env} {R : Room} {s : State} {m : MethodId} {args : Array Value} {below : List Frame} {meth : Method} {c : Code} {H : Heap} {locs : List Loc} {cells slots : Nat} {Q : State → Prop} {pc : Nat} {ls : Array Slot}
    {σ : Type} {nL N : Nat} (I : Nat → σ → Prop) (L : Nat → σ → List (Nat × Value)) {st : List Value} (s0 : σ) (i0 : I 0 s0) (h0 : lv_has ls nL (L 0 s0))
    (step : ∀ (k : Nat) (x : σ), k < N → I k x → (∀ y : σ, I (k + 1) y → ∀ ls' : Array Slot, lv_has ls' nL (L (k + 1) y) → W p l e R s m args below meth c H locs cells slots Q (F0 m pc ls' st)) → ∀ ls' : Array Slot, lv_has ls' nL (L k x) → W p l e R s m args below meth c H locs cells slots Q (F0 m pc ls' st))
    (last : ∀ x : σ, I N x → ∀ ls' : Array Slot, lv_has ls' nL (L N x) → W p l e R s m args below meth c H locs cells slots Q (F0 m pc ls' st)) : W p l e R s m args below meth c H locs cells slots Q (F0 m pc ls st) := by
  have key : ∀ (d k : Nat) (x : σ), k + d = N → I k x → ∀ ls' : Array Slot, lv_has ls' nL (L k x) → W p l e R s m args below meth c H locs cells slots Q (F0 m pc ls' st) := by
    intro d
    induction d with
    | zero => intro k x hk hi; rw [Nat.add_zero] at hk; subst hk; exact last x hi
    | succ d ih => intro k x hk hi; exact step k x (by omega) hi (fun y hy => ih (k + 1) y (by omega) hy)
  exact key N 0 s0 (Nat.zero_add N) i0 ls h0
theorem itr_b01 {f : Nat → Int32 → Int32} (h : ∀ k x, b01 x → b01 (f k x)) {x : Int32} (hx : b01 x) : ∀ n, b01 (itr f x n)
  | 0 => hx
  | n + 1 => h n _ (itr_b01 h hx n)
theorem evb : ∀ n, n < 9 → ((1 : Int32) <<< ((nI n) &&& 31)) - 1 = nI (2 ^ n - 1) := by decide +kernel
theorem pwb : ∀ n, n < 9 → ((1 : Int32) <<< ((nI n) &&& 31)) = nI (2 ^ n) := by decide +kernel
theorem pw9 : ∀ n, n < 9 → 2 ^ n ≤ 256 ∧ 1 ≤ 2 ^ n := by decide +kernel
theorem pw_in {n k : Nat} (hn : n ≤ 8) (h : k < 2 ^ n - 1) : ¬ ((1 : Int32) <<< ((nI n) &&& 31)) ≤ nI (k + 1) := by
  have := pw9 n (by omega)
  rw [pwb n (by omega)]
  exact nI_ge (by omega) (by omega)
theorem pw_out {n : Nat} (hn : n ≤ 8) : ((1 : Int32) <<< ((nI n) &&& 31)) ≤ nI (2 ^ n - 1 + 1) := by
  have := pw9 n (by omega)
  rw [pwb n (by omega)]
  exact nI_le (by omega) (by omega)
theorem ev_in {n k : Nat} (hn : n ≤ 8) (h : k < 2 ^ n - 1) : ¬ ((1 : Int32) <<< ((nI n) &&& 31)) - 1 < nI (k + 1) := by
  have := pw9 n (by omega)
  rw [evb n (by omega)]
  exact nI_nlt (by omega) (by omega)
theorem ev_out {n : Nat} (hn : n ≤ 8) : ((1 : Int32) <<< ((nI n) &&& 31)) - 1 < nI (2 ^ n - 1 + 1) := by
  have := pw9 n (by omega)
  rw [evb n (by omega)]
  exact nI_lt (by omega) (by omega)
/-- a loop held by a measure, over a changing world -/
theorem x_while {p : Program} {l : Launch} {e : Env} {R : Room} {s : State} {m : MethodId} {args : Array Value} {below : List Frame} {meth : Method} {c : Code} {H : Heap} {locs : List Loc} {cells slots : Nat} {Q : State → Prop} {pc : Nat} {ls : Array Slot} {D : va_G} {A : Nat → Prop} {H0 : Heap}
    {σ : Type} {nL : Nat} (I : Nat → σ → Prop) (St : σ → va_W) (L : σ → List (Nat × Value)) {st : List Value} (f0 : Nat) (s0 : σ) (i0 : I f0 s0) (h0 : lv_has ls nL (L s0)) (hI : Wd D A H0 (St s0) H locs) (zero : ∀ x, ¬ I 0 x)
    (step : ∀ (f : Nat) (x : σ), I (f + 1) x → (∀ y : σ, I f y → ∀ (H' : Heap) (locs' : List Loc) (ls' : Array Slot), Wd D A H0 (St y) H' locs' → lv_has ls' nL (L y) → W p l e R s m args below meth c H' locs' cells slots Q (F0 m pc ls' st)) → ∀ (H' : Heap) (locs' : List Loc) (ls' : Array Slot), Wd D A H0 (St x) H' locs' → lv_has ls' nL (L x) → W p l e R s m args below meth c H' locs' cells slots Q (F0 m pc ls' st)) : W p l e R s m args below meth c H locs cells slots Q (F0 m pc ls st) := by
  have key : ∀ (f : Nat) (x : σ), I f x → ∀ (H' : Heap) (locs' : List Loc) (ls' : Array Slot), Wd D A H0 (St x) H' locs' → lv_has ls' nL (L x) → W p l e R s m args below meth c H' locs' cells slots Q (F0 m pc ls' st) := by
    intro f
    induction f with
    | zero => intro x hx; exact absurd hx (zero x)
    | succ f ih => intro x hx; exact step f x hx ih
  exact key f0 s0 i0 H locs ls hI h0
theorem x_bast {p : Program} {l : Launch} {e : Env} {R : Room} {s : State} {m : MethodId} {args : Array Value} {below : List Frame} {meth : Method} {c : Code} {H : Heap} {locs : List Loc} {cells slots : Nat} {Q : State → Prop} {cc : ByteArray} {pc : Nat} {ls : Array Slot} {rest : List Value} {D : va_G} {A : Nat → Prop} {a : Nat} {ws : va_W} {H0 : Heap} (hexec : p.tables.exec = Jvm.exec) (hb : c.code = cc) {dI dH dB : ClassId} (hK : va_K D vwCl (tyL dI dH dB) s) (hI : Wd D A H0 ws H locs) (q0 : Nat) {n : Nat} {f : Nat → Int32} (ha : ws[q0]? = some (a, .inl (dB, n, .inl f))) {i x : Int32} (k : Nat) (hi : i = nI k) (hk : k < n) (hn : n < 2 ^ 31) {ws' : va_W} (hw : ws.set q0 (a, .inl (dB, n, .inl (upd f k (vp_nar .byte x)))) = ws') (hdg : decode cc pc = .ok (.bastore, 1))
    (kk : ∀ (H1 : Heap) (locs1 : List Loc), Wd D A H0 ws' H1 locs1 → W p l e R s m args below meth c H1 locs1 cells slots Q (F0 m (pc + 1) ls rest)) : W p l e R s m args below meth c H locs cells slots Q (F0 m pc ls (.int x :: .int i :: .ref a :: rest)) := by
  subst hi
  subst hw
  refine va_bast hexec hb hK hI.1 hI.2.1 hI.2.2 q0 2 ha rfl (vp_in_nI hk hn) hdg (fun H1 locs1 h1 h2 h3 => ?_)
  rw [nI_clamp (Nat.lt_trans hk hn)] at h1 h2
  exact kk H1 locs1 ⟨h1, h2, h3⟩
/-- a counted loop over an unchanged heap, its state a variable -/
theorem x_loopS {p : Program} {l : Launch} {e : Env} {R : Room} {s : State} {m : MethodId} {args : Array Value} {below : List Frame} {meth : Method} {c : Code} {H : Heap} {locs : List Loc} {cells slots : Nat} {Q : State → Prop} {pc : Nat} {ls : Array Slot}
    {σ : Type} {nL N : Nat} (F : Nat → σ → σ) (L : Nat → σ → List (Nat × Value)) {st : List Value} (s0 : σ) (h0 : lv_has ls nL (L 0 s0))
    (step : ∀ (k : Nat) (x : σ), k < N → x = itr F s0 k → (∀ y : σ, y = F k x → ∀ ls' : Array Slot, lv_has ls' nL (L (k + 1) y) → W p l e R s m args below meth c H locs cells slots Q (F0 m pc ls' st)) → ∀ ls' : Array Slot, lv_has ls' nL (L k x) → W p l e R s m args below meth c H locs cells slots Q (F0 m pc ls' st))
    (last : ∀ x : σ, x = itr F s0 N → ∀ ls' : Array Slot, lv_has ls' nL (L N x) → W p l e R s m args below meth c H locs cells slots Q (F0 m pc ls' st)) : W p l e R s m args below meth c H locs cells slots Q (F0 m pc ls st) := by
  have key : ∀ (d k : Nat), k + d = N → ∀ ls' : Array Slot, lv_has ls' nL (L k (itr F s0 k)) → W p l e R s m args below meth c H locs cells slots Q (F0 m pc ls' st) := by
    intro d
    induction d with
    | zero => intro k hk; rw [Nat.add_zero] at hk; subst hk; exact last _ rfl
    | succ d ih => intro k hk; exact step k _ (by omega) rfl (fun y hy => by subst hy; exact ih (k + 1) (by omega))
  exact key N 0 (Nat.zero_add N) ls h0
/-- a counted loop that changes the world, its state a variable -/
theorem x_loopT {p : Program} {l : Launch} {e : Env} {R : Room} {s : State} {m : MethodId} {args : Array Value} {below : List Frame} {meth : Method} {c : Code} {H : Heap} {locs : List Loc} {cells slots : Nat} {Q : State → Prop} {pc : Nat} {ls : Array Slot} {D : va_G} {A : Nat → Prop} {H0 : Heap}
    {σ : Type} {nL N : Nat} (F : Nat → σ → σ) (St : Nat → σ → va_W) (L : Nat → σ → List (Nat × Value)) {st : List Value} (s0 : σ) (h0 : lv_has ls nL (L 0 s0)) (hI : Wd D A H0 (St 0 s0) H locs)
    (step : ∀ (k : Nat) (x : σ), k < N → x = itr F s0 k → (∀ y : σ, y = F k x → ∀ (H' : Heap) (locs' : List Loc) (ls' : Array Slot), Wd D A H0 (St (k + 1) y) H' locs' → lv_has ls' nL (L (k + 1) y) → W p l e R s m args below meth c H' locs' cells slots Q (F0 m pc ls' st)) → ∀ (H' : Heap) (locs' : List Loc) (ls' : Array Slot), Wd D A H0 (St k x) H' locs' → lv_has ls' nL (L k x) → W p l e R s m args below meth c H' locs' cells slots Q (F0 m pc ls' st))
    (last : ∀ x : σ, x = itr F s0 N → ∀ (H' : Heap) (locs' : List Loc) (ls' : Array Slot), Wd D A H0 (St N x) H' locs' → lv_has ls' nL (L N x) → W p l e R s m args below meth c H' locs' cells slots Q (F0 m pc ls' st)) : W p l e R s m args below meth c H locs cells slots Q (F0 m pc ls st) := by
  have key : ∀ (d k : Nat), k + d = N → ∀ (H' : Heap) (locs' : List Loc) (ls' : Array Slot), Wd D A H0 (St k (itr F s0 k)) H' locs' → lv_has ls' nL (L k (itr F s0 k)) → W p l e R s m args below meth c H' locs' cells slots Q (F0 m pc ls' st) := by
    intro d
    induction d with
    | zero => intro k hk; rw [Nat.add_zero] at hk; subst hk; exact last _ rfl
    | succ d ih => intro k hk; exact step k _ (by omega) rfl (fun y hy => by subst hy; exact ih (k + 1) (by omega))
  exact key N 0 (Nat.zero_add N) H locs ls hI h0
section BZ
variable {p : Program} {l : Launch} {e : Env} {R : Room} {s : State} {m : MethodId} {args : Array Value} {below : List Frame} {meth : Method} {c : Code} {H : Heap} {locs : List Loc} {cells slots : Nat} {Q : State → Prop}
variable {pc : Nat} {ls : Array Slot} {rest st0 : List Value} {D : va_G} {A : Nat → Prop} {ws : va_W} {H0 : Heap} {mc ms : Nat} {aa : Array Value} {τ : Type}
/-- calls of a writer that has the whole world; what it gives is a variable -/
theorem x_xcallI (T : τ) (r : τ → Int32) (w : τ → va_W) (hI : Wd D A H0 ws H locs) (hA : ∀ q, H0.size ≤ q → A q) (hr : va_Run p l e R s m args below meth c H locs cells slots mc ms (F0 m pc ls st0) rest (QwI (r T) (P1 D (va_A ws H.size) (w T)) (va_A ws H.size) aa) (va_A ws H.size))
    (kk : ∀ (X : τ), X = T → ∀ (H1 : Heap) (locs1 : List Loc), Wd D A H0 (w X) H1 locs1 → W p l e R s m args below meth c H1 locs1 (cells + mc) (slots + ms) Q (F0 m (pc + 3) ls (.int (r X) :: rest))) : W p l e R s m args below meth c H locs cells slots Q (F0 m pc ls st0) := x_wcallI hI hA hr (kk T rfl)
theorem x_xcallL (T : τ) (r : τ → Int64) (w : τ → va_W) (hI : Wd D A H0 ws H locs) (hA : ∀ q, H0.size ≤ q → A q) (hr : va_Run p l e R s m args below meth c H locs cells slots mc ms (F0 m pc ls st0) rest (QwL (r T) (P1 D (va_A ws H.size) (w T)) (va_A ws H.size) aa) (va_A ws H.size))
    (kk : ∀ (X : τ), X = T → ∀ (H1 : Heap) (locs1 : List Loc), Wd D A H0 (w X) H1 locs1 → W p l e R s m args below meth c H1 locs1 (cells + mc) (slots + ms) Q (F0 m (pc + 3) ls (.long (r X) :: rest))) : W p l e R s m args below meth c H locs cells slots Q (F0 m pc ls st0) := x_wcallL hI hA hr (kk T rfl)
theorem x_xcallV (T : τ) (w : τ → va_W) (hI : Wd D A H0 ws H locs) (hA : ∀ q, H0.size ≤ q → A q) (hr : va_Run p l e R s m args below meth c H locs cells slots mc ms (F0 m pc ls st0) rest (QwV (P1 D (va_A ws H.size) (w T)) (va_A ws H.size) aa) (va_A ws H.size))
    (kk : ∀ (X : τ), X = T → ∀ (H1 : Heap) (locs1 : List Loc), Wd D A H0 (w X) H1 locs1 → W p l e R s m args below meth c H1 locs1 (cells + mc) (slots + ms) Q (F0 m (pc + 3) ls rest)) : W p l e R s m args below meth c H locs cells slots Q (F0 m pc ls st0) := x_wcallV hI hA hr (kk T rfl)
end BZ
