set_option maxRecDepth 100000
theorem x_hcl {kd : Nat} (h : kd < 5) : ∃ C : vw_C, vwCl[4 + kd]? = some C := by
  match kd, h with
  | 0, _ => exact ⟨_, rfl⟩
  | 1, _ => exact ⟨_, rfl⟩
  | 2, _ => exact ⟨_, rfl⟩
  | 3, _ => exact ⟨_, rfl⟩
  | 4, _ => exact ⟨_, rfl⟩
  | n + 5, h => exact absurd h (by omega)
def H_kind0  : Int32 := (0 : Int32)
set_option maxHeartbeats 4000000 in
theorem met_H_kind0 (l : Launch) {D : va_G} {dI dH dB : ClassId} {K : State → Prop} (hKO : KOK D dI dH dB K) (h t kd : Nat) (num par : Int32) (tl : Nat → Int32)  : Met l yX4_kind (ws_ yX4_kind cX4_kind 1 (some .int)) ({ frames := 0, cells := 0, slots := 0, locals := 0 }) (xP [.ref h] (HW1 D dI h t kd num par tl) K) (QcRead H_kind0) 0 0 (fun _ => False) := by
  refine x_met (by decide) (Nat.le_of_ble_eq_true rfl) ?_
  intro p e s m below meth c ls hx hb hr hts hown hlocks hml hnm hP hs hl
  have hK := hKO.k hs
  have hw : HW1 D dI h t kd num par tl s.heap := hP
  have hl_1 : lv_has ls 1 [(0, .ref h)] := hl
  refine lv_iconst (v := (0 : Int32)) hx hb dX4_kind_0 (by decide) ?_
  exact x_retR hx hb hr hlocks dX4_kind_1 rfl
def H_kind1  : Int32 := (1 : Int32)
set_option maxHeartbeats 4000000 in
theorem met_H_kind1 (l : Launch) {D : va_G} {dI dH dB : ClassId} {K : State → Prop} (hKO : KOK D dI dH dB K) (h t kd : Nat) (num par : Int32) (tl : Nat → Int32)  : Met l yX5_kind (ws_ yX5_kind cX5_kind 1 (some .int)) ({ frames := 0, cells := 0, slots := 0, locals := 0 }) (xP [.ref h] (HW1 D dI h t kd num par tl) K) (QcRead H_kind1) 0 0 (fun _ => False) := by
  refine x_met (by decide) (Nat.le_of_ble_eq_true rfl) ?_
  intro p e s m below meth c ls hx hb hr hts hown hlocks hml hnm hP hs hl
  have hK := hKO.k hs
  have hw : HW1 D dI h t kd num par tl s.heap := hP
  have hl_1 : lv_has ls 1 [(0, .ref h)] := hl
  refine lv_iconst (v := (1 : Int32)) hx hb dX5_kind_0 (by decide) ?_
  exact x_retR hx hb hr hlocks dX5_kind_1 rfl
def H_kind2  : Int32 := (2 : Int32)
set_option maxHeartbeats 4000000 in
theorem met_H_kind2 (l : Launch) {D : va_G} {dI dH dB : ClassId} {K : State → Prop} (hKO : KOK D dI dH dB K) (h t kd : Nat) (num par : Int32) (tl : Nat → Int32)  : Met l yX6_kind (ws_ yX6_kind cX6_kind 1 (some .int)) ({ frames := 0, cells := 0, slots := 0, locals := 0 }) (xP [.ref h] (HW1 D dI h t kd num par tl) K) (QcRead H_kind2) 0 0 (fun _ => False) := by
  refine x_met (by decide) (Nat.le_of_ble_eq_true rfl) ?_
  intro p e s m below meth c ls hx hb hr hts hown hlocks hml hnm hP hs hl
  have hK := hKO.k hs
  have hw : HW1 D dI h t kd num par tl s.heap := hP
  have hl_1 : lv_has ls 1 [(0, .ref h)] := hl
  refine lv_iconst (v := (2 : Int32)) hx hb dX6_kind_0 (by decide) ?_
  exact x_retR hx hb hr hlocks dX6_kind_1 rfl
def H_kind3  : Int32 := (3 : Int32)
set_option maxHeartbeats 4000000 in
theorem met_H_kind3 (l : Launch) {D : va_G} {dI dH dB : ClassId} {K : State → Prop} (hKO : KOK D dI dH dB K) (h t kd : Nat) (num par : Int32) (tl : Nat → Int32)  : Met l yX7_kind (ws_ yX7_kind cX7_kind 1 (some .int)) ({ frames := 0, cells := 0, slots := 0, locals := 0 }) (xP [.ref h] (HW1 D dI h t kd num par tl) K) (QcRead H_kind3) 0 0 (fun _ => False) := by
  refine x_met (by decide) (Nat.le_of_ble_eq_true rfl) ?_
  intro p e s m below meth c ls hx hb hr hts hown hlocks hml hnm hP hs hl
  have hK := hKO.k hs
  have hw : HW1 D dI h t kd num par tl s.heap := hP
  have hl_1 : lv_has ls 1 [(0, .ref h)] := hl
  refine lv_iconst (v := (3 : Int32)) hx hb dX7_kind_0 (by decide) ?_
  exact x_retR hx hb hr hlocks dX7_kind_1 rfl
def H_kind4  : Int32 := ((2 : Int32) + H_kind2)
set_option maxHeartbeats 4000000 in
theorem met_H_kind4 (l : Launch) {D : va_G} {dI dH dB : ClassId} {K : State → Prop} (hKO : KOK D dI dH dB K) (h t kd : Nat) (num par : Int32) (tl : Nat → Int32)  : Met l yX8_kind (ws_ yX8_kind cX8_kind 1 (some .int)) ({ frames := 1, cells := 0, slots := 0, locals := 20 }) (xP [.ref h] (HW1 D dI h t kd num par tl) K) (QcRead H_kind4) 0 0 (fun _ => False) := by
  refine x_met (by decide) (Nat.le_of_ble_eq_true rfl) ?_
  intro p e s m below meth c ls hx hb hr hts hown hlocks hml hnm hP hs hl
  have hK := hKO.k hs
  have hw : HW1 D dI h t kd num par tl s.heap := hP
  have hl_1 : lv_has ls 1 [(0, .ref h)] := hl
  refine lv_iconst (v := (2 : Int32)) hx hb dX8_kind_0 (by decide) ?_
  refine lv_aload_n hx hb dX8_kind_1 rfl (lv_at hl_1 0 rfl) ?_
  obtain ⟨C_, hC_⟩ : ∃ C_ : vw_C, vwCl[4 + kd]? = some C_ := x_hcl hw.1
  refine x_callR (va_runSU (As := []) (rest := [.int _]) (hK.1 (4 + kd) C_ hC_).2 ⟨hx, hb, hml, hown, hts⟩ (met_H_kind2 l hKO h t kd num par tl ) (va_cwSU 0 hts (lw_app (a := [.methodLink _ _ _, .sameMethod _ _ _ _, .superclass _ _, .instanceMethod _, .initialized _]) (List.forall_mem_cons.mpr ⟨q331, List.forall_mem_cons.mpr ⟨q1067, List.forall_mem_cons.mpr ⟨q301, List.forall_mem_cons.mpr ⟨q326, List.forall_mem_cons.mpr ⟨q61, fun _ h => absurd h List.not_mem_nil⟩⟩⟩⟩⟩) (lw_meth q327)) rfl rfl rfl (by decide +kernel) ⟨(Nat.le_of_ble_eq_true rfl), (Nat.le_of_ble_eq_true rfl)⟩) ⟨xP_blind hKO, x_recvH hK hw.2 hC_, xP_pre hKO hs hw⟩ rfl rfl hl_1.1 rfl (lv_room (Nat.le_of_ble_eq_true rfl)) dX8_kind_2 ⟨(Nat.le_of_ble_eq_true rfl), (Nat.le_of_ble_eq_true rfl)⟩).run ?_
  refine lv_iadd hx hb dX8_kind_5 ?_
  exact x_retR hx hb hr hlocks dX8_kind_6 rfl
def H_isOpen (tl : Nat → Int32) (hr0 : Int32) : Int32 := (if hr0 < (tl 0) then (0 : Int32) else (if (tl 1) ≤ hr0 then (0 : Int32) else (1 : Int32)))
theorem H_isOpen_b01 (tl : Nat → Int32) (hr0 : Int32) : b01 (H_isOpen tl hr0) := by unfold H_isOpen; exact (b01_ite b01_0 (b01_ite b01_0 b01_1))
set_option maxHeartbeats 4000000 in
theorem met_H_isOpen (l : Launch) {D : va_G} {dI dH dB : ClassId} {K : State → Prop} (hKO : KOK D dI dH dB K) (h t kd : Nat) (num par : Int32) (tl : Nat → Int32) (hr0 : Int32) : Met l yX4_isOpen (ws_ yX4_isOpen cX4_isOpen 2 (some .boolean)) ({ frames := 0, cells := 0, slots := 0, locals := 0 }) (xP [.ref h, .int hr0] (HW1 D dI h t kd num par tl) K) (QcRead (H_isOpen tl hr0)) 0 0 (fun _ => False) := by
  refine x_met (by decide) (Nat.le_of_ble_eq_true rfl) ?_
  intro p e s m below meth c ls hx hb hr hts hown hlocks hml hnm hP hs hl
  have hK := hKO.k hs
  have hw : HW1 D dI h t kd num par tl s.heap := hP
  have hl_1 : lv_has ls 2 [(0, .ref h), (1, .int hr0)] := hl
  refine lv_iload_n hx hb dX4_isOpen_0 rfl (lv_at hl_1 1 rfl) ?_
  refine lv_aload_n hx hb dX4_isOpen_1 rfl (lv_at hl_1 0 rfl) ?_
  refine x_gh hx hb hts hown hK hw 2 (Nat.le_of_ble_eq_true rfl) (hts _ q251) (v := .ref t) rfl dX4_isOpen_2 ?_
  refine lv_iconst (v := (0 : Int32)) hx hb dX4_isOpen_5 (by decide) ?_
  refine x_told1 hx hb hK hw 0 rfl (Nat.le_of_ble_eq_true rfl) (x := (tl 0)) rfl dX4_isOpen_6 ?_
  refine x_cut2 25 (if hr0 < (tl 0) then (0 : Int32) else (if (tl 1) ≤ hr0 then (0 : Int32) else (1 : Int32))) ?_ (fun J_1 => ?_)
  · exact x_retRZ hx hb hr hlocks dX4_isOpen_25 (b01_ite b01_0 (b01_ite b01_0 b01_1)) rfl
  · refine lv_icmp_lt (tgt := 24) hx hb dX4_isOpen_7 (by decide) (fun c_2 => ?_) (fun c_2 => ?_)
    · refine lv_iconst (v := (0 : Int32)) hx hb dX4_isOpen_24 (by decide) ?_
      exact J_1 (0 : Int32) ((if_pos c_2)).symm
    · refine lv_iload_n hx hb dX4_isOpen_10 rfl (lv_at hl_1 1 rfl) ?_
      refine lv_aload_n hx hb dX4_isOpen_11 rfl (lv_at hl_1 0 rfl) ?_
      refine x_gh hx hb hts hown hK hw 2 (Nat.le_of_ble_eq_true rfl) (hts _ q251) (v := .ref t) rfl dX4_isOpen_12 ?_
      refine lv_iconst (v := (1 : Int32)) hx hb dX4_isOpen_15 (by decide) ?_
      refine x_told1 hx hb hK hw 1 rfl (Nat.le_of_ble_eq_true rfl) (x := (tl 1)) rfl dX4_isOpen_16 ?_
      refine x_cut2 25 (if (tl 1) ≤ hr0 then (0 : Int32) else (1 : Int32)) ?_ (fun J_3 => ?_)
      · exact J_1 (if (tl 1) ≤ hr0 then (0 : Int32) else (1 : Int32)) ((if_neg c_2)).symm
      · refine lv_icmp_ge (tgt := 24) hx hb dX4_isOpen_17 (by decide) (fun c_4 => ?_) (fun c_4 => ?_)
        · refine lv_iconst (v := (0 : Int32)) hx hb dX4_isOpen_24 (by decide) ?_
          exact J_3 (0 : Int32) ((if_pos c_4)).symm
        · refine lv_iconst (v := (1 : Int32)) hx hb dX4_isOpen_20 (by decide) ?_
          refine lv_goto (tgt := 25) hx hb dX4_isOpen_21 (by decide) ?_
          exact J_3 (1 : Int32) ((if_neg c_4)).symm
def H_feet0 (tl : Nat → Int32) : Int32 := (tl 2)
set_option maxHeartbeats 4000000 in
theorem met_H_feet0 (l : Launch) {D : va_G} {dI dH dB : ClassId} {K : State → Prop} (hKO : KOK D dI dH dB K) (h t kd : Nat) (num par : Int32) (tl : Nat → Int32) (hr0 : Int32) (wk : Int32) (hwk : b01 wk) : Met l yX4_feet (ws_ yX4_feet cX4_feet 3 (some .int)) ({ frames := 0, cells := 0, slots := 0, locals := 0 }) (xP [.ref h, .int hr0, .int wk] (HW1 D dI h t kd num par tl) K) (QcRead (H_feet0 tl)) 0 0 (fun _ => False) := by
  refine x_met (by decide) (Nat.le_of_ble_eq_true rfl) ?_
  intro p e s m below meth c ls hx hb hr hts hown hlocks hml hnm hP hs hl
  have hK := hKO.k hs
  have hw : HW1 D dI h t kd num par tl s.heap := hP
  have hl_1 : lv_has ls 3 [(0, .ref h), (1, .int hr0), (2, .int wk)] := hl
  refine lv_aload_n hx hb dX4_feet_0 rfl (lv_at hl_1 0 rfl) ?_
  refine x_gh hx hb hts hown hK hw 2 (Nat.le_of_ble_eq_true rfl) (hts _ q251) (v := .ref t) rfl dX4_feet_1 ?_
  refine lv_iconst (v := (2 : Int32)) hx hb dX4_feet_4 (by decide) ?_
  refine x_told1 hx hb hK hw 2 rfl (Nat.le_of_ble_eq_true rfl) (x := (tl 2)) rfl dX4_feet_5 ?_
  exact x_retR hx hb hr hlocks dX4_feet_6 rfl
def H_feet2 (tl : Nat → Int32) (hr0 : Int32) : Int32 := (if hr0 = (tl 0) then ((2 : Int32) * (H_feet0 tl)) else (H_feet0 tl))
set_option maxHeartbeats 4000000 in
theorem met_H_feet2 (l : Launch) {D : va_G} {dI dH dB : ClassId} {K : State → Prop} (hKO : KOK D dI dH dB K) (h t kd : Nat) (num par : Int32) (tl : Nat → Int32) (hr0 : Int32) (wk : Int32) (hwk : b01 wk) : Met l yX6_feet (ws_ yX6_feet cX6_feet 4 (some .int)) ({ frames := 1, cells := 0, slots := 0, locals := 22 }) (xP [.ref h, .int hr0, .int wk] (HW1 D dI h t kd num par tl) K) (QcRead (H_feet2 tl hr0)) 0 0 (fun _ => False) := by
  refine x_met (by decide) (Nat.le_of_ble_eq_true rfl) ?_
  intro p e s m below meth c ls hx hb hr hts hown hlocks hml hnm hP hs hl
  have hK := hKO.k hs
  have hw : HW1 D dI h t kd num par tl s.heap := hP
  have hl_1 : lv_has ls 4 [(0, .ref h), (1, .int hr0), (2, .int wk)] := hl
  refine lv_aload_n hx hb dX6_feet_0 rfl (lv_at hl_1 0 rfl) ?_
  refine lv_iload_n hx hb dX6_feet_1 rfl (lv_at hl_1 1 rfl) ?_
  refine lv_iload_n hx hb dX6_feet_2 rfl (lv_at hl_1 2 rfl) ?_
  obtain ⟨C_, hC_⟩ : ∃ C_ : vw_C, vwCl[4 + kd]? = some C_ := x_hcl hw.1
  refine x_callR (va_runSU (As := [.int _, .int _]) (rest := []) (hK.1 (4 + kd) C_ hC_).2 ⟨hx, hb, hml, hown, hts⟩ (met_H_feet0 l hKO h t kd num par tl hr0 wk hwk) (va_cwSU 2 hts (lw_app (a := [.methodLink _ _ _, .sameMethod _ _ _ _, .superclass _ _, .instanceMethod _, .initialized _]) (List.forall_mem_cons.mpr ⟨q454, List.forall_mem_cons.mpr ⟨q449, List.forall_mem_cons.mpr ⟨q281, List.forall_mem_cons.mpr ⟨q447, List.forall_mem_cons.mpr ⟨q59, fun _ h => absurd h List.not_mem_nil⟩⟩⟩⟩⟩) (lw_meth q460)) rfl rfl rfl (by decide +kernel) ⟨(Nat.le_of_ble_eq_true rfl), (Nat.le_of_ble_eq_true rfl)⟩) ⟨xP_blind hKO, x_recvH hK hw.2 hC_, xP_pre hKO hs hw⟩ rfl rfl hl_1.1 rfl (lv_room (Nat.le_of_ble_eq_true rfl)) dX6_feet_3 ⟨(Nat.le_of_ble_eq_true rfl), (Nat.le_of_ble_eq_true rfl)⟩).run ?_
  refine lv_istore_n (lv' := [(3, .int _), (0, .ref _), (1, .int _), (2, .int _)]) hx hb dX6_feet_6 rfl hl_1 (Nat.le_of_ble_eq_true rfl) rfl (fun ls_2 hl_2 => ?_)
  refine lv_iload_n hx hb dX6_feet_7 rfl (lv_at hl_2 2 rfl) ?_
  refine lv_aload_n hx hb dX6_feet_8 rfl (lv_at hl_2 1 rfl) ?_
  refine x_ghs hx hb hts hown hK hw 2 (Nat.le_of_ble_eq_true rfl) (hts _ q252) (u_same (hts _ q253)) (v := .ref t) rfl dX6_feet_9 ?_
  refine lv_iconst (v := (0 : Int32)) hx hb dX6_feet_12 (by decide) ?_
  refine x_told1 hx hb hK hw 0 rfl (Nat.le_of_ble_eq_true rfl) (x := (tl 0)) rfl dX6_feet_13 ?_
  refine x_cut2 24 (if hr0 = (tl 0) then ((2 : Int32) * (H_feet0 tl)) else (H_feet0 tl)) ?_ (fun J_1 => ?_)
  · exact x_retR hx hb hr hlocks dX6_feet_24 rfl
  · refine lv_icmp_ne (tgt := 23) hx hb dX6_feet_14 (by decide) (fun c_2 => ?_) (fun c_2 => ?_)
    · refine lv_iload_n hx hb dX6_feet_23 rfl (lv_at hl_2 0 rfl) ?_
      exact J_1 (H_feet0 tl) ((if_neg c_2)).symm
    · refine lv_iconst (v := (2 : Int32)) hx hb dX6_feet_17 (by decide) ?_
      refine lv_iload_n hx hb dX6_feet_18 rfl (lv_at hl_2 0 rfl) ?_
      refine lv_imul hx hb dX6_feet_19 ?_
      refine lv_goto (tgt := 24) hx hb dX6_feet_20 (by decide) ?_
      exact J_1 ((2 : Int32) * (H_feet0 tl)) ((if_pos c_2)).symm
def H_feet3 (tl : Nat → Int32) (wk : Int32) : Int32 := ((H_feet0 tl) - (if wk = (0 : Int32) then (0 : Int32) else (1 : Int32)))
set_option maxHeartbeats 4000000 in
theorem met_H_feet3 (l : Launch) {D : va_G} {dI dH dB : ClassId} {K : State → Prop} (hKO : KOK D dI dH dB K) (h t kd : Nat) (num par : Int32) (tl : Nat → Int32) (hr0 : Int32) (wk : Int32) (hwk : b01 wk) : Met l yX7_feet (ws_ yX7_feet cX7_feet 3 (some .int)) ({ frames := 1, cells := 0, slots := 0, locals := 22 }) (xP [.ref h, .int hr0, .int wk] (HW1 D dI h t kd num par tl) K) (QcRead (H_feet3 tl wk)) 0 0 (fun _ => False) := by
  refine x_met (by decide) (Nat.le_of_ble_eq_true rfl) ?_
  intro p e s m below meth c ls hx hb hr hts hown hlocks hml hnm hP hs hl
  have hK := hKO.k hs
  have hw : HW1 D dI h t kd num par tl s.heap := hP
  have hl_1 : lv_has ls 3 [(0, .ref h), (1, .int hr0), (2, .int wk)] := hl
  refine lv_aload_n hx hb dX7_feet_0 rfl (lv_at hl_1 0 rfl) ?_
  refine lv_iload_n hx hb dX7_feet_1 rfl (lv_at hl_1 1 rfl) ?_
  refine lv_iload_n hx hb dX7_feet_2 rfl (lv_at hl_1 2 rfl) ?_
  obtain ⟨C_, hC_⟩ : ∃ C_ : vw_C, vwCl[4 + kd]? = some C_ := x_hcl hw.1
  refine x_callR (va_runSU (As := [.int _, .int _]) (rest := []) (hK.1 (4 + kd) C_ hC_).2 ⟨hx, hb, hml, hown, hts⟩ (met_H_feet0 l hKO h t kd num par tl hr0 wk hwk) (va_cwSU 2 hts (lw_app (a := [.methodLink _ _ _, .sameMethod _ _ _ _, .superclass _ _, .instanceMethod _, .initialized _]) (List.forall_mem_cons.mpr ⟨q459, List.forall_mem_cons.mpr ⟨q449, List.forall_mem_cons.mpr ⟨q291, List.forall_mem_cons.mpr ⟨q447, List.forall_mem_cons.mpr ⟨q59, fun _ h => absurd h List.not_mem_nil⟩⟩⟩⟩⟩) (lw_meth q460)) rfl rfl rfl (by decide +kernel) ⟨(Nat.le_of_ble_eq_true rfl), (Nat.le_of_ble_eq_true rfl)⟩) ⟨xP_blind hKO, x_recvH hK hw.2 hC_, xP_pre hKO hs hw⟩ rfl rfl hl_1.1 rfl (lv_room (Nat.le_of_ble_eq_true rfl)) dX7_feet_3 ⟨(Nat.le_of_ble_eq_true rfl), (Nat.le_of_ble_eq_true rfl)⟩).run ?_
  refine lv_iload_n hx hb dX7_feet_6 rfl (lv_at hl_1 2 rfl) ?_
  refine x_cut1 15 (if wk = (0 : Int32) then (0 : Int32) else (1 : Int32)) ?_ (fun J_1 => ?_)
  · refine lv_isub hx hb dX7_feet_15 ?_
    exact x_retR hx hb hr hlocks dX7_feet_16 rfl
  · refine lv_if_eq (tgt := 14) hx hb dX7_feet_7 (by decide) (fun c_2 => ?_) (fun c_2 => ?_)
    · refine lv_iconst (v := (0 : Int32)) hx hb dX7_feet_14 (by decide) ?_
      exact J_1 (0 : Int32) ((if_pos c_2)).symm
    · refine lv_iconst (v := (1 : Int32)) hx hb dX7_feet_10 (by decide) ?_
      refine lv_goto (tgt := 15) hx hb dX7_feet_11 (by decide) ?_
      exact J_1 (1 : Int32) ((if_neg c_2)).symm
def H_loses0 (tl : Nat → Int32) (rn : Int32) : Int32 := ((tl 3) + (if rn = (0 : Int32) then (0 : Int32) else (1 : Int32)))
set_option maxHeartbeats 4000000 in
theorem met_H_loses0 (l : Launch) {D : va_G} {dI dH dB : ClassId} {K : State → Prop} (hKO : KOK D dI dH dB K) (h t kd : Nat) (num par : Int32) (tl : Nat → Int32) (rn : Int32) (hrn : b01 rn) : Met l yX4_loses (ws_ yX4_loses cX4_loses 2 (some .int)) ({ frames := 0, cells := 0, slots := 0, locals := 0 }) (xP [.ref h, .int rn] (HW1 D dI h t kd num par tl) K) (QcRead (H_loses0 tl rn)) 0 0 (fun _ => False) := by
  refine x_met (by decide) (Nat.le_of_ble_eq_true rfl) ?_
  intro p e s m below meth c ls hx hb hr hts hown hlocks hml hnm hP hs hl
  have hK := hKO.k hs
  have hw : HW1 D dI h t kd num par tl s.heap := hP
  have hl_1 : lv_has ls 2 [(0, .ref h), (1, .int rn)] := hl
  refine lv_aload_n hx hb dX4_loses_0 rfl (lv_at hl_1 0 rfl) ?_
  refine x_gh hx hb hts hown hK hw 2 (Nat.le_of_ble_eq_true rfl) (hts _ q251) (v := .ref t) rfl dX4_loses_1 ?_
  refine lv_iconst (v := (3 : Int32)) hx hb dX4_loses_4 (by decide) ?_
  refine x_told1 hx hb hK hw 3 rfl (Nat.le_of_ble_eq_true rfl) (x := (tl 3)) rfl dX4_loses_5 ?_
  refine lv_iload_n hx hb dX4_loses_6 rfl (lv_at hl_1 1 rfl) ?_
  refine x_cut1 15 (if rn = (0 : Int32) then (0 : Int32) else (1 : Int32)) ?_ (fun J_1 => ?_)
  · refine lv_iadd hx hb dX4_loses_15 ?_
    exact x_retR hx hb hr hlocks dX4_loses_16 rfl
  · refine lv_if_eq (tgt := 14) hx hb dX4_loses_7 (by decide) (fun c_2 => ?_) (fun c_2 => ?_)
    · refine lv_iconst (v := (0 : Int32)) hx hb dX4_loses_14 (by decide) ?_
      exact J_1 (0 : Int32) ((if_pos c_2)).symm
    · refine lv_iconst (v := (1 : Int32)) hx hb dX4_loses_10 (by decide) ?_
      refine lv_goto (tgt := 15) hx hb dX4_loses_11 (by decide) ?_
      exact J_1 (1 : Int32) ((if_neg c_2)).symm
def H_loses4  : Int32 := (0 : Int32)
set_option maxHeartbeats 4000000 in
theorem met_H_loses4 (l : Launch) {D : va_G} {dI dH dB : ClassId} {K : State → Prop} (hKO : KOK D dI dH dB K) (h t kd : Nat) (num par : Int32) (tl : Nat → Int32) (rn : Int32) (hrn : b01 rn) : Met l yX8_loses (ws_ yX8_loses cX8_loses 2 (some .int)) ({ frames := 0, cells := 0, slots := 0, locals := 0 }) (xP [.ref h, .int rn] (HW1 D dI h t kd num par tl) K) (QcRead H_loses4) 0 0 (fun _ => False) := by
  refine x_met (by decide) (Nat.le_of_ble_eq_true rfl) ?_
  intro p e s m below meth c ls hx hb hr hts hown hlocks hml hnm hP hs hl
  have hK := hKO.k hs
  have hw : HW1 D dI h t kd num par tl s.heap := hP
  have hl_1 : lv_has ls 2 [(0, .ref h), (1, .int rn)] := hl
  refine lv_iconst (v := (0 : Int32)) hx hb dX8_loses_0 (by decide) ?_
  exact x_retR hx hb hr hlocks dX8_loses_1 rfl
def H_mayStop1  : Int32 := (0 : Int32)
theorem H_mayStop1_b01  : b01 (H_mayStop1) := by unfold H_mayStop1; exact b01_0
set_option maxHeartbeats 4000000 in
theorem met_H_mayStop1 (l : Launch) {D : va_G} {dI dH dB : ClassId} {K : State → Prop} (hKO : KOK D dI dH dB K) (h t kd : Nat) (num par : Int32) (tl : Nat → Int32)  : Met l yX5_mayStop (ws_ yX5_mayStop cX5_mayStop 1 (some .boolean)) ({ frames := 0, cells := 0, slots := 0, locals := 0 }) (xP [.ref h] (HW1 D dI h t kd num par tl) K) (QcRead H_mayStop1) 0 0 (fun _ => False) := by
  refine x_met (by decide) (Nat.le_of_ble_eq_true rfl) ?_
  intro p e s m below meth c ls hx hb hr hts hown hlocks hml hnm hP hs hl
  have hK := hKO.k hs
  have hw : HW1 D dI h t kd num par tl s.heap := hP
  have hl_1 : lv_has ls 1 [(0, .ref h)] := hl
  refine lv_iconst (v := (0 : Int32)) hx hb dX5_mayStop_0 (by decide) ?_
  exact x_retRZ hx hb hr hlocks dX5_mayStop_1 b01_0 rfl
