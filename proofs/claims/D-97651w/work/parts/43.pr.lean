
set_option maxRecDepth 100000
abbrev pw (ci o : Nat) (fs : List Value) : Unit → va_W := fun _ => [(o, .inr (ci, fs))]
theorem pw_in {ci o : Nat} {fs : List Value} : ((o, .inr (ci, fs)) : Nat × va_E) ∈ pw ci o fs () := List.mem_singleton.mpr rfl
set_option maxHeartbeats 4000000 in
theorem kX2_kind {G : Gx} (B : Base G) {ci o : Nat} {fs : List Value} : Ci G yX2_kind cX2_kind 1 .int (rmD 0) (pw ci o fs) () [.ref o] (fun r _ => r = 0) := by
  refine Ci.of B [some (.ref o)] (by decide) rfl (Nat.le_of_ble_eq_true rfl) (fun E C hR => ?_)
  have C : CxOk E RX2 cX2_kind 1 G (rmD 0) := C
  refine r_iconst (pc := 0) (0) C dX2_kind_0 (by decide) ?_
  exact r_iret (pc := 1) (S := ()) C hR dX2_kind_1 (by decide) (by decide) (rfl)
set_option maxHeartbeats 4000000 in
theorem kX3_kind {G : Gx} (B : Base G) {ci o : Nat} {fs : List Value} : Ci G yX3_kind cX3_kind 1 .int (rmD 0) (pw ci o fs) () [.ref o] (fun r _ => r = 1) := by
  refine Ci.of B [some (.ref o)] (by decide) rfl (Nat.le_of_ble_eq_true rfl) (fun E C hR => ?_)
  have C : CxOk E RX3 cX3_kind 1 G (rmD 0) := C
  refine r_iconst (pc := 0) (1) C dX3_kind_0 (by decide) ?_
  exact r_iret (pc := 1) (S := ()) C hR dX3_kind_1 (by decide) (by decide) (rfl)
set_option maxHeartbeats 4000000 in
theorem kX4_kind {G : Gx} (B : Base G) {ci o : Nat} {fs : List Value} : Ci G yX4_kind cX4_kind 1 .int (rmD 0) (pw ci o fs) () [.ref o] (fun r _ => r = 2) := by
  refine Ci.of B [some (.ref o)] (by decide) rfl (Nat.le_of_ble_eq_true rfl) (fun E C hR => ?_)
  have C : CxOk E RX4 cX4_kind 1 G (rmD 0) := C
  refine r_iconst (pc := 0) (2) C dX4_kind_0 (by decide) ?_
  exact r_iret (pc := 1) (S := ()) C hR dX4_kind_1 (by decide) (by decide) (rfl)
set_option maxHeartbeats 4000000 in
theorem kX5_kind {G : Gx} (B : Base G) {ci o : Nat} {fs : List Value} : Ci G yX5_kind cX5_kind 1 .int (rmD 0) (pw ci o fs) () [.ref o] (fun r _ => r = 3) := by
  refine Ci.of B [some (.ref o)] (by decide) rfl (Nat.le_of_ble_eq_true rfl) (fun E C hR => ?_)
  have C : CxOk E RX5 cX5_kind 1 G (rmD 0) := C
  refine r_iconst (pc := 0) (3) C dX5_kind_0 (by decide) ?_
  exact r_iret (pc := 1) (S := ()) C hR dX5_kind_1 (by decide) (by decide) (rfl)
set_option maxHeartbeats 4000000 in
theorem kX6_more {G : Gx} (B : Base G) {ci o : Nat} {fs : List Value} : Ci G yX6_more cX6_more 1 .int (rmD 0) (pw ci o fs) () [.ref o] (fun r _ => r = 2) := by
  refine Ci.of B [some (.ref o)] (by decide) rfl (Nat.le_of_ble_eq_true rfl) (fun E C hR => ?_)
  have C : CxOk E RX6 cX6_more 1 G (rmD 0) := C
  refine r_iconst (pc := 0) (2) C dX6_more_0 (by decide) ?_
  exact r_iret (pc := 1) (S := ()) C hR dX6_more_1 (by decide) (by decide) (rfl)
set_option maxHeartbeats 4000000 in
theorem kX2_feels {G : Gx} (B : Base G) {ci o : Nat} {fs : List Value} (f : Int32) : Ci G yX2_feels cX2_feels 2 .int (rmD 0) (pw ci o fs) () [.ref o, .int f] (fun r _ => r = f) := by
  refine Ci.of B [some (.ref o), some (.int f)] (by decide) rfl (Nat.le_of_ble_eq_true rfl) (fun E C hR => ?_)
  have C : CxOk E RX2 cX2_feels 2 G (rmD 0) := C
  refine r_iload_n (pc := 0) C dX2_feels_0 rfl ?_
  exact r_iret (pc := 1) (S := ()) C hR dX2_feels_1 (by decide) (by decide) (rfl)
set_option maxHeartbeats 4000000 in
theorem kX5_feels {G : Gx} (B : Base G) {ci o : Nat} {fs : List Value} (f : Int32) : Ci G yX5_feels cX5_feels 2 .int (rmD 0) (pw ci o fs) () [.ref o, .int f] (fun r _ => r = f / 2) := by
  refine Ci.of B [some (.ref o), some (.int f)] (by decide) rfl (Nat.le_of_ble_eq_true rfl) (fun E C hR => ?_)
  have C : CxOk E RX5 cX5_feels 2 G (rmD 0) := C
  refine r_iload_n (pc := 0) C dX5_feels_0 rfl ?_
  refine r_iconst (pc := 1) (2) C dX5_feels_1 (by decide) ?_
  refine r_idiv (pc := 2) C dX5_feels_2 (by decide) ?_
  exact r_iret (pc := 3) (S := ()) C hR dX5_feels_3 (by decide) (by decide) (rfl)
set_option maxHeartbeats 4000000 in
theorem kX6_kind {G : Gx} (B : Base G) {ci o : Nat} {fs : List Value} {Cn : String} {T : u_T} {N : Nat} (hcl : clsA[ci]? = some (Cn, T, N)) : Ci G yX6_kind cX6_kind 1 .int (rmD 1) (pw ci o fs) () [.ref o] (fun r _ => r = 4) := by
  refine Ci.of B [some (.ref o)] (by decide) rfl (Nat.le_of_ble_eq_true rfl) (fun E C hR => ?_)
  have C : CxOk E RX6 cX6_kind 1 G (rmD 1) := C
  refine r_iconst (pc := 0) (3) C dX6_kind_0 (by decide) ?_
  refine r_aload_n (pc := 1) C dX6_kind_1 rfl ?_
  refine r_callSUi (pc := 2) (As := []) C (kX3_kind B ) q386 q1101 q361 q387 q75 q388 ⟨by decide, by decide +kernel⟩ pw_in hcl rfl dX6_kind_2 ⟨by decide, by decide⟩ ⟨by decide, by decide⟩ (by decide) (fun r hr => ?_)
  subst hr
  refine r_iadd (pc := 5) C dX6_kind_5 ?_
  exact r_iret (pc := 6) (S := ()) C hR dX6_kind_6 (by decide) (by decide) (by decide)
set_option maxHeartbeats 4000000 in
theorem kX3_feels {G : Gx} (B : Base G) {ci o : Nat} {fs : List Value} (f : Int32) {Cn : String} {T : u_T} {N : Nat} (hcl : clsA[ci]? = some (Cn, T, N)) : Ci G yX3_feels cX3_feels 2 .int (rmD 1) (pw ci o fs) () [.ref o, .int f] (fun r _ => r = if f < 5 then 0 else f) := by
  refine Ci.of B [some (.ref o), some (.int f)] (by decide) rfl (Nat.le_of_ble_eq_true rfl) (fun E C hR => ?_)
  have C : CxOk E RX3 cX3_feels 2 G (rmD 1) := C
  refine r_iload_n (pc := 0) C dX3_feels_0 rfl ?_
  refine r_iconst (pc := 1) (5) C dX3_feels_1 (by decide) ?_
  refine r_icmp_ge (pc := 2) 9 C dX3_feels_2 (by decide) (fun c2 => ?_) (fun c2 => ?_)
  · refine r_aload_n (pc := 9) C dX3_feels_9 rfl ?_
    refine r_iload_n (pc := 10) C dX3_feels_10 rfl ?_
    refine r_callSUi (pc := 11) (As := [.int f]) C (kX2_feels B f) q418 q410 q322 q408 q74 q423 ⟨by decide, by decide +kernel⟩ pw_in hcl rfl dX3_feels_11 ⟨by decide, by decide⟩ ⟨by decide, by decide⟩ (by decide) (fun r hr => ?_)
    subst hr
    exact r_iret (pc := 14) (S := ()) C hR dX3_feels_14 (by decide) (by decide) (by rw [if_neg (Int32.not_lt.mpr c2)])
  · refine r_iconst (pc := 5) (0) C dX3_feels_5 (by decide) ?_
    refine r_goto (pc := 6) 14 C dX3_feels_6 (by decide) ?_
    exact r_iret (pc := 14) (S := ()) C hR dX3_feels_14 (by decide) (by decide) (by rw [if_pos (Int32.not_le.mp c2)])
set_option maxHeartbeats 4000000 in
theorem kX4_feels {G : Gx} (B : Base G) {ci o : Nat} {fs : List Value} (f : Int32) {Cn : String} {T : u_T} {N : Nat} (hcl : clsA[ci]? = some (Cn, T, N)) : Ci G yX4_feels cX4_feels 2 .int (rmD 1) (pw ci o fs) () [.ref o, .int f] (fun r _ => r = 9 - f) := by
  refine Ci.of B [some (.ref o), some (.int f)] (by decide) rfl (Nat.le_of_ble_eq_true rfl) (fun E C hR => ?_)
  have C : CxOk E RX4 cX4_feels 2 G (rmD 1) := C
  refine r_bipush (pc := 0) (9) C dX4_feels_0 (by decide) ?_
  refine r_aload_n (pc := 2) C dX4_feels_2 rfl ?_
  refine r_iload_n (pc := 3) C dX4_feels_3 rfl ?_
  refine r_callSUi (pc := 4) (As := [.int f]) C (kX2_feels B f) q414 q410 q335 q408 q74 q423 ⟨by decide, by decide +kernel⟩ pw_in hcl rfl dX4_feels_4 ⟨by decide, by decide⟩ ⟨by decide, by decide⟩ (by decide) (fun r hr => ?_)
  subst hr
  refine r_isub (pc := 7) C dX4_feels_7 ?_
  exact r_iret (pc := 8) (S := ()) C hR dX4_feels_8 (by decide) (by decide) (rfl)
