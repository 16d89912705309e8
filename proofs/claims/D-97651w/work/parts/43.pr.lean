
set_option maxRecDepth 100000
abbrev pw (ci o : Nat) (fs : List Value) : Unit → va_W := fun _ => [(o, .inr (ci, fs))]
theorem pd0 : (parseMethodDescriptor "()I").map (fun d => d.parameters.length) = some 0 := by decide +kernel
theorem pd1 : (parseMethodDescriptor "(I)I").map (fun d => d.parameters.length) = some 1 := by decide +kernel
theorem pw_in {ci o : Nat} {fs : List Value} : ((o, .inr (ci, fs)) : Nat × va_E) ∈ pw ci o fs () := List.mem_singleton.mpr rfl
set_option maxHeartbeats 4000000 in
theorem kX2_kind {G : Gx} (B : Base G) {ci o : Nat} {fs : List Value} : Ci G yX2_kind cX2_kind 1 .int (rmD 0) (pw ci o fs) () [.ref o] (fun r _ => r = 0) := by
  refine Ci.of B [some (.ref o)] (by decide) rfl (Nat.le_of_ble_eq_true rfl) (fun E C hR => ?_)
  have C : CxOk E RX2 cX2_kind 1 G (rmD 0) := C
  refine r_iconst (pc := 0) (0) C dX2_kind_0 (by decide) ?_
  exact r_iret (pc := 1) (S := ()) C hR dX2_kind_1 (by decide) (by decide) (rfl)
set_option maxHeartbeats 4000000 in
theorem kX3_kind {G : Gx} (B : Base G) {ci o : Nat} {fs : List Value} : Ci G yX3_kind cX3_kind 1 .int (rmD 0) (pw ci o fs) () [.ref o] (fun r _ => r = 1) := by
  refine Ci.of B [some (.ref o)] (by decide) rfl (Nat.le_of_ble_eq_true rfl) (fun E C hR => ?_)
  have C : CxOk E RX3 cX3_kind 1 G (rmD 0) := C
  refine r_iconst (pc := 0) (1) C dX3_kind_0 (by decide) ?_
  exact r_iret (pc := 1) (S := ()) C hR dX3_kind_1 (by decide) (by decide) (rfl)
set_option maxHeartbeats 4000000 in
theorem kX4_kind {G : Gx} (B : Base G) {ci o : Nat} {fs : List Value} : Ci G yX4_kind cX4_kind 1 .int (rmD 0) (pw ci o fs) () [.ref o] (fun r _ => r = 2) := by
  refine Ci.of B [some (.ref o)] (by decide) rfl (Nat.le_of_ble_eq_true rfl) (fun E C hR => ?_)
  have C : CxOk E RX4 cX4_kind 1 G (rmD 0) := C
  refine r_iconst (pc := 0) (2) C dX4_kind_0 (by decide) ?_
  exact r_iret (pc := 1) (S := ()) C hR dX4_kind_1 (by decide) (by decide) (rfl)
set_option maxHeartbeats 4000000 in
theorem kX5_kind {G : Gx} (B : Base G) {ci o : Nat} {fs : List Value} : Ci G yX5_kind cX5_kind 1 .int (rmD 0) (pw ci o fs) () [.ref o] (fun r _ => r = 3) := by
  refine Ci.of B [some (.ref o)] (by decide) rfl (Nat.le_of_ble_eq_true rfl) (fun E C hR => ?_)
  have C : CxOk E RX5 cX5_kind 1 G (rmD 0) := C
  refine r_iconst (pc := 0) (3) C dX5_kind_0 (by decide) ?_
  exact r_iret (pc := 1) (S := ()) C hR dX5_kind_1 (by decide) (by decide) (rfl)
set_option maxHeartbeats 4000000 in
theorem kX6_more {G : Gx} (B : Base G) {ci o : Nat} {fs : List Value} : Ci G yX6_more cX6_more 1 .int (rmD 0) (pw ci o fs) () [.ref o] (fun r _ => r = 2) := by
  refine Ci.of B [some (.ref o)] (by decide) rfl (Nat.le_of_ble_eq_true rfl) (fun E C hR => ?_)
  have C : CxOk E RX6 cX6_more 1 G (rmD 0) := C
  refine r_iconst (pc := 0) (2) C dX6_more_0 (by decide) ?_
  exact r_iret (pc := 1) (S := ()) C hR dX6_more_1 (by decide) (by decide) (rfl)
set_option maxHeartbeats 4000000 in
theorem kX2_feels {G : Gx} (B : Base G) {ci o : Nat} {fs : List Value} (f : Int32) : Ci G yX2_feels cX2_feels 2 .int (rmD 0) (pw ci o fs) () [.ref o, .int f] (fun r _ => r = f) := by
  refine Ci.of B [some (.ref o), some (.int f)] (by decide) rfl (Nat.le_of_ble_eq_true rfl) (fun E C hR => ?_)
  have C : CxOk E RX2 cX2_feels 2 G (rmD 0) := C
  refine r_iload_n (pc := 0) C dX2_feels_0 rfl ?_
  exact r_iret (pc := 1) (S := ()) C hR dX2_feels_1 (by decide) (by decide) (rfl)
set_option maxHeartbeats 4000000 in
theorem kX5_feels {G : Gx} (B : Base G) {ci o : Nat} {fs : List Value} (f : Int32) : Ci G yX5_feels cX5_feels 2 .int (rmD 0) (pw ci o fs) () [.ref o, .int f] (fun r _ => r = f / 2) := by
  refine Ci.of B [some (.ref o), some (.int f)] (by decide) rfl (Nat.le_of_ble_eq_true rfl) (fun E C hR => ?_)
  have C : CxOk E RX5 cX5_feels 2 G (rmD 0) := C
  refine r_iload_n (pc := 0) C dX5_feels_0 rfl ?_
  refine r_iconst (pc := 1) (2) C dX5_feels_1 (by decide) ?_
  refine r_idiv (pc := 2) C dX5_feels_2 (by decide) ?_
  exact r_iret (pc := 3) (S := ()) C hR dX5_feels_3 (by decide) (by decide) (rfl)
set_option maxHeartbeats 4000000 in
theorem kX6_kind {G : Gx} (B : Base G) {ci o : Nat} {fs : List Value} {Cn : String} {T : u_T} {N : Nat} (hcl : clsA[ci]? = some (Cn, T, N)) : Ci G yX6_kind cX6_kind 1 .int (rmD 1) (pw ci o fs) () [.ref o] (fun r _ => r = 4) := by
  refine Ci.of B [some (.ref o)] (by decide) rfl (Nat.le_of_ble_eq_true rfl) (fun E C hR => ?_)
  have C : CxOk E RX6 cX6_kind 1 G (rmD 1) := C
  refine r_iconst (pc := 0) (3) C dX6_kind_0 (by decide) ?_
  refine r_aload_n (pc := 1) C dX6_kind_1 rfl ?_
  refine r_callSUi (pc := 2) (As := []) C (kX3_kind B ) q386 q1101 q361 q387 q75 q388 ⟨by decide, pd0⟩ pw_in hcl rfl dX6_kind_2 ⟨by decide, by decide⟩ ⟨by decide, by decide⟩ (by decide) (fun r hr => ?_)
  subst hr
  refine r_iadd (pc := 5) C dX6_kind_5 ?_
  exact r_iret (pc := 6) (S := ()) C hR dX6_kind_6 (by decide) (by decide) (by decide)
set_option maxHeartbeats 4000000 in
theorem kX3_feels {G : Gx} (B : Base G) {ci o : Nat} {fs : List Value} (f : Int32) {Cn : String} {T : u_T} {N : Nat} (hcl : clsA[ci]? = some (Cn, T, N)) : Ci G yX3_feels cX3_feels 2 .int (rmD 1) (pw ci o fs) () [.ref o, .int f] (fun r _ => r = if f < 5 then 0 else f) := by
  refine Ci.of B [some (.ref o), some (.int f)] (by decide) rfl (Nat.le_of_ble_eq_true rfl) (fun E C hR => ?_)
  have C : CxOk E RX3 cX3_feels 2 G (rmD 1) := C
  refine r_iload_n (pc := 0) C dX3_feels_0 rfl ?_
  refine r_iconst (pc := 1) (5) C dX3_feels_1 (by decide) ?_
  refine r_icmp_ge (pc := 2) 9 C dX3_feels_2 (by decide) (fun c2 => ?_) (fun c2 => ?_)
  · refine r_aload_n (pc := 9) C dX3_feels_9 rfl ?_
    refine r_iload_n (pc := 10) C dX3_feels_10 rfl ?_
    refine r_callSUi (pc := 11) (As := [.int f]) C (kX2_feels B f) q418 q410 q322 q408 q74 q423 ⟨by decide, pd1⟩ pw_in hcl rfl dX3_feels_11 ⟨by decide, by decide⟩ ⟨by decide, by decide⟩ (by decide) (fun r hr => ?_)
    subst hr
    exact r_iret (pc := 14) (S := ()) C hR dX3_feels_14 (by decide) (by decide) (by rw [if_neg (Int32.not_lt.mpr c2)])
  · refine r_iconst (pc := 5) (0) C dX3_feels_5 (by decide) ?_
    refine r_goto (pc := 6) 14 C dX3_feels_6 (by decide) ?_
    exact r_iret (pc := 14) (S := ()) C hR dX3_feels_14 (by decide) (by decide) (by rw [if_pos (Int32.not_le.mp c2)])
set_option maxHeartbeats 4000000 in
theorem kX4_feels {G : Gx} (B : Base G) {ci o : Nat} {fs : List Value} (f : Int32) {Cn : String} {T : u_T} {N : Nat} (hcl : clsA[ci]? = some (Cn, T, N)) : Ci G yX4_feels cX4_feels 2 .int (rmD 1) (pw ci o fs) () [.ref o, .int f] (fun r _ => r = 9 - f) := by
  refine Ci.of B [some (.ref o), some (.int f)] (by decide) rfl (Nat.le_of_ble_eq_true rfl) (fun E C hR => ?_)
  have C : CxOk E RX4 cX4_feels 2 G (rmD 1) := C
  refine r_bipush (pc := 0) (9) C dX4_feels_0 (by decide) ?_
  refine r_aload_n (pc := 2) C dX4_feels_2 rfl ?_
  refine r_iload_n (pc := 3) C dX4_feels_3 rfl ?_
  refine r_callSUi (pc := 4) (As := [.int f]) C (kX2_feels B f) q414 q410 q335 q408 q74 q423 ⟨by decide, pd1⟩ pw_in hcl rfl dX4_feels_4 ⟨by decide, by decide⟩ ⟨by decide, by decide⟩ (by decide) (fun r hr => ?_)
  subst hr
  refine r_isub (pc := 7) C dX4_feels_7 ?_
  exact r_iret (pc := 8) (S := ()) C hR dX4_feels_8 (by decide) (by decide) (rfl)
theorem wu_more6 {G : Gx} (B : Base G) : Wu G RX2 13 RX6 RX7 yPmore yX6_more := fun args s hts hW => by
  have w1 : (Cond.sameMethod RX2 RX7 "more" "()I").before args s = true := word_at hW (Or.inl (by first | rfl | simp [Cond.onTables, Cond.keeps, Cond.steady])) (nw_ok B 1 nw1)
  refine ⟨word_at hW (Or.inl (by first | rfl | simp [Cond.onTables, Cond.keeps, Cond.steady])) (nw_ok B 0 nw0), w1, va_Decl.of (hts _ q432) (hts _ q434), ?_⟩
  obtain ⟨cn, ck, r, -, -, -, hf, hn⟩ := Cond.sameMethod_found w1
  have hf2 : s.methodFound? RX7 "more" "()I" = some r := State.methodFound?_of_named (x := ⟨RX7, "more", "()I"⟩) hn ⟨by decide, by decide⟩
  have h : (Cond.selects RX6 yX7_more yX6_more).before args s = true := hts _ q426
  unfold Cond.before Cond.holds Cond.value at h ⊢
  rw [show s.methodFound? yX7_more.cls yX7_more.name yX7_more.desc = some r from hf2] at h
  rw [show s.methodFound? yPmore.cls yPmore.name yPmore.desc = some r from hf]
  exact h
set_option maxHeartbeats 4000000 in
theorem kA0 {G : Gx} (B : Base G) {o : Nat} {fs : List Value} (f : Int32) : Ci G yX2_feelsAll cX2_feelsAll 2 .int (rmD 2) (pw 2 o fs) () [.ref o, .int f] (fun r _ => r = feels 0 f) := by
  refine Ci.of B [some (.ref o), some (.int f)] (by decide) rfl (Nat.le_of_ble_eq_true rfl) (fun E C hR => ?_)
  have C : CxOk E RX2 cX2_feelsAll 2 G (rmD 2) := C
  refine r_aload_n (pc := 0) C dX2_feelsAll_0 rfl ?_
  refine r_iload_n (pc := 1) C dX2_feelsAll_1 rfl ?_
  refine r_callUi (pc := 2) (x := yX2_feels) (As := [.int f]) C (kX2_feels B f) (Wu.of q407 q410 q408 q423 q409) q408 q74 q423 ⟨by decide, by decide, pd1⟩ pw_in rfl rfl dX2_feelsAll_2 ⟨by decide, by decide⟩ ⟨by decide, by decide⟩ (by decide) (fun r hr => ?_)
  refine r_aload_n (pc := 5) C dX2_feelsAll_5 rfl ?_
  refine r_more0 (pc := 6) (q0 := 0) C B (nw_ok B 76 nw76) rfl rfl dX2_feelsAll_6 ⟨by decide, by decide⟩ (by simp [Value.category]) ?_
  refine r_iadd (pc := 9) C dX2_feelsAll_9 ?_
  exact r_iret (pc := 10) (S := ()) C hR dX2_feelsAll_10 (by decide) (by decide) (by rw [hr]; exact Int32.add_zero _)
set_option maxHeartbeats 4000000 in
theorem kA1 {G : Gx} (B : Base G) {o : Nat} {fs : List Value} (f : Int32) : Ci G yX2_feelsAll cX2_feelsAll 2 .int (rmD 2) (pw 3 o fs) () [.ref o, .int f] (fun r _ => r = feels 1 f) := by
  refine Ci.of B [some (.ref o), some (.int f)] (by decide) rfl (Nat.le_of_ble_eq_true rfl) (fun E C hR => ?_)
  have C : CxOk E RX2 cX2_feelsAll 2 G (rmD 2) := C
  refine r_aload_n (pc := 0) C dX2_feelsAll_0 rfl ?_
  refine r_iload_n (pc := 1) C dX2_feelsAll_1 rfl ?_
  refine r_callUi (pc := 2) (x := yX2_feels) (As := [.int f]) C (kX3_feels B f (Cn := RX3) (T := TX3) (N := 6) rfl) (Wu.of q407 q410 q408 q423 q422) q416 q75 q417 ⟨by decide, by decide, pd1⟩ pw_in rfl rfl dX2_feelsAll_2 ⟨by decide, by decide⟩ ⟨by decide, by decide⟩ (by decide) (fun r hr => ?_)
  refine r_aload_n (pc := 5) C dX2_feelsAll_5 rfl ?_
  refine r_more0 (pc := 6) (q0 := 0) C B (nw_ok B 77 nw77) rfl rfl dX2_feelsAll_6 ⟨by decide, by decide⟩ (by simp [Value.category]) ?_
  refine r_iadd (pc := 9) C dX2_feelsAll_9 ?_
  exact r_iret (pc := 10) (S := ()) C hR dX2_feelsAll_10 (by decide) (by decide) (by rw [hr]; exact Int32.add_zero _)
set_option maxHeartbeats 4000000 in
theorem kA2 {G : Gx} (B : Base G) {o : Nat} {fs : List Value} (f : Int32) : Ci G yX2_feelsAll cX2_feelsAll 2 .int (rmD 2) (pw 4 o fs) () [.ref o, .int f] (fun r _ => r = feels 2 f) := by
  refine Ci.of B [some (.ref o), some (.int f)] (by decide) rfl (Nat.le_of_ble_eq_true rfl) (fun E C hR => ?_)
  have C : CxOk E RX2 cX2_feelsAll 2 G (rmD 2) := C
  refine r_aload_n (pc := 0) C dX2_feelsAll_0 rfl ?_
  refine r_iload_n (pc := 1) C dX2_feelsAll_1 rfl ?_
  refine r_callUi (pc := 2) (x := yX2_feels) (As := [.int f]) C (kX4_feels B f (Cn := RX4) (T := TX4) (N := 6) rfl) (Wu.of q407 q410 q408 q423 q411) q412 q76 q413 ⟨by decide, by decide, pd1⟩ pw_in rfl rfl dX2_feelsAll_2 ⟨by decide, by decide⟩ ⟨by decide, by decide⟩ (by decide) (fun r hr => ?_)
  refine r_aload_n (pc := 5) C dX2_feelsAll_5 rfl ?_
  refine r_more0 (pc := 6) (q0 := 0) C B (nw_ok B 74 nw74) rfl rfl dX2_feelsAll_6 ⟨by decide, by decide⟩ (by simp [Value.category]) ?_
  refine r_iadd (pc := 9) C dX2_feelsAll_9 ?_
  exact r_iret (pc := 10) (S := ()) C hR dX2_feelsAll_10 (by decide) (by decide) (by rw [hr]; exact Int32.add_zero _)
set_option maxHeartbeats 4000000 in
theorem kA3 {G : Gx} (B : Base G) {o : Nat} {fs : List Value} (f : Int32) : Ci G yX2_feelsAll cX2_feelsAll 2 .int (rmD 2) (pw 5 o fs) () [.ref o, .int f] (fun r _ => r = feels 3 f) := by
  refine Ci.of B [some (.ref o), some (.int f)] (by decide) rfl (Nat.le_of_ble_eq_true rfl) (fun E C hR => ?_)
  have C : CxOk E RX2 cX2_feelsAll 2 G (rmD 2) := C
  refine r_aload_n (pc := 0) C dX2_feelsAll_0 rfl ?_
  refine r_iload_n (pc := 1) C dX2_feelsAll_1 rfl ?_
  refine r_callUi (pc := 2) (x := yX2_feels) (As := [.int f]) C (kX5_feels B f) (Wu.of q407 q410 q408 q423 q419) q420 q77 q421 ⟨by decide, by decide, pd1⟩ pw_in rfl rfl dX2_feelsAll_2 ⟨by decide, by decide⟩ ⟨by decide, by decide⟩ (by decide) (fun r hr => ?_)
  refine r_aload_n (pc := 5) C dX2_feelsAll_5 rfl ?_
  refine r_more0 (pc := 6) (q0 := 0) C B (nw_ok B 75 nw75) rfl rfl dX2_feelsAll_6 ⟨by decide, by decide⟩ (by simp [Value.category]) ?_
  refine r_iadd (pc := 9) C dX2_feelsAll_9 ?_
  exact r_iret (pc := 10) (S := ()) C hR dX2_feelsAll_10 (by decide) (by decide) (by rw [hr]; exact Int32.add_zero _)
set_option maxHeartbeats 4000000 in
theorem kA4 {G : Gx} (B : Base G) {o : Nat} {fs : List Value} (f : Int32) : Ci G yX2_feelsAll cX2_feelsAll 2 .int (rmD 2) (pw 6 o fs) () [.ref o, .int f] (fun r _ => r = feels 4 f) := by
  refine Ci.of B [some (.ref o), some (.int f)] (by decide) rfl (Nat.le_of_ble_eq_true rfl) (fun E C hR => ?_)
  have C : CxOk E RX2 cX2_feelsAll 2 G (rmD 2) := C
  refine r_aload_n (pc := 0) C dX2_feelsAll_0 rfl ?_
  refine r_iload_n (pc := 1) C dX2_feelsAll_1 rfl ?_
  refine r_callUi (pc := 2) (x := yX2_feels) (As := [.int f]) C (kX3_feels B f (Cn := RX6) (T := TX6) (N := 6) rfl) (Wu.of q407 q410 q408 q423 q415) q416 q75 q417 ⟨by decide, by decide, pd1⟩ pw_in rfl rfl dX2_feelsAll_2 ⟨by decide, by decide⟩ ⟨by decide, by decide⟩ (by decide) (fun r hr => ?_)
  refine r_aload_n (pc := 5) C dX2_feelsAll_5 rfl ?_
  refine r_callUi (pc := 6) (x := yPmore) (As := []) C (kX6_more B) (wu_more6 B) q427 q78 q428 ⟨by decide, by decide, pd0⟩ pw_in rfl rfl dX2_feelsAll_6 ⟨by decide, by decide⟩ ⟨by decide, by decide⟩ (by simp [Value.category]) (fun r2 hr2 => ?_)
  subst hr2
  refine r_iadd (pc := 9) C dX2_feelsAll_9 ?_
  exact r_iret (pc := 10) (S := ()) C hR dX2_feelsAll_10 (by decide) (by decide) (by rw [hr]; rfl)
