section
-- ===== PART A: goes FIRST, ahead of the names: the tables' words, and 'selects' of the methods that only their own kind may call, out of them =====
/-- such a method, by its rows of tables_1 -/
def lw_okq (q : MethodName × Nat) : Prop := (q.1.cls ≠ "java/lang/invoke/MethodHandle" ∧ q.1.cls ≠ "java/lang/invoke/VarHandle") ∧ Cond.instantiable q.1.cls q.2 ∈ tables_1 ∧ Cond.privateMethod q.1 ∈ tables_1 ∧ Cond.instanceMethod q.1 ∈ tables_1
set_option maxRecDepth 100000
theorem lw_p0 : lw_okq (⟨"CrossDesk", "actAll", "()V"⟩, 5) := ⟨⟨by decide +kernel, by decide +kernel⟩, List.mem_of_getElem? (i := 4) rfl, List.mem_of_getElem? (i := 50) rfl, List.mem_of_getElem? (i := 51) rfl⟩
theorem lw_p1 : lw_okq (⟨"CrossDesk", "begin", "()V"⟩, 5) := ⟨⟨by decide +kernel, by decide +kernel⟩, List.mem_of_getElem? (i := 4) rfl, List.mem_of_getElem? (i := 54) rfl, List.mem_of_getElem? (i := 55) rfl⟩
theorem lw_p2 : lw_okq (⟨"CrossDesk", "act", "(I)Z"⟩, 5) := ⟨⟨by decide +kernel, by decide +kernel⟩, List.mem_of_getElem? (i := 4) rfl, List.mem_of_getElem? (i := 58) rfl, List.mem_of_getElem? (i := 59) rfl⟩
theorem lw_p3 : lw_okq (⟨"CrossDesk", "isOwn", "(I)Z"⟩, 5) := ⟨⟨by decide +kernel, by decide +kernel⟩, List.mem_of_getElem? (i := 4) rfl, List.mem_of_getElem? (i := 62) rfl, List.mem_of_getElem? (i := 63) rfl⟩
theorem lw_p4 : lw_okq (⟨"CrossDeskModel", "reckon", "()V"⟩, 9) := ⟨⟨by decide +kernel, by decide +kernel⟩, List.mem_of_getElem? (i := 74) rfl, List.mem_of_getElem? (i := 126) rfl, List.mem_of_getElem? (i := 127) rfl⟩
theorem lw_p5 : lw_okq (⟨"CrossDeskModel", "orders", "()I"⟩, 9) := ⟨⟨by decide +kernel, by decide +kernel⟩, List.mem_of_getElem? (i := 74) rfl, List.mem_of_getElem? (i := 130) rfl, List.mem_of_getElem? (i := 131) rfl⟩
theorem lw_p6 : lw_okq (⟨"CrossDeskModel", "order", "(I)V"⟩, 9) := ⟨⟨by decide +kernel, by decide +kernel⟩, List.mem_of_getElem? (i := 74) rfl, List.mem_of_getElem? (i := 134) rfl, List.mem_of_getElem? (i := 135) rfl⟩
def lw_privs_1 : List (MethodName × Nat) := [(⟨"CrossDesk", "actAll", "()V"⟩, 5), (⟨"CrossDesk", "begin", "()V"⟩, 5), (⟨"CrossDesk", "act", "(I)Z"⟩, 5), (⟨"CrossDesk", "isOwn", "(I)Z"⟩, 5), (⟨"CrossDeskModel", "reckon", "()V"⟩, 9), (⟨"CrossDeskModel", "orders", "()I"⟩, 9), (⟨"CrossDeskModel", "order", "(I)V"⟩, 9)]
theorem lw_r1 : ∀ q ∈ lw_privs_1, lw_okq q := List.forall_mem_cons.mpr ⟨lw_p0, List.forall_mem_cons.mpr ⟨lw_p1, List.forall_mem_cons.mpr ⟨lw_p2, List.forall_mem_cons.mpr ⟨lw_p3, List.forall_mem_cons.mpr ⟨lw_p4, List.forall_mem_cons.mpr ⟨lw_p5, List.forall_mem_cons.mpr ⟨lw_p6, fun _ h => absurd h List.not_mem_nil⟩⟩⟩⟩⟩⟩⟩
def lw_privs : List (MethodName × Nat) := lw_privs_1
def lw_tbl : List Cond := k2_sels lw_privs ++ tables_1
theorem lw_privs_ok : ∀ q ∈ lw_privs, lw_okq q := lw_r1
-- ===== ONE list of words for every method: the tables' words that hold all through a run =====
def lw_all : List Cond := lw_tbl.filter goodWord
/-- a word of the tables by its place: claim/WORDS.tsv -/
theorem lw_w {w : Cond} (i : Nat) (h : lw_tbl[i]? = some w) (g : goodWord w = true) : w ∈ lw_all := List.mem_filter.mpr ⟨List.mem_of_getElem? h, g⟩
theorem lw_all_tbl {w : Cond} (h : w ∈ lw_all) : w ∈ lw_tbl := (List.mem_filter.mp h).1
theorem lw_self : GoodIn lw_all lw_all := fun w h => ⟨h, good_of_word (List.mem_filter.mp h).2⟩
/-- field words, by their places -/
theorem lw_in (ws : List Cond) (ps : List Nat) (hp : ws = ps.filterMap (fun i => lw_tbl[i]?)) (hg : ws.all goodWord = true) : ∀ w ∈ ws, w ∈ lw_all := by
  intro w h
  have h1 := List.all_eq_true.mp hg w h
  rw [hp] at h
  obtain ⟨i, -, hi⟩ := List.mem_filterMap.mp h
  exact lw_w i hi h1
/-- the words of a contract for the method y with code b, L locals, answer r -/
abbrev ws_ (y : MethodName) (b : ByteArray) (L : Nat) (r : Option FieldType) : List Cond := Cond.code y b L r :: lw_all
theorem lw_meth {y : MethodName} {b : ByteArray} {L : Nat} {r : Option FieldType} (h : Cond.code y b L r ∈ lw_all) : GoodIn lw_all (ws_ y b L r) := by
  intro w hw
  rcases List.mem_cons.mp hw with e | e
  · rw [e]
    exact lw_self _ h
  · exact lw_self _ e
theorem lw_app {a c : List Cond} (ha : ∀ w ∈ a, w ∈ lw_all) (hc : GoodIn lw_all c) : GoodIn lw_all (a ++ c) := by
  intro w hw
  rcases List.mem_append.mp hw with e | e
  · exact lw_self w (ha w e)
  · exact hc w e
/-- what a call through an object asks: cwV n hts (lw_V ..) -/
theorem lw_V {own : String} {idx : Nat} {C : String} {y : MethodName} {b : ByteArray} {L : Nat} {r : Option FieldType} (h1 : Cond.methodLink own idx y ∈ lw_all) (h2 : Cond.instanceMethod y ∈ lw_all) (h3 : Cond.selects C y y ∈ lw_all) (h4 : Cond.initialized C ∈ lw_all) (h5 : Cond.code y b L r ∈ lw_all) : GoodIn lw_all (wsV own idx C y (ws_ y b L r)) := by
  refine lw_app ?_ (lw_meth h5)
  intro w hw
  simp only [List.mem_cons, List.not_mem_nil, or_false] at hw
  rcases hw with e | e | e | e
  · rw [e]; exact h1
  · rw [e]; exact h2
  · rw [e]; exact h3
  · rw [e]; exact h4
/-- what a static call asks: va_cwS n hts (lw_S ..) -/
theorem lw_S {own : String} {idx : Nat} {y : MethodName} {b : ByteArray} {L : Nat} {r : Option FieldType} (h1 : Cond.methodLink own idx y ∈ lw_all) (h2 : Cond.static y ∈ lw_all) (h3 : Cond.initialized y.cls ∈ lw_all) (h4 : Cond.code y b L r ∈ lw_all) : GoodIn lw_all (va_wsS own idx y (ws_ y b L r)) := by
  refine lw_app ?_ (lw_meth h4)
  intro w hw
  simp only [List.mem_cons, List.not_mem_nil, or_false] at hw
  rcases hw with e | e | e
  · rw [e]; exact h1
  · rw [e]; exact h2
  · rw [e]; exact h3
/-- the words of a contract for a method WITH HANDLERS (hh: its table) -/
abbrev wsW_ (y : MethodName) (b : ByteArray) (L : Nat) (r : Option FieldType) (hh : List (Nat × Nat × Nat × Nat)) : List Cond := Cond.codeWith y b L r hh :: lw_all
theorem lw_methW {y : MethodName} {b : ByteArray} {L : Nat} {r : Option FieldType} {hh : List (Nat × Nat × Nat × Nat)} (h : Cond.codeWith y b L r hh ∈ lw_all) : GoodIn lw_all (wsW_ y b L r hh) := by
  intro w hw
  rcases List.mem_cons.mp hw with e | e
  · rw [e]
    exact lw_self _ h
  · exact lw_self _ e
/-- any list of words by their places (lw_in), good -/
theorem lw_good {ws : List Cond} (h : ∀ w ∈ ws, w ∈ lw_all) : GoodIn lw_all ws := fun w hw => lw_self w (h w hw)
/-- what a call of a method with handlers asks: vx_cwVW n hts (lw_VW ..), vx_cwSW n hts (lw_SW ..) -/
theorem lw_VW {own : String} {idx : Nat} {C : String} {y : MethodName} {b : ByteArray} {L : Nat} {r : Option FieldType} {hh : List (Nat × Nat × Nat × Nat)} (h1 : Cond.methodLink own idx y ∈ lw_all) (h2 : Cond.instanceMethod y ∈ lw_all) (h3 : Cond.selects C y y ∈ lw_all) (h4 : Cond.initialized C ∈ lw_all) (h5 : Cond.codeWith y b L r hh ∈ lw_all) : GoodIn lw_all (wsV own idx C y (wsW_ y b L r hh)) := by
  refine lw_app ?_ (lw_methW h5)
  intro w hw
  simp only [List.mem_cons, List.not_mem_nil, or_false] at hw
  rcases hw with e | e | e | e
  · rw [e]; exact h1
  · rw [e]; exact h2
  · rw [e]; exact h3
  · rw [e]; exact h4
theorem lw_SW {own : String} {idx : Nat} {y : MethodName} {b : ByteArray} {L : Nat} {r : Option FieldType} {hh : List (Nat × Nat × Nat × Nat)} (h1 : Cond.methodLink own idx y ∈ lw_all) (h2 : Cond.static y ∈ lw_all) (h3 : Cond.initialized y.cls ∈ lw_all) (h4 : Cond.codeWith y b L r hh ∈ lw_all) : GoodIn lw_all (va_wsS own idx y (wsW_ y b L r hh)) := by
  refine lw_app ?_ (lw_methW h4)
  intro w hw
  simp only [List.mem_cons, List.not_mem_nil, or_false] at hw
  rcases hw with e | e | e
  · rw [e]; exact h1
  · rw [e]; exact h2
  · rw [e]; exact h3
/-- a word by its place in its run of the tables -/
theorem lw_at {r : List Cond} (hr : ∀ w ∈ r, w ∈ lw_tbl) {w : Cond} (i : Nat) (h : r[i]? = some w) : w ∈ lw_tbl := hr w (List.mem_of_getElem? h)
theorem lw_g {w : Cond} (h : w ∈ lw_tbl) (g : goodWord w = true) : w ∈ lw_all := List.mem_filter.mpr ⟨h, g⟩
theorem lw_ms : ∀ w ∈ k2_sels lw_privs, w ∈ lw_tbl := fun w h => show w ∈ k2_sels lw_privs ++ tables_1 from List.mem_append_left _ h
theorem lw_m0 : ∀ w ∈ tables_1, w ∈ lw_tbl := fun w h => show w ∈ k2_sels lw_privs ++ tables_1 from List.mem_append_right (k2_sels lw_privs) h
theorem qs0 : (Cond.selects "CrossDesk" ⟨"CrossDesk", "actAll", "()V"⟩ ⟨"CrossDesk", "actAll", "()V"⟩) ∈ lw_all := lw_g (lw_at lw_ms 0 rfl) rfl
theorem qs1 : (Cond.selects "CrossDesk" ⟨"CrossDesk", "begin", "()V"⟩ ⟨"CrossDesk", "begin", "()V"⟩) ∈ lw_all := lw_g (lw_at lw_ms 1 rfl) rfl
theorem qs2 : (Cond.selects "CrossDesk" ⟨"CrossDesk", "act", "(I)Z"⟩ ⟨"CrossDesk", "act", "(I)Z"⟩) ∈ lw_all := lw_g (lw_at lw_ms 2 rfl) rfl
theorem qs3 : (Cond.selects "CrossDesk" ⟨"CrossDesk", "isOwn", "(I)Z"⟩ ⟨"CrossDesk", "isOwn", "(I)Z"⟩) ∈ lw_all := lw_g (lw_at lw_ms 3 rfl) rfl
theorem qs4 : (Cond.selects "CrossDeskModel" ⟨"CrossDeskModel", "reckon", "()V"⟩ ⟨"CrossDeskModel", "reckon", "()V"⟩) ∈ lw_all := lw_g (lw_at lw_ms 4 rfl) rfl
theorem qs5 : (Cond.selects "CrossDeskModel" ⟨"CrossDeskModel", "orders", "()I"⟩ ⟨"CrossDeskModel", "orders", "()I"⟩) ∈ lw_all := lw_g (lw_at lw_ms 5 rfl) rfl
theorem qs6 : (Cond.selects "CrossDeskModel" ⟨"CrossDeskModel", "order", "(I)V"⟩ ⟨"CrossDeskModel", "order", "(I)V"⟩) ∈ lw_all := lw_g (lw_at lw_ms 6 rfl) rfl
end
section
/-! CrossDesk -/
set_option maxRecDepth 100000
def RX0 : String := "CrossDesk"
def TX0 : u_T := fun k => match k with
  | 0 => ("CrossDesk", "wires", "I", false)
  | 1 => ("CrossDesk", "many", "I", false)
  | 2 => ("CrossDesk", "first", "[B", true)
  | 3 => ("CrossDesk", "second", "[B", true)
  | _ => ("CrossDesk", "ones", "[J", true)
def tyX0 : Nat → FieldType := fun k => match k with
  | 0 => .int
  | 1 => .int
  | 2 => .array .byte
  | 3 => .array .byte
  | _ => .array .long
abbrev wsX00 : List Cond := u_ws RX0 TX0 5
theorem nmX0 : ∀ a, a < 5 → ∀ b, b < 5 → a ≠ b → (TX0 a).2.1 ≠ (TX0 b).2.1 := by decide +kernel
theorem tyX0_ok : ∀ k, k < 5 → parseFieldDescriptor (TX0 k).2.2.1 = some (tyX0 k) := by decide +kernel
abbrev cX0_init : ByteArray := prog_1_method_1_code
def yX0_init : MethodName := ⟨RX0, "<init>", "()V"⟩
theorem dX0_init_0 : decode cX0_init 0 = .ok (.aload_n 0, 1) := by decide +kernel
theorem dX0_init_1 : decode cX0_init 1 = .ok (.invokespecial 1, 3) := by decide +kernel
theorem dX0_init_4 : decode cX0_init 4 = .ok (.aload_n 0, 1) := by decide +kernel
theorem dX0_init_5 : decode cX0_init 5 = .ok (.iconst 4, 1) := by decide +kernel
theorem dX0_init_6 : decode cX0_init 6 = .ok (.putfield 7, 3) := by decide +kernel
theorem dX0_init_9 : decode cX0_init 9 = .ok (.aload_n 0, 1) := by decide +kernel
theorem dX0_init_10 : decode cX0_init 10 = .ok (.bipush 48, 2) := by decide +kernel
theorem dX0_init_12 : decode cX0_init 12 = .ok (.newarray .byte, 2) := by decide +kernel
theorem dX0_init_14 : decode cX0_init 14 = .ok (.putfield 13, 3) := by decide +kernel
theorem dX0_init_17 : decode cX0_init 17 = .ok (.aload_n 0, 1) := by decide +kernel
theorem dX0_init_18 : decode cX0_init 18 = .ok (.bipush 48, 2) := by decide +kernel
theorem dX0_init_20 : decode cX0_init 20 = .ok (.newarray .byte, 2) := by decide +kernel
theorem dX0_init_22 : decode cX0_init 22 = .ok (.putfield 17, 3) := by decide +kernel
theorem dX0_init_25 : decode cX0_init 25 = .ok (.aload_n 0, 1) := by decide +kernel
theorem dX0_init_26 : decode cX0_init 26 = .ok (.bipush 6, 2) := by decide +kernel
theorem dX0_init_28 : decode cX0_init 28 = .ok (.newarray .long, 2) := by decide +kernel
theorem dX0_init_30 : decode cX0_init 30 = .ok (.putfield 20, 3) := by decide +kernel
theorem dX0_init_33 : decode cX0_init 33 = .ok (.return_, 1) := by decide +kernel
abbrev cX0_wires : ByteArray := prog_1_method_3_code
def yX0_wires : MethodName := ⟨RX0, "wires", "(I)V"⟩
theorem dX0_wires_0 : decode cX0_wires 0 = .ok (.aload_n 0, 1) := by decide +kernel
theorem dX0_wires_1 : decode cX0_wires 1 = .ok (.iconst 2, 1) := by decide +kernel
theorem dX0_wires_2 : decode cX0_wires 2 = .ok (.iload_n 1, 1) := by decide +kernel
theorem dX0_wires_3 : decode cX0_wires 3 = .ok (.iconst 5, 1) := by decide +kernel
theorem dX0_wires_4 : decode cX0_wires 4 = .ok (.invokestatic 25, 3) := by decide +kernel
theorem dX0_wires_7 : decode cX0_wires 7 = .ok (.iadd, 1) := by decide +kernel
theorem dX0_wires_8 : decode cX0_wires 8 = .ok (.putfield 7, 3) := by decide +kernel
theorem dX0_wires_11 : decode cX0_wires 11 = .ok (.aload_n 0, 1) := by decide +kernel
theorem dX0_wires_12 : decode cX0_wires 12 = .ok (.iconst 0, 1) := by decide +kernel
theorem dX0_wires_13 : decode cX0_wires 13 = .ok (.putfield 29, 3) := by decide +kernel
theorem dX0_wires_16 : decode cX0_wires 16 = .ok (.return_, 1) := by decide +kernel
abbrev cX0_counted : ByteArray := prog_1_method_2_code
def yX0_counted : MethodName := ⟨RX0, "counted", "(II)I"⟩
theorem dX0_counted_0 : decode cX0_counted 0 = .ok (.iload_n 0, 1) := by decide +kernel
theorem dX0_counted_1 : decode cX0_counted 1 = .ok (.ldc 24, 2) := by decide +kernel
theorem dX0_counted_3 : decode cX0_counted 3 = .ok (.iand, 1) := by decide +kernel
theorem dX0_counted_4 : decode cX0_counted 4 = .ok (.iload_n 1, 1) := by decide +kernel
theorem dX0_counted_5 : decode cX0_counted 5 = .ok (.irem, 1) := by decide +kernel
theorem dX0_counted_6 : decode cX0_counted 6 = .ok (.ireturn, 1) := by decide +kernel
abbrev cX0_join : ByteArray := prog_1_method_4_code
def yX0_join : MethodName := ⟨RX0, "join", "(II)Z"⟩
theorem dX0_join_0 : decode cX0_join 0 = .ok (.iload_n 1, 1) := by decide +kernel
theorem dX0_join_1 : decode cX0_join 1 = .ok (.aload_n 0, 1) := by decide +kernel
theorem dX0_join_2 : decode cX0_join 2 = .ok (.getfield 7, 3) := by decide +kernel
theorem dX0_join_5 : decode cX0_join 5 = .ok (.invokestatic 25, 3) := by decide +kernel
theorem dX0_join_8 : decode cX0_join 8 = .ok (.istore_n 3, 1) := by decide +kernel
theorem dX0_join_9 : decode cX0_join 9 = .ok (.iload_n 2, 1) := by decide +kernel
theorem dX0_join_10 : decode cX0_join 10 = .ok (.aload_n 0, 1) := by decide +kernel
theorem dX0_join_11 : decode cX0_join 11 = .ok (.getfield 7, 3) := by decide +kernel
theorem dX0_join_14 : decode cX0_join 14 = .ok (.invokestatic 25, 3) := by decide +kernel
theorem dX0_join_17 : decode cX0_join 17 = .ok (.istore 4, 2) := by decide +kernel
theorem dX0_join_19 : decode cX0_join 19 = .ok (.iload_n 3, 1) := by decide +kernel
theorem dX0_join_20 : decode cX0_join 20 = .ok (.iload 4, 2) := by decide +kernel
theorem dX0_join_22 : decode cX0_join 22 = .ok (.if_icmp .eq 12, 3) := by decide +kernel
theorem dX0_join_25 : decode cX0_join 25 = .ok (.aload_n 0, 1) := by decide +kernel
theorem dX0_join_26 : decode cX0_join 26 = .ok (.getfield 29, 3) := by decide +kernel
theorem dX0_join_29 : decode cX0_join 29 = .ok (.bipush 48, 2) := by decide +kernel
theorem dX0_join_31 : decode cX0_join 31 = .ok (.if_icmp .ne 5, 3) := by decide +kernel
theorem dX0_join_34 : decode cX0_join 34 = .ok (.iconst 0, 1) := by decide +kernel
theorem dX0_join_35 : decode cX0_join 35 = .ok (.ireturn, 1) := by decide +kernel
theorem dX0_join_36 : decode cX0_join 36 = .ok (.aload_n 0, 1) := by decide +kernel
theorem dX0_join_37 : decode cX0_join 37 = .ok (.getfield 13, 3) := by decide +kernel
theorem dX0_join_40 : decode cX0_join 40 = .ok (.aload_n 0, 1) := by decide +kernel
theorem dX0_join_41 : decode cX0_join 41 = .ok (.getfield 29, 3) := by decide +kernel
theorem dX0_join_44 : decode cX0_join 44 = .ok (.iload_n 3, 1) := by decide +kernel
theorem dX0_join_45 : decode cX0_join 45 = .ok (.i2b, 1) := by decide +kernel
theorem dX0_join_46 : decode cX0_join 46 = .ok (.bastore, 1) := by decide +kernel
theorem dX0_join_47 : decode cX0_join 47 = .ok (.aload_n 0, 1) := by decide +kernel
theorem dX0_join_48 : decode cX0_join 48 = .ok (.getfield 17, 3) := by decide +kernel
theorem dX0_join_51 : decode cX0_join 51 = .ok (.aload_n 0, 1) := by decide +kernel
theorem dX0_join_52 : decode cX0_join 52 = .ok (.getfield 29, 3) := by decide +kernel
theorem dX0_join_55 : decode cX0_join 55 = .ok (.iload 4, 2) := by decide +kernel
theorem dX0_join_57 : decode cX0_join 57 = .ok (.i2b, 1) := by decide +kernel
theorem dX0_join_58 : decode cX0_join 58 = .ok (.bastore, 1) := by decide +kernel
theorem dX0_join_59 : decode cX0_join 59 = .ok (.aload_n 0, 1) := by decide +kernel
theorem dX0_join_60 : decode cX0_join 60 = .ok (.dup, 1) := by decide +kernel
theorem dX0_join_61 : decode cX0_join 61 = .ok (.getfield 29, 3) := by decide +kernel
theorem dX0_join_64 : decode cX0_join 64 = .ok (.iconst 1, 1) := by decide +kernel
theorem dX0_join_65 : decode cX0_join 65 = .ok (.iadd, 1) := by decide +kernel
theorem dX0_join_66 : decode cX0_join 66 = .ok (.putfield 29, 3) := by decide +kernel
theorem dX0_join_69 : decode cX0_join 69 = .ok (.iconst 1, 1) := by decide +kernel
theorem dX0_join_70 : decode cX0_join 70 = .ok (.ireturn, 1) := by decide +kernel
abbrev cX0_drop : ByteArray := prog_1_method_5_code
def yX0_drop : MethodName := ⟨RX0, "drop", "()Z"⟩
theorem dX0_drop_0 : decode cX0_drop 0 = .ok (.aload_n 0, 1) := by decide +kernel
theorem dX0_drop_1 : decode cX0_drop 1 = .ok (.getfield 29, 3) := by decide +kernel
theorem dX0_drop_4 : decode cX0_drop 4 = .ok (.ifCond .ne 5, 3) := by decide +kernel
theorem dX0_drop_7 : decode cX0_drop 7 = .ok (.iconst 0, 1) := by decide +kernel
theorem dX0_drop_8 : decode cX0_drop 8 = .ok (.ireturn, 1) := by decide +kernel
theorem dX0_drop_9 : decode cX0_drop 9 = .ok (.aload_n 0, 1) := by decide +kernel
theorem dX0_drop_10 : decode cX0_drop 10 = .ok (.dup, 1) := by decide +kernel
theorem dX0_drop_11 : decode cX0_drop 11 = .ok (.getfield 29, 3) := by decide +kernel
theorem dX0_drop_14 : decode cX0_drop 14 = .ok (.iconst 1, 1) := by decide +kernel
theorem dX0_drop_15 : decode cX0_drop 15 = .ok (.isub, 1) := by decide +kernel
theorem dX0_drop_16 : decode cX0_drop 16 = .ok (.putfield 29, 3) := by decide +kernel
theorem dX0_drop_19 : decode cX0_drop 19 = .ok (.iconst 1, 1) := by decide +kernel
theorem dX0_drop_20 : decode cX0_drop 20 = .ok (.ireturn, 1) := by decide +kernel
abbrev cX0_sorts : ByteArray := prog_1_method_10_code
def yX0_sorts : MethodName := ⟨RX0, "sorts", "()Z"⟩
theorem dX0_sorts_0 : decode cX0_sorts 0 = .ok (.aload_n 0, 1) := by decide +kernel
theorem dX0_sorts_1 : decode cX0_sorts 1 = .ok (.invokevirtual 39, 3) := by decide +kernel
theorem dX0_sorts_4 : decode cX0_sorts 4 = .ok (.iconst 0, 1) := by decide +kernel
theorem dX0_sorts_5 : decode cX0_sorts 5 = .ok (.istore_n 1, 1) := by decide +kernel
theorem dX0_sorts_6 : decode cX0_sorts 6 = .ok (.iload_n 1, 1) := by decide +kernel
theorem dX0_sorts_7 : decode cX0_sorts 7 = .ok (.aload_n 0, 1) := by decide +kernel
theorem dX0_sorts_8 : decode cX0_sorts 8 = .ok (.getfield 7, 3) := by decide +kernel
theorem dX0_sorts_11 : decode cX0_sorts 11 = .ok (.if_icmp .ge 19, 3) := by decide +kernel
theorem dX0_sorts_14 : decode cX0_sorts 14 = .ok (.aload_n 0, 1) := by decide +kernel
theorem dX0_sorts_15 : decode cX0_sorts 15 = .ok (.iload_n 1, 1) := by decide +kernel
theorem dX0_sorts_16 : decode cX0_sorts 16 = .ok (.invokevirtual 42, 3) := by decide +kernel
theorem dX0_sorts_19 : decode cX0_sorts 19 = .ok (.ifCond .ne 5, 3) := by decide +kernel
theorem dX0_sorts_22 : decode cX0_sorts 22 = .ok (.iconst 0, 1) := by decide +kernel
theorem dX0_sorts_23 : decode cX0_sorts 23 = .ok (.ireturn, 1) := by decide +kernel
theorem dX0_sorts_24 : decode cX0_sorts 24 = .ok (.iinc 1 1, 3) := by decide +kernel
theorem dX0_sorts_27 : decode cX0_sorts 27 = .ok (.goto (-21), 3) := by decide +kernel
theorem dX0_sorts_30 : decode cX0_sorts 30 = .ok (.iconst 1, 1) := by decide +kernel
theorem dX0_sorts_31 : decode cX0_sorts 31 = .ok (.ireturn, 1) := by decide +kernel
abbrev cX0_actAll : ByteArray := prog_1_method_8_code
def yX0_actAll : MethodName := ⟨RX0, "actAll", "()V"⟩
theorem dX0_actAll_0 : decode cX0_actAll 0 = .ok (.aload_n 0, 1) := by decide +kernel
theorem dX0_actAll_1 : decode cX0_actAll 1 = .ok (.invokevirtual 32, 3) := by decide +kernel
theorem dX0_actAll_4 : decode cX0_actAll 4 = .ok (.iconst 0, 1) := by decide +kernel
theorem dX0_actAll_5 : decode cX0_actAll 5 = .ok (.istore_n 1, 1) := by decide +kernel
theorem dX0_actAll_6 : decode cX0_actAll 6 = .ok (.iload_n 1, 1) := by decide +kernel
theorem dX0_actAll_7 : decode cX0_actAll 7 = .ok (.aload_n 0, 1) := by decide +kernel
theorem dX0_actAll_8 : decode cX0_actAll 8 = .ok (.getfield 29, 3) := by decide +kernel
theorem dX0_actAll_11 : decode cX0_actAll 11 = .ok (.if_icmp .ge 15, 3) := by decide +kernel
theorem dX0_actAll_14 : decode cX0_actAll 14 = .ok (.aload_n 0, 1) := by decide +kernel
theorem dX0_actAll_15 : decode cX0_actAll 15 = .ok (.iload_n 1, 1) := by decide +kernel
theorem dX0_actAll_16 : decode cX0_actAll 16 = .ok (.invokevirtual 35, 3) := by decide +kernel
theorem dX0_actAll_19 : decode cX0_actAll 19 = .ok (.pop, 1) := by decide +kernel
theorem dX0_actAll_20 : decode cX0_actAll 20 = .ok (.iinc 1 1, 3) := by decide +kernel
theorem dX0_actAll_23 : decode cX0_actAll 23 = .ok (.goto (-17), 3) := by decide +kernel
theorem dX0_actAll_26 : decode cX0_actAll 26 = .ok (.return_, 1) := by decide +kernel
abbrev cX0_begin : ByteArray := prog_1_method_6_code
def yX0_begin : MethodName := ⟨RX0, "begin", "()V"⟩
theorem dX0_begin_0 : decode cX0_begin 0 = .ok (.iconst 0, 1) := by decide +kernel
theorem dX0_begin_1 : decode cX0_begin 1 = .ok (.istore_n 1, 1) := by decide +kernel
theorem dX0_begin_2 : decode cX0_begin 2 = .ok (.iload_n 1, 1) := by decide +kernel
theorem dX0_begin_3 : decode cX0_begin 3 = .ok (.aload_n 0, 1) := by decide +kernel
theorem dX0_begin_4 : decode cX0_begin 4 = .ok (.getfield 7, 3) := by decide +kernel
theorem dX0_begin_7 : decode cX0_begin 7 = .ok (.if_icmp .ge 55, 3) := by decide +kernel
theorem dX0_begin_10 : decode cX0_begin 10 = .ok (.aload_n 0, 1) := by decide +kernel
theorem dX0_begin_11 : decode cX0_begin 11 = .ok (.getfield 20, 3) := by decide +kernel
theorem dX0_begin_14 : decode cX0_begin 14 = .ok (.iload_n 1, 1) := by decide +kernel
theorem dX0_begin_15 : decode cX0_begin 15 = .ok (.lconst 0, 1) := by decide +kernel
theorem dX0_begin_16 : decode cX0_begin 16 = .ok (.lastore, 1) := by decide +kernel
theorem dX0_begin_17 : decode cX0_begin 17 = .ok (.iconst 0, 1) := by decide +kernel
theorem dX0_begin_18 : decode cX0_begin 18 = .ok (.istore_n 2, 1) := by decide +kernel
theorem dX0_begin_19 : decode cX0_begin 19 = .ok (.iload_n 2, 1) := by decide +kernel
theorem dX0_begin_20 : decode cX0_begin 20 = .ok (.iconst 1, 1) := by decide +kernel
theorem dX0_begin_21 : decode cX0_begin 21 = .ok (.aload_n 0, 1) := by decide +kernel
theorem dX0_begin_22 : decode cX0_begin 22 = .ok (.getfield 7, 3) := by decide +kernel
theorem dX0_begin_25 : decode cX0_begin 25 = .ok (.ishl, 1) := by decide +kernel
theorem dX0_begin_26 : decode cX0_begin 26 = .ok (.if_icmp .ge 30, 3) := by decide +kernel
theorem dX0_begin_29 : decode cX0_begin 29 = .ok (.iload_n 2, 1) := by decide +kernel
theorem dX0_begin_30 : decode cX0_begin 30 = .ok (.iload_n 1, 1) := by decide +kernel
theorem dX0_begin_31 : decode cX0_begin 31 = .ok (.ishr, 1) := by decide +kernel
theorem dX0_begin_32 : decode cX0_begin 32 = .ok (.iconst 1, 1) := by decide +kernel
theorem dX0_begin_33 : decode cX0_begin 33 = .ok (.iand, 1) := by decide +kernel
theorem dX0_begin_34 : decode cX0_begin 34 = .ok (.iconst 1, 1) := by decide +kernel
theorem dX0_begin_35 : decode cX0_begin 35 = .ok (.if_icmp .ne 15, 3) := by decide +kernel
theorem dX0_begin_38 : decode cX0_begin 38 = .ok (.aload_n 0, 1) := by decide +kernel
theorem dX0_begin_39 : decode cX0_begin 39 = .ok (.getfield 20, 3) := by decide +kernel
theorem dX0_begin_42 : decode cX0_begin 42 = .ok (.iload_n 1, 1) := by decide +kernel
theorem dX0_begin_43 : decode cX0_begin 43 = .ok (.dup2, 1) := by decide +kernel
theorem dX0_begin_44 : decode cX0_begin 44 = .ok (.laload, 1) := by decide +kernel
theorem dX0_begin_45 : decode cX0_begin 45 = .ok (.lconst 1, 1) := by decide +kernel
theorem dX0_begin_46 : decode cX0_begin 46 = .ok (.iload_n 2, 1) := by decide +kernel
theorem dX0_begin_47 : decode cX0_begin 47 = .ok (.lshl, 1) := by decide +kernel
theorem dX0_begin_48 : decode cX0_begin 48 = .ok (.lor, 1) := by decide +kernel
theorem dX0_begin_49 : decode cX0_begin 49 = .ok (.lastore, 1) := by decide +kernel
theorem dX0_begin_50 : decode cX0_begin 50 = .ok (.iinc 2 1, 3) := by decide +kernel
theorem dX0_begin_53 : decode cX0_begin 53 = .ok (.goto (-34), 3) := by decide +kernel
theorem dX0_begin_56 : decode cX0_begin 56 = .ok (.iinc 1 1, 3) := by decide +kernel
theorem dX0_begin_59 : decode cX0_begin 59 = .ok (.goto (-57), 3) := by decide +kernel
theorem dX0_begin_62 : decode cX0_begin 62 = .ok (.return_, 1) := by decide +kernel
abbrev cX0_act : ByteArray := prog_1_method_7_code
def yX0_act : MethodName := ⟨RX0, "act", "(I)Z"⟩
theorem dX0_act_0 : decode cX0_act 0 = .ok (.aload_n 0, 1) := by decide +kernel
theorem dX0_act_1 : decode cX0_act 1 = .ok (.getfield 13, 3) := by decide +kernel
theorem dX0_act_4 : decode cX0_act 4 = .ok (.iload_n 1, 1) := by decide +kernel
theorem dX0_act_5 : decode cX0_act 5 = .ok (.baload, 1) := by decide +kernel
theorem dX0_act_6 : decode cX0_act 6 = .ok (.istore_n 2, 1) := by decide +kernel
theorem dX0_act_7 : decode cX0_act 7 = .ok (.aload_n 0, 1) := by decide +kernel
theorem dX0_act_8 : decode cX0_act 8 = .ok (.getfield 17, 3) := by decide +kernel
theorem dX0_act_11 : decode cX0_act 11 = .ok (.iload_n 1, 1) := by decide +kernel
theorem dX0_act_12 : decode cX0_act 12 = .ok (.baload, 1) := by decide +kernel
theorem dX0_act_13 : decode cX0_act 13 = .ok (.istore_n 3, 1) := by decide +kernel
theorem dX0_act_14 : decode cX0_act 14 = .ok (.aload_n 0, 1) := by decide +kernel
theorem dX0_act_15 : decode cX0_act 15 = .ok (.getfield 20, 3) := by decide +kernel
theorem dX0_act_18 : decode cX0_act 18 = .ok (.iload_n 2, 1) := by decide +kernel
theorem dX0_act_19 : decode cX0_act 19 = .ok (.laload, 1) := by decide +kernel
theorem dX0_act_20 : decode cX0_act 20 = .ok (.aload_n 0, 1) := by decide +kernel
theorem dX0_act_21 : decode cX0_act 21 = .ok (.getfield 20, 3) := by decide +kernel
theorem dX0_act_24 : decode cX0_act 24 = .ok (.iload_n 3, 1) := by decide +kernel
theorem dX0_act_25 : decode cX0_act 25 = .ok (.laload, 1) := by decide +kernel
theorem dX0_act_26 : decode cX0_act 26 = .ok (.land, 1) := by decide +kernel
theorem dX0_act_27 : decode cX0_act 27 = .ok (.lstore 4, 2) := by decide +kernel
theorem dX0_act_29 : decode cX0_act 29 = .ok (.lload 4, 2) := by decide +kernel
theorem dX0_act_31 : decode cX0_act 31 = .ok (.aload_n 0, 1) := by decide +kernel
theorem dX0_act_32 : decode cX0_act 32 = .ok (.getfield 20, 3) := by decide +kernel
theorem dX0_act_35 : decode cX0_act 35 = .ok (.iload_n 2, 1) := by decide +kernel
theorem dX0_act_36 : decode cX0_act 36 = .ok (.laload, 1) := by decide +kernel
theorem dX0_act_37 : decode cX0_act 37 = .ok (.lcmp, 1) := by decide +kernel
theorem dX0_act_38 : decode cX0_act 38 = .ok (.ifCond .eq 7, 3) := by decide +kernel
theorem dX0_act_41 : decode cX0_act 41 = .ok (.iconst 1, 1) := by decide +kernel
theorem dX0_act_42 : decode cX0_act 42 = .ok (.goto 4, 3) := by decide +kernel
theorem dX0_act_45 : decode cX0_act 45 = .ok (.iconst 0, 1) := by decide +kernel
theorem dX0_act_46 : decode cX0_act 46 = .ok (.istore 6, 2) := by decide +kernel
theorem dX0_act_48 : decode cX0_act 48 = .ok (.aload_n 0, 1) := by decide +kernel
theorem dX0_act_49 : decode cX0_act 49 = .ok (.getfield 20, 3) := by decide +kernel
theorem dX0_act_52 : decode cX0_act 52 = .ok (.iload_n 3, 1) := by decide +kernel
theorem dX0_act_53 : decode cX0_act 53 = .ok (.dup2, 1) := by decide +kernel
theorem dX0_act_54 : decode cX0_act 54 = .ok (.laload, 1) := by decide +kernel
theorem dX0_act_55 : decode cX0_act 55 = .ok (.aload_n 0, 1) := by decide +kernel
theorem dX0_act_56 : decode cX0_act 56 = .ok (.getfield 20, 3) := by decide +kernel
theorem dX0_act_59 : decode cX0_act 59 = .ok (.iload_n 2, 1) := by decide +kernel
theorem dX0_act_60 : decode cX0_act 60 = .ok (.laload, 1) := by decide +kernel
theorem dX0_act_61 : decode cX0_act 61 = .ok (.lor, 1) := by decide +kernel
theorem dX0_act_62 : decode cX0_act 62 = .ok (.lastore, 1) := by decide +kernel
theorem dX0_act_63 : decode cX0_act 63 = .ok (.aload_n 0, 1) := by decide +kernel
theorem dX0_act_64 : decode cX0_act 64 = .ok (.getfield 20, 3) := by decide +kernel
theorem dX0_act_67 : decode cX0_act 67 = .ok (.iload_n 2, 1) := by decide +kernel
theorem dX0_act_68 : decode cX0_act 68 = .ok (.lload 4, 2) := by decide +kernel
theorem dX0_act_70 : decode cX0_act 70 = .ok (.lastore, 1) := by decide +kernel
theorem dX0_act_71 : decode cX0_act 71 = .ok (.iload 6, 2) := by decide +kernel
theorem dX0_act_73 : decode cX0_act 73 = .ok (.ireturn, 1) := by decide +kernel
abbrev cX0_isOwn : ByteArray := prog_1_method_9_code
def yX0_isOwn : MethodName := ⟨RX0, "isOwn", "(I)Z"⟩
theorem dX0_isOwn_0 : decode cX0_isOwn 0 = .ok (.iconst 0, 1) := by decide +kernel
theorem dX0_isOwn_1 : decode cX0_isOwn 1 = .ok (.istore_n 2, 1) := by decide +kernel
theorem dX0_isOwn_2 : decode cX0_isOwn 2 = .ok (.iload_n 2, 1) := by decide +kernel
theorem dX0_isOwn_3 : decode cX0_isOwn 3 = .ok (.iconst 1, 1) := by decide +kernel
theorem dX0_isOwn_4 : decode cX0_isOwn 4 = .ok (.aload_n 0, 1) := by decide +kernel
theorem dX0_isOwn_5 : decode cX0_isOwn 5 = .ok (.getfield 7, 3) := by decide +kernel
theorem dX0_isOwn_8 : decode cX0_isOwn 8 = .ok (.ishl, 1) := by decide +kernel
theorem dX0_isOwn_9 : decode cX0_isOwn 9 = .ok (.if_icmp .ge 76, 3) := by decide +kernel
theorem dX0_isOwn_12 : decode cX0_isOwn 12 = .ok (.aload_n 0, 1) := by decide +kernel
theorem dX0_isOwn_13 : decode cX0_isOwn 13 = .ok (.getfield 7, 3) := by decide +kernel
theorem dX0_isOwn_16 : decode cX0_isOwn 16 = .ok (.istore_n 3, 1) := by decide +kernel
theorem dX0_isOwn_17 : decode cX0_isOwn 17 = .ok (.iconst 0, 1) := by decide +kernel
theorem dX0_isOwn_18 : decode cX0_isOwn 18 = .ok (.istore 4, 2) := by decide +kernel
theorem dX0_isOwn_20 : decode cX0_isOwn 20 = .ok (.iload 4, 2) := by decide +kernel
theorem dX0_isOwn_22 : decode cX0_isOwn 22 = .ok (.aload_n 0, 1) := by decide +kernel
theorem dX0_isOwn_23 : decode cX0_isOwn 23 = .ok (.getfield 7, 3) := by decide +kernel
theorem dX0_isOwn_26 : decode cX0_isOwn 26 = .ok (.if_icmp .ge 18, 3) := by decide +kernel
theorem dX0_isOwn_29 : decode cX0_isOwn 29 = .ok (.iload_n 3, 1) := by decide +kernel
theorem dX0_isOwn_30 : decode cX0_isOwn 30 = .ok (.iload_n 2, 1) := by decide +kernel
theorem dX0_isOwn_31 : decode cX0_isOwn 31 = .ok (.iload 4, 2) := by decide +kernel
theorem dX0_isOwn_33 : decode cX0_isOwn 33 = .ok (.ishr, 1) := by decide +kernel
theorem dX0_isOwn_34 : decode cX0_isOwn 34 = .ok (.iconst 1, 1) := by decide +kernel
theorem dX0_isOwn_35 : decode cX0_isOwn 35 = .ok (.iand, 1) := by decide +kernel
theorem dX0_isOwn_36 : decode cX0_isOwn 36 = .ok (.isub, 1) := by decide +kernel
theorem dX0_isOwn_37 : decode cX0_isOwn 37 = .ok (.istore_n 3, 1) := by decide +kernel
theorem dX0_isOwn_38 : decode cX0_isOwn 38 = .ok (.iinc 4 1, 3) := by decide +kernel
theorem dX0_isOwn_41 : decode cX0_isOwn 41 = .ok (.goto (-21), 3) := by decide +kernel
theorem dX0_isOwn_44 : decode cX0_isOwn 44 = .ok (.aload_n 0, 1) := by decide +kernel
theorem dX0_isOwn_45 : decode cX0_isOwn 45 = .ok (.getfield 20, 3) := by decide +kernel
theorem dX0_isOwn_48 : decode cX0_isOwn 48 = .ok (.iload_n 1, 1) := by decide +kernel
theorem dX0_isOwn_49 : decode cX0_isOwn 49 = .ok (.laload, 1) := by decide +kernel
theorem dX0_isOwn_50 : decode cX0_isOwn 50 = .ok (.iload_n 2, 1) := by decide +kernel
theorem dX0_isOwn_51 : decode cX0_isOwn 51 = .ok (.lshr, 1) := by decide +kernel
theorem dX0_isOwn_52 : decode cX0_isOwn 52 = .ok (.lconst 1, 1) := by decide +kernel
theorem dX0_isOwn_53 : decode cX0_isOwn 53 = .ok (.land, 1) := by decide +kernel
theorem dX0_isOwn_54 : decode cX0_isOwn 54 = .ok (.lconst 1, 1) := by decide +kernel
theorem dX0_isOwn_55 : decode cX0_isOwn 55 = .ok (.lcmp, 1) := by decide +kernel
theorem dX0_isOwn_56 : decode cX0_isOwn 56 = .ok (.ifCond .ne 7, 3) := by decide +kernel
theorem dX0_isOwn_59 : decode cX0_isOwn 59 = .ok (.iconst 1, 1) := by decide +kernel
theorem dX0_isOwn_60 : decode cX0_isOwn 60 = .ok (.goto 4, 3) := by decide +kernel
theorem dX0_isOwn_63 : decode cX0_isOwn 63 = .ok (.iconst 0, 1) := by decide +kernel
theorem dX0_isOwn_64 : decode cX0_isOwn 64 = .ok (.iload_n 3, 1) := by decide +kernel
theorem dX0_isOwn_65 : decode cX0_isOwn 65 = .ok (.iload_n 1, 1) := by decide +kernel
theorem dX0_isOwn_66 : decode cX0_isOwn 66 = .ok (.if_icmp .gt 7, 3) := by decide +kernel
theorem dX0_isOwn_69 : decode cX0_isOwn 69 = .ok (.iconst 1, 1) := by decide +kernel
theorem dX0_isOwn_70 : decode cX0_isOwn 70 = .ok (.goto 4, 3) := by decide +kernel
theorem dX0_isOwn_73 : decode cX0_isOwn 73 = .ok (.iconst 0, 1) := by decide +kernel
theorem dX0_isOwn_74 : decode cX0_isOwn 74 = .ok (.if_icmp .eq 5, 3) := by decide +kernel
theorem dX0_isOwn_77 : decode cX0_isOwn 77 = .ok (.iconst 0, 1) := by decide +kernel
theorem dX0_isOwn_78 : decode cX0_isOwn 78 = .ok (.ireturn, 1) := by decide +kernel
theorem dX0_isOwn_79 : decode cX0_isOwn 79 = .ok (.iinc 2 1, 3) := by decide +kernel
theorem dX0_isOwn_82 : decode cX0_isOwn 82 = .ok (.goto (-80), 3) := by decide +kernel
theorem dX0_isOwn_85 : decode cX0_isOwn 85 = .ok (.iconst 1, 1) := by decide +kernel
theorem dX0_isOwn_86 : decode cX0_isOwn 86 = .ok (.ireturn, 1) := by decide +kernel
abbrev cX0_finds : ByteArray := prog_1_method_11_code
def yX0_finds : MethodName := ⟨RX0, "finds", "(I)Z"⟩
theorem dX0_finds_0 : decode cX0_finds 0 = .ok (.aload_n 0, 1) := by decide +kernel
theorem dX0_finds_1 : decode cX0_finds 1 = .ok (.invokevirtual 39, 3) := by decide +kernel
theorem dX0_finds_4 : decode cX0_finds 4 = .ok (.aload_n 0, 1) := by decide +kernel
theorem dX0_finds_5 : decode cX0_finds 5 = .ok (.iload_n 1, 1) := by decide +kernel
theorem dX0_finds_6 : decode cX0_finds 6 = .ok (.aload_n 0, 1) := by decide +kernel
theorem dX0_finds_7 : decode cX0_finds 7 = .ok (.getfield 7, 3) := by decide +kernel
theorem dX0_finds_10 : decode cX0_finds 10 = .ok (.invokestatic 25, 3) := by decide +kernel
theorem dX0_finds_13 : decode cX0_finds 13 = .ok (.invokevirtual 42, 3) := by decide +kernel
theorem dX0_finds_16 : decode cX0_finds 16 = .ok (.ireturn, 1) := by decide +kernel
abbrev cX0_needless : ByteArray := prog_1_method_12_code
def yX0_needless : MethodName := ⟨RX0, "needless", "()I"⟩
theorem dX0_needless_0 : decode cX0_needless 0 = .ok (.aload_n 0, 1) := by decide +kernel
theorem dX0_needless_1 : decode cX0_needless 1 = .ok (.invokevirtual 32, 3) := by decide +kernel
theorem dX0_needless_4 : decode cX0_needless 4 = .ok (.iconst 0, 1) := by decide +kernel
theorem dX0_needless_5 : decode cX0_needless 5 = .ok (.istore_n 1, 1) := by decide +kernel
theorem dX0_needless_6 : decode cX0_needless 6 = .ok (.iconst 0, 1) := by decide +kernel
theorem dX0_needless_7 : decode cX0_needless 7 = .ok (.istore_n 2, 1) := by decide +kernel
theorem dX0_needless_8 : decode cX0_needless 8 = .ok (.iload_n 2, 1) := by decide +kernel
theorem dX0_needless_9 : decode cX0_needless 9 = .ok (.aload_n 0, 1) := by decide +kernel
theorem dX0_needless_10 : decode cX0_needless 10 = .ok (.getfield 29, 3) := by decide +kernel
theorem dX0_needless_13 : decode cX0_needless 13 = .ok (.if_icmp .ge 29, 3) := by decide +kernel
theorem dX0_needless_16 : decode cX0_needless 16 = .ok (.iload_n 2, 1) := by decide +kernel
theorem dX0_needless_17 : decode cX0_needless 17 = .ok (.bipush 31, 2) := by decide +kernel
theorem dX0_needless_19 : decode cX0_needless 19 = .ok (.if_icmp .ge 23, 3) := by decide +kernel
theorem dX0_needless_22 : decode cX0_needless 22 = .ok (.aload_n 0, 1) := by decide +kernel
theorem dX0_needless_23 : decode cX0_needless 23 = .ok (.iload_n 2, 1) := by decide +kernel
theorem dX0_needless_24 : decode cX0_needless 24 = .ok (.invokevirtual 35, 3) := by decide +kernel
theorem dX0_needless_27 : decode cX0_needless 27 = .ok (.ifCond .ne 9, 3) := by decide +kernel
theorem dX0_needless_30 : decode cX0_needless 30 = .ok (.iload_n 1, 1) := by decide +kernel
theorem dX0_needless_31 : decode cX0_needless 31 = .ok (.iconst 1, 1) := by decide +kernel
theorem dX0_needless_32 : decode cX0_needless 32 = .ok (.iload_n 2, 1) := by decide +kernel
theorem dX0_needless_33 : decode cX0_needless 33 = .ok (.ishl, 1) := by decide +kernel
theorem dX0_needless_34 : decode cX0_needless 34 = .ok (.ior, 1) := by decide +kernel
theorem dX0_needless_35 : decode cX0_needless 35 = .ok (.istore_n 1, 1) := by decide +kernel
theorem dX0_needless_36 : decode cX0_needless 36 = .ok (.iinc 2 1, 3) := by decide +kernel
theorem dX0_needless_39 : decode cX0_needless 39 = .ok (.goto (-31), 3) := by decide +kernel
theorem dX0_needless_42 : decode cX0_needless 42 = .ok (.iload_n 1, 1) := by decide +kernel
theorem dX0_needless_43 : decode cX0_needless 43 = .ok (.ireturn, 1) := by decide +kernel
theorem q8 : (Jvm.Cond.initialized "CrossDesk") ∈ lw_all := lw_g (lw_at lw_m0 1 rfl) rfl
theorem q11 : (Jvm.Cond.instantiable "CrossDesk" (5 : Nat)) ∈ lw_all := lw_g (lw_at lw_m0 4 rfl) rfl
theorem q13 : (Jvm.Cond.instanceMethod ({ cls := "CrossDesk", name := "<init>", desc := "()V" } : Jvm.MethodName)) ∈ lw_all := lw_g (lw_at lw_m0 6 rfl) rfl
theorem q14 : (Jvm.Cond.code ({ cls := "CrossDesk", name := "<init>", desc := "()V" } : Jvm.MethodName) prog_1_method_1_code (1 : Nat) (Option.none : Option Jvm.ClassFile.FieldType)) ∈ lw_all := lw_g (lw_at lw_m0 7 rfl) rfl
theorem q15 : (Jvm.Cond.methodLink "CrossDesk" (1 : Nat) ({ cls := "java/lang/Object", name := "<init>", desc := "()V" } : Jvm.MethodName)) ∈ lw_all := lw_g (lw_at lw_m0 8 rfl) rfl
theorem q18 : (Jvm.Cond.fieldLink "CrossDesk" (7 : Nat) "CrossDesk" "wires" "I") ∈ lw_all := lw_g (lw_at lw_m0 11 rfl) rfl
theorem q19 : (Jvm.Cond.fieldLink "CrossDesk" (29 : Nat) "CrossDesk" "many" "I") ∈ lw_all := lw_g (lw_at lw_m0 12 rfl) rfl
theorem q20 : (Jvm.Cond.fieldLink "CrossDesk" (13 : Nat) "CrossDesk" "first" "[B") ∈ lw_all := lw_g (lw_at lw_m0 13 rfl) rfl
theorem q21 : (Jvm.Cond.fieldLink "CrossDesk" (17 : Nat) "CrossDesk" "second" "[B") ∈ lw_all := lw_g (lw_at lw_m0 14 rfl) rfl
theorem q22 : (Jvm.Cond.fieldLink "CrossDesk" (20 : Nat) "CrossDesk" "ones" "[J") ∈ lw_all := lw_g (lw_at lw_m0 15 rfl) rfl
theorem q23 : (Jvm.Cond.lays "CrossDesk" "CrossDesk" "wires" "I") ∈ lw_all := lw_g (lw_at lw_m0 16 rfl) rfl
theorem q24 : (Jvm.Cond.soleField "CrossDesk" "wires") ∈ lw_all := lw_g (lw_at lw_m0 17 rfl) rfl
theorem q25 : (Jvm.Cond.lays "CrossDesk" "CrossDesk" "many" "I") ∈ lw_all := lw_g (lw_at lw_m0 18 rfl) rfl
theorem q26 : (Jvm.Cond.soleField "CrossDesk" "many") ∈ lw_all := lw_g (lw_at lw_m0 19 rfl) rfl
theorem q27 : (Jvm.Cond.laysFinal "CrossDesk" "CrossDesk" "first" "[B") ∈ lw_all := lw_g (lw_at lw_m0 20 rfl) rfl
theorem q28 : (Jvm.Cond.soleField "CrossDesk" "first") ∈ lw_all := lw_g (lw_at lw_m0 21 rfl) rfl
theorem q29 : (Jvm.Cond.laysFinal "CrossDesk" "CrossDesk" "second" "[B") ∈ lw_all := lw_g (lw_at lw_m0 22 rfl) rfl
theorem q30 : (Jvm.Cond.soleField "CrossDesk" "second") ∈ lw_all := lw_g (lw_at lw_m0 23 rfl) rfl
theorem q31 : (Jvm.Cond.laysFinal "CrossDesk" "CrossDesk" "ones" "[J") ∈ lw_all := lw_g (lw_at lw_m0 24 rfl) rfl
theorem q32 : (Jvm.Cond.soleField "CrossDesk" "ones") ∈ lw_all := lw_g (lw_at lw_m0 25 rfl) rfl
theorem q33 : (Jvm.Cond.superclass "CrossDesk" "java/lang/Object") ∈ lw_all := lw_g (lw_at lw_m0 26 rfl) rfl
theorem q37 : (Jvm.Cond.instanceMethod ({ cls := "CrossDesk", name := "wires", desc := "(I)V" } : Jvm.MethodName)) ∈ lw_all := lw_g (lw_at lw_m0 30 rfl) rfl
theorem q38 : (Jvm.Cond.selects "CrossDesk" ({ cls := "CrossDesk", name := "wires", desc := "(I)V" } : Jvm.MethodName) ({ cls := "CrossDesk", name := "wires", desc := "(I)V" } : Jvm.MethodName)) ∈ lw_all := lw_g (lw_at lw_m0 31 rfl) rfl
theorem q39 : (Jvm.Cond.code ({ cls := "CrossDesk", name := "wires", desc := "(I)V" } : Jvm.MethodName) prog_1_method_3_code (2 : Nat) (Option.none : Option Jvm.ClassFile.FieldType)) ∈ lw_all := lw_g (lw_at lw_m0 32 rfl) rfl
theorem q40 : (Jvm.Cond.methodLink "CrossDesk" (25 : Nat) ({ cls := "CrossDesk", name := "counted", desc := "(II)I" } : Jvm.MethodName)) ∈ lw_all := lw_g (lw_at lw_m0 33 rfl) rfl
theorem q41 : (Jvm.Cond.static ({ cls := "CrossDesk", name := "counted", desc := "(II)I" } : Jvm.MethodName)) ∈ lw_all := lw_g (lw_at lw_m0 34 rfl) rfl
theorem q42 : (Jvm.Cond.code ({ cls := "CrossDesk", name := "counted", desc := "(II)I" } : Jvm.MethodName) prog_1_method_2_code (2 : Nat) (Option.some Jvm.ClassFile.FieldType.int)) ∈ lw_all := lw_g (lw_at lw_m0 35 rfl) rfl
theorem q43 : (Jvm.Cond.constant "CrossDesk" (24 : Nat) (2147483647 : Int32)) ∈ lw_all := lw_g (lw_at lw_m0 36 rfl) rfl
theorem q45 : (Jvm.Cond.instanceMethod ({ cls := "CrossDesk", name := "join", desc := "(II)Z" } : Jvm.MethodName)) ∈ lw_all := lw_g (lw_at lw_m0 38 rfl) rfl
theorem q46 : (Jvm.Cond.selects "CrossDesk" ({ cls := "CrossDesk", name := "join", desc := "(II)Z" } : Jvm.MethodName) ({ cls := "CrossDesk", name := "join", desc := "(II)Z" } : Jvm.MethodName)) ∈ lw_all := lw_g (lw_at lw_m0 39 rfl) rfl
theorem q47 : (Jvm.Cond.code ({ cls := "CrossDesk", name := "join", desc := "(II)Z" } : Jvm.MethodName) prog_1_method_4_code (5 : Nat) (Option.some Jvm.ClassFile.FieldType.boolean)) ∈ lw_all := lw_g (lw_at lw_m0 40 rfl) rfl
theorem q49 : (Jvm.Cond.instanceMethod ({ cls := "CrossDesk", name := "drop", desc := "()Z" } : Jvm.MethodName)) ∈ lw_all := lw_g (lw_at lw_m0 42 rfl) rfl
theorem q50 : (Jvm.Cond.selects "CrossDesk" ({ cls := "CrossDesk", name := "drop", desc := "()Z" } : Jvm.MethodName) ({ cls := "CrossDesk", name := "drop", desc := "()Z" } : Jvm.MethodName)) ∈ lw_all := lw_g (lw_at lw_m0 43 rfl) rfl
theorem q51 : (Jvm.Cond.code ({ cls := "CrossDesk", name := "drop", desc := "()Z" } : Jvm.MethodName) prog_1_method_5_code (1 : Nat) (Option.some Jvm.ClassFile.FieldType.boolean)) ∈ lw_all := lw_g (lw_at lw_m0 44 rfl) rfl
theorem q53 : (Jvm.Cond.instanceMethod ({ cls := "CrossDesk", name := "sorts", desc := "()Z" } : Jvm.MethodName)) ∈ lw_all := lw_g (lw_at lw_m0 46 rfl) rfl
theorem q54 : (Jvm.Cond.selects "CrossDesk" ({ cls := "CrossDesk", name := "sorts", desc := "()Z" } : Jvm.MethodName) ({ cls := "CrossDesk", name := "sorts", desc := "()Z" } : Jvm.MethodName)) ∈ lw_all := lw_g (lw_at lw_m0 47 rfl) rfl
theorem q55 : (Jvm.Cond.code ({ cls := "CrossDesk", name := "sorts", desc := "()Z" } : Jvm.MethodName) prog_1_method_10_code (2 : Nat) (Option.some Jvm.ClassFile.FieldType.boolean)) ∈ lw_all := lw_g (lw_at lw_m0 48 rfl) rfl
theorem q56 : (Jvm.Cond.methodLink "CrossDesk" (39 : Nat) ({ cls := "CrossDesk", name := "actAll", desc := "()V" } : Jvm.MethodName)) ∈ lw_all := lw_g (lw_at lw_m0 49 rfl) rfl
theorem q57 : (Jvm.Cond.privateMethod ({ cls := "CrossDesk", name := "actAll", desc := "()V" } : Jvm.MethodName)) ∈ lw_tbl := lw_at lw_m0 50 rfl
theorem q58 : (Jvm.Cond.instanceMethod ({ cls := "CrossDesk", name := "actAll", desc := "()V" } : Jvm.MethodName)) ∈ lw_all := lw_g (lw_at lw_m0 51 rfl) rfl
theorem q59 : (Jvm.Cond.code ({ cls := "CrossDesk", name := "actAll", desc := "()V" } : Jvm.MethodName) prog_1_method_8_code (2 : Nat) (Option.none : Option Jvm.ClassFile.FieldType)) ∈ lw_all := lw_g (lw_at lw_m0 52 rfl) rfl
theorem q60 : (Jvm.Cond.methodLink "CrossDesk" (32 : Nat) ({ cls := "CrossDesk", name := "begin", desc := "()V" } : Jvm.MethodName)) ∈ lw_all := lw_g (lw_at lw_m0 53 rfl) rfl
theorem q61 : (Jvm.Cond.privateMethod ({ cls := "CrossDesk", name := "begin", desc := "()V" } : Jvm.MethodName)) ∈ lw_tbl := lw_at lw_m0 54 rfl
theorem q62 : (Jvm.Cond.instanceMethod ({ cls := "CrossDesk", name := "begin", desc := "()V" } : Jvm.MethodName)) ∈ lw_all := lw_g (lw_at lw_m0 55 rfl) rfl
theorem q63 : (Jvm.Cond.code ({ cls := "CrossDesk", name := "begin", desc := "()V" } : Jvm.MethodName) prog_1_method_6_code (3 : Nat) (Option.none : Option Jvm.ClassFile.FieldType)) ∈ lw_all := lw_g (lw_at lw_m0 56 rfl) rfl
theorem q64 : (Jvm.Cond.methodLink "CrossDesk" (35 : Nat) ({ cls := "CrossDesk", name := "act", desc := "(I)Z" } : Jvm.MethodName)) ∈ lw_all := lw_g (lw_at lw_m0 57 rfl) rfl
theorem q65 : (Jvm.Cond.privateMethod ({ cls := "CrossDesk", name := "act", desc := "(I)Z" } : Jvm.MethodName)) ∈ lw_tbl := lw_at lw_m0 58 rfl
theorem q66 : (Jvm.Cond.instanceMethod ({ cls := "CrossDesk", name := "act", desc := "(I)Z" } : Jvm.MethodName)) ∈ lw_all := lw_g (lw_at lw_m0 59 rfl) rfl
theorem q67 : (Jvm.Cond.code ({ cls := "CrossDesk", name := "act", desc := "(I)Z" } : Jvm.MethodName) prog_1_method_7_code (7 : Nat) (Option.some Jvm.ClassFile.FieldType.boolean)) ∈ lw_all := lw_g (lw_at lw_m0 60 rfl) rfl
theorem q68 : (Jvm.Cond.methodLink "CrossDesk" (42 : Nat) ({ cls := "CrossDesk", name := "isOwn", desc := "(I)Z" } : Jvm.MethodName)) ∈ lw_all := lw_g (lw_at lw_m0 61 rfl) rfl
theorem q69 : (Jvm.Cond.privateMethod ({ cls := "CrossDesk", name := "isOwn", desc := "(I)Z" } : Jvm.MethodName)) ∈ lw_tbl := lw_at lw_m0 62 rfl
theorem q70 : (Jvm.Cond.instanceMethod ({ cls := "CrossDesk", name := "isOwn", desc := "(I)Z" } : Jvm.MethodName)) ∈ lw_all := lw_g (lw_at lw_m0 63 rfl) rfl
theorem q71 : (Jvm.Cond.code ({ cls := "CrossDesk", name := "isOwn", desc := "(I)Z" } : Jvm.MethodName) prog_1_method_9_code (5 : Nat) (Option.some Jvm.ClassFile.FieldType.boolean)) ∈ lw_all := lw_g (lw_at lw_m0 64 rfl) rfl
theorem q73 : (Jvm.Cond.instanceMethod ({ cls := "CrossDesk", name := "finds", desc := "(I)Z" } : Jvm.MethodName)) ∈ lw_all := lw_g (lw_at lw_m0 66 rfl) rfl
theorem q74 : (Jvm.Cond.selects "CrossDesk" ({ cls := "CrossDesk", name := "finds", desc := "(I)Z" } : Jvm.MethodName) ({ cls := "CrossDesk", name := "finds", desc := "(I)Z" } : Jvm.MethodName)) ∈ lw_all := lw_g (lw_at lw_m0 67 rfl) rfl
theorem q75 : (Jvm.Cond.code ({ cls := "CrossDesk", name := "finds", desc := "(I)Z" } : Jvm.MethodName) prog_1_method_11_code (2 : Nat) (Option.some Jvm.ClassFile.FieldType.boolean)) ∈ lw_all := lw_g (lw_at lw_m0 68 rfl) rfl
theorem q77 : (Jvm.Cond.instanceMethod ({ cls := "CrossDesk", name := "needless", desc := "()I" } : Jvm.MethodName)) ∈ lw_all := lw_g (lw_at lw_m0 70 rfl) rfl
theorem q78 : (Jvm.Cond.selects "CrossDesk" ({ cls := "CrossDesk", name := "needless", desc := "()I" } : Jvm.MethodName) ({ cls := "CrossDesk", name := "needless", desc := "()I" } : Jvm.MethodName)) ∈ lw_all := lw_g (lw_at lw_m0 71 rfl) rfl
theorem q79 : (Jvm.Cond.code ({ cls := "CrossDesk", name := "needless", desc := "()I" } : Jvm.MethodName) prog_1_method_12_code (3 : Nat) (Option.some Jvm.ClassFile.FieldType.int)) ∈ lw_all := lw_g (lw_at lw_m0 72 rfl) rfl
theorem in_X0 : ∀ w ∈ wsX00, w ∈ lw_all := lw_in wsX00 [23, 25, 27, 29, 31] (by decide +kernel) (by decide +kernel)
/-! java/lang/Object -/
set_option maxRecDepth 100000
def RJ0 : String := "java/lang/Object"
abbrev cJ0_init : ByteArray := object_method_1_code
def yJ0_init : MethodName := ⟨RJ0, "<init>", "()V"⟩
theorem dJ0_init_0 : decode cJ0_init 0 = .ok (.return_, 1) := by decide +kernel
theorem q16 : (Jvm.Cond.instanceMethod ({ cls := "java/lang/Object", name := "<init>", desc := "()V" } : Jvm.MethodName)) ∈ lw_all := lw_g (lw_at lw_m0 9 rfl) rfl
theorem q17 : (Jvm.Cond.code ({ cls := "java/lang/Object", name := "<init>", desc := "()V" } : Jvm.MethodName) object_method_1_code (1 : Nat) (Option.none : Option Jvm.ClassFile.FieldType)) ∈ lw_all := lw_g (lw_at lw_m0 10 rfl) rfl
end
section
/-! CrossDeskModel -/
set_option maxRecDepth 100000
def RX1 : String := "CrossDeskModel"
def TX1 : u_T := fun k => match k with
  | 0 => ("CrossDeskModel", "low", "[I", true)
  | 1 => ("CrossDeskModel", "high", "[I", true)
  | 2 => ("CrossDeskModel", "size", "I", false)
  | 3 => ("CrossDeskModel", "n", "I", false)
  | 4 => ("CrossDeskModel", "known", "Z", false)
  | 5 => ("CrossDeskModel", "found", "I", false)
  | 6 => ("CrossDeskModel", "used", "I", false)
  | 7 => ("CrossDeskModel", "v", "[I", true)
  | _ => ("CrossDeskModel", "left", "[I", true)
def tyX1 : Nat → FieldType := fun k => match k with
  | 0 => .array .int
  | 1 => .array .int
  | 2 => .int
  | 3 => .int
  | 4 => .boolean
  | 5 => .int
  | 6 => .int
  | 7 => .array .int
  | _ => .array .int
abbrev wsX10 : List Cond := u_ws RX1 TX1 9
theorem nmX1 : ∀ a, a < 9 → ∀ b, b < 9 → a ≠ b → (TX1 a).2.1 ≠ (TX1 b).2.1 := by decide +kernel
theorem tyX1_ok : ∀ k, k < 9 → parseFieldDescriptor (TX1 k).2.2.1 = some (tyX1 k) := by decide +kernel
abbrev cX1_init : ByteArray := prog_3_method_1_code
def yX1_init : MethodName := ⟨RX1, "<init>", "()V"⟩
theorem dX1_init_0 : decode cX1_init 0 = .ok (.aload_n 0, 1) := by decide +kernel
theorem dX1_init_1 : decode cX1_init 1 = .ok (.invokespecial 1, 3) := by decide +kernel
theorem dX1_init_4 : decode cX1_init 4 = .ok (.aload_n 0, 1) := by decide +kernel
theorem dX1_init_5 : decode cX1_init 5 = .ok (.bipush 48, 2) := by decide +kernel
theorem dX1_init_7 : decode cX1_init 7 = .ok (.newarray .int, 2) := by decide +kernel
theorem dX1_init_9 : decode cX1_init 9 = .ok (.putfield 7, 3) := by decide +kernel
theorem dX1_init_12 : decode cX1_init 12 = .ok (.aload_n 0, 1) := by decide +kernel
theorem dX1_init_13 : decode cX1_init 13 = .ok (.bipush 48, 2) := by decide +kernel
theorem dX1_init_15 : decode cX1_init 15 = .ok (.newarray .int, 2) := by decide +kernel
theorem dX1_init_17 : decode cX1_init 17 = .ok (.putfield 13, 3) := by decide +kernel
theorem dX1_init_20 : decode cX1_init 20 = .ok (.aload_n 0, 1) := by decide +kernel
theorem dX1_init_21 : decode cX1_init 21 = .ok (.iconst 4, 1) := by decide +kernel
theorem dX1_init_22 : decode cX1_init 22 = .ok (.putfield 16, 3) := by decide +kernel
theorem dX1_init_25 : decode cX1_init 25 = .ok (.aload_n 0, 1) := by decide +kernel
theorem dX1_init_26 : decode cX1_init 26 = .ok (.bipush 8, 2) := by decide +kernel
theorem dX1_init_28 : decode cX1_init 28 = .ok (.newarray .int, 2) := by decide +kernel
theorem dX1_init_30 : decode cX1_init 30 = .ok (.putfield 20, 3) := by decide +kernel
theorem dX1_init_33 : decode cX1_init 33 = .ok (.aload_n 0, 1) := by decide +kernel
theorem dX1_init_34 : decode cX1_init 34 = .ok (.bipush 8, 2) := by decide +kernel
theorem dX1_init_36 : decode cX1_init 36 = .ok (.newarray .int, 2) := by decide +kernel
theorem dX1_init_38 : decode cX1_init 38 = .ok (.putfield 23, 3) := by decide +kernel
theorem dX1_init_41 : decode cX1_init 41 = .ok (.return_, 1) := by decide +kernel
abbrev cX1_wires : ByteArray := prog_3_method_2_code
def yX1_wires : MethodName := ⟨RX1, "wires", "(I)V"⟩
theorem dX1_wires_0 : decode cX1_wires 0 = .ok (.aload_n 0, 1) := by decide +kernel
theorem dX1_wires_1 : decode cX1_wires 1 = .ok (.iconst 2, 1) := by decide +kernel
theorem dX1_wires_2 : decode cX1_wires 2 = .ok (.iload_n 1, 1) := by decide +kernel
theorem dX1_wires_3 : decode cX1_wires 3 = .ok (.ldc 26, 2) := by decide +kernel
theorem dX1_wires_5 : decode cX1_wires 5 = .ok (.iand, 1) := by decide +kernel
theorem dX1_wires_6 : decode cX1_wires 6 = .ok (.iconst 5, 1) := by decide +kernel
theorem dX1_wires_7 : decode cX1_wires 7 = .ok (.irem, 1) := by decide +kernel
theorem dX1_wires_8 : decode cX1_wires 8 = .ok (.iadd, 1) := by decide +kernel
theorem dX1_wires_9 : decode cX1_wires 9 = .ok (.putfield 16, 3) := by decide +kernel
theorem dX1_wires_12 : decode cX1_wires 12 = .ok (.aload_n 0, 1) := by decide +kernel
theorem dX1_wires_13 : decode cX1_wires 13 = .ok (.iconst 0, 1) := by decide +kernel
theorem dX1_wires_14 : decode cX1_wires 14 = .ok (.putfield 27, 3) := by decide +kernel
theorem dX1_wires_17 : decode cX1_wires 17 = .ok (.aload_n 0, 1) := by decide +kernel
theorem dX1_wires_18 : decode cX1_wires 18 = .ok (.iconst 0, 1) := by decide +kernel
theorem dX1_wires_19 : decode cX1_wires 19 = .ok (.putfield 30, 3) := by decide +kernel
theorem dX1_wires_22 : decode cX1_wires 22 = .ok (.return_, 1) := by decide +kernel
abbrev cX1_join : ByteArray := prog_3_method_3_code
def yX1_join : MethodName := ⟨RX1, "join", "(II)Z"⟩
theorem dX1_join_0 : decode cX1_join 0 = .ok (.iload_n 1, 1) := by decide +kernel
theorem dX1_join_1 : decode cX1_join 1 = .ok (.ldc 26, 2) := by decide +kernel
theorem dX1_join_3 : decode cX1_join 3 = .ok (.iand, 1) := by decide +kernel
theorem dX1_join_4 : decode cX1_join 4 = .ok (.aload_n 0, 1) := by decide +kernel
theorem dX1_join_5 : decode cX1_join 5 = .ok (.getfield 16, 3) := by decide +kernel
theorem dX1_join_8 : decode cX1_join 8 = .ok (.irem, 1) := by decide +kernel
theorem dX1_join_9 : decode cX1_join 9 = .ok (.istore_n 3, 1) := by decide +kernel
theorem dX1_join_10 : decode cX1_join 10 = .ok (.iload_n 2, 1) := by decide +kernel
theorem dX1_join_11 : decode cX1_join 11 = .ok (.ldc 26, 2) := by decide +kernel
theorem dX1_join_13 : decode cX1_join 13 = .ok (.iand, 1) := by decide +kernel
theorem dX1_join_14 : decode cX1_join 14 = .ok (.aload_n 0, 1) := by decide +kernel
theorem dX1_join_15 : decode cX1_join 15 = .ok (.getfield 16, 3) := by decide +kernel
theorem dX1_join_18 : decode cX1_join 18 = .ok (.irem, 1) := by decide +kernel
theorem dX1_join_19 : decode cX1_join 19 = .ok (.istore 4, 2) := by decide +kernel
theorem dX1_join_21 : decode cX1_join 21 = .ok (.iload_n 3, 1) := by decide +kernel
theorem dX1_join_22 : decode cX1_join 22 = .ok (.iload 4, 2) := by decide +kernel
theorem dX1_join_24 : decode cX1_join 24 = .ok (.if_icmp .eq 12, 3) := by decide +kernel
theorem dX1_join_27 : decode cX1_join 27 = .ok (.aload_n 0, 1) := by decide +kernel
theorem dX1_join_28 : decode cX1_join 28 = .ok (.getfield 27, 3) := by decide +kernel
theorem dX1_join_31 : decode cX1_join 31 = .ok (.bipush 48, 2) := by decide +kernel
theorem dX1_join_33 : decode cX1_join 33 = .ok (.if_icmp .ne 5, 3) := by decide +kernel
theorem dX1_join_36 : decode cX1_join 36 = .ok (.iconst 0, 1) := by decide +kernel
theorem dX1_join_37 : decode cX1_join 37 = .ok (.ireturn, 1) := by decide +kernel
theorem dX1_join_38 : decode cX1_join 38 = .ok (.aload_n 0, 1) := by decide +kernel
theorem dX1_join_39 : decode cX1_join 39 = .ok (.getfield 7, 3) := by decide +kernel
theorem dX1_join_42 : decode cX1_join 42 = .ok (.aload_n 0, 1) := by decide +kernel
theorem dX1_join_43 : decode cX1_join 43 = .ok (.getfield 27, 3) := by decide +kernel
theorem dX1_join_46 : decode cX1_join 46 = .ok (.iload_n 3, 1) := by decide +kernel
theorem dX1_join_47 : decode cX1_join 47 = .ok (.iastore, 1) := by decide +kernel
theorem dX1_join_48 : decode cX1_join 48 = .ok (.aload_n 0, 1) := by decide +kernel
theorem dX1_join_49 : decode cX1_join 49 = .ok (.getfield 13, 3) := by decide +kernel
theorem dX1_join_52 : decode cX1_join 52 = .ok (.aload_n 0, 1) := by decide +kernel
theorem dX1_join_53 : decode cX1_join 53 = .ok (.getfield 27, 3) := by decide +kernel
theorem dX1_join_56 : decode cX1_join 56 = .ok (.iload 4, 2) := by decide +kernel
theorem dX1_join_58 : decode cX1_join 58 = .ok (.iastore, 1) := by decide +kernel
theorem dX1_join_59 : decode cX1_join 59 = .ok (.aload_n 0, 1) := by decide +kernel
theorem dX1_join_60 : decode cX1_join 60 = .ok (.aload_n 0, 1) := by decide +kernel
theorem dX1_join_61 : decode cX1_join 61 = .ok (.getfield 27, 3) := by decide +kernel
theorem dX1_join_64 : decode cX1_join 64 = .ok (.iconst 1, 1) := by decide +kernel
theorem dX1_join_65 : decode cX1_join 65 = .ok (.iadd, 1) := by decide +kernel
theorem dX1_join_66 : decode cX1_join 66 = .ok (.putfield 27, 3) := by decide +kernel
theorem dX1_join_69 : decode cX1_join 69 = .ok (.aload_n 0, 1) := by decide +kernel
theorem dX1_join_70 : decode cX1_join 70 = .ok (.iconst 0, 1) := by decide +kernel
theorem dX1_join_71 : decode cX1_join 71 = .ok (.putfield 30, 3) := by decide +kernel
theorem dX1_join_74 : decode cX1_join 74 = .ok (.iconst 1, 1) := by decide +kernel
theorem dX1_join_75 : decode cX1_join 75 = .ok (.ireturn, 1) := by decide +kernel
abbrev cX1_drop : ByteArray := prog_3_method_4_code
def yX1_drop : MethodName := ⟨RX1, "drop", "()Z"⟩
theorem dX1_drop_0 : decode cX1_drop 0 = .ok (.aload_n 0, 1) := by decide +kernel
theorem dX1_drop_1 : decode cX1_drop 1 = .ok (.getfield 27, 3) := by decide +kernel
theorem dX1_drop_4 : decode cX1_drop 4 = .ok (.ifCond .ne 5, 3) := by decide +kernel
theorem dX1_drop_7 : decode cX1_drop 7 = .ok (.iconst 0, 1) := by decide +kernel
theorem dX1_drop_8 : decode cX1_drop 8 = .ok (.ireturn, 1) := by decide +kernel
theorem dX1_drop_9 : decode cX1_drop 9 = .ok (.aload_n 0, 1) := by decide +kernel
theorem dX1_drop_10 : decode cX1_drop 10 = .ok (.aload_n 0, 1) := by decide +kernel
theorem dX1_drop_11 : decode cX1_drop 11 = .ok (.getfield 27, 3) := by decide +kernel
theorem dX1_drop_14 : decode cX1_drop 14 = .ok (.iconst 1, 1) := by decide +kernel
theorem dX1_drop_15 : decode cX1_drop 15 = .ok (.isub, 1) := by decide +kernel
theorem dX1_drop_16 : decode cX1_drop 16 = .ok (.putfield 27, 3) := by decide +kernel
theorem dX1_drop_19 : decode cX1_drop 19 = .ok (.aload_n 0, 1) := by decide +kernel
theorem dX1_drop_20 : decode cX1_drop 20 = .ok (.iconst 0, 1) := by decide +kernel
theorem dX1_drop_21 : decode cX1_drop 21 = .ok (.putfield 30, 3) := by decide +kernel
theorem dX1_drop_24 : decode cX1_drop 24 = .ok (.iconst 1, 1) := by decide +kernel
theorem dX1_drop_25 : decode cX1_drop 25 = .ok (.ireturn, 1) := by decide +kernel
abbrev cX1_sorts : ByteArray := prog_3_method_8_code
def yX1_sorts : MethodName := ⟨RX1, "sorts", "()Z"⟩
theorem dX1_sorts_0 : decode cX1_sorts 0 = .ok (.aload_n 0, 1) := by decide +kernel
theorem dX1_sorts_1 : decode cX1_sorts 1 = .ok (.invokevirtual 48, 3) := by decide +kernel
theorem dX1_sorts_4 : decode cX1_sorts 4 = .ok (.aload_n 0, 1) := by decide +kernel
theorem dX1_sorts_5 : decode cX1_sorts 5 = .ok (.getfield 34, 3) := by decide +kernel
theorem dX1_sorts_8 : decode cX1_sorts 8 = .ok (.iconst 1, 1) := by decide +kernel
theorem dX1_sorts_9 : decode cX1_sorts 9 = .ok (.aload_n 0, 1) := by decide +kernel
theorem dX1_sorts_10 : decode cX1_sorts 10 = .ok (.getfield 16, 3) := by decide +kernel
theorem dX1_sorts_13 : decode cX1_sorts 13 = .ok (.ishl, 1) := by decide +kernel
theorem dX1_sorts_14 : decode cX1_sorts 14 = .ok (.iconst 1, 1) := by decide +kernel
theorem dX1_sorts_15 : decode cX1_sorts 15 = .ok (.isub, 1) := by decide +kernel
theorem dX1_sorts_16 : decode cX1_sorts 16 = .ok (.if_icmp .ne 7, 3) := by decide +kernel
theorem dX1_sorts_19 : decode cX1_sorts 19 = .ok (.iconst 1, 1) := by decide +kernel
theorem dX1_sorts_20 : decode cX1_sorts 20 = .ok (.goto 4, 3) := by decide +kernel
theorem dX1_sorts_23 : decode cX1_sorts 23 = .ok (.iconst 0, 1) := by decide +kernel
theorem dX1_sorts_24 : decode cX1_sorts 24 = .ok (.ireturn, 1) := by decide +kernel
abbrev cX1_reckon : ByteArray := prog_3_method_7_code
def yX1_reckon : MethodName := ⟨RX1, "reckon", "()V"⟩
theorem dX1_reckon_0 : decode cX1_reckon 0 = .ok (.aload_n 0, 1) := by decide +kernel
theorem dX1_reckon_1 : decode cX1_reckon 1 = .ok (.getfield 30, 3) := by decide +kernel
theorem dX1_reckon_4 : decode cX1_reckon 4 = .ok (.ifCond .eq 4, 3) := by decide +kernel
theorem dX1_reckon_7 : decode cX1_reckon 7 = .ok (.return_, 1) := by decide +kernel
theorem dX1_reckon_8 : decode cX1_reckon 8 = .ok (.aload_n 0, 1) := by decide +kernel
theorem dX1_reckon_9 : decode cX1_reckon 9 = .ok (.iconst 1, 1) := by decide +kernel
theorem dX1_reckon_10 : decode cX1_reckon 10 = .ok (.putfield 30, 3) := by decide +kernel
theorem dX1_reckon_13 : decode cX1_reckon 13 = .ok (.aload_n 0, 1) := by decide +kernel
theorem dX1_reckon_14 : decode cX1_reckon 14 = .ok (.iconst 1, 1) := by decide +kernel
theorem dX1_reckon_15 : decode cX1_reckon 15 = .ok (.aload_n 0, 1) := by decide +kernel
theorem dX1_reckon_16 : decode cX1_reckon 16 = .ok (.getfield 16, 3) := by decide +kernel
theorem dX1_reckon_19 : decode cX1_reckon 19 = .ok (.ishl, 1) := by decide +kernel
theorem dX1_reckon_20 : decode cX1_reckon 20 = .ok (.iconst 1, 1) := by decide +kernel
theorem dX1_reckon_21 : decode cX1_reckon 21 = .ok (.isub, 1) := by decide +kernel
theorem dX1_reckon_22 : decode cX1_reckon 22 = .ok (.putfield 34, 3) := by decide +kernel
theorem dX1_reckon_25 : decode cX1_reckon 25 = .ok (.aload_n 0, 1) := by decide +kernel
theorem dX1_reckon_26 : decode cX1_reckon 26 = .ok (.iconst 0, 1) := by decide +kernel
theorem dX1_reckon_27 : decode cX1_reckon 27 = .ok (.putfield 37, 3) := by decide +kernel
theorem dX1_reckon_30 : decode cX1_reckon 30 = .ok (.aload_n 0, 1) := by decide +kernel
theorem dX1_reckon_31 : decode cX1_reckon 31 = .ok (.invokevirtual 40, 3) := by decide +kernel
theorem dX1_reckon_34 : decode cX1_reckon 34 = .ok (.istore_n 1, 1) := by decide +kernel
theorem dX1_reckon_35 : decode cX1_reckon 35 = .ok (.iconst 0, 1) := by decide +kernel
theorem dX1_reckon_36 : decode cX1_reckon 36 = .ok (.istore_n 2, 1) := by decide +kernel
theorem dX1_reckon_37 : decode cX1_reckon 37 = .ok (.iload_n 2, 1) := by decide +kernel
theorem dX1_reckon_38 : decode cX1_reckon 38 = .ok (.iload_n 1, 1) := by decide +kernel
theorem dX1_reckon_39 : decode cX1_reckon 39 = .ok (.if_icmp .ge 161, 3) := by decide +kernel
theorem dX1_reckon_42 : decode cX1_reckon 42 = .ok (.aload_n 0, 1) := by decide +kernel
theorem dX1_reckon_43 : decode cX1_reckon 43 = .ok (.iload_n 2, 1) := by decide +kernel
theorem dX1_reckon_44 : decode cX1_reckon 44 = .ok (.invokevirtual 44, 3) := by decide +kernel
theorem dX1_reckon_47 : decode cX1_reckon 47 = .ok (.iconst 0, 1) := by decide +kernel
theorem dX1_reckon_48 : decode cX1_reckon 48 = .ok (.istore_n 3, 1) := by decide +kernel
theorem dX1_reckon_49 : decode cX1_reckon 49 = .ok (.iload_n 3, 1) := by decide +kernel
theorem dX1_reckon_50 : decode cX1_reckon 50 = .ok (.aload_n 0, 1) := by decide +kernel
theorem dX1_reckon_51 : decode cX1_reckon 51 = .ok (.getfield 27, 3) := by decide +kernel
theorem dX1_reckon_54 : decode cX1_reckon 54 = .ok (.if_icmp .ge 100, 3) := by decide +kernel
theorem dX1_reckon_57 : decode cX1_reckon 57 = .ok (.aload_n 0, 1) := by decide +kernel
theorem dX1_reckon_58 : decode cX1_reckon 58 = .ok (.getfield 20, 3) := by decide +kernel
theorem dX1_reckon_61 : decode cX1_reckon 61 = .ok (.aload_n 0, 1) := by decide +kernel
theorem dX1_reckon_62 : decode cX1_reckon 62 = .ok (.getfield 7, 3) := by decide +kernel
theorem dX1_reckon_65 : decode cX1_reckon 65 = .ok (.iload_n 3, 1) := by decide +kernel
theorem dX1_reckon_66 : decode cX1_reckon 66 = .ok (.iaload, 1) := by decide +kernel
theorem dX1_reckon_67 : decode cX1_reckon 67 = .ok (.iaload, 1) := by decide +kernel
theorem dX1_reckon_68 : decode cX1_reckon 68 = .ok (.aload_n 0, 1) := by decide +kernel
theorem dX1_reckon_69 : decode cX1_reckon 69 = .ok (.getfield 20, 3) := by decide +kernel
theorem dX1_reckon_72 : decode cX1_reckon 72 = .ok (.aload_n 0, 1) := by decide +kernel
theorem dX1_reckon_73 : decode cX1_reckon 73 = .ok (.getfield 13, 3) := by decide +kernel
theorem dX1_reckon_76 : decode cX1_reckon 76 = .ok (.iload_n 3, 1) := by decide +kernel
theorem dX1_reckon_77 : decode cX1_reckon 77 = .ok (.iaload, 1) := by decide +kernel
theorem dX1_reckon_78 : decode cX1_reckon 78 = .ok (.iaload, 1) := by decide +kernel
theorem dX1_reckon_79 : decode cX1_reckon 79 = .ok (.if_icmp .le 69, 3) := by decide +kernel
theorem dX1_reckon_82 : decode cX1_reckon 82 = .ok (.aload_n 0, 1) := by decide +kernel
theorem dX1_reckon_83 : decode cX1_reckon 83 = .ok (.getfield 20, 3) := by decide +kernel
theorem dX1_reckon_86 : decode cX1_reckon 86 = .ok (.aload_n 0, 1) := by decide +kernel
theorem dX1_reckon_87 : decode cX1_reckon 87 = .ok (.getfield 7, 3) := by decide +kernel
theorem dX1_reckon_90 : decode cX1_reckon 90 = .ok (.iload_n 3, 1) := by decide +kernel
theorem dX1_reckon_91 : decode cX1_reckon 91 = .ok (.iaload, 1) := by decide +kernel
theorem dX1_reckon_92 : decode cX1_reckon 92 = .ok (.iaload, 1) := by decide +kernel
theorem dX1_reckon_93 : decode cX1_reckon 93 = .ok (.istore 4, 2) := by decide +kernel
theorem dX1_reckon_95 : decode cX1_reckon 95 = .ok (.aload_n 0, 1) := by decide +kernel
theorem dX1_reckon_96 : decode cX1_reckon 96 = .ok (.getfield 20, 3) := by decide +kernel
theorem dX1_reckon_99 : decode cX1_reckon 99 = .ok (.aload_n 0, 1) := by decide +kernel
theorem dX1_reckon_100 : decode cX1_reckon 100 = .ok (.getfield 7, 3) := by decide +kernel
theorem dX1_reckon_103 : decode cX1_reckon 103 = .ok (.iload_n 3, 1) := by decide +kernel
theorem dX1_reckon_104 : decode cX1_reckon 104 = .ok (.iaload, 1) := by decide +kernel
theorem dX1_reckon_105 : decode cX1_reckon 105 = .ok (.aload_n 0, 1) := by decide +kernel
theorem dX1_reckon_106 : decode cX1_reckon 106 = .ok (.getfield 20, 3) := by decide +kernel
theorem dX1_reckon_109 : decode cX1_reckon 109 = .ok (.aload_n 0, 1) := by decide +kernel
theorem dX1_reckon_110 : decode cX1_reckon 110 = .ok (.getfield 13, 3) := by decide +kernel
theorem dX1_reckon_113 : decode cX1_reckon 113 = .ok (.iload_n 3, 1) := by decide +kernel
theorem dX1_reckon_114 : decode cX1_reckon 114 = .ok (.iaload, 1) := by decide +kernel
theorem dX1_reckon_115 : decode cX1_reckon 115 = .ok (.iaload, 1) := by decide +kernel
theorem dX1_reckon_116 : decode cX1_reckon 116 = .ok (.iastore, 1) := by decide +kernel
theorem dX1_reckon_117 : decode cX1_reckon 117 = .ok (.aload_n 0, 1) := by decide +kernel
theorem dX1_reckon_118 : decode cX1_reckon 118 = .ok (.getfield 20, 3) := by decide +kernel
theorem dX1_reckon_121 : decode cX1_reckon 121 = .ok (.aload_n 0, 1) := by decide +kernel
theorem dX1_reckon_122 : decode cX1_reckon 122 = .ok (.getfield 13, 3) := by decide +kernel
theorem dX1_reckon_125 : decode cX1_reckon 125 = .ok (.iload_n 3, 1) := by decide +kernel
theorem dX1_reckon_126 : decode cX1_reckon 126 = .ok (.iaload, 1) := by decide +kernel
theorem dX1_reckon_127 : decode cX1_reckon 127 = .ok (.iload 4, 2) := by decide +kernel
theorem dX1_reckon_129 : decode cX1_reckon 129 = .ok (.iastore, 1) := by decide +kernel
theorem dX1_reckon_130 : decode cX1_reckon 130 = .ok (.iload_n 3, 1) := by decide +kernel
theorem dX1_reckon_131 : decode cX1_reckon 131 = .ok (.bipush 31, 2) := by decide +kernel
theorem dX1_reckon_133 : decode cX1_reckon 133 = .ok (.if_icmp .ge 15, 3) := by decide +kernel
theorem dX1_reckon_136 : decode cX1_reckon 136 = .ok (.aload_n 0, 1) := by decide +kernel
theorem dX1_reckon_137 : decode cX1_reckon 137 = .ok (.aload_n 0, 1) := by decide +kernel
theorem dX1_reckon_138 : decode cX1_reckon 138 = .ok (.getfield 37, 3) := by decide +kernel
theorem dX1_reckon_141 : decode cX1_reckon 141 = .ok (.iconst 1, 1) := by decide +kernel
theorem dX1_reckon_142 : decode cX1_reckon 142 = .ok (.iload_n 3, 1) := by decide +kernel
theorem dX1_reckon_143 : decode cX1_reckon 143 = .ok (.ishl, 1) := by decide +kernel
theorem dX1_reckon_144 : decode cX1_reckon 144 = .ok (.ior, 1) := by decide +kernel
theorem dX1_reckon_145 : decode cX1_reckon 145 = .ok (.putfield 37, 3) := by decide +kernel
theorem dX1_reckon_148 : decode cX1_reckon 148 = .ok (.iinc 3 1, 3) := by decide +kernel
theorem dX1_reckon_151 : decode cX1_reckon 151 = .ok (.goto (-102), 3) := by decide +kernel
theorem dX1_reckon_154 : decode cX1_reckon 154 = .ok (.iconst 0, 1) := by decide +kernel
theorem dX1_reckon_155 : decode cX1_reckon 155 = .ok (.istore_n 3, 1) := by decide +kernel
theorem dX1_reckon_156 : decode cX1_reckon 156 = .ok (.iload_n 3, 1) := by decide +kernel
theorem dX1_reckon_157 : decode cX1_reckon 157 = .ok (.aload_n 0, 1) := by decide +kernel
theorem dX1_reckon_158 : decode cX1_reckon 158 = .ok (.getfield 16, 3) := by decide +kernel
theorem dX1_reckon_161 : decode cX1_reckon 161 = .ok (.if_icmp .ge 33, 3) := by decide +kernel
theorem dX1_reckon_164 : decode cX1_reckon 164 = .ok (.aload_n 0, 1) := by decide +kernel
theorem dX1_reckon_165 : decode cX1_reckon 165 = .ok (.getfield 20, 3) := by decide +kernel
theorem dX1_reckon_168 : decode cX1_reckon 168 = .ok (.iload_n 3, 1) := by decide +kernel
theorem dX1_reckon_169 : decode cX1_reckon 169 = .ok (.iaload, 1) := by decide +kernel
theorem dX1_reckon_170 : decode cX1_reckon 170 = .ok (.iload_n 3, 1) := by decide +kernel
theorem dX1_reckon_171 : decode cX1_reckon 171 = .ok (.if_icmp .eq 17, 3) := by decide +kernel
theorem dX1_reckon_174 : decode cX1_reckon 174 = .ok (.aload_n 0, 1) := by decide +kernel
theorem dX1_reckon_175 : decode cX1_reckon 175 = .ok (.aload_n 0, 1) := by decide +kernel
theorem dX1_reckon_176 : decode cX1_reckon 176 = .ok (.getfield 34, 3) := by decide +kernel
theorem dX1_reckon_179 : decode cX1_reckon 179 = .ok (.iconst 1, 1) := by decide +kernel
theorem dX1_reckon_180 : decode cX1_reckon 180 = .ok (.iload_n 3, 1) := by decide +kernel
theorem dX1_reckon_181 : decode cX1_reckon 181 = .ok (.ishl, 1) := by decide +kernel
theorem dX1_reckon_182 : decode cX1_reckon 182 = .ok (.iconst (-1), 1) := by decide +kernel
theorem dX1_reckon_183 : decode cX1_reckon 183 = .ok (.ixor, 1) := by decide +kernel
theorem dX1_reckon_184 : decode cX1_reckon 184 = .ok (.iand, 1) := by decide +kernel
theorem dX1_reckon_185 : decode cX1_reckon 185 = .ok (.putfield 34, 3) := by decide +kernel
theorem dX1_reckon_188 : decode cX1_reckon 188 = .ok (.iinc 3 1, 3) := by decide +kernel
theorem dX1_reckon_191 : decode cX1_reckon 191 = .ok (.goto (-35), 3) := by decide +kernel
theorem dX1_reckon_194 : decode cX1_reckon 194 = .ok (.iinc 2 1, 3) := by decide +kernel
theorem dX1_reckon_197 : decode cX1_reckon 197 = .ok (.goto (-160), 3) := by decide +kernel
theorem dX1_reckon_200 : decode cX1_reckon 200 = .ok (.return_, 1) := by decide +kernel
abbrev cX1_orders : ByteArray := prog_3_method_6_code
def yX1_orders : MethodName := ⟨RX1, "orders", "()I"⟩
theorem dX1_orders_0 : decode cX1_orders 0 = .ok (.iconst 1, 1) := by decide +kernel
theorem dX1_orders_1 : decode cX1_orders 1 = .ok (.istore_n 1, 1) := by decide +kernel
theorem dX1_orders_2 : decode cX1_orders 2 = .ok (.iconst 2, 1) := by decide +kernel
theorem dX1_orders_3 : decode cX1_orders 3 = .ok (.istore_n 2, 1) := by decide +kernel
theorem dX1_orders_4 : decode cX1_orders 4 = .ok (.iload_n 2, 1) := by decide +kernel
theorem dX1_orders_5 : decode cX1_orders 5 = .ok (.aload_n 0, 1) := by decide +kernel
theorem dX1_orders_6 : decode cX1_orders 6 = .ok (.getfield 16, 3) := by decide +kernel
theorem dX1_orders_9 : decode cX1_orders 9 = .ok (.if_icmp .gt 13, 3) := by decide +kernel
theorem dX1_orders_12 : decode cX1_orders 12 = .ok (.iload_n 1, 1) := by decide +kernel
theorem dX1_orders_13 : decode cX1_orders 13 = .ok (.iload_n 2, 1) := by decide +kernel
theorem dX1_orders_14 : decode cX1_orders 14 = .ok (.imul, 1) := by decide +kernel
theorem dX1_orders_15 : decode cX1_orders 15 = .ok (.istore_n 1, 1) := by decide +kernel
theorem dX1_orders_16 : decode cX1_orders 16 = .ok (.iinc 2 1, 3) := by decide +kernel
theorem dX1_orders_19 : decode cX1_orders 19 = .ok (.goto (-15), 3) := by decide +kernel
theorem dX1_orders_22 : decode cX1_orders 22 = .ok (.iload_n 1, 1) := by decide +kernel
theorem dX1_orders_23 : decode cX1_orders 23 = .ok (.ireturn, 1) := by decide +kernel
abbrev cX1_order : ByteArray := prog_3_method_5_code
def yX1_order : MethodName := ⟨RX1, "order", "(I)V"⟩
theorem dX1_order_0 : decode cX1_order 0 = .ok (.iload_n 1, 1) := by decide +kernel
theorem dX1_order_1 : decode cX1_order 1 = .ok (.istore_n 2, 1) := by decide +kernel
theorem dX1_order_2 : decode cX1_order 2 = .ok (.iconst 0, 1) := by decide +kernel
theorem dX1_order_3 : decode cX1_order 3 = .ok (.istore_n 3, 1) := by decide +kernel
theorem dX1_order_4 : decode cX1_order 4 = .ok (.iload_n 3, 1) := by decide +kernel
theorem dX1_order_5 : decode cX1_order 5 = .ok (.aload_n 0, 1) := by decide +kernel
theorem dX1_order_6 : decode cX1_order 6 = .ok (.getfield 16, 3) := by decide +kernel
theorem dX1_order_9 : decode cX1_order 9 = .ok (.if_icmp .ge 16, 3) := by decide +kernel
theorem dX1_order_12 : decode cX1_order 12 = .ok (.aload_n 0, 1) := by decide +kernel
theorem dX1_order_13 : decode cX1_order 13 = .ok (.getfield 23, 3) := by decide +kernel
theorem dX1_order_16 : decode cX1_order 16 = .ok (.iload_n 3, 1) := by decide +kernel
theorem dX1_order_17 : decode cX1_order 17 = .ok (.iload_n 3, 1) := by decide +kernel
theorem dX1_order_18 : decode cX1_order 18 = .ok (.iastore, 1) := by decide +kernel
theorem dX1_order_19 : decode cX1_order 19 = .ok (.iinc 3 1, 3) := by decide +kernel
theorem dX1_order_22 : decode cX1_order 22 = .ok (.goto (-18), 3) := by decide +kernel
theorem dX1_order_25 : decode cX1_order 25 = .ok (.iconst 0, 1) := by decide +kernel
theorem dX1_order_26 : decode cX1_order 26 = .ok (.istore_n 3, 1) := by decide +kernel
theorem dX1_order_27 : decode cX1_order 27 = .ok (.iload_n 3, 1) := by decide +kernel
theorem dX1_order_28 : decode cX1_order 28 = .ok (.aload_n 0, 1) := by decide +kernel
theorem dX1_order_29 : decode cX1_order 29 = .ok (.getfield 16, 3) := by decide +kernel
theorem dX1_order_32 : decode cX1_order 32 = .ok (.if_icmp .ge 76, 3) := by decide +kernel
theorem dX1_order_35 : decode cX1_order 35 = .ok (.aload_n 0, 1) := by decide +kernel
theorem dX1_order_36 : decode cX1_order 36 = .ok (.getfield 16, 3) := by decide +kernel
theorem dX1_order_39 : decode cX1_order 39 = .ok (.iload_n 3, 1) := by decide +kernel
theorem dX1_order_40 : decode cX1_order 40 = .ok (.isub, 1) := by decide +kernel
theorem dX1_order_41 : decode cX1_order 41 = .ok (.istore 4, 2) := by decide +kernel
theorem dX1_order_43 : decode cX1_order 43 = .ok (.iload_n 2, 1) := by decide +kernel
theorem dX1_order_44 : decode cX1_order 44 = .ok (.iload 4, 2) := by decide +kernel
theorem dX1_order_46 : decode cX1_order 46 = .ok (.irem, 1) := by decide +kernel
theorem dX1_order_47 : decode cX1_order 47 = .ok (.istore 5, 2) := by decide +kernel
theorem dX1_order_49 : decode cX1_order 49 = .ok (.iload_n 2, 1) := by decide +kernel
theorem dX1_order_50 : decode cX1_order 50 = .ok (.iload 4, 2) := by decide +kernel
theorem dX1_order_52 : decode cX1_order 52 = .ok (.idiv, 1) := by decide +kernel
theorem dX1_order_53 : decode cX1_order 53 = .ok (.istore_n 2, 1) := by decide +kernel
theorem dX1_order_54 : decode cX1_order 54 = .ok (.aload_n 0, 1) := by decide +kernel
theorem dX1_order_55 : decode cX1_order 55 = .ok (.getfield 20, 3) := by decide +kernel
theorem dX1_order_58 : decode cX1_order 58 = .ok (.iload_n 3, 1) := by decide +kernel
theorem dX1_order_59 : decode cX1_order 59 = .ok (.aload_n 0, 1) := by decide +kernel
theorem dX1_order_60 : decode cX1_order 60 = .ok (.getfield 23, 3) := by decide +kernel
theorem dX1_order_63 : decode cX1_order 63 = .ok (.iload 5, 2) := by decide +kernel
theorem dX1_order_65 : decode cX1_order 65 = .ok (.iaload, 1) := by decide +kernel
theorem dX1_order_66 : decode cX1_order 66 = .ok (.iastore, 1) := by decide +kernel
theorem dX1_order_67 : decode cX1_order 67 = .ok (.iload 5, 2) := by decide +kernel
theorem dX1_order_69 : decode cX1_order 69 = .ok (.istore 6, 2) := by decide +kernel
theorem dX1_order_71 : decode cX1_order 71 = .ok (.iload 6, 2) := by decide +kernel
theorem dX1_order_73 : decode cX1_order 73 = .ok (.iconst 1, 1) := by decide +kernel
theorem dX1_order_74 : decode cX1_order 74 = .ok (.iadd, 1) := by decide +kernel
theorem dX1_order_75 : decode cX1_order 75 = .ok (.iload 4, 2) := by decide +kernel
theorem dX1_order_77 : decode cX1_order 77 = .ok (.if_icmp .ge 25, 3) := by decide +kernel
theorem dX1_order_80 : decode cX1_order 80 = .ok (.aload_n 0, 1) := by decide +kernel
theorem dX1_order_81 : decode cX1_order 81 = .ok (.getfield 23, 3) := by decide +kernel
theorem dX1_order_84 : decode cX1_order 84 = .ok (.iload 6, 2) := by decide +kernel
theorem dX1_order_86 : decode cX1_order 86 = .ok (.aload_n 0, 1) := by decide +kernel
theorem dX1_order_87 : decode cX1_order 87 = .ok (.getfield 23, 3) := by decide +kernel
theorem dX1_order_90 : decode cX1_order 90 = .ok (.iload 6, 2) := by decide +kernel
theorem dX1_order_92 : decode cX1_order 92 = .ok (.iconst 1, 1) := by decide +kernel
theorem dX1_order_93 : decode cX1_order 93 = .ok (.iadd, 1) := by decide +kernel
theorem dX1_order_94 : decode cX1_order 94 = .ok (.iaload, 1) := by decide +kernel
theorem dX1_order_95 : decode cX1_order 95 = .ok (.iastore, 1) := by decide +kernel
theorem dX1_order_96 : decode cX1_order 96 = .ok (.iinc 6 1, 3) := by decide +kernel
theorem dX1_order_99 : decode cX1_order 99 = .ok (.goto (-28), 3) := by decide +kernel
theorem dX1_order_102 : decode cX1_order 102 = .ok (.iinc 3 1, 3) := by decide +kernel
theorem dX1_order_105 : decode cX1_order 105 = .ok (.goto (-78), 3) := by decide +kernel
theorem dX1_order_108 : decode cX1_order 108 = .ok (.return_, 1) := by decide +kernel
abbrev cX1_finds : ByteArray := prog_3_method_9_code
def yX1_finds : MethodName := ⟨RX1, "finds", "(I)Z"⟩
theorem dX1_finds_0 : decode cX1_finds 0 = .ok (.aload_n 0, 1) := by decide +kernel
theorem dX1_finds_1 : decode cX1_finds 1 = .ok (.invokevirtual 48, 3) := by decide +kernel
theorem dX1_finds_4 : decode cX1_finds 4 = .ok (.aload_n 0, 1) := by decide +kernel
theorem dX1_finds_5 : decode cX1_finds 5 = .ok (.getfield 34, 3) := by decide +kernel
theorem dX1_finds_8 : decode cX1_finds 8 = .ok (.iload_n 1, 1) := by decide +kernel
theorem dX1_finds_9 : decode cX1_finds 9 = .ok (.ldc 26, 2) := by decide +kernel
theorem dX1_finds_11 : decode cX1_finds 11 = .ok (.iand, 1) := by decide +kernel
theorem dX1_finds_12 : decode cX1_finds 12 = .ok (.aload_n 0, 1) := by decide +kernel
theorem dX1_finds_13 : decode cX1_finds 13 = .ok (.getfield 16, 3) := by decide +kernel
theorem dX1_finds_16 : decode cX1_finds 16 = .ok (.irem, 1) := by decide +kernel
theorem dX1_finds_17 : decode cX1_finds 17 = .ok (.ishr, 1) := by decide +kernel
theorem dX1_finds_18 : decode cX1_finds 18 = .ok (.iconst 1, 1) := by decide +kernel
theorem dX1_finds_19 : decode cX1_finds 19 = .ok (.iand, 1) := by decide +kernel
theorem dX1_finds_20 : decode cX1_finds 20 = .ok (.ifCond .eq 7, 3) := by decide +kernel
theorem dX1_finds_23 : decode cX1_finds 23 = .ok (.iconst 1, 1) := by decide +kernel
theorem dX1_finds_24 : decode cX1_finds 24 = .ok (.goto 4, 3) := by decide +kernel
theorem dX1_finds_27 : decode cX1_finds 27 = .ok (.iconst 0, 1) := by decide +kernel
theorem dX1_finds_28 : decode cX1_finds 28 = .ok (.ireturn, 1) := by decide +kernel
abbrev cX1_needless : ByteArray := prog_3_method_10_code
def yX1_needless : MethodName := ⟨RX1, "needless", "()I"⟩
theorem dX1_needless_0 : decode cX1_needless 0 = .ok (.aload_n 0, 1) := by decide +kernel
theorem dX1_needless_1 : decode cX1_needless 1 = .ok (.invokevirtual 48, 3) := by decide +kernel
theorem dX1_needless_4 : decode cX1_needless 4 = .ok (.aload_n 0, 1) := by decide +kernel
theorem dX1_needless_5 : decode cX1_needless 5 = .ok (.getfield 27, 3) := by decide +kernel
theorem dX1_needless_8 : decode cX1_needless 8 = .ok (.bipush 31, 2) := by decide +kernel
theorem dX1_needless_10 : decode cX1_needless 10 = .ok (.if_icmp .ge 14, 3) := by decide +kernel
theorem dX1_needless_13 : decode cX1_needless 13 = .ok (.iconst 1, 1) := by decide +kernel
theorem dX1_needless_14 : decode cX1_needless 14 = .ok (.aload_n 0, 1) := by decide +kernel
theorem dX1_needless_15 : decode cX1_needless 15 = .ok (.getfield 27, 3) := by decide +kernel
theorem dX1_needless_18 : decode cX1_needless 18 = .ok (.ishl, 1) := by decide +kernel
theorem dX1_needless_19 : decode cX1_needless 19 = .ok (.iconst 1, 1) := by decide +kernel
theorem dX1_needless_20 : decode cX1_needless 20 = .ok (.isub, 1) := by decide +kernel
theorem dX1_needless_21 : decode cX1_needless 21 = .ok (.goto 5, 3) := by decide +kernel
theorem dX1_needless_24 : decode cX1_needless 24 = .ok (.ldc 26, 2) := by decide +kernel
theorem dX1_needless_26 : decode cX1_needless 26 = .ok (.istore_n 1, 1) := by decide +kernel
theorem dX1_needless_27 : decode cX1_needless 27 = .ok (.iload_n 1, 1) := by decide +kernel
theorem dX1_needless_28 : decode cX1_needless 28 = .ok (.aload_n 0, 1) := by decide +kernel
theorem dX1_needless_29 : decode cX1_needless 29 = .ok (.getfield 37, 3) := by decide +kernel
theorem dX1_needless_32 : decode cX1_needless 32 = .ok (.iconst (-1), 1) := by decide +kernel
theorem dX1_needless_33 : decode cX1_needless 33 = .ok (.ixor, 1) := by decide +kernel
theorem dX1_needless_34 : decode cX1_needless 34 = .ok (.iand, 1) := by decide +kernel
theorem dX1_needless_35 : decode cX1_needless 35 = .ok (.ireturn, 1) := by decide +kernel
theorem q9 : (Jvm.Cond.initialized "CrossDeskModel") ∈ lw_all := lw_g (lw_at lw_m0 2 rfl) rfl
theorem q81 : (Jvm.Cond.instantiable "CrossDeskModel" (9 : Nat)) ∈ lw_all := lw_g (lw_at lw_m0 74 rfl) rfl
theorem q83 : (Jvm.Cond.instanceMethod ({ cls := "CrossDeskModel", name := "<init>", desc := "()V" } : Jvm.MethodName)) ∈ lw_all := lw_g (lw_at lw_m0 76 rfl) rfl
theorem q84 : (Jvm.Cond.code ({ cls := "CrossDeskModel", name := "<init>", desc := "()V" } : Jvm.MethodName) prog_3_method_1_code (1 : Nat) (Option.none : Option Jvm.ClassFile.FieldType)) ∈ lw_all := lw_g (lw_at lw_m0 77 rfl) rfl
theorem q85 : (Jvm.Cond.methodLink "CrossDeskModel" (1 : Nat) ({ cls := "java/lang/Object", name := "<init>", desc := "()V" } : Jvm.MethodName)) ∈ lw_all := lw_g (lw_at lw_m0 78 rfl) rfl
theorem q86 : (Jvm.Cond.fieldLink "CrossDeskModel" (7 : Nat) "CrossDeskModel" "low" "[I") ∈ lw_all := lw_g (lw_at lw_m0 79 rfl) rfl
theorem q87 : (Jvm.Cond.fieldLink "CrossDeskModel" (13 : Nat) "CrossDeskModel" "high" "[I") ∈ lw_all := lw_g (lw_at lw_m0 80 rfl) rfl
theorem q88 : (Jvm.Cond.fieldLink "CrossDeskModel" (27 : Nat) "CrossDeskModel" "size" "I") ∈ lw_all := lw_g (lw_at lw_m0 81 rfl) rfl
theorem q89 : (Jvm.Cond.fieldLink "CrossDeskModel" (16 : Nat) "CrossDeskModel" "n" "I") ∈ lw_all := lw_g (lw_at lw_m0 82 rfl) rfl
theorem q90 : (Jvm.Cond.fieldLink "CrossDeskModel" (30 : Nat) "CrossDeskModel" "known" "Z") ∈ lw_all := lw_g (lw_at lw_m0 83 rfl) rfl
theorem q91 : (Jvm.Cond.fieldLink "CrossDeskModel" (34 : Nat) "CrossDeskModel" "found" "I") ∈ lw_all := lw_g (lw_at lw_m0 84 rfl) rfl
theorem q92 : (Jvm.Cond.fieldLink "CrossDeskModel" (37 : Nat) "CrossDeskModel" "used" "I") ∈ lw_all := lw_g (lw_at lw_m0 85 rfl) rfl
theorem q93 : (Jvm.Cond.fieldLink "CrossDeskModel" (20 : Nat) "CrossDeskModel" "v" "[I") ∈ lw_all := lw_g (lw_at lw_m0 86 rfl) rfl
theorem q94 : (Jvm.Cond.fieldLink "CrossDeskModel" (23 : Nat) "CrossDeskModel" "left" "[I") ∈ lw_all := lw_g (lw_at lw_m0 87 rfl) rfl
theorem q95 : (Jvm.Cond.laysFinal "CrossDeskModel" "CrossDeskModel" "low" "[I") ∈ lw_all := lw_g (lw_at lw_m0 88 rfl) rfl
theorem q96 : (Jvm.Cond.soleField "CrossDeskModel" "low") ∈ lw_all := lw_g (lw_at lw_m0 89 rfl) rfl
theorem q97 : (Jvm.Cond.laysFinal "CrossDeskModel" "CrossDeskModel" "high" "[I") ∈ lw_all := lw_g (lw_at lw_m0 90 rfl) rfl
theorem q98 : (Jvm.Cond.soleField "CrossDeskModel" "high") ∈ lw_all := lw_g (lw_at lw_m0 91 rfl) rfl
theorem q99 : (Jvm.Cond.lays "CrossDeskModel" "CrossDeskModel" "size" "I") ∈ lw_all := lw_g (lw_at lw_m0 92 rfl) rfl
theorem q100 : (Jvm.Cond.soleField "CrossDeskModel" "size") ∈ lw_all := lw_g (lw_at lw_m0 93 rfl) rfl
theorem q101 : (Jvm.Cond.lays "CrossDeskModel" "CrossDeskModel" "n" "I") ∈ lw_all := lw_g (lw_at lw_m0 94 rfl) rfl
theorem q102 : (Jvm.Cond.soleField "CrossDeskModel" "n") ∈ lw_all := lw_g (lw_at lw_m0 95 rfl) rfl
theorem q103 : (Jvm.Cond.lays "CrossDeskModel" "CrossDeskModel" "known" "Z") ∈ lw_all := lw_g (lw_at lw_m0 96 rfl) rfl
theorem q104 : (Jvm.Cond.soleField "CrossDeskModel" "known") ∈ lw_all := lw_g (lw_at lw_m0 97 rfl) rfl
theorem q105 : (Jvm.Cond.lays "CrossDeskModel" "CrossDeskModel" "found" "I") ∈ lw_all := lw_g (lw_at lw_m0 98 rfl) rfl
theorem q106 : (Jvm.Cond.soleField "CrossDeskModel" "found") ∈ lw_all := lw_g (lw_at lw_m0 99 rfl) rfl
theorem q107 : (Jvm.Cond.lays "CrossDeskModel" "CrossDeskModel" "used" "I") ∈ lw_all := lw_g (lw_at lw_m0 100 rfl) rfl
theorem q108 : (Jvm.Cond.soleField "CrossDeskModel" "used") ∈ lw_all := lw_g (lw_at lw_m0 101 rfl) rfl
theorem q109 : (Jvm.Cond.laysFinal "CrossDeskModel" "CrossDeskModel" "v" "[I") ∈ lw_all := lw_g (lw_at lw_m0 102 rfl) rfl
theorem q110 : (Jvm.Cond.soleField "CrossDeskModel" "v") ∈ lw_all := lw_g (lw_at lw_m0 103 rfl) rfl
theorem q111 : (Jvm.Cond.laysFinal "CrossDeskModel" "CrossDeskModel" "left" "[I") ∈ lw_all := lw_g (lw_at lw_m0 104 rfl) rfl
theorem q112 : (Jvm.Cond.soleField "CrossDeskModel" "left") ∈ lw_all := lw_g (lw_at lw_m0 105 rfl) rfl
theorem q113 : (Jvm.Cond.superclass "CrossDeskModel" "java/lang/Object") ∈ lw_all := lw_g (lw_at lw_m0 106 rfl) rfl
theorem q116 : (Jvm.Cond.instanceMethod ({ cls := "CrossDeskModel", name := "wires", desc := "(I)V" } : Jvm.MethodName)) ∈ lw_all := lw_g (lw_at lw_m0 109 rfl) rfl
theorem q117 : (Jvm.Cond.selects "CrossDeskModel" ({ cls := "CrossDeskModel", name := "wires", desc := "(I)V" } : Jvm.MethodName) ({ cls := "CrossDeskModel", name := "wires", desc := "(I)V" } : Jvm.MethodName)) ∈ lw_all := lw_g (lw_at lw_m0 110 rfl) rfl
theorem q118 : (Jvm.Cond.code ({ cls := "CrossDeskModel", name := "wires", desc := "(I)V" } : Jvm.MethodName) prog_3_method_2_code (2 : Nat) (Option.none : Option Jvm.ClassFile.FieldType)) ∈ lw_all := lw_g (lw_at lw_m0 111 rfl) rfl
theorem q119 : (Jvm.Cond.constant "CrossDeskModel" (26 : Nat) (2147483647 : Int32)) ∈ lw_all := lw_g (lw_at lw_m0 112 rfl) rfl
theorem q121 : (Jvm.Cond.instanceMethod ({ cls := "CrossDeskModel", name := "join", desc := "(II)Z" } : Jvm.MethodName)) ∈ lw_all := lw_g (lw_at lw_m0 114 rfl) rfl
theorem q122 : (Jvm.Cond.selects "CrossDeskModel" ({ cls := "CrossDeskModel", name := "join", desc := "(II)Z" } : Jvm.MethodName) ({ cls := "CrossDeskModel", name := "join", desc := "(II)Z" } : Jvm.MethodName)) ∈ lw_all := lw_g (lw_at lw_m0 115 rfl) rfl
theorem q123 : (Jvm.Cond.code ({ cls := "CrossDeskModel", name := "join", desc := "(II)Z" } : Jvm.MethodName) prog_3_method_3_code (5 : Nat) (Option.some Jvm.ClassFile.FieldType.boolean)) ∈ lw_all := lw_g (lw_at lw_m0 116 rfl) rfl
theorem q125 : (Jvm.Cond.instanceMethod ({ cls := "CrossDeskModel", name := "drop", desc := "()Z" } : Jvm.MethodName)) ∈ lw_all := lw_g (lw_at lw_m0 118 rfl) rfl
theorem q126 : (Jvm.Cond.selects "CrossDeskModel" ({ cls := "CrossDeskModel", name := "drop", desc := "()Z" } : Jvm.MethodName) ({ cls := "CrossDeskModel", name := "drop", desc := "()Z" } : Jvm.MethodName)) ∈ lw_all := lw_g (lw_at lw_m0 119 rfl) rfl
theorem q127 : (Jvm.Cond.code ({ cls := "CrossDeskModel", name := "drop", desc := "()Z" } : Jvm.MethodName) prog_3_method_4_code (1 : Nat) (Option.some Jvm.ClassFile.FieldType.boolean)) ∈ lw_all := lw_g (lw_at lw_m0 120 rfl) rfl
theorem q129 : (Jvm.Cond.instanceMethod ({ cls := "CrossDeskModel", name := "sorts", desc := "()Z" } : Jvm.MethodName)) ∈ lw_all := lw_g (lw_at lw_m0 122 rfl) rfl
theorem q130 : (Jvm.Cond.selects "CrossDeskModel" ({ cls := "CrossDeskModel", name := "sorts", desc := "()Z" } : Jvm.MethodName) ({ cls := "CrossDeskModel", name := "sorts", desc := "()Z" } : Jvm.MethodName)) ∈ lw_all := lw_g (lw_at lw_m0 123 rfl) rfl
theorem q131 : (Jvm.Cond.code ({ cls := "CrossDeskModel", name := "sorts", desc := "()Z" } : Jvm.MethodName) prog_3_method_8_code (1 : Nat) (Option.some Jvm.ClassFile.FieldType.boolean)) ∈ lw_all := lw_g (lw_at lw_m0 124 rfl) rfl
theorem q132 : (Jvm.Cond.methodLink "CrossDeskModel" (48 : Nat) ({ cls := "CrossDeskModel", name := "reckon", desc := "()V" } : Jvm.MethodName)) ∈ lw_all := lw_g (lw_at lw_m0 125 rfl) rfl
theorem q133 : (Jvm.Cond.privateMethod ({ cls := "CrossDeskModel", name := "reckon", desc := "()V" } : Jvm.MethodName)) ∈ lw_tbl := lw_at lw_m0 126 rfl
theorem q134 : (Jvm.Cond.instanceMethod ({ cls := "CrossDeskModel", name := "reckon", desc := "()V" } : Jvm.MethodName)) ∈ lw_all := lw_g (lw_at lw_m0 127 rfl) rfl
theorem q135 : (Jvm.Cond.code ({ cls := "CrossDeskModel", name := "reckon", desc := "()V" } : Jvm.MethodName) prog_3_method_7_code (5 : Nat) (Option.none : Option Jvm.ClassFile.FieldType)) ∈ lw_all := lw_g (lw_at lw_m0 128 rfl) rfl
theorem q136 : (Jvm.Cond.methodLink "CrossDeskModel" (40 : Nat) ({ cls := "CrossDeskModel", name := "orders", desc := "()I" } : Jvm.MethodName)) ∈ lw_all := lw_g (lw_at lw_m0 129 rfl) rfl
theorem q137 : (Jvm.Cond.privateMethod ({ cls := "CrossDeskModel", name := "orders", desc := "()I" } : Jvm.MethodName)) ∈ lw_tbl := lw_at lw_m0 130 rfl
theorem q138 : (Jvm.Cond.instanceMethod ({ cls := "CrossDeskModel", name := "orders", desc := "()I" } : Jvm.MethodName)) ∈ lw_all := lw_g (lw_at lw_m0 131 rfl) rfl
theorem q139 : (Jvm.Cond.code ({ cls := "CrossDeskModel", name := "orders", desc := "()I" } : Jvm.MethodName) prog_3_method_6_code (3 : Nat) (Option.some Jvm.ClassFile.FieldType.int)) ∈ lw_all := lw_g (lw_at lw_m0 132 rfl) rfl
theorem q140 : (Jvm.Cond.methodLink "CrossDeskModel" (44 : Nat) ({ cls := "CrossDeskModel", name := "order", desc := "(I)V" } : Jvm.MethodName)) ∈ lw_all := lw_g (lw_at lw_m0 133 rfl) rfl
theorem q141 : (Jvm.Cond.privateMethod ({ cls := "CrossDeskModel", name := "order", desc := "(I)V" } : Jvm.MethodName)) ∈ lw_tbl := lw_at lw_m0 134 rfl
theorem q142 : (Jvm.Cond.instanceMethod ({ cls := "CrossDeskModel", name := "order", desc := "(I)V" } : Jvm.MethodName)) ∈ lw_all := lw_g (lw_at lw_m0 135 rfl) rfl
theorem q143 : (Jvm.Cond.code ({ cls := "CrossDeskModel", name := "order", desc := "(I)V" } : Jvm.MethodName) prog_3_method_5_code (7 : Nat) (Option.none : Option Jvm.ClassFile.FieldType)) ∈ lw_all := lw_g (lw_at lw_m0 136 rfl) rfl
theorem q145 : (Jvm.Cond.instanceMethod ({ cls := "CrossDeskModel", name := "finds", desc := "(I)Z" } : Jvm.MethodName)) ∈ lw_all := lw_g (lw_at lw_m0 138 rfl) rfl
theorem q146 : (Jvm.Cond.selects "CrossDeskModel" ({ cls := "CrossDeskModel", name := "finds", desc := "(I)Z" } : Jvm.MethodName) ({ cls := "CrossDeskModel", name := "finds", desc := "(I)Z" } : Jvm.MethodName)) ∈ lw_all := lw_g (lw_at lw_m0 139 rfl) rfl
theorem q147 : (Jvm.Cond.code ({ cls := "CrossDeskModel", name := "finds", desc := "(I)Z" } : Jvm.MethodName) prog_3_method_9_code (2 : Nat) (Option.some Jvm.ClassFile.FieldType.boolean)) ∈ lw_all := lw_g (lw_at lw_m0 140 rfl) rfl
theorem q149 : (Jvm.Cond.instanceMethod ({ cls := "CrossDeskModel", name := "needless", desc := "()I" } : Jvm.MethodName)) ∈ lw_all := lw_g (lw_at lw_m0 142 rfl) rfl
theorem q150 : (Jvm.Cond.selects "CrossDeskModel" ({ cls := "CrossDeskModel", name := "needless", desc := "()I" } : Jvm.MethodName) ({ cls := "CrossDeskModel", name := "needless", desc := "()I" } : Jvm.MethodName)) ∈ lw_all := lw_g (lw_at lw_m0 143 rfl) rfl
theorem q151 : (Jvm.Cond.code ({ cls := "CrossDeskModel", name := "needless", desc := "()I" } : Jvm.MethodName) prog_3_method_10_code (2 : Nat) (Option.some Jvm.ClassFile.FieldType.int)) ∈ lw_all := lw_g (lw_at lw_m0 144 rfl) rfl
theorem in_X1 : ∀ w ∈ wsX10, w ∈ lw_all := lw_in wsX10 [95, 97, 99, 101, 103, 105, 107, 109, 111] (by decide +kernel) (by decide +kernel)
end
section
/-! the law's own entry -/
set_option maxRecDepth 100000
abbrev cL_law : ByteArray := code
theorem dL_law_0 : decode cL_law 0 = .ok (.new 7, 3) := by decide +kernel
theorem dL_law_3 : decode cL_law 3 = .ok (.dup, 1) := by decide +kernel
theorem dL_law_4 : decode cL_law 4 = .ok (.invokespecial 9, 3) := by decide +kernel
theorem dL_law_7 : decode cL_law 7 = .ok (.astore_n 1, 1) := by decide +kernel
theorem dL_law_8 : decode cL_law 8 = .ok (.new 10, 3) := by decide +kernel
theorem dL_law_11 : decode cL_law 11 = .ok (.dup, 1) := by decide +kernel
theorem dL_law_12 : decode cL_law 12 = .ok (.invokespecial 12, 3) := by decide +kernel
theorem dL_law_15 : decode cL_law 15 = .ok (.astore_n 2, 1) := by decide +kernel
theorem dL_law_16 : decode cL_law 16 = .ok (.iconst 0, 1) := by decide +kernel
theorem dL_law_17 : decode cL_law 17 = .ok (.istore_n 3, 1) := by decide +kernel
theorem dL_law_18 : decode cL_law 18 = .ok (.iload_n 3, 1) := by decide +kernel
theorem dL_law_19 : decode cL_law 19 = .ok (.aload_n 0, 1) := by decide +kernel
theorem dL_law_20 : decode cL_law 20 = .ok (.arraylength, 1) := by decide +kernel
theorem dL_law_21 : decode cL_law 21 = .ok (.iconst 3, 1) := by decide +kernel
theorem dL_law_22 : decode cL_law 22 = .ok (.isub, 1) := by decide +kernel
theorem dL_law_23 : decode cL_law 23 = .ok (.if_icmp .gt 171, 3) := by decide +kernel
theorem dL_law_26 : decode cL_law 26 = .ok (.aload_n 0, 1) := by decide +kernel
theorem dL_law_27 : decode cL_law 27 = .ok (.iload_n 3, 1) := by decide +kernel
theorem dL_law_28 : decode cL_law 28 = .ok (.iaload, 1) := by decide +kernel
theorem dL_law_29 : decode cL_law 29 = .ok (.bipush 7, 2) := by decide +kernel
theorem dL_law_31 : decode cL_law 31 = .ok (.iand, 1) := by decide +kernel
theorem dL_law_32 : decode cL_law 32 = .ok (.tableswitch 156 0 5 #[40, 61, 94, 107, 120, 143], 40) := by decide +kernel
theorem dL_law_72 : decode cL_law 72 = .ok (.aload_n 1, 1) := by decide +kernel
theorem dL_law_73 : decode cL_law 73 = .ok (.aload_n 0, 1) := by decide +kernel
theorem dL_law_74 : decode cL_law 74 = .ok (.iload_n 3, 1) := by decide +kernel
theorem dL_law_75 : decode cL_law 75 = .ok (.iconst 1, 1) := by decide +kernel
theorem dL_law_76 : decode cL_law 76 = .ok (.iadd, 1) := by decide +kernel
theorem dL_law_77 : decode cL_law 77 = .ok (.iaload, 1) := by decide +kernel
theorem dL_law_78 : decode cL_law 78 = .ok (.invokevirtual 13, 3) := by decide +kernel
theorem dL_law_81 : decode cL_law 81 = .ok (.aload_n 2, 1) := by decide +kernel
theorem dL_law_82 : decode cL_law 82 = .ok (.aload_n 0, 1) := by decide +kernel
theorem dL_law_83 : decode cL_law 83 = .ok (.iload_n 3, 1) := by decide +kernel
theorem dL_law_84 : decode cL_law 84 = .ok (.iconst 1, 1) := by decide +kernel
theorem dL_law_85 : decode cL_law 85 = .ok (.iadd, 1) := by decide +kernel
theorem dL_law_86 : decode cL_law 86 = .ok (.iaload, 1) := by decide +kernel
theorem dL_law_87 : decode cL_law 87 = .ok (.invokevirtual 17, 3) := by decide +kernel
theorem dL_law_90 : decode cL_law 90 = .ok (.goto 98, 3) := by decide +kernel
theorem dL_law_93 : decode cL_law 93 = .ok (.aload_n 1, 1) := by decide +kernel
theorem dL_law_94 : decode cL_law 94 = .ok (.aload_n 0, 1) := by decide +kernel
theorem dL_law_95 : decode cL_law 95 = .ok (.iload_n 3, 1) := by decide +kernel
theorem dL_law_96 : decode cL_law 96 = .ok (.iconst 1, 1) := by decide +kernel
theorem dL_law_97 : decode cL_law 97 = .ok (.iadd, 1) := by decide +kernel
theorem dL_law_98 : decode cL_law 98 = .ok (.iaload, 1) := by decide +kernel
theorem dL_law_99 : decode cL_law 99 = .ok (.aload_n 0, 1) := by decide +kernel
theorem dL_law_100 : decode cL_law 100 = .ok (.iload_n 3, 1) := by decide +kernel
theorem dL_law_101 : decode cL_law 101 = .ok (.iconst 2, 1) := by decide +kernel
theorem dL_law_102 : decode cL_law 102 = .ok (.iadd, 1) := by decide +kernel
theorem dL_law_103 : decode cL_law 103 = .ok (.iaload, 1) := by decide +kernel
theorem dL_law_104 : decode cL_law 104 = .ok (.invokevirtual 18, 3) := by decide +kernel
theorem dL_law_107 : decode cL_law 107 = .ok (.aload_n 2, 1) := by decide +kernel
theorem dL_law_108 : decode cL_law 108 = .ok (.aload_n 0, 1) := by decide +kernel
theorem dL_law_109 : decode cL_law 109 = .ok (.iload_n 3, 1) := by decide +kernel
theorem dL_law_110 : decode cL_law 110 = .ok (.iconst 1, 1) := by decide +kernel
theorem dL_law_111 : decode cL_law 111 = .ok (.iadd, 1) := by decide +kernel
theorem dL_law_112 : decode cL_law 112 = .ok (.iaload, 1) := by decide +kernel
theorem dL_law_113 : decode cL_law 113 = .ok (.aload_n 0, 1) := by decide +kernel
theorem dL_law_114 : decode cL_law 114 = .ok (.iload_n 3, 1) := by decide +kernel
theorem dL_law_115 : decode cL_law 115 = .ok (.iconst 2, 1) := by decide +kernel
theorem dL_law_116 : decode cL_law 116 = .ok (.iadd, 1) := by decide +kernel
theorem dL_law_117 : decode cL_law 117 = .ok (.iaload, 1) := by decide +kernel
theorem dL_law_118 : decode cL_law 118 = .ok (.invokevirtual 22, 3) := by decide +kernel
theorem dL_law_121 : decode cL_law 121 = .ok (.if_icmp .eq 67, 3) := by decide +kernel
theorem dL_law_124 : decode cL_law 124 = .ok (.iconst 0, 1) := by decide +kernel
theorem dL_law_125 : decode cL_law 125 = .ok (.ireturn, 1) := by decide +kernel
theorem dL_law_126 : decode cL_law 126 = .ok (.aload_n 1, 1) := by decide +kernel
theorem dL_law_127 : decode cL_law 127 = .ok (.invokevirtual 23, 3) := by decide +kernel
theorem dL_law_130 : decode cL_law 130 = .ok (.aload_n 2, 1) := by decide +kernel
theorem dL_law_131 : decode cL_law 131 = .ok (.invokevirtual 27, 3) := by decide +kernel
theorem dL_law_134 : decode cL_law 134 = .ok (.if_icmp .eq 54, 3) := by decide +kernel
theorem dL_law_137 : decode cL_law 137 = .ok (.iconst 0, 1) := by decide +kernel
theorem dL_law_138 : decode cL_law 138 = .ok (.ireturn, 1) := by decide +kernel
theorem dL_law_139 : decode cL_law 139 = .ok (.aload_n 1, 1) := by decide +kernel
theorem dL_law_140 : decode cL_law 140 = .ok (.invokevirtual 28, 3) := by decide +kernel
theorem dL_law_143 : decode cL_law 143 = .ok (.aload_n 2, 1) := by decide +kernel
theorem dL_law_144 : decode cL_law 144 = .ok (.invokevirtual 31, 3) := by decide +kernel
theorem dL_law_147 : decode cL_law 147 = .ok (.if_icmp .eq 41, 3) := by decide +kernel
theorem dL_law_150 : decode cL_law 150 = .ok (.iconst 0, 1) := by decide +kernel
theorem dL_law_151 : decode cL_law 151 = .ok (.ireturn, 1) := by decide +kernel
theorem dL_law_152 : decode cL_law 152 = .ok (.aload_n 1, 1) := by decide +kernel
theorem dL_law_153 : decode cL_law 153 = .ok (.aload_n 0, 1) := by decide +kernel
theorem dL_law_154 : decode cL_law 154 = .ok (.iload_n 3, 1) := by decide +kernel
theorem dL_law_155 : decode cL_law 155 = .ok (.iconst 1, 1) := by decide +kernel
theorem dL_law_156 : decode cL_law 156 = .ok (.iadd, 1) := by decide +kernel
theorem dL_law_157 : decode cL_law 157 = .ok (.iaload, 1) := by decide +kernel
theorem dL_law_158 : decode cL_law 158 = .ok (.invokevirtual 32, 3) := by decide +kernel
theorem dL_law_161 : decode cL_law 161 = .ok (.aload_n 2, 1) := by decide +kernel
theorem dL_law_162 : decode cL_law 162 = .ok (.aload_n 0, 1) := by decide +kernel
theorem dL_law_163 : decode cL_law 163 = .ok (.iload_n 3, 1) := by decide +kernel
theorem dL_law_164 : decode cL_law 164 = .ok (.iconst 1, 1) := by decide +kernel
theorem dL_law_165 : decode cL_law 165 = .ok (.iadd, 1) := by decide +kernel
theorem dL_law_166 : decode cL_law 166 = .ok (.iaload, 1) := by decide +kernel
theorem dL_law_167 : decode cL_law 167 = .ok (.invokevirtual 36, 3) := by decide +kernel
theorem dL_law_170 : decode cL_law 170 = .ok (.if_icmp .eq 18, 3) := by decide +kernel
theorem dL_law_173 : decode cL_law 173 = .ok (.iconst 0, 1) := by decide +kernel
theorem dL_law_174 : decode cL_law 174 = .ok (.ireturn, 1) := by decide +kernel
theorem dL_law_175 : decode cL_law 175 = .ok (.aload_n 1, 1) := by decide +kernel
theorem dL_law_176 : decode cL_law 176 = .ok (.invokevirtual 37, 3) := by decide +kernel
theorem dL_law_179 : decode cL_law 179 = .ok (.aload_n 2, 1) := by decide +kernel
theorem dL_law_180 : decode cL_law 180 = .ok (.invokevirtual 41, 3) := by decide +kernel
theorem dL_law_183 : decode cL_law 183 = .ok (.if_icmp .eq 5, 3) := by decide +kernel
theorem dL_law_186 : decode cL_law 186 = .ok (.iconst 0, 1) := by decide +kernel
theorem dL_law_187 : decode cL_law 187 = .ok (.ireturn, 1) := by decide +kernel
theorem dL_law_188 : decode cL_law 188 = .ok (.iinc 3 3, 3) := by decide +kernel
theorem dL_law_191 : decode cL_law 191 = .ok (.goto (-173), 3) := by decide +kernel
theorem dL_law_194 : decode cL_law 194 = .ok (.iconst 1, 1) := by decide +kernel
theorem dL_law_195 : decode cL_law 195 = .ok (.ireturn, 1) := by decide +kernel
theorem q7 : (Jvm.Cond.initialized "CrossDeskLaw") ∈ lw_all := lw_g (lw_at lw_m0 0 rfl) rfl
set_option maxRecDepth 100000
theorem q10 : (Jvm.Cond.classLink "CrossDeskLaw" (7 : Nat) "CrossDesk") ∈ lw_all := lw_g (lw_at lw_m0 3 rfl) rfl
theorem q12 : (Jvm.Cond.methodLink "CrossDeskLaw" (9 : Nat) ({ cls := "CrossDesk", name := "<init>", desc := "()V" } : Jvm.MethodName)) ∈ lw_all := lw_g (lw_at lw_m0 5 rfl) rfl
theorem q36 : (Jvm.Cond.methodLink "CrossDeskLaw" (13 : Nat) ({ cls := "CrossDesk", name := "wires", desc := "(I)V" } : Jvm.MethodName)) ∈ lw_all := lw_g (lw_at lw_m0 29 rfl) rfl
theorem q44 : (Jvm.Cond.methodLink "CrossDeskLaw" (18 : Nat) ({ cls := "CrossDesk", name := "join", desc := "(II)Z" } : Jvm.MethodName)) ∈ lw_all := lw_g (lw_at lw_m0 37 rfl) rfl
theorem q48 : (Jvm.Cond.methodLink "CrossDeskLaw" (23 : Nat) ({ cls := "CrossDesk", name := "drop", desc := "()Z" } : Jvm.MethodName)) ∈ lw_all := lw_g (lw_at lw_m0 41 rfl) rfl
theorem q52 : (Jvm.Cond.methodLink "CrossDeskLaw" (28 : Nat) ({ cls := "CrossDesk", name := "sorts", desc := "()Z" } : Jvm.MethodName)) ∈ lw_all := lw_g (lw_at lw_m0 45 rfl) rfl
theorem q72 : (Jvm.Cond.methodLink "CrossDeskLaw" (32 : Nat) ({ cls := "CrossDesk", name := "finds", desc := "(I)Z" } : Jvm.MethodName)) ∈ lw_all := lw_g (lw_at lw_m0 65 rfl) rfl
theorem q76 : (Jvm.Cond.methodLink "CrossDeskLaw" (37 : Nat) ({ cls := "CrossDesk", name := "needless", desc := "()I" } : Jvm.MethodName)) ∈ lw_all := lw_g (lw_at lw_m0 69 rfl) rfl
theorem q80 : (Jvm.Cond.classLink "CrossDeskLaw" (10 : Nat) "CrossDeskModel") ∈ lw_all := lw_g (lw_at lw_m0 73 rfl) rfl
theorem q82 : (Jvm.Cond.methodLink "CrossDeskLaw" (12 : Nat) ({ cls := "CrossDeskModel", name := "<init>", desc := "()V" } : Jvm.MethodName)) ∈ lw_all := lw_g (lw_at lw_m0 75 rfl) rfl
theorem q115 : (Jvm.Cond.methodLink "CrossDeskLaw" (17 : Nat) ({ cls := "CrossDeskModel", name := "wires", desc := "(I)V" } : Jvm.MethodName)) ∈ lw_all := lw_g (lw_at lw_m0 108 rfl) rfl
theorem q120 : (Jvm.Cond.methodLink "CrossDeskLaw" (22 : Nat) ({ cls := "CrossDeskModel", name := "join", desc := "(II)Z" } : Jvm.MethodName)) ∈ lw_all := lw_g (lw_at lw_m0 113 rfl) rfl
theorem q124 : (Jvm.Cond.methodLink "CrossDeskLaw" (27 : Nat) ({ cls := "CrossDeskModel", name := "drop", desc := "()Z" } : Jvm.MethodName)) ∈ lw_all := lw_g (lw_at lw_m0 117 rfl) rfl
theorem q128 : (Jvm.Cond.methodLink "CrossDeskLaw" (31 : Nat) ({ cls := "CrossDeskModel", name := "sorts", desc := "()Z" } : Jvm.MethodName)) ∈ lw_all := lw_g (lw_at lw_m0 121 rfl) rfl
theorem q144 : (Jvm.Cond.methodLink "CrossDeskLaw" (36 : Nat) ({ cls := "CrossDeskModel", name := "finds", desc := "(I)Z" } : Jvm.MethodName)) ∈ lw_all := lw_g (lw_at lw_m0 137 rfl) rfl
theorem q148 : (Jvm.Cond.methodLink "CrossDeskLaw" (41 : Nat) ({ cls := "CrossDeskModel", name := "needless", desc := "()I" } : Jvm.MethodName)) ∈ lw_all := lw_g (lw_at lw_m0 141 rfl) rfl
theorem q34 : (Jvm.Cond.arrayClass Jvm.ClassFile.FieldType.byte) ∈ lw_all := lw_g (lw_at lw_m0 27 rfl) rfl
set_option maxRecDepth 100000
theorem q35 : (Jvm.Cond.arrayClass Jvm.ClassFile.FieldType.long) ∈ lw_all := lw_g (lw_at lw_m0 28 rfl) rfl
theorem q114 : (Jvm.Cond.arrayClass Jvm.ClassFile.FieldType.int) ∈ lw_all := lw_g (lw_at lw_m0 107 rfl) rfl
end
section
/-! ===== PART 05: THE PLAIN LAW: networks of crossings, orders, thresholds; bits of ints and longs (no program in sight) ===== -/
set_option maxRecDepth 100000
/-! ===== Int32 by its bits: bt x i ===== -/
def bt (x : Int32) (i : Nat) : Bool := x.toBitVec.getLsbD i
theorem b_ext {x y : Int32} (h : ∀ i, i < 32 → bt x i = bt y i) : x = y := Int32.toBitVec_inj.mp (BitVec.eq_of_getLsbD_eq (fun i hi => h i hi))
theorem b_or (x y : Int32) (i : Nat) : bt (x ||| y) i = (bt x i || bt y i) := by unfold bt; rw [Int32.toBitVec_or, BitVec.getLsbD_or]
theorem b_and (x y : Int32) (i : Nat) : bt (x &&& y) i = (bt x i && bt y i) := by unfold bt; rw [Int32.toBitVec_and, BitVec.getLsbD_and]
theorem b_xor (x y : Int32) (i : Nat) : bt (x ^^^ y) i = (bt x i ^^ bt y i) := by unfold bt; rw [Int32.toBitVec_xor, BitVec.getLsbD_xor]
theorem b_big {x : Int32} {i : Nat} (h : 32 ≤ i) : bt x i = false := BitVec.getLsbD_of_ge _ _ h
theorem b_m1 : ∀ i, i < 32 → bt (-1) i = true := by decide +kernel
theorem b_0 (i : Nat) : bt 0 i = false := BitVec.getLsbD_zero
theorem s_l : ∀ n, n < 32 → ((nI n &&& 31).toBitVec.smod 32).toNat = n := by decide +kernel
theorem b_sshr (n : Nat) (hn : n < 32) (x : Int32) {i : Nat} (hi : i < 32) : bt (x >>> (nI n &&& 31)) i = if n + i < 32 then bt x (n + i) else bt x 31 := by
  unfold bt
  rw [Int32.toBitVec_shiftRight]
  show (x.toBitVec.sshiftRight ((nI n &&& 31).toBitVec.smod 32).toNat).getLsbD i = _
  rw [s_l n hn, BitVec.getLsbD_sshiftRight, BitVec.msb_eq_getLsbD_last]
  simp [hi]
/-- one crossing of the wires a and b -/
def xdStep {α : Type} (lo hi : α → α → α) (a b : Nat) (v : Nat → α) : Nat → α := fun j => if j = a then lo (v a) (v b) else if j = b then hi (v a) (v b) else v j
/-- the first c crossings -/
def xdNet {α : Type} (lo hi : α → α → α) (A B : Nat → Nat) (v : Nat → α) : Nat → Nat → α
  | 0 => v
  | c + 1 => xdStep lo hi (A c) (B c) (xdNet lo hi A B v c)
theorem xd_hom {α β : Type} {lo hi : α → α → α} {lo' hi' : β → β → β} (φ : α → β) (hl : ∀ x y, φ (lo x y) = lo' (φ x) (φ y)) (hh : ∀ x y, φ (hi x y) = hi' (φ x) (φ y)) (A B : Nat → Nat) (v : Nat → α) : ∀ c j, φ (xdNet lo hi A B v c j) = xdNet lo' hi' A B (fun i => φ (v i)) c j := by
  intro c
  induction c with
  | zero => intro j; rfl
  | succ c ih =>
    intro j
    show φ (xdStep lo hi (A c) (B c) (xdNet lo hi A B v c) j) = xdStep lo' hi' (A c) (B c) (xdNet lo' hi' A B (fun i => φ (v i)) c) j
    unfold xdStep
    rw [← ih (A c), ← ih (B c), ← ih j]
    split
    · exact hl _ _
    · split
      · exact hh _ _
      · rfl
theorem xd_cong {α : Type} {lo hi : α → α → α} {A B : Nat → Nat} {n N : Nat} (hA : ∀ c, c < N → A c < n ∧ B c < n) {v v' : Nat → α} (h : ∀ j, j < n → v j = v' j) : ∀ c, c ≤ N → ∀ j, j < n → xdNet lo hi A B v c j = xdNet lo hi A B v' c j := by
  intro c
  induction c with
  | zero => intro _ j hj; exact h j hj
  | succ c ih =>
    intro hc j hj
    have h1 := ih (by omega) (A c) (hA c (by omega)).1
    have h2 := ih (by omega) (B c) (hA c (by omega)).2
    have h3 := ih (by omega) j hj
    show xdStep lo hi (A c) (B c) (xdNet lo hi A B v c) j = xdStep lo hi (A c) (B c) (xdNet lo hi A B v' c) j
    unfold xdStep
    rw [h1, h2, h3]
def xdMn (x y : Nat) : Nat := if x ≤ y then x else y
def xdMx (x y : Nat) : Nat := if x ≤ y then y else x
theorem xd_bnd {A B : Nat → Nat} {n N : Nat} (hA : ∀ c, c < N → A c < n ∧ B c < n) {v : Nat → Nat} (h : ∀ j, j < n → v j < n) : ∀ c, c ≤ N → ∀ j, j < n → xdNet xdMn xdMx A B v c j < n := by
  intro c
  induction c with
  | zero => intro _ j hj; exact h j hj
  | succ c ih =>
    intro hc j hj
    have h1 := ih (by omega) (A c) (hA c (by omega)).1
    have h2 := ih (by omega) (B c) (hA c (by omega)).2
    have h3 := ih (by omega) j hj
    show xdStep xdMn xdMx (A c) (B c) (xdNet xdMn xdMx A B v c) j < n
    unfold xdStep xdMn xdMx
    split
    · split
      · exact h1
      · exact h2
    · split
      · split
        · exact h2
        · exact h1
      · exact h3
theorem xd_thrMn (t x y : Nat) : decide (t ≤ xdMn x y) = (decide (t ≤ x) && decide (t ≤ y)) := by
  unfold xdMn
  rw [Bool.eq_iff_iff]
  simp only [Bool.and_eq_true, decide_eq_true_eq]
  split <;> omega
theorem xd_thrMx (t x y : Nat) : decide (t ≤ xdMx x y) = (decide (t ≤ x) || decide (t ≤ y)) := by
  unfold xdMx
  rw [Bool.eq_iff_iff]
  simp only [Bool.or_eq_true, decide_eq_true_eq]
  split <;> omega
/-- the k-th order of the list L, as the reference reckons it -/
def xdPerm : Nat → Nat → List Nat → List Nat
  | 0, _, _ => []
  | m + 1, k, L => L.getD (k % (m + 1)) 0 :: xdPerm m (k / (m + 1)) (L.eraseIdx (k % (m + 1)))
def xdP (n k j : Nat) : Nat := (xdPerm n k (List.range n)).getD j 0
def xdFac : Nat → Nat
  | 0 => 1
  | n + 1 => (n + 1) * xdFac n
/-- the noughts among the first j bits of r -/
def xdNz (r : Nat) : Nat → Nat
  | 0 => 0
  | j + 1 => xdNz r j + (if r.testBit j then 0 else 1)
def xdCt (t : Nat) (v : Nat → Nat) : Nat → Nat
  | 0 => 0
  | j + 1 => xdCt t v j + (if t ≤ v j then 0 else 1)
def xdRow (t : Nat) (v : Nat → Nat) : Nat → Nat
  | 0 => 0
  | j + 1 => xdRow t v j + (if t ≤ v j then 2 ^ j else 0)
theorem xd_row_lt (t : Nat) (v : Nat → Nat) : ∀ m, xdRow t v m < 2 ^ m := by
  intro m
  induction m with
  | zero => exact Nat.one_pos
  | succ m ih =>
    show xdRow t v m + (if t ≤ v m then 2 ^ m else 0) < 2 ^ (m + 1)
    rw [Nat.pow_succ]
    split <;> omega
theorem xd_row_bit (t : Nat) (v : Nat → Nat) : ∀ m j, j < m → (xdRow t v m).testBit j = decide (t ≤ v j) := by
  intro m
  induction m with
  | zero => intro j h; exact absurd h (Nat.not_lt_zero j)
  | succ m ih =>
    intro j hj
    have hlt := xd_row_lt t v m
    show (xdRow t v m + (if t ≤ v m then 2 ^ m else 0)).testBit j = decide (t ≤ v j)
    by_cases h : t ≤ v m
    · rw [if_pos h, Nat.add_comm]
      rcases Nat.lt_or_ge j m with q | q
      · rw [Nat.testBit_two_pow_add_gt q]
        exact ih j q
      · obtain rfl : j = m := by omega
        rw [Nat.testBit_two_pow_add_eq, Nat.testBit_lt_two_pow hlt, decide_eq_true h]
        rfl
    · rw [if_neg h, Nat.add_zero]
      rcases Nat.lt_or_ge j m with q | q
      · exact ih j q
      · obtain rfl : j = m := by omega
        rw [Nat.testBit_lt_two_pow hlt, decide_eq_false h]
theorem xd_nz_ct {r t : Nat} {v : Nat → Nat} : ∀ m, (∀ j, j < m → r.testBit j = decide (t ≤ v j)) → xdNz r m = xdCt t v m := by
  intro m
  induction m with
  | zero => intro _; rfl
  | succ m ih =>
    intro h
    show xdNz r m + (if r.testBit m then 0 else 1) = xdCt t v m + (if t ≤ v m then 0 else 1)
    rw [ih (fun j hj => h j (by omega)), h m (by omega)]
    by_cases q : t ≤ v m
    · simp [q]
    · simp [q]
def xdC1 (n : Nat) (tb : List Nat) : Bool := (List.range (2 ^ n)).all fun r => decide (tb.getD r 0 < xdFac n) && (List.range n).all fun j => r.testBit j == decide (xdNz r n ≤ xdP n (tb.getD r 0) j)
def xdC2 (n : Nat) : Bool := (List.range (xdFac n)).all fun k => (List.range (n + 1)).all (fun t => xdCt t (xdP n k) n == t) && (List.range n).all (fun j => decide (xdP n k j < n))
theorem xd_c1_2 : xdC1 2 [0, 1, 0, 0] = true := by decide +kernel
theorem xd_c1_3 : xdC1 3 [0, 2, 3, 4, 0, 1, 0, 0] = true := by decide +kernel
theorem xd_c1_4 : xdC1 4 [0, 3, 8, 10, 12, 14, 16, 17, 0, 2, 4, 5, 0, 1, 0, 0] = true := by decide +kernel
theorem xd_c1_5 : xdC1 5 [0, 4, 15, 18, 40, 43, 50, 52, 60, 63, 70, 72, 80, 82, 85, 86, 0, 3, 10, 12, 20, 22, 25, 26, 0, 2, 5, 6, 0, 1, 0, 0] = true := by decide +kernel
theorem xd_c1_6 : xdC1 6 [0, 5, 24, 28, 90, 94, 108, 111, 240, 244, 258, 261, 300, 303, 312, 314, 360, 364, 378, 381, 420, 423, 432, 434, 480, 483, 492, 494, 510, 512, 516, 517, 0, 4, 18, 21, 60, 63, 72, 74, 120, 123, 132, 134, 150, 152, 156, 157, 0, 3, 12, 14, 30, 32, 36, 37, 0, 2, 6, 7, 0, 1, 0, 0] = true := by decide +kernel
theorem xd_c2_2 : xdC2 2 = true := by decide +kernel
theorem xd_c2_3 : xdC2 3 = true := by decide +kernel
theorem xd_c2_4 : xdC2 4 = true := by decide +kernel
theorem xd_c2_5 : xdC2 5 = true := by decide +kernel
theorem xd_c2_6 : xdC2 6 = true := by decide +kernel
theorem xd_c1_use {n : Nat} {tb : List Nat} (h : xdC1 n tb = true) {r : Nat} (hr : r < 2 ^ n) : ∃ k, k < xdFac n ∧ ∀ j, j < n → r.testBit j = decide (xdNz r n ≤ xdP n k j) := by
  have h1 := List.all_eq_true.mp h r (List.mem_range.mpr hr)
  rw [Bool.and_eq_true, decide_eq_true_eq] at h1
  refine ⟨_, h1.1, fun j hj => ?_⟩
  have h2 := List.all_eq_true.mp h1.2 j (List.mem_range.mpr hj)
  exact beq_iff_eq.mp h2
theorem xd_e1 {n : Nat} (h2 : 2 ≤ n) (h6 : n ≤ 6) {r : Nat} (hr : r < 2 ^ n) : ∃ k, k < xdFac n ∧ ∀ j, j < n → r.testBit j = decide (xdNz r n ≤ xdP n k j) := by
  rcases (show n = 2 ∨ n = 3 ∨ n = 4 ∨ n = 5 ∨ n = 6 by omega) with rfl | rfl | rfl | rfl | rfl
  · exact xd_c1_use xd_c1_2 hr
  · exact xd_c1_use xd_c1_3 hr
  · exact xd_c1_use xd_c1_4 hr
  · exact xd_c1_use xd_c1_5 hr
  · exact xd_c1_use xd_c1_6 hr
theorem xd_c2_use {n : Nat} (h : xdC2 n = true) {k : Nat} (hk : k < xdFac n) : (∀ t, t ≤ n → xdCt t (xdP n k) n = t) ∧ ∀ j, j < n → xdP n k j < n := by
  have h1 := List.all_eq_true.mp h k (List.mem_range.mpr hk)
  rw [Bool.and_eq_true] at h1
  refine ⟨fun t ht => ?_, fun j hj => ?_⟩
  · exact beq_iff_eq.mp (List.all_eq_true.mp h1.1 t (List.mem_range.mpr (by omega)))
  · exact of_decide_eq_true (List.all_eq_true.mp h1.2 j (List.mem_range.mpr hj))
theorem xd_e2 {n : Nat} (h2 : 2 ≤ n) (h6 : n ≤ 6) {k : Nat} (hk : k < xdFac n) : (∀ t, t ≤ n → xdCt t (xdP n k) n = t) ∧ ∀ j, j < n → xdP n k j < n := by
  rcases (show n = 2 ∨ n = 3 ∨ n = 4 ∨ n = 5 ∨ n = 6 by omega) with rfl | rfl | rfl | rfl | rfl
  · exact xd_c2_use xd_c2_2 hk
  · exact xd_c2_use xd_c2_3 hk
  · exact xd_c2_use xd_c2_4 hk
  · exact xd_c2_use xd_c2_5 hk
  · exact xd_c2_use xd_c2_6 hk
/-- a row of noughts and ones behind c crossings -/
def xdBn (A B : Nat → Nat) (r c : Nat) : Nat → Bool := xdNet (fun x y => x && y) (fun x y => x || y) A B (fun i => r.testBit i) c
/-- the k-th order behind c crossings -/
def xdNn (n : Nat) (A B : Nat → Nat) (k c : Nat) : Nat → Nat := xdNet xdMn xdMx A B (xdP n k) c
/-- what both sides hold: n wires, N crossings -/
def xdOK (n N : Nat) (A B : Nat → Nat) : Prop := 2 ≤ n ∧ n ≤ 6 ∧ N ≤ 48 ∧ ∀ c, c < N → A c < n ∧ B c < n ∧ A c ≠ B c
theorem xdOK.ab {n N : Nat} {A B : Nat → Nat} (h : xdOK n N A B) : ∀ c, c < N → A c < n ∧ B c < n := fun c hc => ⟨(h.2.2.2 c hc).1, (h.2.2.2 c hc).2.1⟩
theorem xd_link {n N : Nat} {A B : Nat → Nat} (h : xdOK n N A B) {r k t : Nat} (hb : ∀ j, j < n → r.testBit j = decide (t ≤ xdP n k j)) : ∀ c, c ≤ N → ∀ j, j < n → xdBn A B r c j = decide (t ≤ xdNn n A B k c j) := by
  intro c hc j hj
  unfold xdBn xdNn
  rw [xd_cong h.ab hb c hc j hj]
  exact (xd_hom (fun x => decide (t ≤ x)) (xd_thrMn t) (xd_thrMx t) A B (xdP n k) c j).symm
def xdOwnD (n N : Nat) (A B : Nat → Nat) (w : Nat) : Prop := ∀ r, r < 2 ^ n → xdBn A B r N w = decide (xdNz r n ≤ w)
def xdOwnM (n N : Nat) (A B : Nat → Nat) (w : Nat) : Prop := ∀ k, k < xdFac n → xdNn n A B k N w = w
def xdUseD (n : Nat) (A B : Nat → Nat) (c : Nat) : Prop := ∃ r, r < 2 ^ n ∧ xdBn A B r c (A c) = true ∧ xdBn A B r c (B c) = false
def xdUseM (n : Nat) (A B : Nat → Nat) (c : Nat) : Prop := ∃ k, k < xdFac n ∧ xdNn n A B k c (B c) < xdNn n A B k c (A c)
/-- the row of an order at a threshold -/
theorem xd_rowOf {n : Nat} (h2 : 2 ≤ n) (h6 : n ≤ 6) {k : Nat} (hk : k < xdFac n) {t : Nat} (ht : t ≤ n) : ∃ r, r < 2 ^ n ∧ xdNz r n = t ∧ ∀ j, j < n → r.testBit j = decide (t ≤ xdP n k j) :=
  ⟨xdRow t (xdP n k) n, xd_row_lt t _ n, by rw [xd_nz_ct n (xd_row_bit t (xdP n k) n)]; exact (xd_e2 h2 h6 hk).1 t ht, xd_row_bit t _ n⟩
/-- THE NOUGHTS AND ONES SUFFICE, for a wire's own number -/
theorem xd_own {n N : Nat} {A B : Nat → Nat} (h : xdOK n N A B) {w : Nat} (hw : w < n) : xdOwnD n N A B w ↔ xdOwnM n N A B w := by
  constructor
  · intro hd k hk
    have key : ∀ t, t ≤ n → (t ≤ xdNn n A B k N w ↔ t ≤ w) := by
      intro t ht
      obtain ⟨r, hr, hz, hb⟩ := xd_rowOf h.1 h.2.1 hk ht
      have h1 := xd_link h hb N (Nat.le_refl N) w hw
      have h3 := hd r hr
      rw [hz] at h3
      rw [h1] at h3
      exact ⟨fun q => of_decide_eq_true (by rw [← h3]; exact decide_eq_true q), fun q => of_decide_eq_true (by rw [h3]; exact decide_eq_true q)⟩
    have hlt : xdNn n A B k N w < n := xd_bnd h.ab (xd_e2 h.1 h.2.1 hk).2 N (Nat.le_refl N) w hw
    have h1 := (key w (by omega)).mpr (Nat.le_refl w)
    have h3 := (key (xdNn n A B k N w) (by omega)).mp (Nat.le_refl _)
    omega
  · intro hm r hr
    obtain ⟨k, hk, hb⟩ := xd_e1 h.1 h.2.1 hr
    rw [xd_link h hb N (Nat.le_refl N) w hw, hm k hk]
/-- THE NOUGHTS AND ONES SUFFICE, for a crossing's use -/
theorem xd_use {n N : Nat} {A B : Nat → Nat} (h : xdOK n N A B) {c : Nat} (hc : c < N) : xdUseD n A B c ↔ xdUseM n A B c := by
  have ha := (h.2.2.2 c hc).1
  have hb0 := (h.2.2.2 c hc).2.1
  constructor
  · intro ⟨r, hr, h1, h3⟩
    obtain ⟨k, hk, hb⟩ := xd_e1 h.1 h.2.1 hr
    rw [xd_link h hb c (by omega) _ ha] at h1
    rw [xd_link h hb c (by omega) _ hb0] at h3
    have g1 := of_decide_eq_true h1
    have g3 := of_decide_eq_false h3
    exact ⟨k, hk, by omega⟩
  · intro ⟨k, hk, hlt⟩
    have hn : xdNn n A B k c (A c) < n := xd_bnd h.ab (xd_e2 h.1 h.2.1 hk).2 c (by omega) _ ha
    obtain ⟨r, hr, -, hb⟩ := xd_rowOf h.1 h.2.1 hk (t := xdNn n A B k c (A c)) (by omega)
    refine ⟨r, hr, ?_, ?_⟩
    · rw [xd_link h hb c (by omega) _ ha]
      exact decide_eq_true (Nat.le_refl _)
    · rw [xd_link h hb c (by omega) _ hb0]
      exact decide_eq_false (by omega)
/-! ===== bits of longs ===== -/
def xb (x : Int64) (r : Nat) : Bool := x.toBitVec.getLsbD r
theorem xb_ext {x y : Int64} (h : ∀ i, i < 64 → xb x i = xb y i) : x = y := Int64.toBitVec_inj.mp (BitVec.eq_of_getLsbD_eq (fun i hi => h i hi))
theorem xb_or (x y : Int64) (i : Nat) : xb (x ||| y) i = (xb x i || xb y i) := by unfold xb; rw [Int64.toBitVec_or, BitVec.getLsbD_or]
theorem xb_and (x y : Int64) (i : Nat) : xb (x &&& y) i = (xb x i && xb y i) := by unfold xb; rw [Int64.toBitVec_and, BitVec.getLsbD_and]
theorem xb_0 (i : Nat) : xb 0 i = false := BitVec.getLsbD_zero
theorem xb_1 : ∀ i, i < 64 → xb 1 i = decide (i = 0) := by decide +kernel
theorem xb_shl : ∀ r, r < 64 → ((1 : Int64) <<< ((nI r).toInt64 &&& 63)).toBitVec = BitVec.twoPow 64 r := by decide +kernel
theorem xb_pow {r : Nat} (hr : r < 64) (j : Nat) : xb ((1 : Int64) <<< ((nI r).toInt64 &&& 63)) j = decide (r = j) := by
  unfold xb
  rw [xb_shl r hr, BitVec.getLsbD_twoPow]
  simp [hr]
theorem xs_l : ∀ r, r < 64 → (((nI r).toInt64 &&& 63).toBitVec.smod 64).toNat = r := by decide +kernel
theorem xb_and1 (y : Int64) : (y &&& 1) = 1 ↔ xb y 0 = true := by
  constructor
  · intro h
    have h1 : xb (y &&& 1) 0 = xb 1 0 := by rw [h]
    rw [xb_and, xb_1 0 (by omega)] at h1
    simpa using h1
  · intro h
    apply xb_ext
    intro i hi
    rw [xb_and, xb_1 i hi]
    by_cases q : i = 0
    · subst q
      rw [h]
      rfl
    · simp [q]
theorem xb_shr (x : Int64) {r : Nat} (hr : r < 64) : ((x >>> ((nI r).toInt64 &&& 63)) &&& 1) = 1 ↔ xb x r = true := by
  rw [xb_and1]
  unfold xb
  rw [Int64.toBitVec_shiftRight]
  show (x.toBitVec.sshiftRight (((nI r).toInt64 &&& 63).toBitVec.smod 64).toNat).getLsbD 0 = true ↔ _
  rw [xs_l r hr, BitVec.getLsbD_sshiftRight]
  simp [hr]
/-- the smaller of two longs as rows differs from the first: somewhere a one stands over a nought -/
theorem xb_ne (x y : Int64) : (x &&& y ≠ x) ↔ ∃ r, r < 64 ∧ xb x r = true ∧ xb y r = false := by
  constructor
  · intro h
    apply Classical.byContradiction
    intro hn
    apply h
    apply xb_ext
    intro i hi
    rw [xb_and]
    cases hx : xb x i with
    | false => rfl
    | true =>
      cases hy : xb y i with
      | true => rfl
      | false => exact absurd ⟨i, hi, hx, hy⟩ hn
  · intro ⟨r, hr, hx, hy⟩ h
    have h1 : xb (x &&& y) r = xb x r := by rw [h]
    rw [xb_and, hx, hy] at h1
    cases h1
/-! ===== bits of ints ===== -/
theorem xi_pow : ∀ n, n < 31 → (1 : Int32) <<< (nI n &&& 31) = nI (2 ^ n) := by decide +kernel
theorem xi_bit : ∀ r, r < 64 → ∀ k, k < 6 → (nI r >>> (nI k &&& 31)) &&& 1 = nI (if r.testBit k then 1 else 0) := by decide +kernel
theorem xi_pw1 : ∀ n, n < 32 → ∀ i, i < 32 → bt ((1 : Int32) <<< (nI n &&& 31)) i = decide (n = i) := by decide +kernel
theorem xi_msk : ∀ n, n < 31 → ∀ i, i < 32 → bt ((1 : Int32) <<< (nI n &&& 31) - 1) i = decide (i < n) := by decide +kernel
theorem xi_max : ∀ i, i < 32 → bt 2147483647 i = decide (i < 31) := by decide +kernel
theorem xi_1 : ∀ i, i < 32 → bt 1 i = decide (i = 0) := by decide +kernel
theorem xi_and1 (y : Int32) : (y &&& 1) = 0 ↔ bt y 0 = false := by
  constructor
  · intro h
    have h1 : bt (y &&& 1) 0 = bt 0 0 := by rw [h]
    rw [b_and, xi_1 0 (by omega), b_0] at h1
    simpa using h1
  · intro h
    apply b_ext
    intro i hi
    rw [b_and, xi_1 i hi, b_0]
    by_cases q : i = 0
    · subst q
      rw [h]
      rfl
    · simp [q]
theorem xi_shr (x : Int32) {w : Nat} (hw : w < 32) : ((x >>> (nI w &&& 31)) &&& 1) = 0 ↔ bt x w = false := by
  rw [xi_and1, b_sshr w hw x (by omega)]
  simp [hw]
theorem xi_not (x : Int32) {i : Nat} (hi : i < 32) : bt (x ^^^ (-1)) i = !bt x i := by
  rw [b_xor, b_m1 i hi]
  cases bt x i <;> rfl
/-- a number of a wire out of any int -/
def xdCn (v : Int32) (n : Nat) : Nat := v.toBitVec.toNat % 2 ^ 31 % n
theorem xd_cn (v : Int32) {n : Nat} (h0 : 0 < n) (h : n < 2 ^ 31) : (v &&& 2147483647) - (v &&& 2147483647) / nI n * nI n = nI (xdCn v n) := by
  rw [pk_and v (m := 2147483647) 31 (by decide)]
  exact pk_rem (Nat.mod_lt _ (by decide)) h0 h
theorem xd_cn_lt (v : Int32) {n : Nat} (h0 : 0 < n) : xdCn v n < n := Nat.mod_lt _ h0
end
section
/-! ===== PART 06: own rows over the kit: a contract's start, calls, returns, the fields and arrays of the two classes ===== -/
set_option maxRecDepth 100000
abbrev vwCl : List vw_C := [(RX0, TX0, 5), (RX1, TX1, 9)]
/-- a contract's start: the heap's size, the world's cells, the classes -/
abbrev xPre (dC : Nat → ClassId) (dI : Nat → Nat → Nat) (tys : List (ClassId × FieldType)) (ws : va_W) (sz : Nat) (U : State) : Prop := U.heap.size = sz ∧ va_P (dC, dI) vwCl ws U.heap ∧ va_K (dC, dI) vwCl tys U ∧ va_D (fun _ => True) ws
abbrev xPost (dC : Nat → ClassId) (dI : Nat → Nat → Nat) (tys : List (ClassId × FieldType)) (A : Nat → Prop) (ws : va_W) (t : State) : Prop := va_P (dC, dI) vwCl ws t.heap ∧ va_K (dC, dI) vwCl tys t ∧ va_D A ws
abbrev xQi (dC : Nat → ClassId) (dI : Nat → Nat → Nat) (tys : List (ClassId × FieldType)) {S : Type} (post : Int32 → S → Prop) (wN : S → va_W) (A : Nat → Prop) : Array Value → State → Outcome → State → Prop := va_Qi post (fun u t => xPost dC dI tys A (wN u) t) A
abbrev xQv (dC : Nat → ClassId) (dI : Nat → Nat → Nat) (tys : List (ClassId × FieldType)) {S : Type} (post : S → Prop) (wN : S → va_W) (A : Nat → Prop) : Array Value → State → Outcome → State → Prop := va_Qv post (fun u t => xPost dC dI tys A (wN u) t) A
/-- a contract with an int (or a boolean) for answer: makes no cell -/
abbrev xMi (l : Launch) (y : MethodName) (cc : ByteArray) (maxL : Nat) (ret : Option FieldType) (rm : Room) (dC : Nat → ClassId) (dI : Nat → Nat → Nat) (tys : List (ClassId × FieldType)) (av : List Value) (ws0 : va_W) (sz : Nat) {S : Type} (post : Int32 → S → Prop) (wN : S → va_W) : Prop :=
  Met l y (ws_ y cc maxL ret) rm (va_Pc av (xPre dC dI tys ws0 sz)) (xQi dC dI tys post wN (va_A ws0 sz)) 0 0 (va_A ws0 sz)
/-- a contract of a void method: makes no cell -/
abbrev xMv (l : Launch) (y : MethodName) (cc : ByteArray) (maxL : Nat) (rm : Room) (dC : Nat → ClassId) (dI : Nat → Nat → Nat) (tys : List (ClassId × FieldType)) (av : List Value) (ws0 : va_W) (sz : Nat) {S : Type} (post : S → Prop) (wN : S → va_W) : Prop :=
  Met l y (ws_ y cc maxL none) rm (va_Pc av (xPre dC dI tys ws0 sz)) (xQv dC dI tys post wN (va_A ws0 sz)) 0 0 (va_A ws0 sz)
/-- what holds all through a body: the machine, the code, the locals' number, the answer's type, no lock, its own name, the tables' words -/
abbrev xC (p : Program) (s : State) (m : MethodId) (args : Array Value) (meth : Method) (c : Code) (cc : ByteArray) (own : String) (maxL : Nat) (ret : Option FieldType) : Prop :=
  p.tables.exec = Jvm.exec ∧ c.code = cc ∧ c.maxLocals = maxL ∧ meth.sig.returnType = ret ∧ meth.locks = false ∧ s.vm.findClass own = some m.cls ∧ ∀ w ∈ lw_all, w.before args s = true
theorem xd_start {l : Launch} {y : MethodName} {cc : ByteArray} {maxL : Nat} {ret : Option FieldType} {rm : Room} {dC : Nat → ClassId} {dI : Nat → Nat → Nat} {tys : List (ClassId × FieldType)} {av : List Value} {ws0 : va_W} {sz : Nat} {mc ms : Nat} (Qp : (Nat → Prop) → Array Value → State → Outcome → State → Prop)
    (hy : plainName y.cls = true) (hlen : (lg_sl av).length ≤ maxL)
    (body : ∀ (p : Program) (e : Env) (s : State) (m : MethodId) (below : List Frame) (meth : Method) (c : Code) (A : Nat → Prop) (ls : Array Slot), xC p s m av.toArray meth c cc y.cls maxL ret → meth.name = y.name → (∀ q : Nat, s.heap.size ≤ q → A q) → va_P (dC, dI) vwCl ws0 s.heap → va_K (dC, dI) vwCl tys s → va_D A ws0 → va_S A s.heap s.heap [] → lv_has ls maxL (lv_args 0 av) →
      W p l e rm s m av.toArray below meth c s.heap [] 0 0 (MQ below (Qp A) av.toArray s mc ms A) (F0 m 0 ls [])) :
    Met l y (ws_ y cc maxL ret) rm (va_Pc av (xPre dC dI tys ws0 sz)) (Qp (va_A ws0 sz)) mc ms (va_A ws0 sz) := by
  refine Met.ofW (cc := cc) (maxL := maxL) (ret := ret) hy rfl ?_
  intro p e s m args below meth c s₁ B hml hv
  obtain ⟨rfl, hsz, hP, hK, hD0⟩ := hv
  have hts0 := atoms_spec (ws := ws_ y cc maxL ret) B.pre
  have hts : ∀ w ∈ lw_all, w.before _ s = true := fun w h => hts0 w (List.mem_cons_of_mem _ h)
  subst hsz
  rw [lg_entry_eq]
  exact body p e s m below meth c (va_A ws0 s.heap.size) _ ⟨B.exec, B.bytes, hml, B.returns, B.notSynchronized, findClass_of_methodNamed B.named, hts⟩ (name_of_methodNamed B.named B.method).1 (fun q h => Or.inr h) hP hK hD0.self va_S.rf (lv_entry av hlen)
section XdRows
variable {p : Program} {l : Launch} {e : Env} {R : Room} {s : State} {m : MethodId} {args : Array Value} {below : List Frame} {meth : Method} {c : Code} {H : Heap} {locs : List Loc} {cells slots : Nat} {Q : State → Prop}
variable {cc : ByteArray} {pc : Nat} {ls : Array Slot} {rest st0 : List Value} {own : String} {nL : Nat} {ret0 : Option FieldType} {dC : Nat → ClassId} {dI : Nat → Nat → Nat} {A : Nat → Prop} {tys : List (ClassId × FieldType)} {ws : va_W}
/-- the top int, by another name -/
theorem xd_top {x y : Int32} (h : x = y) (k : W p l e R s m args below meth c H locs cells slots Q (F0 m pc ls (.int y :: rest))) : W p l e R s m args below meth c H locs cells slots Q (F0 m pc ls (.int x :: rest)) := h ▸ k
theorem xd_topl {x y : Int64} (h : x = y) (k : W p l e R s m args below meth c H locs cells slots Q (F0 m pc ls (.long y :: rest))) : W p l e R s m args below meth c H locs cells slots Q (F0 m pc ls (.long x :: rest)) := h ▸ k
theorem xd_vret {S : Type} {post : S → Prop} {wN : S → va_W} (C : xC p s m args meth c cc own nL none) (hK : va_K (dC, dI) vwCl tys s) (u : S) (hpost : post u) (hP : va_P (dC, dI) vwCl (wN u) H) (hD : va_D A (wN u)) (hS : va_S A s.heap H locs) (hdg : decode cc pc = .ok (.return_, 1)) :
    W p l e R s m args below meth c H locs cells slots (MQ below (xQv dC dI tys post wN A) args s cells slots A) (F0 m pc ls []) :=
  W.vret C.1 C.2.1 C.2.2.2.1 (fun t ht hW => ⟨⟨u, rfl, hpost, by rw [ht]; exact hP, va_K.moved hW.alike hK, hD⟩, hS.F ht⟩) hS.2.2 hdg C.2.2.2.2.1
theorem xd_iret {S : Type} {post : Int32 → S → Prop} {wN : S → va_W} {v : Int32} (C : xC p s m args meth c cc own nL (some .int)) (hK : va_K (dC, dI) vwCl tys s) (u : S) (hpost : post v u) (hP : va_P (dC, dI) vwCl (wN u) H) (hD : va_D A (wN u)) (hS : va_S A s.heap H locs) (hdg : decode cc pc = .ok (.ireturn, 1)) :
    W p l e R s m args below meth c H locs cells slots (MQ below (xQi dC dI tys post wN A) args s cells slots A) (F0 m pc ls [.int v]) :=
  W.iret C.1 C.2.1 C.2.2.2.1 (fun t ht hW => ⟨⟨v, u, rfl, hpost, by rw [ht]; exact hP, va_K.moved hW.alike hK, hD⟩, hS.F ht⟩) hS.2.2 hdg C.2.2.2.2.1
theorem xd_zret {S : Type} {post : Int32 → S → Prop} {wN : S → va_W} {v : Int32} (C : xC p s m args meth c cc own nL (some .boolean)) (hv : v = 0 ∨ v = 1) (hK : va_K (dC, dI) vwCl tys s) (u : S) (hpost : post v u) (hP : va_P (dC, dI) vwCl (wN u) H) (hD : va_D A (wN u)) (hS : va_S A s.heap H locs) (hdg : decode cc pc = .ok (.ireturn, 1)) :
    W p l e R s m args below meth c H locs cells slots (MQ below (xQi dC dI tys post wN A) args s cells slots A) (F0 m pc ls [.int v]) :=
  W.zret C.1 C.2.1 C.2.2.2.1 (by rcases hv with rfl | rfl <;> rfl) (fun t ht hW => ⟨⟨v, u, rfl, hpost, by rw [ht]; exact hP, va_K.moved hW.alike hK, hD⟩, hS.F ht⟩) hS.2.2 hdg C.2.2.2.2.1
theorem xd_callVi {S : Type} {post : Int32 → S → Prop} {wN : S → va_W} {y : MethodName} {bytes : ByteArray} {maxL n index b : Nat} {ret : Option FieldType} {rm : Room} {Cn : String} {As : List Value} {wc : va_W} {tysC : List (ClassId × FieldType)} (C : xC p s m args meth c cc own nL ret0)
    (hM : Met l y (ws_ y bytes maxL ret) rm (va_Pc (.ref b :: As) (xPre dC dI tysC wc H.size)) (xQi dC dI tysC post wN (va_A wc H.size)) 0 0 (va_A wc H.size))
    (cw : CallW R s args own Cn index y bytes maxL ret (ws_ y bytes maxL ret) rm 0 0 n)
    (hK : va_K (dC, dI) vwCl tys s) (hP : va_P (dC, dI) vwCl ws H) (hD : va_D A ws) (hS : va_S A s.heap H locs) (hA : ∀ q : Nat, s.heap.size ≤ q → A q)
    (isC isR isT : List Nat) (wr : va_W) (hC1 : isC.filterMap (fun i => ws[i]?) = wc) (hC : isC.map (fun i => ws[i]?) = wc.map some) (hR : isR.map (fun i => ws[i]?) = wr.map some) (hnC : va_nd isC = true) (hnR : va_nd isR = true) (hdis : ∀ i ∈ isR, i ∉ isC) (hT : isT.filterMap (fun i => tys[i]?) = tysC)
    (ci q0 : Nat) {q : vw_C} {fs : List Value} (hci : vwCl[ci]? = some q) (hqn : q.1 = Cn) (hcell : wc[q0]? = some (b, .inr (ci, fs))) (hn : As.length = n) (hls : ls.size = nL) (hst : st0 = As.reverse ++ .ref b :: rest) (hW : (rest.map fun v => v.category).sum ≤ 8) (hdg : decode cc pc = .ok (.invokevirtual index, 3)) (hroom : cells + 0 ≤ R.cells ∧ slots + 0 ≤ R.slots)
    (kk : ∀ (r : Int32) (u : S) (H1 : Heap) (locs1 : List Loc), post r u → va_P (dC, dI) vwCl (wr ++ wN u) H1 → va_D A (wr ++ wN u) → va_S A s.heap H1 locs1 → W p l e R s m args below meth c H1 locs1 cells slots Q (F0 m (pc + 3) ls (.int r :: rest))) :
    W p l e R s m args below meth c H locs cells slots Q (F0 m pc ls st0) := by
  have hPc := hP.sub (ws' := wc) isC hC1
  have hDc := hD.sub (ws' := wc) isC hnC hC
  have hKc := hK.sub (tys' := tysC) isT hT
  have hFc := va_free (wc := wc) hD hS hA isC hC
  refine va_calli (va_runV (As := As) (rest := rest) ⟨C.1, C.2.1, C.2.2.1, C.2.2.2.2.2.1, C.2.2.2.2.2.2⟩ hM cw ⟨fun a U g mk q => by obtain ⟨q0, q1, qP, qK, qD⟩ := q; exact ⟨q0, q1, qP, va_K.moved (u := U) (U := U.calling g mk a) (Vm.Alike.refl U.vm) qK, qD⟩, by rw [← hqn]; exact va_recv hKc hPc hci hcell, fun U hU hW => ⟨rfl, by rw [hU], by rw [hU]; exact hPc, va_K.moved hW.alike hKc, hDc.weaken (fun _ _ _ _ => trivial)⟩⟩ rfl hn hls hst (lv_room hW) hdg hroom) hS (fun q _ h => hFc q h) hFc (fun r u t H1 locs1 ht hvm hw hB hz1 hk1 hS1 => ?_)
  obtain ⟨hP1, hK1, hD1⟩ := hB
  rw [ht] at hP1
  obtain ⟨hP2, hD2⟩ := va_join (wr := wr) (w1 := wN u) hP hD isC isR hC hR hnR hdis hk1 hFc hP1 hD1
  exact kk r u H1 locs1 hw hP2 hD2 hS1
theorem xd_callVv {S : Type} {post : S → Prop} {wN : S → va_W} {y : MethodName} {bytes : ByteArray} {maxL n index b : Nat} {rm : Room} {Cn : String} {As : List Value} {wc : va_W} {tysC : List (ClassId × FieldType)} (C : xC p s m args meth c cc own nL ret0)
    (hM : Met l y (ws_ y bytes maxL none) rm (va_Pc (.ref b :: As) (xPre dC dI tysC wc H.size)) (xQv dC dI tysC post wN (va_A wc H.size)) 0 0 (va_A wc H.size))
    (cw : CallW R s args own Cn index y bytes maxL none (ws_ y bytes maxL none) rm 0 0 n)
    (hK : va_K (dC, dI) vwCl tys s) (hP : va_P (dC, dI) vwCl ws H) (hD : va_D A ws) (hS : va_S A s.heap H locs) (hA : ∀ q : Nat, s.heap.size ≤ q → A q)
    (isC isR isT : List Nat) (wr : va_W) (hC1 : isC.filterMap (fun i => ws[i]?) = wc) (hC : isC.map (fun i => ws[i]?) = wc.map some) (hR : isR.map (fun i => ws[i]?) = wr.map some) (hnC : va_nd isC = true) (hnR : va_nd isR = true) (hdis : ∀ i ∈ isR, i ∉ isC) (hT : isT.filterMap (fun i => tys[i]?) = tysC)
    (ci q0 : Nat) {q : vw_C} {fs : List Value} (hci : vwCl[ci]? = some q) (hqn : q.1 = Cn) (hcell : wc[q0]? = some (b, .inr (ci, fs))) (hn : As.length = n) (hls : ls.size = nL) (hst : st0 = As.reverse ++ .ref b :: rest) (hW : (rest.map fun v => v.category).sum ≤ 8) (hdg : decode cc pc = .ok (.invokevirtual index, 3)) (hroom : cells + 0 ≤ R.cells ∧ slots + 0 ≤ R.slots)
    (kk : ∀ (u : S) (H1 : Heap) (locs1 : List Loc), post u → va_P (dC, dI) vwCl (wr ++ wN u) H1 → va_D A (wr ++ wN u) → va_S A s.heap H1 locs1 → W p l e R s m args below meth c H1 locs1 cells slots Q (F0 m (pc + 3) ls rest)) :
    W p l e R s m args below meth c H locs cells slots Q (F0 m pc ls st0) := by
  have hPc := hP.sub (ws' := wc) isC hC1
  have hDc := hD.sub (ws' := wc) isC hnC hC
  have hKc := hK.sub (tys' := tysC) isT hT
  have hFc := va_free (wc := wc) hD hS hA isC hC
  refine va_callv (va_runV (As := As) (rest := rest) ⟨C.1, C.2.1, C.2.2.1, C.2.2.2.2.2.1, C.2.2.2.2.2.2⟩ hM cw ⟨fun a U g mk q => by obtain ⟨q0, q1, qP, qK, qD⟩ := q; exact ⟨q0, q1, qP, va_K.moved (u := U) (U := U.calling g mk a) (Vm.Alike.refl U.vm) qK, qD⟩, by rw [← hqn]; exact va_recv hKc hPc hci hcell, fun U hU hW => ⟨rfl, by rw [hU], by rw [hU]; exact hPc, va_K.moved hW.alike hKc, hDc.weaken (fun _ _ _ _ => trivial)⟩⟩ rfl hn hls hst (lv_room hW) hdg hroom) hS (fun q _ h => hFc q h) hFc (fun u t H1 locs1 ht hvm hw hB hz1 hk1 hS1 => ?_)
  obtain ⟨hP1, hK1, hD1⟩ := hB
  rw [ht] at hP1
  obtain ⟨hP2, hD2⟩ := va_join (wr := wr) (w1 := wN u) hP hD isC isR hC hR hnR hdis hk1 hFc hP1 hD1
  exact kk u H1 locs1 hw hP2 hD2 hS1
theorem xd_callSi {S : Type} {post : Int32 → S → Prop} {wN : S → va_W} {y : MethodName} {bytes : ByteArray} {maxL n index : Nat} {ret : Option FieldType} {rm : Room} {As : List Value} {wc : va_W} {tysC : List (ClassId × FieldType)} (C : xC p s m args meth c cc own nL ret0)
    (hM : Met l y (ws_ y bytes maxL ret) rm (va_Pc As (xPre dC dI tysC wc H.size)) (xQi dC dI tysC post wN (va_A wc H.size)) 0 0 (va_A wc H.size))
    (cw : CallB R s args own index y bytes maxL ret (ws_ y bytes maxL ret) rm 0 0 n ∧ (Cond.static y).before args s = true)
    (hK : va_K (dC, dI) vwCl tys s) (hP : va_P (dC, dI) vwCl ws H) (hD : va_D A ws) (hS : va_S A s.heap H locs) (hA : ∀ q : Nat, s.heap.size ≤ q → A q)
    (isC isR isT : List Nat) (wr : va_W) (hC1 : isC.filterMap (fun i => ws[i]?) = wc) (hC : isC.map (fun i => ws[i]?) = wc.map some) (hR : isR.map (fun i => ws[i]?) = wr.map some) (hnC : va_nd isC = true) (hnR : va_nd isR = true) (hdis : ∀ i ∈ isR, i ∉ isC) (hT : isT.filterMap (fun i => tys[i]?) = tysC)
    (hn : As.length = n) (hls : ls.size = nL) (hst : st0 = As.reverse ++ rest) (hW : (rest.map fun v => v.category).sum ≤ 8) (hdg : decode cc pc = .ok (.invokestatic index, 3)) (hroom : cells + 0 ≤ R.cells ∧ slots + 0 ≤ R.slots)
    (kk : ∀ (r : Int32) (u : S) (H1 : Heap) (locs1 : List Loc), post r u → va_P (dC, dI) vwCl (wr ++ wN u) H1 → va_D A (wr ++ wN u) → va_S A s.heap H1 locs1 → W p l e R s m args below meth c H1 locs1 cells slots Q (F0 m (pc + 3) ls (.int r :: rest))) :
    W p l e R s m args below meth c H locs cells slots Q (F0 m pc ls st0) := by
  have hPc := hP.sub (ws' := wc) isC hC1
  have hDc := hD.sub (ws' := wc) isC hnC hC
  have hKc := hK.sub (tys' := tysC) isT hT
  have hFc := va_free (wc := wc) hD hS hA isC hC
  refine va_calli (va_runS (As := As) (rest := rest) ⟨C.1, C.2.1, C.2.2.1, C.2.2.2.2.2.1, C.2.2.2.2.2.2⟩ hM cw ⟨fun a U g mk q => by obtain ⟨q0, q1, qP, qK, qD⟩ := q; exact ⟨q0, q1, qP, va_K.moved (u := U) (U := U.calling g mk a) (Vm.Alike.refl U.vm) qK, qD⟩, fun U hU hW => ⟨rfl, by rw [hU], by rw [hU]; exact hPc, va_K.moved hW.alike hKc, hDc.weaken (fun _ _ _ _ => trivial)⟩⟩ rfl hn hls hst (lv_room hW) hdg hroom) hS (fun q _ h => hFc q h) hFc (fun r u t H1 locs1 ht hvm hw hB hz1 hk1 hS1 => ?_)
  obtain ⟨hP1, hK1, hD1⟩ := hB
  rw [ht] at hP1
  obtain ⟨hP2, hD2⟩ := va_join (wr := wr) (w1 := wN u) hP hD isC isR hC hR hnR hdis hk1 hFc hP1 hD1
  exact kk r u H1 locs1 hw hP2 hD2 hS1
/-- arrays, with a Nat for index -/
theorem xd_iald (C : xC p s m args meth c cc own nL ret0) (hK : va_K (dC, dI) vwCl tys s) (hP : va_P (dC, dI) vwCl ws H) (q0 t0 : Nat) {a : Nat} {cA : ClassId} {n : Nat} {f : Nat → Int32} (ha : ws[q0]? = some (a, .inl (cA, n, .inl f))) (ht : tys[t0]? = some (cA, .int)) {j : Nat} (hj : j < n) (hn : n < 2 ^ 31) {v : Int32} (hv : f j = v) (hdg : decode cc pc = .ok (.iaload, 1))
    (kk : W p l e R s m args below meth c H locs cells slots Q (F0 m (pc + 1) ls (.int v :: rest))) : W p l e R s m args below meth c H locs cells slots Q (F0 m pc ls (.int (nI j) :: .ref a :: rest)) :=
  va_iald C.1 C.2.1 hK hP q0 t0 ha ht (vp_in_nI hj hn) hdg (by rw [nI_clamp (Nat.lt_trans hj hn), hv]; exact kk)
theorem xd_bald (C : xC p s m args meth c cc own nL ret0) (hK : va_K (dC, dI) vwCl tys s) (hP : va_P (dC, dI) vwCl ws H) (q0 t0 : Nat) {a : Nat} {cA : ClassId} {n : Nat} {f : Nat → Int32} (ha : ws[q0]? = some (a, .inl (cA, n, .inl f))) (ht : tys[t0]? = some (cA, .byte)) {j : Nat} (hj : j < n) (hn : n < 2 ^ 31) {v : Int32} (hv : f j = v) (hdg : decode cc pc = .ok (.baload, 1))
    (kk : W p l e R s m args below meth c H locs cells slots Q (F0 m (pc + 1) ls (.int v :: rest))) : W p l e R s m args below meth c H locs cells slots Q (F0 m pc ls (.int (nI j) :: .ref a :: rest)) :=
  va_bald C.1 C.2.1 hK hP q0 t0 ha ht (vp_in_nI hj hn) hdg (by rw [nI_clamp (Nat.lt_trans hj hn), hv]; exact kk)
theorem xd_lald (C : xC p s m args meth c cc own nL ret0) (hK : va_K (dC, dI) vwCl tys s) (hP : va_P (dC, dI) vwCl ws H) (q0 t0 : Nat) {a : Nat} {cA : ClassId} {n : Nat} {f : Nat → Int64} (ha : ws[q0]? = some (a, .inl (cA, n, .inr (.inl f)))) (ht : tys[t0]? = some (cA, .long)) {j : Nat} (hj : j < n) (hn : n < 2 ^ 31) {v : Int64} (hv : f j = v) (hdg : decode cc pc = .ok (.laload, 1))
    (kk : W p l e R s m args below meth c H locs cells slots Q (F0 m (pc + 1) ls (.long v :: rest))) : W p l e R s m args below meth c H locs cells slots Q (F0 m pc ls (.int (nI j) :: .ref a :: rest)) :=
  va_lald C.1 C.2.1 hK hP q0 t0 ha ht (vp_in_nI hj hn) hdg (by rw [nI_clamp (Nat.lt_trans hj hn), hv]; exact kk)
theorem xd_iast (C : xC p s m args meth c cc own nL ret0) (hK : va_K (dC, dI) vwCl tys s) (hP : va_P (dC, dI) vwCl ws H) (hD : va_D A ws) (hS : va_S A s.heap H locs) (q0 t0 : Nat) {a : Nat} {cA : ClassId} {n : Nat} {f : Nat → Int32} (ha : ws[q0]? = some (a, .inl (cA, n, .inl f))) (ht : tys[t0]? = some (cA, .int)) {j : Nat} {x : Int32} (hj : j < n) (hn : n < 2 ^ 31) {ws' : va_W} (hw : ws.set q0 (a, .inl (cA, n, .inl (upd f j x))) = ws') (hdg : decode cc pc = .ok (.iastore, 1))
    (kk : ∀ (H1 : Heap) (locs1 : List Loc), va_P (dC, dI) vwCl ws' H1 → va_D A ws' → va_S A s.heap H1 locs1 → W p l e R s m args below meth c H1 locs1 cells slots Q (F0 m (pc + 1) ls rest)) : W p l e R s m args below meth c H locs cells slots Q (F0 m pc ls (.int x :: .int (nI j) :: .ref a :: rest)) :=
  va_iast C.1 C.2.1 hK hP hD hS q0 t0 ha ht (vp_in_nI hj hn) hdg (by rw [nI_clamp (Nat.lt_trans hj hn), hw]; exact kk)
theorem xd_bast (C : xC p s m args meth c cc own nL ret0) (hK : va_K (dC, dI) vwCl tys s) (hP : va_P (dC, dI) vwCl ws H) (hD : va_D A ws) (hS : va_S A s.heap H locs) (q0 t0 : Nat) {a : Nat} {cA : ClassId} {n : Nat} {f : Nat → Int32} (ha : ws[q0]? = some (a, .inl (cA, n, .inl f))) (ht : tys[t0]? = some (cA, .byte)) {j : Nat} {x y : Int32} (hj : j < n) (hn : n < 2 ^ 31) (hy : vp_nar .byte x = y) {ws' : va_W} (hw : ws.set q0 (a, .inl (cA, n, .inl (upd f j y))) = ws') (hdg : decode cc pc = .ok (.bastore, 1))
    (kk : ∀ (H1 : Heap) (locs1 : List Loc), va_P (dC, dI) vwCl ws' H1 → va_D A ws' → va_S A s.heap H1 locs1 → W p l e R s m args below meth c H1 locs1 cells slots Q (F0 m (pc + 1) ls rest)) : W p l e R s m args below meth c H locs cells slots Q (F0 m pc ls (.int x :: .int (nI j) :: .ref a :: rest)) :=
  va_bast C.1 C.2.1 hK hP hD hS q0 t0 ha ht (vp_in_nI hj hn) hdg (by rw [nI_clamp (Nat.lt_trans hj hn), hy, hw]; exact kk)
theorem xd_last (C : xC p s m args meth c cc own nL ret0) (hK : va_K (dC, dI) vwCl tys s) (hP : va_P (dC, dI) vwCl ws H) (hD : va_D A ws) (hS : va_S A s.heap H locs) (q0 t0 : Nat) {a : Nat} {cA : ClassId} {n : Nat} {f : Nat → Int64} (ha : ws[q0]? = some (a, .inl (cA, n, .inr (.inl f)))) (ht : tys[t0]? = some (cA, .long)) {j : Nat} {x : Int64} (hj : j < n) (hn : n < 2 ^ 31) {ws' : va_W} (hw : ws.set q0 (a, .inl (cA, n, .inr (.inl (vp_updL f j x)))) = ws') (hdg : decode cc pc = .ok (.lastore, 1))
    (kk : ∀ (H1 : Heap) (locs1 : List Loc), va_P (dC, dI) vwCl ws' H1 → va_D A ws' → va_S A s.heap H1 locs1 → W p l e R s m args below meth c H1 locs1 cells slots Q (F0 m (pc + 1) ls rest)) : W p l e R s m args below meth c H locs cells slots Q (F0 m pc ls (.long x :: .int (nI j) :: .ref a :: rest)) :=
  va_last C.1 C.2.1 hK hP hD hS q0 t0 ha ht (vp_in_nI hj hn) hdg (by rw [nI_clamp (Nat.lt_trans hj hn), hw]; exact kk)
/-- compares of two Nats -/
theorem xd_ge (C : xC p s m args meth c cc own nL ret0) {a b : Nat} (ha : a < 2 ^ 31) (hb : b < 2 ^ 31) {off : Int} {tgt : Nat} (hdg : decode cc pc = .ok (.if_icmp .ge off, 3)) (ht : (pc : Int) + off = (tgt : Int))
    (kt : b ≤ a → W p l e R s m args below meth c H locs cells slots Q (F0 m tgt ls rest)) (kf : a < b → W p l e R s m args below meth c H locs cells slots Q (F0 m (pc + 3) ls rest)) : W p l e R s m args below meth c H locs cells slots Q (F0 m pc ls (.int (nI b) :: .int (nI a) :: rest)) :=
  lv_icmp_ge C.1 C.2.1 hdg ht (fun h => kt ((nI_leI hb ha).mp h)) (fun h => kf (Nat.lt_of_not_le (fun q => h ((nI_leI hb ha).mpr q))))
theorem xd_gt (C : xC p s m args meth c cc own nL ret0) {a b : Nat} (ha : a < 2 ^ 31) (hb : b < 2 ^ 31) {off : Int} {tgt : Nat} (hdg : decode cc pc = .ok (.if_icmp .gt off, 3)) (ht : (pc : Int) + off = (tgt : Int))
    (kt : b < a → W p l e R s m args below meth c H locs cells slots Q (F0 m tgt ls rest)) (kf : a ≤ b → W p l e R s m args below meth c H locs cells slots Q (F0 m (pc + 3) ls rest)) : W p l e R s m args below meth c H locs cells slots Q (F0 m pc ls (.int (nI b) :: .int (nI a) :: rest)) :=
  lv_icmp_gt C.1 C.2.1 hdg ht (fun h => kt ((nI_ltI hb ha).mp h)) (fun h => kf (Nat.le_of_not_lt (fun q => h ((nI_ltI hb ha).mpr q))))
theorem xd_le (C : xC p s m args meth c cc own nL ret0) {a b : Nat} (ha : a < 2 ^ 31) (hb : b < 2 ^ 31) {off : Int} {tgt : Nat} (hdg : decode cc pc = .ok (.if_icmp .le off, 3)) (ht : (pc : Int) + off = (tgt : Int))
    (kt : a ≤ b → W p l e R s m args below meth c H locs cells slots Q (F0 m tgt ls rest)) (kf : b < a → W p l e R s m args below meth c H locs cells slots Q (F0 m (pc + 3) ls rest)) : W p l e R s m args below meth c H locs cells slots Q (F0 m pc ls (.int (nI b) :: .int (nI a) :: rest)) :=
  lv_icmp_le C.1 C.2.1 hdg ht (fun h => kt ((nI_leI ha hb).mp h)) (fun h => kf (Nat.lt_of_not_le (fun q => h ((nI_leI ha hb).mpr q))))
theorem xd_eq (C : xC p s m args meth c cc own nL ret0) {a b : Nat} (ha : a < 2 ^ 31) (hb : b < 2 ^ 31) {off : Int} {tgt : Nat} (hdg : decode cc pc = .ok (.if_icmp .eq off, 3)) (ht : (pc : Int) + off = (tgt : Int))
    (kt : a = b → W p l e R s m args below meth c H locs cells slots Q (F0 m tgt ls rest)) (kf : a ≠ b → W p l e R s m args below meth c H locs cells slots Q (F0 m (pc + 3) ls rest)) : W p l e R s m args below meth c H locs cells slots Q (F0 m pc ls (.int (nI b) :: .int (nI a) :: rest)) :=
  lv_icmp_eq C.1 C.2.1 hdg ht (fun h => kt ((nI_eq ha hb).mp h)) (fun h => kf (fun q => h ((nI_eq ha hb).mpr q)))
theorem xd_ne (C : xC p s m args meth c cc own nL ret0) {a b : Nat} (ha : a < 2 ^ 31) (hb : b < 2 ^ 31) {off : Int} {tgt : Nat} (hdg : decode cc pc = .ok (.if_icmp .ne off, 3)) (ht : (pc : Int) + off = (tgt : Int))
    (kt : a ≠ b → W p l e R s m args below meth c H locs cells slots Q (F0 m tgt ls rest)) (kf : a = b → W p l e R s m args below meth c H locs cells slots Q (F0 m (pc + 3) ls rest)) : W p l e R s m args below meth c H locs cells slots Q (F0 m pc ls (.int (nI b) :: .int (nI a) :: rest)) :=
  lv_icmp_ne C.1 C.2.1 hdg ht (fun h => kt (fun q => h ((nI_eq ha hb).mpr q))) (fun h => kf ((nI_eq ha hb).mp h))
/-- CrossDesk's cells: the object, first, second, ones -/
abbrev xT (c1 c2 c3 : ClassId) : List (ClassId × FieldType) := [(c1, .byte), (c2, .byte), (c3, .long)]
abbrev xW (h0 hf hs ho : Nat) (c1 c2 c3 : ClassId) (w k : Int32) (f g : Nat → Int32) (o : Nat → Int64) : va_W := [(h0, .inr (0, [.int w, .int k, .ref hf, .ref hs, .ref ho])), (hf, .inl (c1, 48, .inl f)), (hs, .inl (c2, 48, .inl g)), (ho, .inl (c3, 6, .inr (.inl o)))]
/-- CrossDeskModel's cells: the object, low, high, v, left -/
abbrev mT (c1 c2 c3 c4 : ClassId) : List (ClassId × FieldType) := [(c1, .int), (c2, .int), (c3, .int), (c4, .int)]
abbrev mW (h0 hl hh hv hq : Nat) (c1 c2 c3 c4 : ClassId) (sz n kn fo us : Int32) (lo hi v q : Nat → Int32) : va_W := [(h0, .inr (1, [.ref hl, .ref hh, .int sz, .int n, .int kn, .int fo, .int us, .ref hv, .ref hq])), (hl, .inl (c1, 48, .inl lo)), (hh, .inl (c2, 48, .inl hi)), (hv, .inl (c3, 8, .inl v)), (hq, .inl (c4, 8, .inl q))]
variable {h0 hf hs ho hl hh hv hq : Nat} {c1 c2 c3 c4 : ClassId} {w k sz n kn fo us : Int32} {f g lo hi v q : Nat → Int32} {o : Nat → Int64}
theorem x0_wires (C : xC p s m args meth c cc RX0 nL ret0) (hK : va_K (dC, dI) vwCl tys s) (hP : va_P (dC, dI) vwCl (xW h0 hf hs ho c1 c2 c3 w k f g o) H) (hdg : decode cc pc = .ok (.getfield 7, 3))
    (kk : W p l e R s m args below meth c H locs cells slots Q (F0 m (pc + 3) ls (.int w :: rest))) : W p l e R s m args below meth c H locs cells slots Q (F0 m pc ls (.ref h0 :: rest)) :=
  va_get (D := (dC, dI)) (ci := 0) (v := .int w) (C := RX0) (T := TX0) (N := 5) C.1 C.2.1 C.2.2.2.2.2.2 in_X0 C.2.2.2.2.2.1 hK hP 0 rfl rfl 0 (by decide) (C.2.2.2.2.2.2 _ q18) (fun _ h9 => h9) rfl hdg kk
theorem x0_many (C : xC p s m args meth c cc RX0 nL ret0) (hK : va_K (dC, dI) vwCl tys s) (hP : va_P (dC, dI) vwCl (xW h0 hf hs ho c1 c2 c3 w k f g o) H) (hdg : decode cc pc = .ok (.getfield 29, 3))
    (kk : W p l e R s m args below meth c H locs cells slots Q (F0 m (pc + 3) ls (.int k :: rest))) : W p l e R s m args below meth c H locs cells slots Q (F0 m pc ls (.ref h0 :: rest)) :=
  va_get (D := (dC, dI)) (ci := 0) (v := .int k) (C := RX0) (T := TX0) (N := 5) C.1 C.2.1 C.2.2.2.2.2.2 in_X0 C.2.2.2.2.2.1 hK hP 0 rfl rfl 1 (by decide) (C.2.2.2.2.2.2 _ q19) (fun _ h9 => h9) rfl hdg kk
theorem x0_first (C : xC p s m args meth c cc RX0 nL ret0) (hK : va_K (dC, dI) vwCl tys s) (hP : va_P (dC, dI) vwCl (xW h0 hf hs ho c1 c2 c3 w k f g o) H) (hdg : decode cc pc = .ok (.getfield 13, 3))
    (kk : W p l e R s m args below meth c H locs cells slots Q (F0 m (pc + 3) ls (.ref hf :: rest))) : W p l e R s m args below meth c H locs cells slots Q (F0 m pc ls (.ref h0 :: rest)) :=
  va_get (D := (dC, dI)) (ci := 0) (v := .ref hf) (C := RX0) (T := TX0) (N := 5) C.1 C.2.1 C.2.2.2.2.2.2 in_X0 C.2.2.2.2.2.1 hK hP 0 rfl rfl 2 (by decide) (C.2.2.2.2.2.2 _ q20) (fun _ h9 => h9) rfl hdg kk
theorem x0_second (C : xC p s m args meth c cc RX0 nL ret0) (hK : va_K (dC, dI) vwCl tys s) (hP : va_P (dC, dI) vwCl (xW h0 hf hs ho c1 c2 c3 w k f g o) H) (hdg : decode cc pc = .ok (.getfield 17, 3))
    (kk : W p l e R s m args below meth c H locs cells slots Q (F0 m (pc + 3) ls (.ref hs :: rest))) : W p l e R s m args below meth c H locs cells slots Q (F0 m pc ls (.ref h0 :: rest)) :=
  va_get (D := (dC, dI)) (ci := 0) (v := .ref hs) (C := RX0) (T := TX0) (N := 5) C.1 C.2.1 C.2.2.2.2.2.2 in_X0 C.2.2.2.2.2.1 hK hP 0 rfl rfl 3 (by decide) (C.2.2.2.2.2.2 _ q21) (fun _ h9 => h9) rfl hdg kk
theorem x0_ones (C : xC p s m args meth c cc RX0 nL ret0) (hK : va_K (dC, dI) vwCl tys s) (hP : va_P (dC, dI) vwCl (xW h0 hf hs ho c1 c2 c3 w k f g o) H) (hdg : decode cc pc = .ok (.getfield 20, 3))
    (kk : W p l e R s m args below meth c H locs cells slots Q (F0 m (pc + 3) ls (.ref ho :: rest))) : W p l e R s m args below meth c H locs cells slots Q (F0 m pc ls (.ref h0 :: rest)) :=
  va_get (D := (dC, dI)) (ci := 0) (v := .ref ho) (C := RX0) (T := TX0) (N := 5) C.1 C.2.1 C.2.2.2.2.2.2 in_X0 C.2.2.2.2.2.1 hK hP 0 rfl rfl 4 (by decide) (C.2.2.2.2.2.2 _ q22) (fun _ h9 => h9) rfl hdg kk
theorem x0_wires_put (C : xC p s m args meth c cc RX0 nL ret0) (hK : va_K (dC, dI) vwCl tys s) (hP : va_P (dC, dI) vwCl (xW h0 hf hs ho c1 c2 c3 w k f g o) H) (hD : va_D A (xW h0 hf hs ho c1 c2 c3 w k f g o)) (hS : va_S A s.heap H locs) {x : Int32} (hdg : decode cc pc = .ok (.putfield 7, 3))
    (kk : ∀ (H1 : Heap) (locs1 : List Loc), va_P (dC, dI) vwCl (xW h0 hf hs ho c1 c2 c3 x k f g o) H1 → va_D A (xW h0 hf hs ho c1 c2 c3 x k f g o) → va_S A s.heap H1 locs1 → W p l e R s m args below meth c H1 locs1 cells slots Q (F0 m (pc + 3) ls rest)) : W p l e R s m args below meth c H locs cells slots Q (F0 m pc ls (.int x :: .ref h0 :: rest)) :=
  va_put (D := (dC, dI)) (ci := 0) (v := .int x) (ty := .int) (C := RX0) (T := TX0) (N := 5) C.1 C.2.1 C.2.2.2.2.2.2 in_X0 tyX0 tyX0_ok nmX0 C.2.2.2.2.2.1 hK hP hD hS 0 rfl rfl 0 (by decide) (C.2.2.2.2.2.2 _ q18) (fun _ h9 => h9) rfl (by decide +kernel) rfl rfl (Nat.le_of_ble_eq_true rfl) hdg (fun H1 locs1 hP hD hS => kk H1 locs1 hP hD hS)
theorem x0_many_put (C : xC p s m args meth c cc RX0 nL ret0) (hK : va_K (dC, dI) vwCl tys s) (hP : va_P (dC, dI) vwCl (xW h0 hf hs ho c1 c2 c3 w k f g o) H) (hD : va_D A (xW h0 hf hs ho c1 c2 c3 w k f g o)) (hS : va_S A s.heap H locs) {x : Int32} (hdg : decode cc pc = .ok (.putfield 29, 3))
    (kk : ∀ (H1 : Heap) (locs1 : List Loc), va_P (dC, dI) vwCl (xW h0 hf hs ho c1 c2 c3 w x f g o) H1 → va_D A (xW h0 hf hs ho c1 c2 c3 w x f g o) → va_S A s.heap H1 locs1 → W p l e R s m args below meth c H1 locs1 cells slots Q (F0 m (pc + 3) ls rest)) : W p l e R s m args below meth c H locs cells slots Q (F0 m pc ls (.int x :: .ref h0 :: rest)) :=
  va_put (D := (dC, dI)) (ci := 0) (v := .int x) (ty := .int) (C := RX0) (T := TX0) (N := 5) C.1 C.2.1 C.2.2.2.2.2.2 in_X0 tyX0 tyX0_ok nmX0 C.2.2.2.2.2.1 hK hP hD hS 0 rfl rfl 1 (by decide) (C.2.2.2.2.2.2 _ q19) (fun _ h9 => h9) rfl (by decide +kernel) rfl rfl (Nat.le_of_ble_eq_true rfl) hdg (fun H1 locs1 hP hD hS => kk H1 locs1 hP hD hS)
theorem x1_low (C : xC p s m args meth c cc RX1 nL ret0) (hK : va_K (dC, dI) vwCl tys s) (hP : va_P (dC, dI) vwCl (mW h0 hl hh hv hq c1 c2 c3 c4 sz n kn fo us lo hi v q) H) (hdg : decode cc pc = .ok (.getfield 7, 3))
    (kk : W p l e R s m args below meth c H locs cells slots Q (F0 m (pc + 3) ls (.ref hl :: rest))) : W p l e R s m args below meth c H locs cells slots Q (F0 m pc ls (.ref h0 :: rest)) :=
  va_get (D := (dC, dI)) (ci := 1) (v := .ref hl) (C := RX1) (T := TX1) (N := 9) C.1 C.2.1 C.2.2.2.2.2.2 in_X1 C.2.2.2.2.2.1 hK hP 0 rfl rfl 0 (by decide) (C.2.2.2.2.2.2 _ q86) (fun _ h9 => h9) rfl hdg kk
theorem x1_high (C : xC p s m args meth c cc RX1 nL ret0) (hK : va_K (dC, dI) vwCl tys s) (hP : va_P (dC, dI) vwCl (mW h0 hl hh hv hq c1 c2 c3 c4 sz n kn fo us lo hi v q) H) (hdg : decode cc pc = .ok (.getfield 13, 3))
    (kk : W p l e R s m args below meth c H locs cells slots Q (F0 m (pc + 3) ls (.ref hh :: rest))) : W p l e R s m args below meth c H locs cells slots Q (F0 m pc ls (.ref h0 :: rest)) :=
  va_get (D := (dC, dI)) (ci := 1) (v := .ref hh) (C := RX1) (T := TX1) (N := 9) C.1 C.2.1 C.2.2.2.2.2.2 in_X1 C.2.2.2.2.2.1 hK hP 0 rfl rfl 1 (by decide) (C.2.2.2.2.2.2 _ q87) (fun _ h9 => h9) rfl hdg kk
theorem x1_size (C : xC p s m args meth c cc RX1 nL ret0) (hK : va_K (dC, dI) vwCl tys s) (hP : va_P (dC, dI) vwCl (mW h0 hl hh hv hq c1 c2 c3 c4 sz n kn fo us lo hi v q) H) (hdg : decode cc pc = .ok (.getfield 27, 3))
    (kk : W p l e R s m args below meth c H locs cells slots Q (F0 m (pc + 3) ls (.int sz :: rest))) : W p l e R s m args below meth c H locs cells slots Q (F0 m pc ls (.ref h0 :: rest)) :=
  va_get (D := (dC, dI)) (ci := 1) (v := .int sz) (C := RX1) (T := TX1) (N := 9) C.1 C.2.1 C.2.2.2.2.2.2 in_X1 C.2.2.2.2.2.1 hK hP 0 rfl rfl 2 (by decide) (C.2.2.2.2.2.2 _ q88) (fun _ h9 => h9) rfl hdg kk
theorem x1_n (C : xC p s m args meth c cc RX1 nL ret0) (hK : va_K (dC, dI) vwCl tys s) (hP : va_P (dC, dI) vwCl (mW h0 hl hh hv hq c1 c2 c3 c4 sz n kn fo us lo hi v q) H) (hdg : decode cc pc = .ok (.getfield 16, 3))
    (kk : W p l e R s m args below meth c H locs cells slots Q (F0 m (pc + 3) ls (.int n :: rest))) : W p l e R s m args below meth c H locs cells slots Q (F0 m pc ls (.ref h0 :: rest)) :=
  va_get (D := (dC, dI)) (ci := 1) (v := .int n) (C := RX1) (T := TX1) (N := 9) C.1 C.2.1 C.2.2.2.2.2.2 in_X1 C.2.2.2.2.2.1 hK hP 0 rfl rfl 3 (by decide) (C.2.2.2.2.2.2 _ q89) (fun _ h9 => h9) rfl hdg kk
theorem x1_known (C : xC p s m args meth c cc RX1 nL ret0) (hK : va_K (dC, dI) vwCl tys s) (hP : va_P (dC, dI) vwCl (mW h0 hl hh hv hq c1 c2 c3 c4 sz n kn fo us lo hi v q) H) (hdg : decode cc pc = .ok (.getfield 30, 3))
    (kk : W p l e R s m args below meth c H locs cells slots Q (F0 m (pc + 3) ls (.int kn :: rest))) : W p l e R s m args below meth c H locs cells slots Q (F0 m pc ls (.ref h0 :: rest)) :=
  va_get (D := (dC, dI)) (ci := 1) (v := .int kn) (C := RX1) (T := TX1) (N := 9) C.1 C.2.1 C.2.2.2.2.2.2 in_X1 C.2.2.2.2.2.1 hK hP 0 rfl rfl 4 (by decide) (C.2.2.2.2.2.2 _ q90) (fun _ h9 => h9) rfl hdg kk
theorem x1_found (C : xC p s m args meth c cc RX1 nL ret0) (hK : va_K (dC, dI) vwCl tys s) (hP : va_P (dC, dI) vwCl (mW h0 hl hh hv hq c1 c2 c3 c4 sz n kn fo us lo hi v q) H) (hdg : decode cc pc = .ok (.getfield 34, 3))
    (kk : W p l e R s m args below meth c H locs cells slots Q (F0 m (pc + 3) ls (.int fo :: rest))) : W p l e R s m args below meth c H locs cells slots Q (F0 m pc ls (.ref h0 :: rest)) :=
  va_get (D := (dC, dI)) (ci := 1) (v := .int fo) (C := RX1) (T := TX1) (N := 9) C.1 C.2.1 C.2.2.2.2.2.2 in_X1 C.2.2.2.2.2.1 hK hP 0 rfl rfl 5 (by decide) (C.2.2.2.2.2.2 _ q91) (fun _ h9 => h9) rfl hdg kk
theorem x1_used (C : xC p s m args meth c cc RX1 nL ret0) (hK : va_K (dC, dI) vwCl tys s) (hP : va_P (dC, dI) vwCl (mW h0 hl hh hv hq c1 c2 c3 c4 sz n kn fo us lo hi v q) H) (hdg : decode cc pc = .ok (.getfield 37, 3))
    (kk : W p l e R s m args below meth c H locs cells slots Q (F0 m (pc + 3) ls (.int us :: rest))) : W p l e R s m args below meth c H locs cells slots Q (F0 m pc ls (.ref h0 :: rest)) :=
  va_get (D := (dC, dI)) (ci := 1) (v := .int us) (C := RX1) (T := TX1) (N := 9) C.1 C.2.1 C.2.2.2.2.2.2 in_X1 C.2.2.2.2.2.1 hK hP 0 rfl rfl 6 (by decide) (C.2.2.2.2.2.2 _ q92) (fun _ h9 => h9) rfl hdg kk
theorem x1_v (C : xC p s m args meth c cc RX1 nL ret0) (hK : va_K (dC, dI) vwCl tys s) (hP : va_P (dC, dI) vwCl (mW h0 hl hh hv hq c1 c2 c3 c4 sz n kn fo us lo hi v q) H) (hdg : decode cc pc = .ok (.getfield 20, 3))
    (kk : W p l e R s m args below meth c H locs cells slots Q (F0 m (pc + 3) ls (.ref hv :: rest))) : W p l e R s m args below meth c H locs cells slots Q (F0 m pc ls (.ref h0 :: rest)) :=
  va_get (D := (dC, dI)) (ci := 1) (v := .ref hv) (C := RX1) (T := TX1) (N := 9) C.1 C.2.1 C.2.2.2.2.2.2 in_X1 C.2.2.2.2.2.1 hK hP 0 rfl rfl 7 (by decide) (C.2.2.2.2.2.2 _ q93) (fun _ h9 => h9) rfl hdg kk
theorem x1_left (C : xC p s m args meth c cc RX1 nL ret0) (hK : va_K (dC, dI) vwCl tys s) (hP : va_P (dC, dI) vwCl (mW h0 hl hh hv hq c1 c2 c3 c4 sz n kn fo us lo hi v q) H) (hdg : decode cc pc = .ok (.getfield 23, 3))
    (kk : W p l e R s m args below meth c H locs cells slots Q (F0 m (pc + 3) ls (.ref hq :: rest))) : W p l e R s m args below meth c H locs cells slots Q (F0 m pc ls (.ref h0 :: rest)) :=
  va_get (D := (dC, dI)) (ci := 1) (v := .ref hq) (C := RX1) (T := TX1) (N := 9) C.1 C.2.1 C.2.2.2.2.2.2 in_X1 C.2.2.2.2.2.1 hK hP 0 rfl rfl 8 (by decide) (C.2.2.2.2.2.2 _ q94) (fun _ h9 => h9) rfl hdg kk
theorem x1_size_put (C : xC p s m args meth c cc RX1 nL ret0) (hK : va_K (dC, dI) vwCl tys s) (hP : va_P (dC, dI) vwCl (mW h0 hl hh hv hq c1 c2 c3 c4 sz n kn fo us lo hi v q) H) (hD : va_D A (mW h0 hl hh hv hq c1 c2 c3 c4 sz n kn fo us lo hi v q)) (hS : va_S A s.heap H locs) {x : Int32} (hdg : decode cc pc = .ok (.putfield 27, 3))
    (kk : ∀ (H1 : Heap) (locs1 : List Loc), va_P (dC, dI) vwCl (mW h0 hl hh hv hq c1 c2 c3 c4 x n kn fo us lo hi v q) H1 → va_D A (mW h0 hl hh hv hq c1 c2 c3 c4 x n kn fo us lo hi v q) → va_S A s.heap H1 locs1 → W p l e R s m args below meth c H1 locs1 cells slots Q (F0 m (pc + 3) ls rest)) : W p l e R s m args below meth c H locs cells slots Q (F0 m pc ls (.int x :: .ref h0 :: rest)) :=
  va_put (D := (dC, dI)) (ci := 1) (v := .int x) (ty := .int) (C := RX1) (T := TX1) (N := 9) C.1 C.2.1 C.2.2.2.2.2.2 in_X1 tyX1 tyX1_ok nmX1 C.2.2.2.2.2.1 hK hP hD hS 0 rfl rfl 2 (by decide) (C.2.2.2.2.2.2 _ q88) (fun _ h9 => h9) rfl (by decide +kernel) rfl rfl (Nat.le_of_ble_eq_true rfl) hdg (fun H1 locs1 hP hD hS => kk H1 locs1 hP hD hS)
theorem x1_n_put (C : xC p s m args meth c cc RX1 nL ret0) (hK : va_K (dC, dI) vwCl tys s) (hP : va_P (dC, dI) vwCl (mW h0 hl hh hv hq c1 c2 c3 c4 sz n kn fo us lo hi v q) H) (hD : va_D A (mW h0 hl hh hv hq c1 c2 c3 c4 sz n kn fo us lo hi v q)) (hS : va_S A s.heap H locs) {x : Int32} (hdg : decode cc pc = .ok (.putfield 16, 3))
    (kk : ∀ (H1 : Heap) (locs1 : List Loc), va_P (dC, dI) vwCl (mW h0 hl hh hv hq c1 c2 c3 c4 sz x kn fo us lo hi v q) H1 → va_D A (mW h0 hl hh hv hq c1 c2 c3 c4 sz x kn fo us lo hi v q) → va_S A s.heap H1 locs1 → W p l e R s m args below meth c H1 locs1 cells slots Q (F0 m (pc + 3) ls rest)) : W p l e R s m args below meth c H locs cells slots Q (F0 m pc ls (.int x :: .ref h0 :: rest)) :=
  va_put (D := (dC, dI)) (ci := 1) (v := .int x) (ty := .int) (C := RX1) (T := TX1) (N := 9) C.1 C.2.1 C.2.2.2.2.2.2 in_X1 tyX1 tyX1_ok nmX1 C.2.2.2.2.2.1 hK hP hD hS 0 rfl rfl 3 (by decide) (C.2.2.2.2.2.2 _ q89) (fun _ h9 => h9) rfl (by decide +kernel) rfl rfl (Nat.le_of_ble_eq_true rfl) hdg (fun H1 locs1 hP hD hS => kk H1 locs1 hP hD hS)
theorem x1_known_put (C : xC p s m args meth c cc RX1 nL ret0) (hK : va_K (dC, dI) vwCl tys s) (hP : va_P (dC, dI) vwCl (mW h0 hl hh hv hq c1 c2 c3 c4 sz n kn fo us lo hi v q) H) (hD : va_D A (mW h0 hl hh hv hq c1 c2 c3 c4 sz n kn fo us lo hi v q)) (hS : va_S A s.heap H locs) {x : Int32} (hx01 : x = 0 ∨ x = 1) (hdg : decode cc pc = .ok (.putfield 30, 3))
    (kk : ∀ (H1 : Heap) (locs1 : List Loc), va_P (dC, dI) vwCl (mW h0 hl hh hv hq c1 c2 c3 c4 sz n x fo us lo hi v q) H1 → va_D A (mW h0 hl hh hv hq c1 c2 c3 c4 sz n x fo us lo hi v q) → va_S A s.heap H1 locs1 → W p l e R s m args below meth c H1 locs1 cells slots Q (F0 m (pc + 3) ls rest)) : W p l e R s m args below meth c H locs cells slots Q (F0 m pc ls (.int x :: .ref h0 :: rest)) :=
  va_put (D := (dC, dI)) (ci := 1) (v := .int x) (ty := .boolean) (C := RX1) (T := TX1) (N := 9) C.1 C.2.1 C.2.2.2.2.2.2 in_X1 tyX1 tyX1_ok nmX1 C.2.2.2.2.2.1 hK hP hD hS 0 rfl rfl 4 (by decide) (C.2.2.2.2.2.2 _ q90) (fun _ h9 => h9) rfl (by decide +kernel) (by rcases hx01 with rfl | rfl <;> rfl) (by rcases hx01 with rfl | rfl <;> rfl) (Nat.le_of_ble_eq_true rfl) hdg (fun H1 locs1 hP hD hS => kk H1 locs1 hP hD hS)
theorem x1_found_put (C : xC p s m args meth c cc RX1 nL ret0) (hK : va_K (dC, dI) vwCl tys s) (hP : va_P (dC, dI) vwCl (mW h0 hl hh hv hq c1 c2 c3 c4 sz n kn fo us lo hi v q) H) (hD : va_D A (mW h0 hl hh hv hq c1 c2 c3 c4 sz n kn fo us lo hi v q)) (hS : va_S A s.heap H locs) {x : Int32} (hdg : decode cc pc = .ok (.putfield 34, 3))
    (kk : ∀ (H1 : Heap) (locs1 : List Loc), va_P (dC, dI) vwCl (mW h0 hl hh hv hq c1 c2 c3 c4 sz n kn x us lo hi v q) H1 → va_D A (mW h0 hl hh hv hq c1 c2 c3 c4 sz n kn x us lo hi v q) → va_S A s.heap H1 locs1 → W p l e R s m args below meth c H1 locs1 cells slots Q (F0 m (pc + 3) ls rest)) : W p l e R s m args below meth c H locs cells slots Q (F0 m pc ls (.int x :: .ref h0 :: rest)) :=
  va_put (D := (dC, dI)) (ci := 1) (v := .int x) (ty := .int) (C := RX1) (T := TX1) (N := 9) C.1 C.2.1 C.2.2.2.2.2.2 in_X1 tyX1 tyX1_ok nmX1 C.2.2.2.2.2.1 hK hP hD hS 0 rfl rfl 5 (by decide) (C.2.2.2.2.2.2 _ q91) (fun _ h9 => h9) rfl (by decide +kernel) rfl rfl (Nat.le_of_ble_eq_true rfl) hdg (fun H1 locs1 hP hD hS => kk H1 locs1 hP hD hS)
theorem x1_used_put (C : xC p s m args meth c cc RX1 nL ret0) (hK : va_K (dC, dI) vwCl tys s) (hP : va_P (dC, dI) vwCl (mW h0 hl hh hv hq c1 c2 c3 c4 sz n kn fo us lo hi v q) H) (hD : va_D A (mW h0 hl hh hv hq c1 c2 c3 c4 sz n kn fo us lo hi v q)) (hS : va_S A s.heap H locs) {x : Int32} (hdg : decode cc pc = .ok (.putfield 37, 3))
    (kk : ∀ (H1 : Heap) (locs1 : List Loc), va_P (dC, dI) vwCl (mW h0 hl hh hv hq c1 c2 c3 c4 sz n kn fo x lo hi v q) H1 → va_D A (mW h0 hl hh hv hq c1 c2 c3 c4 sz n kn fo x lo hi v q) → va_S A s.heap H1 locs1 → W p l e R s m args below meth c H1 locs1 cells slots Q (F0 m (pc + 3) ls rest)) : W p l e R s m args below meth c H locs cells slots Q (F0 m pc ls (.int x :: .ref h0 :: rest)) :=
  va_put (D := (dC, dI)) (ci := 1) (v := .int x) (ty := .int) (C := RX1) (T := TX1) (N := 9) C.1 C.2.1 C.2.2.2.2.2.2 in_X1 tyX1 tyX1_ok nmX1 C.2.2.2.2.2.1 hK hP hD hS 0 rfl rfl 6 (by decide) (C.2.2.2.2.2.2 _ q92) (fun _ h9 => h9) rfl (by decide +kernel) rfl rfl (Nat.le_of_ble_eq_true rfl) hdg (fun H1 locs1 hP hD hS => kk H1 locs1 hP hD hS)
theorem x0_f_ld (C : xC p s m args meth c cc own nL ret0) (hK : va_K (dC, dI) vwCl (xT c1 c2 c3) s) (hP : va_P (dC, dI) vwCl (xW h0 hf hs ho c1 c2 c3 w k f g o) H) {j : Nat} (hj : j < 48) {x : Int32} (hx : f j = x) (hdg : decode cc pc = .ok (.baload, 1))
    (kk : W p l e R s m args below meth c H locs cells slots Q (F0 m (pc + 1) ls (.int x :: rest))) : W p l e R s m args below meth c H locs cells slots Q (F0 m pc ls (.int (nI j) :: .ref hf :: rest)) :=
  xd_bald C hK hP 1 0 rfl rfl hj (by decide) hx hdg kk
theorem x0_g_ld (C : xC p s m args meth c cc own nL ret0) (hK : va_K (dC, dI) vwCl (xT c1 c2 c3) s) (hP : va_P (dC, dI) vwCl (xW h0 hf hs ho c1 c2 c3 w k f g o) H) {j : Nat} (hj : j < 48) {x : Int32} (hx : g j = x) (hdg : decode cc pc = .ok (.baload, 1))
    (kk : W p l e R s m args below meth c H locs cells slots Q (F0 m (pc + 1) ls (.int x :: rest))) : W p l e R s m args below meth c H locs cells slots Q (F0 m pc ls (.int (nI j) :: .ref hs :: rest)) :=
  xd_bald C hK hP 2 1 rfl rfl hj (by decide) hx hdg kk
theorem x0_o_ld (C : xC p s m args meth c cc own nL ret0) (hK : va_K (dC, dI) vwCl (xT c1 c2 c3) s) (hP : va_P (dC, dI) vwCl (xW h0 hf hs ho c1 c2 c3 w k f g o) H) {j : Nat} (hj : j < 6) {x : Int64} (hx : o j = x) (hdg : decode cc pc = .ok (.laload, 1))
    (kk : W p l e R s m args below meth c H locs cells slots Q (F0 m (pc + 1) ls (.long x :: rest))) : W p l e R s m args below meth c H locs cells slots Q (F0 m pc ls (.int (nI j) :: .ref ho :: rest)) :=
  xd_lald C hK hP 3 2 rfl rfl hj (by decide) hx hdg kk
theorem x0_f_st (C : xC p s m args meth c cc own nL ret0) (hK : va_K (dC, dI) vwCl (xT c1 c2 c3) s) (hP : va_P (dC, dI) vwCl (xW h0 hf hs ho c1 c2 c3 w k f g o) H) (hD : va_D A (xW h0 hf hs ho c1 c2 c3 w k f g o)) (hS : va_S A s.heap H locs) {j : Nat} (hj : j < 48) {x : Int32} {y : Int32} (hy : vp_nar .byte x = y) (hdg : decode cc pc = .ok (.bastore, 1))
    (kk : ∀ (H1 : Heap) (locs1 : List Loc), va_P (dC, dI) vwCl (xW h0 hf hs ho c1 c2 c3 w k (upd f j y) g o) H1 → va_D A (xW h0 hf hs ho c1 c2 c3 w k (upd f j y) g o) → va_S A s.heap H1 locs1 → W p l e R s m args below meth c H1 locs1 cells slots Q (F0 m (pc + 1) ls rest)) : W p l e R s m args below meth c H locs cells slots Q (F0 m pc ls (.int x :: .int (nI j) :: .ref hf :: rest)) :=
  xd_bast C hK hP hD hS 1 0 rfl rfl hj (by decide) hy (ws' := xW h0 hf hs ho c1 c2 c3 w k (upd f j y) g o) rfl hdg kk
theorem x0_g_st (C : xC p s m args meth c cc own nL ret0) (hK : va_K (dC, dI) vwCl (xT c1 c2 c3) s) (hP : va_P (dC, dI) vwCl (xW h0 hf hs ho c1 c2 c3 w k f g o) H) (hD : va_D A (xW h0 hf hs ho c1 c2 c3 w k f g o)) (hS : va_S A s.heap H locs) {j : Nat} (hj : j < 48) {x : Int32} {y : Int32} (hy : vp_nar .byte x = y) (hdg : decode cc pc = .ok (.bastore, 1))
    (kk : ∀ (H1 : Heap) (locs1 : List Loc), va_P (dC, dI) vwCl (xW h0 hf hs ho c1 c2 c3 w k f (upd g j y) o) H1 → va_D A (xW h0 hf hs ho c1 c2 c3 w k f (upd g j y) o) → va_S A s.heap H1 locs1 → W p l e R s m args below meth c H1 locs1 cells slots Q (F0 m (pc + 1) ls rest)) : W p l e R s m args below meth c H locs cells slots Q (F0 m pc ls (.int x :: .int (nI j) :: .ref hs :: rest)) :=
  xd_bast C hK hP hD hS 2 1 rfl rfl hj (by decide) hy (ws' := xW h0 hf hs ho c1 c2 c3 w k f (upd g j y) o) rfl hdg kk
theorem x0_o_st (C : xC p s m args meth c cc own nL ret0) (hK : va_K (dC, dI) vwCl (xT c1 c2 c3) s) (hP : va_P (dC, dI) vwCl (xW h0 hf hs ho c1 c2 c3 w k f g o) H) (hD : va_D A (xW h0 hf hs ho c1 c2 c3 w k f g o)) (hS : va_S A s.heap H locs) {j : Nat} (hj : j < 6) {x : Int64} (hdg : decode cc pc = .ok (.lastore, 1))
    (kk : ∀ (H1 : Heap) (locs1 : List Loc), va_P (dC, dI) vwCl (xW h0 hf hs ho c1 c2 c3 w k f g (vp_updL o j x)) H1 → va_D A (xW h0 hf hs ho c1 c2 c3 w k f g (vp_updL o j x)) → va_S A s.heap H1 locs1 → W p l e R s m args below meth c H1 locs1 cells slots Q (F0 m (pc + 1) ls rest)) : W p l e R s m args below meth c H locs cells slots Q (F0 m pc ls (.long x :: .int (nI j) :: .ref ho :: rest)) :=
  xd_last C hK hP hD hS 3 2 rfl rfl hj (by decide) (ws' := xW h0 hf hs ho c1 c2 c3 w k f g (vp_updL o j x)) rfl hdg kk
theorem x1_lo_ld (C : xC p s m args meth c cc own nL ret0) (hK : va_K (dC, dI) vwCl (mT c1 c2 c3 c4) s) (hP : va_P (dC, dI) vwCl (mW h0 hl hh hv hq c1 c2 c3 c4 sz n kn fo us lo hi v q) H) {j : Nat} (hj : j < 48) {x : Int32} (hx : lo j = x) (hdg : decode cc pc = .ok (.iaload, 1))
    (kk : W p l e R s m args below meth c H locs cells slots Q (F0 m (pc + 1) ls (.int x :: rest))) : W p l e R s m args below meth c H locs cells slots Q (F0 m pc ls (.int (nI j) :: .ref hl :: rest)) :=
  xd_iald C hK hP 1 0 rfl rfl hj (by decide) hx hdg kk
theorem x1_lo_st (C : xC p s m args meth c cc own nL ret0) (hK : va_K (dC, dI) vwCl (mT c1 c2 c3 c4) s) (hP : va_P (dC, dI) vwCl (mW h0 hl hh hv hq c1 c2 c3 c4 sz n kn fo us lo hi v q) H) (hD : va_D A (mW h0 hl hh hv hq c1 c2 c3 c4 sz n kn fo us lo hi v q)) (hS : va_S A s.heap H locs) {j : Nat} (hj : j < 48) {x : Int32} (hdg : decode cc pc = .ok (.iastore, 1))
    (kk : ∀ (H1 : Heap) (locs1 : List Loc), va_P (dC, dI) vwCl (mW h0 hl hh hv hq c1 c2 c3 c4 sz n kn fo us (upd lo j x) hi v q) H1 → va_D A (mW h0 hl hh hv hq c1 c2 c3 c4 sz n kn fo us (upd lo j x) hi v q) → va_S A s.heap H1 locs1 → W p l e R s m args below meth c H1 locs1 cells slots Q (F0 m (pc + 1) ls rest)) : W p l e R s m args below meth c H locs cells slots Q (F0 m pc ls (.int x :: .int (nI j) :: .ref hl :: rest)) :=
  xd_iast C hK hP hD hS 1 0 rfl rfl hj (by decide) (ws' := mW h0 hl hh hv hq c1 c2 c3 c4 sz n kn fo us (upd lo j x) hi v q) rfl hdg kk
theorem x1_hi_ld (C : xC p s m args meth c cc own nL ret0) (hK : va_K (dC, dI) vwCl (mT c1 c2 c3 c4) s) (hP : va_P (dC, dI) vwCl (mW h0 hl hh hv hq c1 c2 c3 c4 sz n kn fo us lo hi v q) H) {j : Nat} (hj : j < 48) {x : Int32} (hx : hi j = x) (hdg : decode cc pc = .ok (.iaload, 1))
    (kk : W p l e R s m args below meth c H locs cells slots Q (F0 m (pc + 1) ls (.int x :: rest))) : W p l e R s m args below meth c H locs cells slots Q (F0 m pc ls (.int (nI j) :: .ref hh :: rest)) :=
  xd_iald C hK hP 2 1 rfl rfl hj (by decide) hx hdg kk
theorem x1_hi_st (C : xC p s m args meth c cc own nL ret0) (hK : va_K (dC, dI) vwCl (mT c1 c2 c3 c4) s) (hP : va_P (dC, dI) vwCl (mW h0 hl hh hv hq c1 c2 c3 c4 sz n kn fo us lo hi v q) H) (hD : va_D A (mW h0 hl hh hv hq c1 c2 c3 c4 sz n kn fo us lo hi v q)) (hS : va_S A s.heap H locs) {j : Nat} (hj : j < 48) {x : Int32} (hdg : decode cc pc = .ok (.iastore, 1))
    (kk : ∀ (H1 : Heap) (locs1 : List Loc), va_P (dC, dI) vwCl (mW h0 hl hh hv hq c1 c2 c3 c4 sz n kn fo us lo (upd hi j x) v q) H1 → va_D A (mW h0 hl hh hv hq c1 c2 c3 c4 sz n kn fo us lo (upd hi j x) v q) → va_S A s.heap H1 locs1 → W p l e R s m args below meth c H1 locs1 cells slots Q (F0 m (pc + 1) ls rest)) : W p l e R s m args below meth c H locs cells slots Q (F0 m pc ls (.int x :: .int (nI j) :: .ref hh :: rest)) :=
  xd_iast C hK hP hD hS 2 1 rfl rfl hj (by decide) (ws' := mW h0 hl hh hv hq c1 c2 c3 c4 sz n kn fo us lo (upd hi j x) v q) rfl hdg kk
theorem x1_v_ld (C : xC p s m args meth c cc own nL ret0) (hK : va_K (dC, dI) vwCl (mT c1 c2 c3 c4) s) (hP : va_P (dC, dI) vwCl (mW h0 hl hh hv hq c1 c2 c3 c4 sz n kn fo us lo hi v q) H) {j : Nat} (hj : j < 8) {x : Int32} (hx : v j = x) (hdg : decode cc pc = .ok (.iaload, 1))
    (kk : W p l e R s m args below meth c H locs cells slots Q (F0 m (pc + 1) ls (.int x :: rest))) : W p l e R s m args below meth c H locs cells slots Q (F0 m pc ls (.int (nI j) :: .ref hv :: rest)) :=
  xd_iald C hK hP 3 2 rfl rfl hj (by decide) hx hdg kk
theorem x1_v_st (C : xC p s m args meth c cc own nL ret0) (hK : va_K (dC, dI) vwCl (mT c1 c2 c3 c4) s) (hP : va_P (dC, dI) vwCl (mW h0 hl hh hv hq c1 c2 c3 c4 sz n kn fo us lo hi v q) H) (hD : va_D A (mW h0 hl hh hv hq c1 c2 c3 c4 sz n kn fo us lo hi v q)) (hS : va_S A s.heap H locs) {j : Nat} (hj : j < 8) {x : Int32} (hdg : decode cc pc = .ok (.iastore, 1))
    (kk : ∀ (H1 : Heap) (locs1 : List Loc), va_P (dC, dI) vwCl (mW h0 hl hh hv hq c1 c2 c3 c4 sz n kn fo us lo hi (upd v j x) q) H1 → va_D A (mW h0 hl hh hv hq c1 c2 c3 c4 sz n kn fo us lo hi (upd v j x) q) → va_S A s.heap H1 locs1 → W p l e R s m args below meth c H1 locs1 cells slots Q (F0 m (pc + 1) ls rest)) : W p l e R s m args below meth c H locs cells slots Q (F0 m pc ls (.int x :: .int (nI j) :: .ref hv :: rest)) :=
  xd_iast C hK hP hD hS 3 2 rfl rfl hj (by decide) (ws' := mW h0 hl hh hv hq c1 c2 c3 c4 sz n kn fo us lo hi (upd v j x) q) rfl hdg kk
theorem x1_q_ld (C : xC p s m args meth c cc own nL ret0) (hK : va_K (dC, dI) vwCl (mT c1 c2 c3 c4) s) (hP : va_P (dC, dI) vwCl (mW h0 hl hh hv hq c1 c2 c3 c4 sz n kn fo us lo hi v q) H) {j : Nat} (hj : j < 8) {x : Int32} (hx : q j = x) (hdg : decode cc pc = .ok (.iaload, 1))
    (kk : W p l e R s m args below meth c H locs cells slots Q (F0 m (pc + 1) ls (.int x :: rest))) : W p l e R s m args below meth c H locs cells slots Q (F0 m pc ls (.int (nI j) :: .ref hq :: rest)) :=
  xd_iald C hK hP 4 3 rfl rfl hj (by decide) hx hdg kk
theorem x1_q_st (C : xC p s m args meth c cc own nL ret0) (hK : va_K (dC, dI) vwCl (mT c1 c2 c3 c4) s) (hP : va_P (dC, dI) vwCl (mW h0 hl hh hv hq c1 c2 c3 c4 sz n kn fo us lo hi v q) H) (hD : va_D A (mW h0 hl hh hv hq c1 c2 c3 c4 sz n kn fo us lo hi v q)) (hS : va_S A s.heap H locs) {j : Nat} (hj : j < 8) {x : Int32} (hdg : decode cc pc = .ok (.iastore, 1))
    (kk : ∀ (H1 : Heap) (locs1 : List Loc), va_P (dC, dI) vwCl (mW h0 hl hh hv hq c1 c2 c3 c4 sz n kn fo us lo hi v (upd q j x)) H1 → va_D A (mW h0 hl hh hv hq c1 c2 c3 c4 sz n kn fo us lo hi v (upd q j x)) → va_S A s.heap H1 locs1 → W p l e R s m args below meth c H1 locs1 cells slots Q (F0 m (pc + 1) ls rest)) : W p l e R s m args below meth c H locs cells slots Q (F0 m pc ls (.int x :: .int (nI j) :: .ref hq :: rest)) :=
  xd_iast C hK hP hD hS 4 3 rfl rfl hj (by decide) (ws' := mW h0 hl hh hv hq c1 c2 c3 c4 sz n kn fo us lo hi v (upd q j x)) rfl hdg kk
end XdRows
end
section
/-! ===== PART 07: the plain law's steps, for the walks ===== -/
set_option maxRecDepth 100000
theorem xd_inc1 (i : Nat) : nI i + Int32.ofInt 1 = nI (i + 1) := nI_1 i
theorem xd_inc3 (i : Nat) : nI i + Int32.ofInt 3 = nI (i + 3) := nI_add i 3
theorem xd_p64 {n : Nat} (h : n ≤ 6) : 2 ^ n ≤ 64 := Nat.pow_le_pow_right (n := 2) (j := 6) (by decide) h
theorem xd_b31 {n k : Nat} (h : n ≤ k) (hk : k < 2 ^ 31) : n < 2 ^ 31 := Nat.lt_of_le_of_lt h hk
/-! the desk's rows -/
def xdBeg (n : Nat) (o : Nat → Int64) : Prop := ∀ i, i < n → ∀ j, j < 64 → xb (o i) j = (decide (j < 2 ^ n) && j.testBit i)
theorem xd_dec1 {j r : Nat} (q : ¬ r = j) : decide (j < r + 1) = decide (j < r) := by
  rw [Bool.eq_iff_iff]
  simp only [decide_eq_true_eq]
  omega
theorem xd_bg1 {x : Int64} {r k : Nat} (hr : r < 64) (h : ∀ j, j < 64 → xb x j = (decide (j < r) && j.testBit k)) (hb : r.testBit k = true) : ∀ j, j < 64 → xb (x ||| ((1 : Int64) <<< ((nI r).toInt64 &&& 63))) j = (decide (j < r + 1) && j.testBit k) := by
  intro j hj
  rw [xb_or, xb_pow hr, h j hj]
  by_cases q : r = j
  · subst q
    simp [hb]
  · rw [xd_dec1 q, decide_eq_false q, Bool.or_false]
theorem xd_bg0 {x : Int64} {r k : Nat} (h : ∀ j, j < 64 → xb x j = (decide (j < r) && j.testBit k)) (hb : r.testBit k = false) : ∀ j, j < 64 → xb x j = (decide (j < r + 1) && j.testBit k) := by
  intro j hj
  rw [h j hj]
  by_cases q : r = j
  · subst q
    simp [hb]
  · rw [xd_dec1 q]
theorem xd_bit_ne {b : Bool} (h : (if b = true then 1 else 0) ≠ (1 : Nat)) : b = false := by
  cases b with
  | false => rfl
  | true => exact absurd rfl h
theorem xd_bit_eq {b : Bool} (h : (if b = true then 1 else 0) = (1 : Nat)) : b = true := by
  cases b with
  | true => rfl
  | false => cases h
theorem xd_bit_lt (b : Bool) : (if b = true then 1 else 0) < 2 ^ 31 := by
  cases b <;> decide
/-- the long network -/
def xdLn (A B : Nat → Nat) (o : Nat → Int64) (c : Nat) : Nat → Int64 := xdNet (fun x y => x &&& y) (fun x y => x ||| y) A B o c
theorem xd_ln_step {n : Nat} {A B : Nat → Nat} {o0 o o' : Nat → Int64} {c : Nat} (ha : A c < n) (hb : B c < n) (hab : A c ≠ B c) (h : ∀ i, i < n → o i = xdLn A B o0 c i) (e : o' = vp_updL (vp_updL o (B c) (o (B c) ||| o (A c))) (A c) (o (A c) &&& o (B c))) : ∀ i, i < n → o' i = xdLn A B o0 (c + 1) i := by
  intro i hi
  show o' i = xdStep (fun x y => x &&& y) (fun x y => x ||| y) (A c) (B c) (xdLn A B o0 c) i
  unfold xdStep
  rw [e, ← h _ ha, ← h _ hb, ← h i hi]
  unfold vp_updL
  by_cases q : i = A c
  · rw [if_pos q, if_pos q]
  · rw [if_neg q, if_neg q]
    by_cases q2 : i = B c
    · rw [if_pos q2, if_pos q2]
      exact Int64.or_comm _ _
    · rw [if_neg q2, if_neg q2]
theorem xd_ln_bit {n N : Nat} {A B : Nat → Nat} (h : xdOK n N A B) {o : Nat → Int64} (ho : xdBeg n o) {c : Nat} (hc : c ≤ N) {i : Nat} (hi : i < n) {r : Nat} (hr : r < 64) : xb (xdLn A B o c i) r = (decide (r < 2 ^ n) && xdBn A B r c i) := by
  unfold xdLn
  rw [xd_hom (φ := fun x => xb x r) (lo' := fun x y => x && y) (hi' := fun x y => x || y) (fun x y => xb_and x y r) (fun x y => xb_or x y r) A B o c i]
  by_cases q : r < 2 ^ n
  · rw [decide_eq_true q, Bool.true_and]
    unfold xdBn
    refine xd_cong h.ab (fun j hj => ?_) c hc i hi
    rw [ho j hj r hr, decide_eq_true q, Bool.true_and]
  · rw [decide_eq_false q, Bool.false_and]
    rw [xd_cong h.ab (v' := fun _ => false) (fun j hj => by rw [ho j hj r hr, decide_eq_false q, Bool.false_and]) c hc i hi]
    have key : ∀ c j, xdNet (fun x y => x && y) (fun x y => x || y) A B (fun _ => false) c j = false := by
      intro c
      induction c with
      | zero => intro j; rfl
      | succ c ih =>
        intro j
        show xdStep (fun x y => x && y) (fun x y => x || y) (A c) (B c) (xdNet (fun x y => x && y) (fun x y => x || y) A B (fun _ => false) c) j = false
        unfold xdStep
        rw [ih (A c), ih (B c), ih j]
        simp
    exact key c i
/-- behind the desk's run of N crossings -/
def xdRun (n N : Nat) (A B : Nat → Nat) (o : Nat → Int64) : Prop := ∃ o0, xdBeg n o0 ∧ ∀ i, i < n → o i = xdLn A B o0 N i
theorem xd_run_bit {n N : Nat} {A B : Nat → Nat} (h : xdOK n N A B) {o : Nat → Int64} (hr : xdRun n N A B o) {w : Nat} (hw : w < n) : (∀ r, r < 2 ^ n → xb (o w) r = decide (xdNz r n ≤ w)) ↔ xdOwnD n N A B w := by
  obtain ⟨o0, hb, he⟩ := hr
  have hp := xd_p64 h.2.1
  have key : ∀ r, r < 2 ^ n → xb (o w) r = xdBn A B r N w := by
    intro r hr
    rw [he w hw, xd_ln_bit h hb (Nat.le_refl N) hw (by omega), decide_eq_true hr, Bool.true_and]
  constructor
  · intro q r hr
    rw [← key r hr]
    exact q r hr
  · intro q r hr
    rw [key r hr]
    exact q r hr
theorem xd_run_use {n N : Nat} {A B : Nat → Nat} (h : xdOK n N A B) {o0 o : Nat → Int64} (hb : xdBeg n o0) {c : Nat} (hc : c < N) (he : ∀ i, i < n → o i = xdLn A B o0 c i) : (o (A c) &&& o (B c) ≠ o (A c)) ↔ xdUseD n A B c := by
  have ha := (h.2.2.2 c hc).1
  have hb0 := (h.2.2.2 c hc).2.1
  have hp := xd_p64 h.2.1
  rw [xb_ne, he _ ha, he _ hb0]
  constructor
  · intro ⟨r, hr, h1, h2⟩
    rw [xd_ln_bit h hb (by omega) ha hr, Bool.and_eq_true] at h1
    rw [xd_ln_bit h hb (by omega) hb0 hr, h1.1, Bool.true_and] at h2
    exact ⟨r, of_decide_eq_true h1.1, h1.2, h2⟩
  · intro ⟨r, hr, h1, h2⟩
    refine ⟨r, by omega, ?_, ?_⟩
    · rw [xd_ln_bit h hb (by omega) ha (by omega), decide_eq_true hr, h1]
      rfl
    · rw [xd_ln_bit h hb (by omega) hb0 (by omega), h2, Bool.and_false]
/-! noughts counted down -/
theorem xd_nz_step {n j r : Nat} (hj : j < n) : nI (n - j + xdNz r j) - nI (if r.testBit j then 1 else 0) = nI (n - (j + 1) + xdNz r (j + 1)) := by
  show _ = nI (n - (j + 1) + (xdNz r j + (if r.testBit j then 0 else 1)))
  cases r.testBit j with
  | true =>
    rw [if_pos rfl, if_pos rfl, pk_sub (by omega)]
    congr 1
    omega
  | false =>
    rw [if_neg (by decide), if_neg (by decide), pk_sub (by omega)]
    congr 1
    omega
theorem xd_nz_le (r : Nat) : ∀ j, xdNz r j ≤ j := by
  intro j
  induction j with
  | zero => exact Nat.le_refl 0
  | succ j ih =>
    show xdNz r j + (if r.testBit j then 0 else 1) ≤ j + 1
    split <;> omega
/-! a bit more of an int -/
theorem xd_set_bit {P : Nat → Prop} {x : Int32} {c : Nat} (hc : c < 31) (h : ∀ i, i < 32 → (bt x i = true ↔ i < c ∧ P i)) (hp : P c) : ∀ i, i < 32 → (bt (x ||| ((1 : Int32) <<< (nI c &&& 31))) i = true ↔ i < c + 1 ∧ P i) := by
  intro i hi
  rw [b_or, Bool.or_eq_true, xi_pw1 c (by omega) i hi, h i hi, decide_eq_true_eq]
  constructor
  · intro q
    rcases q with q | q
    · exact ⟨by omega, q.2⟩
    · subst q
      exact ⟨by omega, hp⟩
  · intro ⟨q1, q2⟩
    by_cases q : c = i
    · exact Or.inr q
    · exact Or.inl ⟨by omega, q2⟩
theorem xd_no_bit {P : Nat → Prop} {x : Int32} {c : Nat} (h : ∀ i, i < 32 → (bt x i = true ↔ i < c ∧ P i)) (hp : ¬ P c) : ∀ i, i < 32 → (bt x i = true ↔ i < c + 1 ∧ P i) := by
  intro i hi
  rw [h i hi]
  constructor
  · intro ⟨q1, q2⟩
    exact ⟨by omega, q2⟩
  · intro ⟨q1, q2⟩
    by_cases q : i = c
    · subst q
      exact absurd q2 hp
    · exact ⟨by omega, q2⟩
end
section
/-! ===== PART 08: CrossDesk, its leaves: begin, act, counted, isOwn ===== -/
set_option maxRecDepth 100000
abbrev xR0 : Room := { frames := 0, cells := 0, slots := 0, locals := 0 }
abbrev xR1 : Room := { frames := 1, cells := 0, slots := 0, locals := 26 }
abbrev xR2 : Room := { frames := 2, cells := 0, slots := 0, locals := 50 }
section DeskLeaves
variable {p : Program} {l : Launch} {e : Env} {R : Room} {s : State} {m : MethodId} {args : Array Value} {below : List Frame} {meth : Method} {c : Code} {cells slots : Nat} {Q : State → Prop} {dC : Nat → ClassId} {dI : Nat → Nat → Nat} {A : Nat → Prop}
variable {h0 hf hs ho : Nat} {c1 c2 c3 : ClassId}
set_option maxHeartbeats 4000000 in
set_option maxRecDepth 100000 in
theorem lp_begin_in (C : xC p s m args meth c cX0_begin RX0 3 none) (hK : va_K (dC, dI) vwCl (xT c1 c2 c3) s) {n i : Nat} (hn : 2 ≤ n ∧ n ≤ 6) (hi : i < n) {k : Int32} {f g : Nat → Int32} {o1 : Nat → Int64}
    (exit : ∀ (H : Heap) (locs : List Loc) (o : Nat → Int64) (ls : Array Slot), (∀ j, j < 64 → xb (o i) j = (decide (j < 2 ^ n) && j.testBit i)) → (∀ j, j ≠ i → o j = o1 j) → va_P (dC, dI) vwCl (xW h0 hf hs ho c1 c2 c3 (nI n) k f g o) H → va_D A (xW h0 hf hs ho c1 c2 c3 (nI n) k f g o) → va_S A s.heap H locs → lv_has ls 3 [(0, .ref h0), (1, .int (nI i)), (2, .int (nI (2 ^ n)))] → W p l e R s m args below meth c H locs cells slots Q (F0 m 56 ls [])) :
    ∀ (d r : Nat), r ≤ 2 ^ n → 2 ^ n < r + d → ∀ (H : Heap) (locs : List Loc) (o : Nat → Int64) (ls : Array Slot), (∀ j, j < 64 → xb (o i) j = (decide (j < r) && j.testBit i)) → (∀ j, j ≠ i → o j = o1 j) → va_P (dC, dI) vwCl (xW h0 hf hs ho c1 c2 c3 (nI n) k f g o) H → va_D A (xW h0 hf hs ho c1 c2 c3 (nI n) k f g o) → va_S A s.heap H locs → lv_has ls 3 [(0, .ref h0), (1, .int (nI i)), (2, .int (nI r))] → W p l e R s m args below meth c H locs cells slots Q (F0 m 19 ls []) := by
  obtain ⟨hx, hb, hml, hr, hlk, hown, hts⟩ := id C
  have hp := xd_p64 hn.2
  intro d
  induction d with
  | zero => intro r h1 h2; exact absurd h2 (by omega)
  | succ d ih =>
    intro r hr1 hr2 H locs o ls i1 i2 hP hD hS hl
    refine lv_iload_n hx hb dX0_begin_19 rfl (lv_at hl 2 rfl) ?_
    refine lv_iconst (v := 1) hx hb dX0_begin_20 (by decide) ?_
    refine lv_aload_n hx hb dX0_begin_21 rfl (lv_at hl 0 rfl) ?_
    refine x0_wires C hK hP dX0_begin_22 ?_
    refine lv_ishl hx hb dX0_begin_25 ?_
    refine xd_top (y := nI (2 ^ n)) (xi_pow n (by omega)) ?_
    refine xd_ge C (by omega) (by omega) dX0_begin_26 (tgt := 56) (by decide) (fun hc => ?_) (fun hc => ?_)
    · obtain rfl : r = 2 ^ n := by omega
      exact exit H locs o ls i1 i2 hP hD hS hl
    · refine lv_iload_n hx hb dX0_begin_29 rfl (lv_at hl 2 rfl) ?_
      refine lv_iload_n hx hb dX0_begin_30 rfl (lv_at hl 1 rfl) ?_
      refine lv_ishr hx hb dX0_begin_31 ?_
      refine lv_iconst (v := 1) hx hb dX0_begin_32 (by decide) ?_
      refine lv_iand hx hb dX0_begin_33 ?_
      refine xd_top (y := nI (if r.testBit i then 1 else 0)) (xi_bit r (by omega) i (by omega)) ?_
      refine lv_iconst (v := nI 1) hx hb dX0_begin_34 (by decide) ?_
      refine xd_ne C (xd_bit_lt _) (by decide) dX0_begin_35 (tgt := 50) (by decide) (fun hc => ?_) (fun hc => ?_)
      · refine lv_iinc (v := nI (r + 1)) (lv' := [(2, .int (nI (r + 1))), (0, .ref h0), (1, .int (nI i))]) hx hb dX0_begin_50 hl (k := 2) rfl (xd_inc1 _) (by decide) rfl (fun ls hl => ?_)
        refine lv_goto (tgt := 19) hx hb dX0_begin_53 (by decide) ?_
        exact ih (r + 1) (by omega) (by omega) H locs o ls (xd_bg0 i1 (xd_bit_ne hc)) i2 hP hD hS (lv_sub hl [1, 2, 0] rfl)
      · refine lv_aload_n hx hb dX0_begin_38 rfl (lv_at hl 0 rfl) ?_
        refine x0_ones C hK hP dX0_begin_39 ?_
        refine lv_iload_n hx hb dX0_begin_42 rfl (lv_at hl 1 rfl) ?_
        refine lv_dup2_11 hx hb dX0_begin_43 rfl rfl ?_
        refine x0_o_ld C hK hP (by omega) rfl dX0_begin_44 ?_
        refine lv_lconst (v := 1) hx hb dX0_begin_45 (by decide) ?_
        refine lv_iload_n hx hb dX0_begin_46 rfl (lv_at hl 2 rfl) ?_
        refine lv_lshl (v := 1 <<< ((nI r).toInt64 &&& 63)) hx hb dX0_begin_47 rfl ?_
        refine lv_lor hx hb dX0_begin_48 ?_
        refine x0_o_st C hK hP hD hS (by omega) dX0_begin_49 (fun H locs hP hD hS => ?_)
        refine lv_iinc (v := nI (r + 1)) (lv' := [(2, .int (nI (r + 1))), (0, .ref h0), (1, .int (nI i))]) hx hb dX0_begin_50 hl (k := 2) rfl (xd_inc1 _) (by decide) rfl (fun ls hl => ?_)
        refine lv_goto (tgt := 19) hx hb dX0_begin_53 (by decide) ?_
        refine ih (r + 1) (by omega) (by omega) H locs _ ls ?_ ?_ hP hD hS (lv_sub hl [1, 2, 0] rfl)
        · rw [pk_uLs]
          exact xd_bg1 (by omega) i1 (xd_bit_eq hc)
        · intro j hj
          rw [pk_uLn hj]
          exact i2 j hj
set_option maxHeartbeats 4000000 in
set_option maxRecDepth 100000 in
theorem lp_begin (C : xC p s m args meth c cX0_begin RX0 3 none) (hK : va_K (dC, dI) vwCl (xT c1 c2 c3) s) {n : Nat} (hn : 2 ≤ n ∧ n ≤ 6) {k : Int32} {f g : Nat → Int32}
    (exit : ∀ (H : Heap) (locs : List Loc) (o : Nat → Int64) (ls : Array Slot), xdBeg n o → va_P (dC, dI) vwCl (xW h0 hf hs ho c1 c2 c3 (nI n) k f g o) H → va_D A (xW h0 hf hs ho c1 c2 c3 (nI n) k f g o) → va_S A s.heap H locs → W p l e R s m args below meth c H locs cells slots Q (F0 m 62 ls [])) :
    ∀ (d i : Nat), i ≤ n → n < i + d → ∀ (H : Heap) (locs : List Loc) (o : Nat → Int64) (ls : Array Slot), (∀ a, a < i → ∀ j, j < 64 → xb (o a) j = (decide (j < 2 ^ n) && j.testBit a)) → va_P (dC, dI) vwCl (xW h0 hf hs ho c1 c2 c3 (nI n) k f g o) H → va_D A (xW h0 hf hs ho c1 c2 c3 (nI n) k f g o) → va_S A s.heap H locs → lv_has ls 3 [(0, .ref h0), (1, .int (nI i))] → W p l e R s m args below meth c H locs cells slots Q (F0 m 2 ls []) := by
  obtain ⟨hx, hb, hml, hr, hlk, hown, hts⟩ := id C
  intro d
  induction d with
  | zero => intro i h1 h2; exact absurd h2 (by omega)
  | succ d ih =>
    intro i hi1 hi2 H locs o ls i1 hP hD hS hl
    refine lv_iload_n hx hb dX0_begin_2 rfl (lv_at hl 1 rfl) ?_
    refine lv_aload_n hx hb dX0_begin_3 rfl (lv_at hl 0 rfl) ?_
    refine x0_wires C hK hP dX0_begin_4 ?_
    refine xd_ge C (by omega) (by omega) dX0_begin_7 (tgt := 62) (by decide) (fun hc => ?_) (fun hc => ?_)
    · obtain rfl : i = n := by omega
      exact exit H locs o ls i1 hP hD hS
    · refine lv_aload_n hx hb dX0_begin_10 rfl (lv_at hl 0 rfl) ?_
      refine x0_ones C hK hP dX0_begin_11 ?_
      refine lv_iload_n hx hb dX0_begin_14 rfl (lv_at hl 1 rfl) ?_
      refine lv_lconst (v := 0) hx hb dX0_begin_15 (by decide) ?_
      refine x0_o_st C hK hP hD hS (by omega) dX0_begin_16 (fun H locs hP hD hS => ?_)
      refine lv_iconst (v := nI 0) hx hb dX0_begin_17 (by decide) ?_
      refine lv_istore_n (lv' := [(2, .int (nI 0)), (0, .ref h0), (1, .int (nI i))]) hx hb dX0_begin_18 rfl hl (by decide) rfl (fun ls hl => ?_)
      refine lp_begin_in C hK hn hc (o1 := vp_updL o i 0) ?_ (2 ^ n + 1) 0 (Nat.zero_le _) (by omega) H locs _ ls ?_ (fun j _ => rfl) hP hD hS (lv_sub hl [1, 2, 0] rfl)
      · intro H locs o2 ls j1 j2 hP hD hS hl
        refine lv_iinc (v := nI (i + 1)) (lv' := [(1, .int (nI (i + 1))), (0, .ref h0), (2, .int (nI (2 ^ n)))]) hx hb dX0_begin_56 hl (k := 1) rfl (xd_inc1 _) (by decide) rfl (fun ls hl => ?_)
        refine lv_goto (tgt := 2) hx hb dX0_begin_59 (by decide) ?_
        refine ih (i + 1) (by omega) (by omega) H locs o2 ls ?_ hP hD hS (lv_sub hl [1, 0] rfl)
        intro a ha j hj
        by_cases q : a = i
        · rw [q]
          exact j1 j hj
        · rw [j2 a q, pk_uLn q]
          exact i1 a (by omega) j hj
      · intro j hj
        rw [pk_uLs, xb_0]
        simp
end DeskLeaves
set_option maxHeartbeats 4000000 in
set_option maxRecDepth 100000 in
/-- begin(): row r brings bit i of r to wire i -/
theorem met_begin (l : Launch) (dC : Nat → ClassId) (dI : Nat → Nat → Nat) (h0 hf hs ho : Nat) (c1 c2 c3 : ClassId) (z : Nat) (n : Nat) (hn : 2 ≤ n ∧ n ≤ 6) (k : Int32) (f g : Nat → Int32) (o : Nat → Int64) : xMv l yX0_begin cX0_begin 3 xR0 dC dI (xT c1 c2 c3) [.ref h0] (xW h0 hf hs ho c1 c2 c3 (nI n) k f g o) z (fun o' : Nat → Int64 => xdBeg n o') (fun o' : Nat → Int64 => xW h0 hf hs ho c1 c2 c3 (nI n) k f g o') := by
  refine xd_start (xQv dC dI (xT c1 c2 c3) (fun o' : Nat → Int64 => xdBeg n o') (fun o' : Nat → Int64 => xW h0 hf hs ho c1 c2 c3 (nI n) k f g o')) (by decide) (Nat.le_of_ble_eq_true rfl) ?_
  intro p e s m below meth c A ls C hnm hA hP hK hD hS hl
  have C : xC p s m _ meth c cX0_begin RX0 3 none := C
  obtain ⟨hx, hb, hml, hr, hlk, hown, hts⟩ := id C
  have hl : lv_has ls 3 [(0, .ref h0)] := hl
  refine lv_iconst (v := nI 0) hx hb dX0_begin_0 (by decide) ?_
  refine lv_istore_n (lv' := [(1, .int (nI 0)), (0, .ref h0)]) hx hb dX0_begin_1 rfl hl (by decide) rfl (fun ls hl => ?_)
  refine lp_begin C hK hn ?_ (n + 1) 0 (Nat.zero_le _) (by omega) _ _ o ls (fun a h => absurd h (Nat.not_lt_zero a)) hP hD hS (lv_sub hl [1, 0] rfl)
  intro H locs o' ls hbeg hP hD hS
  exact xd_vret C hK o' hbeg hP hD hS dX0_begin_62
set_option maxHeartbeats 4000000 in
set_option maxRecDepth 100000 in
/-- act(c): the smaller of the two rows to the first wire, the greater to the second; whether that changes the first -/
theorem met_act (l : Launch) (dC : Nat → ClassId) (dI : Nat → Nat → Nat) (h0 hf hs ho : Nat) (c1 c2 c3 : ClassId) (z : Nat) (w k : Int32) (f g : Nat → Int32) (o : Nat → Int64) (ci a b : Nat) (hci : ci < 48) (ha : a < 6) (hb0 : b < 6) (hab : a ≠ b) (ea : f ci = nI a) (eb : g ci = nI b) : xMi l yX0_act cX0_act 7 (some .boolean) xR0 dC dI (xT c1 c2 c3) [.ref h0, .int (nI ci)] (xW h0 hf hs ho c1 c2 c3 w k f g o) z (fun (r : Int32) (o' : Nat → Int64) => o' = vp_updL (vp_updL o b (o b ||| o a)) a (o a &&& o b) ∧ ((r = 0 ∧ o a &&& o b = o a) ∨ (r = 1 ∧ o a &&& o b ≠ o a))) (fun o' : Nat → Int64 => xW h0 hf hs ho c1 c2 c3 w k f g o') := by
  refine xd_start (xQi dC dI (xT c1 c2 c3) (fun (r : Int32) (o' : Nat → Int64) => o' = vp_updL (vp_updL o b (o b ||| o a)) a (o a &&& o b) ∧ ((r = 0 ∧ o a &&& o b = o a) ∨ (r = 1 ∧ o a &&& o b ≠ o a))) (fun o' : Nat → Int64 => xW h0 hf hs ho c1 c2 c3 w k f g o')) (by decide) (Nat.le_of_ble_eq_true rfl) ?_
  intro p e s m below meth c A ls C hnm hA hP hK hD hS hl
  have C : xC p s m _ meth c cX0_act RX0 7 (some .boolean) := C
  obtain ⟨hx, hb, hml, hr, hlk, hown, hts⟩ := id C
  have hl : lv_has ls 7 [(0, .ref h0), (1, .int (nI ci))] := hl
  refine lv_aload_n hx hb dX0_act_0 rfl (lv_at hl 0 rfl) ?_
  refine x0_first C hK hP dX0_act_1 ?_
  refine lv_iload_n hx hb dX0_act_4 rfl (lv_at hl 1 rfl) ?_
  refine x0_f_ld C hK hP hci ea dX0_act_5 ?_
  refine lv_istore_n (lv' := [(2, .int (nI a)), (0, .ref h0), (1, .int (nI ci))]) hx hb dX0_act_6 rfl hl (by decide) rfl (fun ls hl => ?_)
  refine lv_aload_n hx hb dX0_act_7 rfl (lv_at hl 1 rfl) ?_
  refine x0_second C hK hP dX0_act_8 ?_
  refine lv_iload_n hx hb dX0_act_11 rfl (lv_at hl 2 rfl) ?_
  refine x0_g_ld C hK hP hci eb dX0_act_12 ?_
  refine lv_istore_n (lv' := [(3, .int (nI b)), (2, .int (nI a)), (0, .ref h0), (1, .int (nI ci))]) hx hb dX0_act_13 rfl hl (by decide) rfl (fun ls hl => ?_)
  refine lv_aload_n hx hb dX0_act_14 rfl (lv_at hl 2 rfl) ?_
  refine x0_ones C hK hP dX0_act_15 ?_
  refine lv_iload_n hx hb dX0_act_18 rfl (lv_at hl 1 rfl) ?_
  refine x0_o_ld C hK hP ha rfl dX0_act_19 ?_
  refine lv_aload_n hx hb dX0_act_20 rfl (lv_at hl 2 rfl) ?_
  refine x0_ones C hK hP dX0_act_21 ?_
  refine lv_iload_n hx hb dX0_act_24 rfl (lv_at hl 0 rfl) ?_
  refine x0_o_ld C hK hP hb0 rfl dX0_act_25 ?_
  refine lv_land hx hb dX0_act_26 ?_
  refine lv_lstore (lv' := [(4, .long ((o a) &&& (o b))), (3, .int (nI b)), (2, .int (nI a)), (0, .ref h0), (1, .int (nI ci))]) hx hb dX0_act_27 hl (by decide) rfl (fun ls hl => ?_)
  refine lv_lload hx hb dX0_act_29 (lv_at hl 0 rfl) ?_
  refine lv_aload_n hx hb dX0_act_31 rfl (lv_at hl 3 rfl) ?_
  refine x0_ones C hK hP dX0_act_32 ?_
  refine lv_iload_n hx hb dX0_act_35 rfl (lv_at hl 2 rfl) ?_
  refine x0_o_ld C hK hP ha rfl dX0_act_36 ?_
  refine W.lcmp hx hb dX0_act_37 ?_
  refine lv_if_eq (tgt := 45) hx hb dX0_act_38 (by decide) (fun hc => ?_) (fun hc => ?_)
  · refine lv_iconst (v := nI 0) hx hb dX0_act_45 (by decide) ?_
    refine lv_istore (lv' := [(6, .int (nI 0)), (4, .long ((o a) &&& (o b))), (3, .int (nI b)), (2, .int (nI a)), (0, .ref h0), (1, .int (nI ci))]) hx hb dX0_act_46 hl (by decide) rfl (fun ls hl => ?_)
    refine lv_aload_n hx hb dX0_act_48 rfl (lv_at hl 4 rfl) ?_
    refine x0_ones C hK hP dX0_act_49 ?_
    refine lv_iload_n hx hb dX0_act_52 rfl (lv_at hl 2 rfl) ?_
    refine lv_dup2_11 hx hb dX0_act_53 rfl rfl ?_
    refine x0_o_ld C hK hP hb0 rfl dX0_act_54 ?_
    refine lv_aload_n hx hb dX0_act_55 rfl (lv_at hl 4 rfl) ?_
    refine x0_ones C hK hP dX0_act_56 ?_
    refine lv_iload_n hx hb dX0_act_59 rfl (lv_at hl 3 rfl) ?_
    refine x0_o_ld C hK hP ha rfl dX0_act_60 ?_
    refine lv_lor hx hb dX0_act_61 ?_
    refine x0_o_st C hK hP hD hS hb0 dX0_act_62 (fun H locs hP hD hS => ?_)
    refine lv_aload_n hx hb dX0_act_63 rfl (lv_at hl 4 rfl) ?_
    refine x0_ones C hK hP dX0_act_64 ?_
    refine lv_iload_n hx hb dX0_act_67 rfl (lv_at hl 3 rfl) ?_
    refine lv_lload hx hb dX0_act_68 (lv_at hl 1 rfl) ?_
    refine x0_o_st C hK hP hD hS ha dX0_act_70 (fun H locs hP hD hS => ?_)
    refine lv_iload hx hb dX0_act_71 (lv_at hl 0 rfl) ?_
    exact xd_zret C (Or.inl rfl) hK _ ⟨rfl, Or.inl ⟨rfl, (lg_cmp_eq _ _).mp hc⟩⟩ hP hD hS dX0_act_73
  · refine lv_iconst (v := nI 1) hx hb dX0_act_41 (by decide) ?_
    refine lv_goto (tgt := 46) hx hb dX0_act_42 (by decide) ?_
    refine lv_istore (lv' := [(6, .int (nI 1)), (4, .long ((o a) &&& (o b))), (3, .int (nI b)), (2, .int (nI a)), (0, .ref h0), (1, .int (nI ci))]) hx hb dX0_act_46 hl (by decide) rfl (fun ls hl => ?_)
    refine lv_aload_n hx hb dX0_act_48 rfl (lv_at hl 4 rfl) ?_
    refine x0_ones C hK hP dX0_act_49 ?_
    refine lv_iload_n hx hb dX0_act_52 rfl (lv_at hl 2 rfl) ?_
    refine lv_dup2_11 hx hb dX0_act_53 rfl rfl ?_
    refine x0_o_ld C hK hP hb0 rfl dX0_act_54 ?_
    refine lv_aload_n hx hb dX0_act_55 rfl (lv_at hl 4 rfl) ?_
    refine x0_ones C hK hP dX0_act_56 ?_
    refine lv_iload_n hx hb dX0_act_59 rfl (lv_at hl 3 rfl) ?_
    refine x0_o_ld C hK hP ha rfl dX0_act_60 ?_
    refine lv_lor hx hb dX0_act_61 ?_
    refine x0_o_st C hK hP hD hS hb0 dX0_act_62 (fun H locs hP hD hS => ?_)
    refine lv_aload_n hx hb dX0_act_63 rfl (lv_at hl 4 rfl) ?_
    refine x0_ones C hK hP dX0_act_64 ?_
    refine lv_iload_n hx hb dX0_act_67 rfl (lv_at hl 3 rfl) ?_
    refine lv_lload hx hb dX0_act_68 (lv_at hl 1 rfl) ?_
    refine x0_o_st C hK hP hD hS ha dX0_act_70 (fun H locs hP hD hS => ?_)
    refine lv_iload hx hb dX0_act_71 (lv_at hl 0 rfl) ?_
    exact xd_zret C (Or.inr rfl) hK _ ⟨rfl, Or.inr ⟨rfl, fun q => hc ((lg_cmp_eq _ _).mpr q)⟩⟩ hP hD hS dX0_act_73
set_option maxHeartbeats 4000000 in
set_option maxRecDepth 100000 in
/-- counted(v, n): v without its sign, by n -/
theorem met_counted (l : Launch) (dC : Nat → ClassId) (dI : Nat → Nat → Nat) (z : Nat) (v : Int32) (n : Nat) (h0 : 0 < n) (hn : n < 2 ^ 31) : xMi l yX0_counted cX0_counted 2 (some .int) xR0 dC dI [] [.int v, .int (nI n)] [] z (fun (r : Int32) (_ : Unit) => r = nI (xdCn v n)) (fun _ : Unit => []) := by
  refine xd_start (xQi dC dI [] (fun (r : Int32) (_ : Unit) => r = nI (xdCn v n)) (fun _ : Unit => [])) (by decide) (Nat.le_of_ble_eq_true rfl) ?_
  intro p e s m below meth c A ls C hnm hA hP hK hD hS hl
  have C : xC p s m _ meth c cX0_counted RX0 2 (some .int) := C
  obtain ⟨hx, hb, hml, hr, hlk, hown, hts⟩ := id C
  have hl : lv_has ls 2 [(0, .int v), (1, .int (nI n))] := hl
  refine lv_iload_n hx hb dX0_counted_0 rfl (lv_at hl 0 rfl) ?_
  refine lv_ldc (v := 2147483647) hx hb hown (hts _ q43) dX0_counted_1 ?_
  refine lv_iand hx hb dX0_counted_3 ?_
  refine lv_iload_n hx hb dX0_counted_4 rfl (lv_at hl 1 rfl) ?_
  refine lv_irem hx hb dX0_counted_5 (nI_ne0 h0 hn) ?_
  refine xd_top (y := nI (xdCn v n)) (xd_cn v h0 hn) ?_
  exact xd_iret C hK () rfl hP hD hS dX0_counted_6
section DeskOwn
variable {p : Program} {l : Launch} {e : Env} {R : Room} {s : State} {m : MethodId} {args : Array Value} {below : List Frame} {meth : Method} {c : Code} {cells slots : Nat} {Q : State → Prop} {dC : Nat → ClassId} {dI : Nat → Nat → Nat} {A : Nat → Prop}
variable {h0 hf hs ho : Nat} {c1 c2 c3 : ClassId}
set_option maxHeartbeats 4000000 in
set_option maxRecDepth 100000 in
theorem lp_isOwn_in (C : xC p s m args meth c cX0_isOwn RX0 5 (some .boolean)) (hK : va_K (dC, dI) vwCl (xT c1 c2 c3) s) {n wi r : Nat} (hn : 2 ≤ n ∧ n ≤ 6) (hr0 : r < 2 ^ n) {k : Int32} {f g : Nat → Int32} {o : Nat → Int64} {H : Heap} {locs : List Loc} (hP : va_P (dC, dI) vwCl (xW h0 hf hs ho c1 c2 c3 (nI n) k f g o) H)
    (exit : ∀ (ls : Array Slot), lv_has ls 5 [(0, .ref h0), (1, .int (nI wi)), (2, .int (nI r)), (3, .int (nI (xdNz r n)))] → W p l e R s m args below meth c H locs cells slots Q (F0 m 44 ls [])) :
    ∀ (d j : Nat), j ≤ n → n < j + d → ∀ (ls : Array Slot), lv_has ls 5 [(0, .ref h0), (1, .int (nI wi)), (2, .int (nI r)), (3, .int (nI (n - j + xdNz r j))), (4, .int (nI j))] → W p l e R s m args below meth c H locs cells slots Q (F0 m 20 ls []) := by
  obtain ⟨hx, hb, hml, hr, hlk, hown, hts⟩ := id C
  have hp := xd_p64 hn.2
  intro d
  induction d with
  | zero => intro j h1 h2; exact absurd h2 (by omega)
  | succ d ih =>
    intro j hj1 hj2 ls hl
    refine lv_iload hx hb dX0_isOwn_20 (lv_at hl 4 rfl) ?_
    refine lv_aload_n hx hb dX0_isOwn_22 rfl (lv_at hl 0 rfl) ?_
    refine x0_wires C hK hP dX0_isOwn_23 ?_
    refine xd_ge C (by omega) (by omega) dX0_isOwn_26 (tgt := 44) (by decide) (fun hc => ?_) (fun hc => ?_)
    · obtain rfl : j = n := by omega
      have e1 : j - j + xdNz r j = xdNz r j := by omega
      rw [e1] at hl
      exact exit ls (lv_sub hl [0, 1, 2, 3] rfl)
    · refine lv_iload_n hx hb dX0_isOwn_29 rfl (lv_at hl 3 rfl) ?_
      refine lv_iload_n hx hb dX0_isOwn_30 rfl (lv_at hl 2 rfl) ?_
      refine lv_iload hx hb dX0_isOwn_31 (lv_at hl 4 rfl) ?_
      refine lv_ishr hx hb dX0_isOwn_33 ?_
      refine lv_iconst (v := 1) hx hb dX0_isOwn_34 (by decide) ?_
      refine lv_iand hx hb dX0_isOwn_35 ?_
      refine xd_top (y := nI (if r.testBit j then 1 else 0)) (xi_bit r (by omega) j (by omega)) ?_
      refine lv_isub hx hb dX0_isOwn_36 ?_
      refine xd_top (y := nI (n - (j + 1) + xdNz r (j + 1))) (xd_nz_step hc) ?_
      refine lv_istore_n (lv' := [(3, .int (nI (n - (j + 1) + xdNz r (j + 1)))), (0, .ref h0), (1, .int (nI wi)), (2, .int (nI r)), (4, .int (nI j))]) hx hb dX0_isOwn_37 rfl hl (by decide) rfl (fun ls hl => ?_)
      refine lv_iinc (v := nI (j + 1)) (lv' := [(4, .int (nI (j + 1))), (3, .int (nI (n - (j + 1) + xdNz r (j + 1)))), (0, .ref h0), (1, .int (nI wi)), (2, .int (nI r))]) hx hb dX0_isOwn_38 hl (k := 4) rfl (xd_inc1 _) (by decide) rfl (fun ls hl => ?_)
      refine lv_goto (tgt := 20) hx hb dX0_isOwn_41 (by decide) ?_
      exact ih (j + 1) (by omega) (by omega) ls (lv_sub hl [2, 3, 4, 1, 0] rfl)
set_option maxHeartbeats 4000000 in
set_option maxRecDepth 100000 in
theorem lp_isOwn (C : xC p s m args meth c cX0_isOwn RX0 5 (some .boolean)) (hK : va_K (dC, dI) vwCl (xT c1 c2 c3) s) {n wi : Nat} (hn : 2 ≤ n ∧ n ≤ 6) (hw : wi < 6) {k : Int32} {f g : Nat → Int32} {o : Nat → Int64} {H : Heap} {locs : List Loc} (hP : va_P (dC, dI) vwCl (xW h0 hf hs ho c1 c2 c3 (nI n) k f g o) H)
    (yes : ∀ (ls : Array Slot), (∀ r, r < 2 ^ n → xb (o wi) r = decide (xdNz r n ≤ wi)) → W p l e R s m args below meth c H locs cells slots Q (F0 m 86 ls [.int 1]))
    (no : ∀ (ls : Array Slot), ¬ (∀ r, r < 2 ^ n → xb (o wi) r = decide (xdNz r n ≤ wi)) → W p l e R s m args below meth c H locs cells slots Q (F0 m 78 ls [.int 0])) :
    ∀ (d r : Nat), r ≤ 2 ^ n → 2 ^ n < r + d → ∀ (ls : Array Slot), (∀ j, j < r → xb (o wi) j = decide (xdNz j n ≤ wi)) → lv_has ls 5 [(0, .ref h0), (1, .int (nI wi)), (2, .int (nI r))] → W p l e R s m args below meth c H locs cells slots Q (F0 m 2 ls []) := by
  obtain ⟨hx, hb, hml, hr, hlk, hown, hts⟩ := id C
  have hp := xd_p64 hn.2
  intro d
  induction d with
  | zero => intro r h1 h2; exact absurd h2 (by omega)
  | succ d ih =>
    intro r hr1 hr2 ls i1 hl
    refine lv_iload_n hx hb dX0_isOwn_2 rfl (lv_at hl 2 rfl) ?_
    refine lv_iconst (v := 1) hx hb dX0_isOwn_3 (by decide) ?_
    refine lv_aload_n hx hb dX0_isOwn_4 rfl (lv_at hl 0 rfl) ?_
    refine x0_wires C hK hP dX0_isOwn_5 ?_
    refine lv_ishl hx hb dX0_isOwn_8 ?_
    refine xd_top (y := nI (2 ^ n)) (xi_pow n (by omega)) ?_
    refine xd_ge C (by omega) (by omega) dX0_isOwn_9 (tgt := 85) (by decide) (fun hc => ?_) (fun hc => ?_)
    · obtain rfl : r = 2 ^ n := by omega
      refine lv_iconst (v := 1) hx hb dX0_isOwn_85 (by decide) ?_
      exact yes ls i1
    · refine lv_aload_n hx hb dX0_isOwn_12 rfl (lv_at hl 0 rfl) ?_
      refine x0_wires C hK hP dX0_isOwn_13 ?_
      refine lv_istore_n (lv' := [(3, .int (nI n)), (0, .ref h0), (1, .int (nI wi)), (2, .int (nI r))]) hx hb dX0_isOwn_16 rfl hl (by decide) rfl (fun ls hl => ?_)
      refine lv_iconst (v := nI 0) hx hb dX0_isOwn_17 (by decide) ?_
      refine lv_istore (lv' := [(4, .int (nI 0)), (3, .int (nI n)), (0, .ref h0), (1, .int (nI wi)), (2, .int (nI r))]) hx hb dX0_isOwn_18 hl (by decide) rfl (fun ls hl => ?_)
      have e0 : nI n = nI (n - 0 + xdNz r 0) := rfl
      rw [e0] at hl
      refine lp_isOwn_in C hK hn hc hP ?_ (n + 1) 0 (Nat.zero_le _) (by omega) ls (lv_sub hl [2, 3, 4, 1, 0] rfl)
      intro ls hl
      have hz := xd_nz_le r n
      refine lv_aload_n hx hb dX0_isOwn_44 rfl (lv_at hl 0 rfl) ?_
      refine x0_ones C hK hP dX0_isOwn_45 ?_
      refine lv_iload_n hx hb dX0_isOwn_48 rfl (lv_at hl 1 rfl) ?_
      refine x0_o_ld C hK hP hw rfl dX0_isOwn_49 ?_
      refine lv_iload_n hx hb dX0_isOwn_50 rfl (lv_at hl 2 rfl) ?_
      refine lv_lshr (v := (o wi) >>> ((nI r).toInt64 &&& 63)) hx hb dX0_isOwn_51 rfl ?_
      refine lv_lconst (v := 1) hx hb dX0_isOwn_52 (by decide) ?_
      refine lv_land hx hb dX0_isOwn_53 ?_
      refine lv_lconst (v := 1) hx hb dX0_isOwn_54 (by decide) ?_
      refine W.lcmp hx hb dX0_isOwn_55 ?_
      refine lv_if_ne (tgt := 63) hx hb dX0_isOwn_56 (by decide) (fun hb1 => ?_) (fun hb1 => ?_)
      · refine lv_iconst (v := 0) hx hb dX0_isOwn_63 (by decide) ?_
        refine lv_iload_n hx hb dX0_isOwn_64 rfl (lv_at hl 3 rfl) ?_
        refine lv_iload_n hx hb dX0_isOwn_65 rfl (lv_at hl 1 rfl) ?_
        refine xd_gt C (by omega) (by omega) dX0_isOwn_66 (tgt := 73) (by decide) (fun hz1 => ?_) (fun hz1 => ?_)
        · refine lv_iconst (v := 0) hx hb dX0_isOwn_73 (by decide) ?_
          refine lv_icmp_eq (tgt := 79) hx hb dX0_isOwn_74 (by decide) (fun hq => ?_) (fun hq => ?_)
          · refine lv_iinc (v := nI (r + 1)) (lv' := [(2, .int (nI (r + 1))), (0, .ref h0), (1, .int (nI wi)), (3, .int (nI (xdNz r n)))]) hx hb dX0_isOwn_79 hl (k := 2) rfl (xd_inc1 _) (by decide) rfl (fun ls hl => ?_)
            refine lv_goto (tgt := 2) hx hb dX0_isOwn_82 (by decide) ?_
            refine ih (r + 1) (by omega) (by omega) ls (lt_s i1 ?_) (lv_sub hl [1, 2, 0] rfl)
            rw [decide_eq_false (by omega)]
            exact Bool.eq_false_iff.mpr (fun q => hb1 ((lg_cmp_eq _ _).mpr ((xb_shr _ (by omega)).mpr q)))
          · exact absurd rfl hq
        · refine lv_iconst (v := 1) hx hb dX0_isOwn_69 (by decide) ?_
          refine lv_goto (tgt := 74) hx hb dX0_isOwn_70 (by decide) ?_
          refine lv_icmp_eq (tgt := 79) hx hb dX0_isOwn_74 (by decide) (fun hq => ?_) (fun hq => ?_)
          · exact absurd hq (by decide)
          · refine lv_iconst (v := 0) hx hb dX0_isOwn_77 (by decide) ?_
            refine no ls (fun q => hb1 ((lg_cmp_eq _ _).mpr ((xb_shr _ (by omega)).mpr ?_)))
            rw [q r hc]
            exact decide_eq_true (by omega)
      · refine lv_iconst (v := 1) hx hb dX0_isOwn_59 (by decide) ?_
        refine lv_goto (tgt := 64) hx hb dX0_isOwn_60 (by decide) ?_
        refine lv_iload_n hx hb dX0_isOwn_64 rfl (lv_at hl 3 rfl) ?_
        refine lv_iload_n hx hb dX0_isOwn_65 rfl (lv_at hl 1 rfl) ?_
        refine xd_gt C (by omega) (by omega) dX0_isOwn_66 (tgt := 73) (by decide) (fun hz1 => ?_) (fun hz1 => ?_)
        · refine lv_iconst (v := 0) hx hb dX0_isOwn_73 (by decide) ?_
          refine lv_icmp_eq (tgt := 79) hx hb dX0_isOwn_74 (by decide) (fun hq => ?_) (fun hq => ?_)
          · exact absurd hq (by decide)
          · refine lv_iconst (v := 0) hx hb dX0_isOwn_77 (by decide) ?_
            refine no ls (fun q => ?_)
            have h5 := (xb_shr _ (by omega)).mp ((lg_cmp_eq _ _).mp hb1)
            rw [q r hc] at h5
            exact absurd (of_decide_eq_true h5) (by omega)
        · refine lv_iconst (v := 1) hx hb dX0_isOwn_69 (by decide) ?_
          refine lv_goto (tgt := 74) hx hb dX0_isOwn_70 (by decide) ?_
          refine lv_icmp_eq (tgt := 79) hx hb dX0_isOwn_74 (by decide) (fun hq => ?_) (fun hq => ?_)
          · refine lv_iinc (v := nI (r + 1)) (lv' := [(2, .int (nI (r + 1))), (0, .ref h0), (1, .int (nI wi)), (3, .int (nI (xdNz r n)))]) hx hb dX0_isOwn_79 hl (k := 2) rfl (xd_inc1 _) (by decide) rfl (fun ls hl => ?_)
            refine lv_goto (tgt := 2) hx hb dX0_isOwn_82 (by decide) ?_
            refine ih (r + 1) (by omega) (by omega) ls (lt_s i1 ?_) (lv_sub hl [1, 2, 0] rfl)
            rw [decide_eq_true (by omega)]
            exact (xb_shr _ (by omega)).mp ((lg_cmp_eq _ _).mp hb1)
          · exact absurd rfl hq
end DeskOwn
set_option maxHeartbeats 4000000 in
set_option maxRecDepth 100000 in
/-- isOwn(w): whether wire w carries a one just in the rows of at most w noughts -/
theorem met_isOwn (l : Launch) (dC : Nat → ClassId) (dI : Nat → Nat → Nat) (h0 hf hs ho : Nat) (c1 c2 c3 : ClassId) (z : Nat) (n : Nat) (hn : 2 ≤ n ∧ n ≤ 6) (k : Int32) (f g : Nat → Int32) (o : Nat → Int64) (wi : Nat) (hw : wi < 6) : xMi l yX0_isOwn cX0_isOwn 5 (some .boolean) xR0 dC dI (xT c1 c2 c3) [.ref h0, .int (nI wi)] (xW h0 hf hs ho c1 c2 c3 (nI n) k f g o) z (fun (r : Int32) (_ : Unit) => (r = 1 ∧ ∀ q, q < 2 ^ n → xb (o wi) q = decide (xdNz q n ≤ wi)) ∨ (r = 0 ∧ ¬ ∀ q, q < 2 ^ n → xb (o wi) q = decide (xdNz q n ≤ wi))) (fun _ : Unit => xW h0 hf hs ho c1 c2 c3 (nI n) k f g o) := by
  refine xd_start (xQi dC dI (xT c1 c2 c3) (fun (r : Int32) (_ : Unit) => (r = 1 ∧ ∀ q, q < 2 ^ n → xb (o wi) q = decide (xdNz q n ≤ wi)) ∨ (r = 0 ∧ ¬ ∀ q, q < 2 ^ n → xb (o wi) q = decide (xdNz q n ≤ wi))) (fun _ : Unit => xW h0 hf hs ho c1 c2 c3 (nI n) k f g o)) (by decide) (Nat.le_of_ble_eq_true rfl) ?_
  intro p e s m below meth c A ls C hnm hA hP hK hD hS hl
  have C : xC p s m _ meth c cX0_isOwn RX0 5 (some .boolean) := C
  obtain ⟨hx, hb, hml, hr, hlk, hown, hts⟩ := id C
  have hl : lv_has ls 5 [(0, .ref h0), (1, .int (nI wi))] := hl
  refine lv_iconst (v := nI 0) hx hb dX0_isOwn_0 (by decide) ?_
  refine lv_istore_n (lv' := [(2, .int (nI 0)), (0, .ref h0), (1, .int (nI wi))]) hx hb dX0_isOwn_1 rfl hl (by decide) rfl (fun ls hl => ?_)
  refine lp_isOwn C hK hn hw hP ?_ ?_ (2 ^ n + 1) 0 (Nat.zero_le _) (by omega) ls lt_0 (lv_sub hl [1, 2, 0] rfl)
  · intro ls h
    exact xd_zret C (Or.inr rfl) hK () (Or.inl ⟨rfl, h⟩) hP hD hS dX0_isOwn_86
  · intro ls h
    exact xd_zret C (Or.inl rfl) hK () (Or.inr ⟨rfl, h⟩) hP hD hS dX0_isOwn_78
end
section
/-! ===== PART 09: CrossDesk, its other methods ===== -/
set_option maxRecDepth 100000
theorem xi_byte : ∀ x, x < 6 → (nI x).toInt8.toInt32 = nI x := by decide +kernel
theorem xi_nar {x : Nat} (h : x < 6) : vp_nar .byte (nI x) = nI x := by rw [vp_nar_byte, xi_byte x h]
theorem xi_nodd (i : Nat) (hi : i < 32) : (bt 0 i = true ↔ i < 0 ∧ True) := by rw [b_0]; simp
section DeskAll
variable {p : Program} {l : Launch} {e : Env} {R : Room} {s : State} {m : MethodId} {args : Array Value} {below : List Frame} {meth : Method} {c : Code} {cells slots : Nat} {Q : State → Prop} {dC : Nat → ClassId} {dI : Nat → Nat → Nat} {A : Nat → Prop}
variable {h0 hf hs ho : Nat} {c1 c2 c3 : ClassId}
set_option maxHeartbeats 4000000 in
set_option maxRecDepth 100000 in
theorem lp_actAll (C : xC p s m args meth c cX0_actAll RX0 2 none) (hK : va_K (dC, dI) vwCl (xT c1 c2 c3) s) (hA : ∀ q : Nat, s.heap.size ≤ q → A q) {n N : Nat} {Na Nb : Nat → Nat} (hok : xdOK n N Na Nb) {f g : Nat → Int32} (ea : ∀ i, i < N → f i = nI (Na i)) (eb : ∀ i, i < N → g i = nI (Nb i)) {o0 : Nat → Int64}
    (exit : ∀ (H : Heap) (locs : List Loc) (o : Nat → Int64) (ls : Array Slot), (∀ i, i < n → o i = xdLn Na Nb o0 N i) → va_P (dC, dI) vwCl (xW h0 hf hs ho c1 c2 c3 (nI n) (nI N) f g o) H → va_D A (xW h0 hf hs ho c1 c2 c3 (nI n) (nI N) f g o) → va_S A s.heap H locs → W p l e xR1 s m args below meth c H locs 0 0 Q (F0 m 26 ls [])) :
    ∀ (d ci : Nat), ci ≤ N → N < ci + d → ∀ (H : Heap) (locs : List Loc) (o : Nat → Int64) (ls : Array Slot), (∀ i, i < n → o i = xdLn Na Nb o0 ci i) → va_P (dC, dI) vwCl (xW h0 hf hs ho c1 c2 c3 (nI n) (nI N) f g o) H → va_D A (xW h0 hf hs ho c1 c2 c3 (nI n) (nI N) f g o) → va_S A s.heap H locs → lv_has ls 2 [(0, .ref h0), (1, .int (nI ci))] → W p l e xR1 s m args below meth c H locs 0 0 Q (F0 m 6 ls []) := by
  obtain ⟨hx, hb, hml, hr, hlk, hown, hts⟩ := id C
  have hn6 := hok.2.1
  have hN48 := hok.2.2.1
  intro d
  induction d with
  | zero => intro ci h1 h2; exact absurd h2 (by omega)
  | succ d ih =>
    intro ci hi1 hi2 H locs o ls i1 hP hD hS hl
    refine lv_iload_n hx hb dX0_actAll_6 rfl (lv_at hl 1 rfl) ?_
    refine lv_aload_n hx hb dX0_actAll_7 rfl (lv_at hl 0 rfl) ?_
    refine x0_many C hK hP dX0_actAll_8 ?_
    refine xd_ge C (by omega) (by omega) dX0_actAll_11 (tgt := 26) (by decide) (fun hc => ?_) (fun hc => ?_)
    · obtain rfl : ci = N := by omega
      exact exit H locs o ls i1 hP hD hS
    · have hab := hok.2.2.2 ci hc
      refine lv_aload_n hx hb dX0_actAll_14 rfl (lv_at hl 0 rfl) ?_
      refine lv_iload_n hx hb dX0_actAll_15 rfl (lv_at hl 1 rfl) ?_
      refine xd_callVi C (met_act l dC dI h0 hf hs ho c1 c2 c3 _ (nI n) (nI N) f g o ci (Na ci) (Nb ci) (by omega) (by omega) (by omega) (hok.2.2.2 ci hc).2.2 (ea ci hc) (eb ci hc)) (cwV 1 hts (lw_V q64 q66 qs2 q8 q67) rfl rfl rfl (by decide +kernel) ⟨Nat.le_of_ble_eq_true rfl, Nat.le_of_ble_eq_true rfl⟩) hK hP hD hS hA [0, 1, 2, 3] [] [0, 1, 2] [] rfl rfl rfl (by decide) (by decide) (by decide) rfl 0 0 rfl rfl rfl rfl hl.1 rfl (Nat.le_of_ble_eq_true rfl) dX0_actAll_16 ⟨Nat.le_of_ble_eq_true rfl, Nat.le_of_ble_eq_true rfl⟩ (fun r o' H locs hpost hP hD hS => ?_)
      have hP : va_P (dC, dI) vwCl (xW h0 hf hs ho c1 c2 c3 (nI n) (nI N) f g o') H := hP
      have hD : va_D A (xW h0 hf hs ho c1 c2 c3 (nI n) (nI N) f g o') := hD
      refine lv_pop hx hb dX0_actAll_19 rfl ?_
      refine lv_iinc (v := nI (ci + 1)) (lv' := [(1, .int (nI (ci + 1))), (0, .ref h0)]) hx hb dX0_actAll_20 hl (k := 1) rfl (xd_inc1 _) (by decide) rfl (fun ls hl => ?_)
      refine lv_goto (tgt := 6) hx hb dX0_actAll_23 (by decide) ?_
      exact ih (ci + 1) (by omega) (by omega) H locs o' ls (xd_ln_step hab.1 hab.2.1 hab.2.2 i1 hpost.1) hP hD hS (lv_sub hl [1, 0] rfl)
end DeskAll
set_option maxHeartbeats 4000000 in
set_option maxRecDepth 100000 in
/-- actAll(): all crossings, over all rows -/
theorem met_actAll (l : Launch) (dC : Nat → ClassId) (dI : Nat → Nat → Nat) (h0 hf hs ho : Nat) (c1 c2 c3 : ClassId) (z : Nat) (n N : Nat) (Na Nb : Nat → Nat) (hok : xdOK n N Na Nb) (f g : Nat → Int32) (ea : ∀ i, i < N → f i = nI (Na i)) (eb : ∀ i, i < N → g i = nI (Nb i)) (o : Nat → Int64) : xMv l yX0_actAll cX0_actAll 2 xR1 dC dI (xT c1 c2 c3) [.ref h0] (xW h0 hf hs ho c1 c2 c3 (nI n) (nI N) f g o) z (fun o' : Nat → Int64 => xdRun n N Na Nb o') (fun o' : Nat → Int64 => xW h0 hf hs ho c1 c2 c3 (nI n) (nI N) f g o') := by
  refine xd_start (xQv dC dI (xT c1 c2 c3) (fun o' : Nat → Int64 => xdRun n N Na Nb o') (fun o' : Nat → Int64 => xW h0 hf hs ho c1 c2 c3 (nI n) (nI N) f g o')) (by decide) (Nat.le_of_ble_eq_true rfl) ?_
  intro p e s m below meth c A ls C hnm hA hP hK hD hS hl
  have C : xC p s m _ meth c cX0_actAll RX0 2 none := C
  obtain ⟨hx, hb, hml, hr, hlk, hown, hts⟩ := id C
  have hl : lv_has ls 2 [(0, .ref h0)] := hl
  refine lv_aload_n hx hb dX0_actAll_0 rfl (lv_at hl 0 rfl) ?_
  refine xd_callVv C (met_begin l dC dI h0 hf hs ho c1 c2 c3 _ n ⟨hok.1, hok.2.1⟩ (nI N) f g o) (cwV 0 hts (lw_V q60 q62 qs1 q8 q63) rfl rfl rfl (by decide +kernel) ⟨Nat.le_of_ble_eq_true rfl, Nat.le_of_ble_eq_true rfl⟩) hK hP hD hS hA [0, 1, 2, 3] [] [0, 1, 2] [] rfl rfl rfl (by decide) (by decide) (by decide) rfl 0 0 rfl rfl rfl rfl hl.1 rfl (Nat.le_of_ble_eq_true rfl) dX0_actAll_1 ⟨Nat.le_of_ble_eq_true rfl, Nat.le_of_ble_eq_true rfl⟩ (fun o0 H locs hpost hP hD hS => ?_)
  have hP : va_P (dC, dI) vwCl (xW h0 hf hs ho c1 c2 c3 (nI n) (nI N) f g o0) H := hP
  have hD : va_D A (xW h0 hf hs ho c1 c2 c3 (nI n) (nI N) f g o0) := hD
  refine lv_iconst (v := nI 0) hx hb dX0_actAll_4 (by decide) ?_
  refine lv_istore_n (lv' := [(1, .int (nI 0)), (0, .ref h0)]) hx hb dX0_actAll_5 rfl hl (by decide) rfl (fun ls hl => ?_)
  refine lp_actAll C hK hA hok ea eb (o0 := o0) ?_ (N + 1) 0 (Nat.zero_le _) (by omega) H locs o0 ls (fun _ _ => rfl) hP hD hS (lv_sub hl [1, 0] rfl)
  intro H locs o' ls h1 hP hD hS
  exact xd_vret C hK o' ⟨o0, hpost, h1⟩ hP hD hS dX0_actAll_26
set_option maxHeartbeats 4000000 in
set_option maxRecDepth 100000 in
/-- wires(v): 2 to 6 wires, no crossing -/
theorem met_wires (l : Launch) (dC : Nat → ClassId) (dI : Nat → Nat → Nat) (h0 hf hs ho : Nat) (c1 c2 c3 : ClassId) (z : Nat) (w k : Int32) (f g : Nat → Int32) (o : Nat → Int64) (v : Int32) : xMv l yX0_wires cX0_wires 2 xR1 dC dI (xT c1 c2 c3) [.ref h0, .int v] (xW h0 hf hs ho c1 c2 c3 w k f g o) z (fun _ : Unit => True) (fun _ : Unit => xW h0 hf hs ho c1 c2 c3 (nI (2 + xdCn v 5)) (nI 0) f g o) := by
  refine xd_start (xQv dC dI (xT c1 c2 c3) (fun _ : Unit => True) (fun _ : Unit => xW h0 hf hs ho c1 c2 c3 (nI (2 + xdCn v 5)) (nI 0) f g o)) (by decide) (Nat.le_of_ble_eq_true rfl) ?_
  intro p e s m below meth c A ls C hnm hA hP hK hD hS hl
  have C : xC p s m _ meth c cX0_wires RX0 2 none := C
  obtain ⟨hx, hb, hml, hr, hlk, hown, hts⟩ := id C
  have hl : lv_has ls 2 [(0, .ref h0), (1, .int v)] := hl
  refine lv_aload_n hx hb dX0_wires_0 rfl (lv_at hl 0 rfl) ?_
  refine lv_iconst (v := nI 2) hx hb dX0_wires_1 (by decide) ?_
  refine lv_iload_n hx hb dX0_wires_2 rfl (lv_at hl 1 rfl) ?_
  refine lv_iconst (v := nI 5) hx hb dX0_wires_3 (by decide) ?_
  refine xd_callSi C (met_counted l dC dI _ v 5 (by decide) (by decide)) (va_cwS 2 hts (lw_S q40 q41 q8 q42) rfl rfl rfl (by decide +kernel) ⟨Nat.le_of_ble_eq_true rfl, Nat.le_of_ble_eq_true rfl⟩) hK hP hD hS hA [] [0, 1, 2, 3] [] (xW h0 hf hs ho c1 c2 c3 w k f g o) rfl rfl rfl (by decide) (by decide) (by decide) rfl rfl hl.1 rfl (Nat.le_of_ble_eq_true rfl) dX0_wires_4 ⟨Nat.le_of_ble_eq_true rfl, Nat.le_of_ble_eq_true rfl⟩ (fun r _ H locs hpost hP hD hS => ?_)
  subst hpost
  have hP : va_P (dC, dI) vwCl (xW h0 hf hs ho c1 c2 c3 w k f g o) H := hP
  have hD : va_D A (xW h0 hf hs ho c1 c2 c3 w k f g o) := hD
  refine lv_iadd hx hb dX0_wires_7 ?_
  refine xd_top (y := nI (2 + xdCn v 5)) (nI_add 2 (xdCn v 5)) ?_
  refine x0_wires_put C hK hP hD hS dX0_wires_8 (fun H locs hP hD hS => ?_)
  refine lv_aload_n hx hb dX0_wires_11 rfl (lv_at hl 0 rfl) ?_
  refine lv_iconst (v := nI 0) hx hb dX0_wires_12 (by decide) ?_
  refine x0_many_put C hK hP hD hS dX0_wires_13 (fun H locs hP hD hS => ?_)
  exact xd_vret C hK () trivial hP hD hS dX0_wires_16
set_option maxHeartbeats 4000000 in
set_option maxRecDepth 100000 in
/-- join(a, b): a crossing more, if the wires are two and there is room -/
theorem met_join (l : Launch) (dC : Nat → ClassId) (dI : Nat → Nat → Nat) (h0 hf hs ho : Nat) (c1 c2 c3 : ClassId) (z : Nat) (n N : Nat) (hn : 2 ≤ n ∧ n ≤ 6) (hN : N ≤ 48) (f g : Nat → Int32) (o : Nat → Int64) (v1 v2 : Int32) : xMi l yX0_join cX0_join 5 (some .boolean) xR1 dC dI (xT c1 c2 c3) [.ref h0, .int v1, .int v2] (xW h0 hf hs ho c1 c2 c3 (nI n) (nI N) f g o) z (fun (r : Int32) (u : Nat × (Nat → Int32) × (Nat → Int32)) => ((xdCn v1 n = xdCn v2 n ∨ N = 48) ∧ r = 0 ∧ u = (N, f, g)) ∨ (xdCn v1 n ≠ xdCn v2 n ∧ N ≠ 48 ∧ r = 1 ∧ u = (N + 1, upd f N (nI (xdCn v1 n)), upd g N (nI (xdCn v2 n))))) (fun u : Nat × (Nat → Int32) × (Nat → Int32) => xW h0 hf hs ho c1 c2 c3 (nI n) (nI u.1) u.2.1 u.2.2 o) := by
  refine xd_start (xQi dC dI (xT c1 c2 c3) (fun (r : Int32) (u : Nat × (Nat → Int32) × (Nat → Int32)) => ((xdCn v1 n = xdCn v2 n ∨ N = 48) ∧ r = 0 ∧ u = (N, f, g)) ∨ (xdCn v1 n ≠ xdCn v2 n ∧ N ≠ 48 ∧ r = 1 ∧ u = (N + 1, upd f N (nI (xdCn v1 n)), upd g N (nI (xdCn v2 n))))) (fun u : Nat × (Nat → Int32) × (Nat → Int32) => xW h0 hf hs ho c1 c2 c3 (nI n) (nI u.1) u.2.1 u.2.2 o)) (by decide) (Nat.le_of_ble_eq_true rfl) ?_
  intro p e s m below meth c A ls C hnm hA hP hK hD hS hl
  have C : xC p s m _ meth c cX0_join RX0 5 (some .boolean) := C
  obtain ⟨hx, hb, hml, hr, hlk, hown, hts⟩ := id C
  have hl : lv_has ls 5 [(0, .ref h0), (1, .int v1), (2, .int v2)] := hl
  refine lv_iload_n hx hb dX0_join_0 rfl (lv_at hl 1 rfl) ?_
  refine lv_aload_n hx hb dX0_join_1 rfl (lv_at hl 0 rfl) ?_
  refine x0_wires C hK hP dX0_join_2 ?_
  refine xd_callSi C (met_counted l dC dI _ v1 n (by omega) (by omega)) (va_cwS 2 hts (lw_S q40 q41 q8 q42) rfl rfl rfl (by decide +kernel) ⟨Nat.le_of_ble_eq_true rfl, Nat.le_of_ble_eq_true rfl⟩) hK hP hD hS hA [] [0, 1, 2, 3] [] (xW h0 hf hs ho c1 c2 c3 (nI n) (nI N) f g o) rfl rfl rfl (by decide) (by decide) (by decide) rfl rfl hl.1 rfl (Nat.le_of_ble_eq_true rfl) dX0_join_5 ⟨Nat.le_of_ble_eq_true rfl, Nat.le_of_ble_eq_true rfl⟩ (fun r1 _ H locs hpost hP hD hS => ?_)
  subst hpost
  have hP : va_P (dC, dI) vwCl (xW h0 hf hs ho c1 c2 c3 (nI n) (nI N) f g o) H := hP
  have hD : va_D A (xW h0 hf hs ho c1 c2 c3 (nI n) (nI N) f g o) := hD
  refine lv_istore_n (lv' := [(3, .int (nI (xdCn v1 n))), (0, .ref h0), (1, .int v1), (2, .int v2)]) hx hb dX0_join_8 rfl hl (by decide) rfl (fun ls hl => ?_)
  refine lv_iload_n hx hb dX0_join_9 rfl (lv_at hl 3 rfl) ?_
  refine lv_aload_n hx hb dX0_join_10 rfl (lv_at hl 1 rfl) ?_
  refine x0_wires C hK hP dX0_join_11 ?_
  refine xd_callSi C (met_counted l dC dI _ v2 n (by omega) (by omega)) (va_cwS 2 hts (lw_S q40 q41 q8 q42) rfl rfl rfl (by decide +kernel) ⟨Nat.le_of_ble_eq_true rfl, Nat.le_of_ble_eq_true rfl⟩) hK hP hD hS hA [] [0, 1, 2, 3] [] (xW h0 hf hs ho c1 c2 c3 (nI n) (nI N) f g o) rfl rfl rfl (by decide) (by decide) (by decide) rfl rfl hl.1 rfl (Nat.le_of_ble_eq_true rfl) dX0_join_14 ⟨Nat.le_of_ble_eq_true rfl, Nat.le_of_ble_eq_true rfl⟩ (fun r2 _ H locs hpost hP hD hS => ?_)
  subst hpost
  have hP : va_P (dC, dI) vwCl (xW h0 hf hs ho c1 c2 c3 (nI n) (nI N) f g o) H := hP
  have hD : va_D A (xW h0 hf hs ho c1 c2 c3 (nI n) (nI N) f g o) := hD
  have hx1 : xdCn v1 n < n := xd_cn_lt v1 (by omega)
  have hx2 : xdCn v2 n < n := xd_cn_lt v2 (by omega)
  refine lv_istore (lv' := [(4, .int (nI (xdCn v2 n))), (3, .int (nI (xdCn v1 n))), (0, .ref h0), (1, .int v1), (2, .int v2)]) hx hb dX0_join_17 hl (by decide) rfl (fun ls hl => ?_)
  refine lv_iload_n hx hb dX0_join_19 rfl (lv_at hl 1 rfl) ?_
  refine lv_iload hx hb dX0_join_20 (lv_at hl 0 rfl) ?_
  refine xd_eq C (by omega) (by omega) dX0_join_22 (tgt := 34) (by decide) (fun hc => ?_) (fun hc => ?_)
  · refine lv_iconst (v := 0) hx hb dX0_join_34 (by decide) ?_
    exact xd_zret C (Or.inl rfl) hK (N, f, g) (Or.inl ⟨Or.inl hc, rfl, rfl⟩) hP hD hS dX0_join_35
  · refine lv_aload_n hx hb dX0_join_25 rfl (lv_at hl 2 rfl) ?_
    refine x0_many C hK hP dX0_join_26 ?_
    refine lv_bipush (v := nI 48) hx hb dX0_join_29 (by decide) ?_
    refine xd_ne C (by omega) (by decide) dX0_join_31 (tgt := 36) (by decide) (fun hd => ?_) (fun hd => ?_)
    · refine lv_aload_n hx hb dX0_join_36 rfl (lv_at hl 2 rfl) ?_
      refine x0_first C hK hP dX0_join_37 ?_
      refine lv_aload_n hx hb dX0_join_40 rfl (lv_at hl 2 rfl) ?_
      refine x0_many C hK hP dX0_join_41 ?_
      refine lv_iload_n hx hb dX0_join_44 rfl (lv_at hl 1 rfl) ?_
      refine lv_i2b (v := nI (xdCn v1 n)) hx hb dX0_join_45 (xi_byte _ (by omega)) ?_
      refine x0_f_st C hK hP hD hS (by omega) (xi_nar (by omega)) dX0_join_46 (fun H locs hP hD hS => ?_)
      refine lv_aload_n hx hb dX0_join_47 rfl (lv_at hl 2 rfl) ?_
      refine x0_second C hK hP dX0_join_48 ?_
      refine lv_aload_n hx hb dX0_join_51 rfl (lv_at hl 2 rfl) ?_
      refine x0_many C hK hP dX0_join_52 ?_
      refine lv_iload hx hb dX0_join_55 (lv_at hl 0 rfl) ?_
      refine lv_i2b (v := nI (xdCn v2 n)) hx hb dX0_join_57 (xi_byte _ (by omega)) ?_
      refine x0_g_st C hK hP hD hS (by omega) (xi_nar (by omega)) dX0_join_58 (fun H locs hP hD hS => ?_)
      refine lv_aload_n hx hb dX0_join_59 rfl (lv_at hl 2 rfl) ?_
      refine lv_dup hx hb dX0_join_60 rfl ?_
      refine x0_many C hK hP dX0_join_61 ?_
      refine lv_iconst (v := nI 1) hx hb dX0_join_64 (by decide) ?_
      refine lv_iadd hx hb dX0_join_65 ?_
      refine xd_top (y := nI (N + 1)) (nI_add N 1) ?_
      refine x0_many_put C hK hP hD hS dX0_join_66 (fun H locs hP hD hS => ?_)
      refine lv_iconst (v := 1) hx hb dX0_join_69 (by decide) ?_
      exact xd_zret C (Or.inr rfl) hK (N + 1, upd f N (nI (xdCn v1 n)), upd g N (nI (xdCn v2 n))) (Or.inr ⟨hc, hd, rfl, rfl⟩) hP hD hS dX0_join_70
    · refine lv_iconst (v := 0) hx hb dX0_join_34 (by decide) ?_
      exact xd_zret C (Or.inl rfl) hK (N, f, g) (Or.inl ⟨Or.inr hd, rfl, rfl⟩) hP hD hS dX0_join_35
set_option maxHeartbeats 4000000 in
set_option maxRecDepth 100000 in
/-- drop(): a crossing less, if there is one -/
theorem met_drop (l : Launch) (dC : Nat → ClassId) (dI : Nat → Nat → Nat) (h0 hf hs ho : Nat) (c1 c2 c3 : ClassId) (z : Nat) (w : Int32) (N : Nat) (hN : N ≤ 48) (f g : Nat → Int32) (o : Nat → Int64) : xMi l yX0_drop cX0_drop 1 (some .boolean) xR1 dC dI (xT c1 c2 c3) [.ref h0] (xW h0 hf hs ho c1 c2 c3 w (nI N) f g o) z (fun (r : Int32) (u : Nat) => (N = 0 ∧ r = 0 ∧ u = 0) ∨ (0 < N ∧ r = 1 ∧ u = N - 1)) (fun u : Nat => xW h0 hf hs ho c1 c2 c3 w (nI u) f g o) := by
  refine xd_start (xQi dC dI (xT c1 c2 c3) (fun (r : Int32) (u : Nat) => (N = 0 ∧ r = 0 ∧ u = 0) ∨ (0 < N ∧ r = 1 ∧ u = N - 1)) (fun u : Nat => xW h0 hf hs ho c1 c2 c3 w (nI u) f g o)) (by decide) (Nat.le_of_ble_eq_true rfl) ?_
  intro p e s m below meth c A ls C hnm hA hP hK hD hS hl
  have C : xC p s m _ meth c cX0_drop RX0 1 (some .boolean) := C
  obtain ⟨hx, hb, hml, hr, hlk, hown, hts⟩ := id C
  have hl : lv_has ls 1 [(0, .ref h0)] := hl
  refine lv_aload_n hx hb dX0_drop_0 rfl (lv_at hl 0 rfl) ?_
  refine x0_many C hK hP dX0_drop_1 ?_
  refine lv_if_ne (tgt := 9) hx hb dX0_drop_4 (by decide) (fun hc => ?_) (fun hc => ?_)
  · have hp : 0 < N := by
      rcases Nat.eq_zero_or_pos N with q | q
      · subst q; exact absurd rfl hc
      · exact q
    refine lv_aload_n hx hb dX0_drop_9 rfl (lv_at hl 0 rfl) ?_
    refine lv_dup hx hb dX0_drop_10 rfl ?_
    refine x0_many C hK hP dX0_drop_11 ?_
    refine lv_iconst (v := nI 1) hx hb dX0_drop_14 (by decide) ?_
    refine lv_isub hx hb dX0_drop_15 ?_
    refine xd_top (y := nI (N - 1)) (pk_sub (a := N) (b := 1) hp) ?_
    refine x0_many_put C hK hP hD hS dX0_drop_16 (fun H locs hP hD hS => ?_)
    refine lv_iconst (v := 1) hx hb dX0_drop_19 (by decide) ?_
    exact xd_zret C (Or.inr rfl) hK (N - 1) (Or.inr ⟨hp, rfl, rfl⟩) hP hD hS dX0_drop_20
  · have hz : N = 0 := (nI_eq (by omega) (by decide)).mp hc
    subst hz
    refine lv_iconst (v := 0) hx hb dX0_drop_7 (by decide) ?_
    exact xd_zret C (Or.inl rfl) hK 0 (Or.inl ⟨rfl, rfl, rfl⟩) hP hD hS dX0_drop_8
section DeskSorts
variable {p : Program} {l : Launch} {e : Env} {R : Room} {s : State} {m : MethodId} {args : Array Value} {below : List Frame} {meth : Method} {c : Code} {cells slots : Nat} {Q : State → Prop} {dC : Nat → ClassId} {dI : Nat → Nat → Nat} {A : Nat → Prop}
variable {h0 hf hs ho : Nat} {c1 c2 c3 : ClassId}
set_option maxHeartbeats 4000000 in
set_option maxRecDepth 100000 in
theorem lp_sorts (C : xC p s m args meth c cX0_sorts RX0 2 (some .boolean)) (hK : va_K (dC, dI) vwCl (xT c1 c2 c3) s) (hA : ∀ q : Nat, s.heap.size ≤ q → A q) {n N : Nat} {Na Nb : Nat → Nat} (hok : xdOK n N Na Nb) {f g : Nat → Int32} (ea : ∀ i, i < N → f i = nI (Na i)) (eb : ∀ i, i < N → g i = nI (Nb i)) {o : Nat → Int64} (hrun : xdRun n N Na Nb o)
    (yes : ∀ (H : Heap) (locs : List Loc) (ls : Array Slot), (∀ i, i < n → xdOwnD n N Na Nb i) → va_P (dC, dI) vwCl (xW h0 hf hs ho c1 c2 c3 (nI n) (nI N) f g o) H → va_D A (xW h0 hf hs ho c1 c2 c3 (nI n) (nI N) f g o) → va_S A s.heap H locs → W p l e xR2 s m args below meth c H locs 0 0 Q (F0 m 31 ls [.int 1]))
    (no : ∀ (H : Heap) (locs : List Loc) (ls : Array Slot), ¬ (∀ i, i < n → xdOwnD n N Na Nb i) → va_P (dC, dI) vwCl (xW h0 hf hs ho c1 c2 c3 (nI n) (nI N) f g o) H → va_D A (xW h0 hf hs ho c1 c2 c3 (nI n) (nI N) f g o) → va_S A s.heap H locs → W p l e xR2 s m args below meth c H locs 0 0 Q (F0 m 23 ls [.int 0])) :
    ∀ (d wi : Nat), wi ≤ n → n < wi + d → ∀ (H : Heap) (locs : List Loc) (ls : Array Slot), (∀ i, i < wi → xdOwnD n N Na Nb i) → va_P (dC, dI) vwCl (xW h0 hf hs ho c1 c2 c3 (nI n) (nI N) f g o) H → va_D A (xW h0 hf hs ho c1 c2 c3 (nI n) (nI N) f g o) → va_S A s.heap H locs → lv_has ls 2 [(0, .ref h0), (1, .int (nI wi))] → W p l e xR2 s m args below meth c H locs 0 0 Q (F0 m 6 ls []) := by
  obtain ⟨hx, hb, hml, hr, hlk, hown, hts⟩ := id C
  have hn6 := hok.2.1
  intro d
  induction d with
  | zero => intro wi h1 h2; exact absurd h2 (by omega)
  | succ d ih =>
    intro wi hi1 hi2 H locs ls i1 hP hD hS hl
    refine lv_iload_n hx hb dX0_sorts_6 rfl (lv_at hl 1 rfl) ?_
    refine lv_aload_n hx hb dX0_sorts_7 rfl (lv_at hl 0 rfl) ?_
    refine x0_wires C hK hP dX0_sorts_8 ?_
    refine xd_ge C (by omega) (by omega) dX0_sorts_11 (tgt := 30) (by decide) (fun hc => ?_) (fun hc => ?_)
    · obtain rfl : wi = n := by omega
      refine lv_iconst (v := 1) hx hb dX0_sorts_30 (by decide) ?_
      exact yes H locs ls i1 hP hD hS
    · refine lv_aload_n hx hb dX0_sorts_14 rfl (lv_at hl 0 rfl) ?_
      refine lv_iload_n hx hb dX0_sorts_15 rfl (lv_at hl 1 rfl) ?_
      refine xd_callVi C (met_isOwn l dC dI h0 hf hs ho c1 c2 c3 _ n ⟨hok.1, hok.2.1⟩ (nI N) f g o wi (by omega)) (cwV 1 hts (lw_V q68 q70 qs3 q8 q71) rfl rfl rfl (by decide +kernel) ⟨Nat.le_of_ble_eq_true rfl, Nat.le_of_ble_eq_true rfl⟩) hK hP hD hS hA [0, 1, 2, 3] [] [0, 1, 2] [] rfl rfl rfl (by decide) (by decide) (by decide) rfl 0 0 rfl rfl rfl rfl hl.1 rfl (Nat.le_of_ble_eq_true rfl) dX0_sorts_16 ⟨Nat.le_of_ble_eq_true rfl, Nat.le_of_ble_eq_true rfl⟩ (fun r _ H locs hpost hP hD hS => ?_)
      have hP : va_P (dC, dI) vwCl (xW h0 hf hs ho c1 c2 c3 (nI n) (nI N) f g o) H := hP
      have hD : va_D A (xW h0 hf hs ho c1 c2 c3 (nI n) (nI N) f g o) := hD
      rw [xd_run_bit hok hrun hc] at hpost
      refine lv_if_ne (tgt := 24) hx hb dX0_sorts_19 (by decide) (fun hr1 => ?_) (fun hr1 => ?_)
      · refine lv_iinc (v := nI (wi + 1)) (lv' := [(1, .int (nI (wi + 1))), (0, .ref h0)]) hx hb dX0_sorts_24 hl (k := 1) rfl (xd_inc1 _) (by decide) rfl (fun ls hl => ?_)
        refine lv_goto (tgt := 6) hx hb dX0_sorts_27 (by decide) ?_
        refine ih (wi + 1) (by omega) (by omega) H locs ls (lt_s i1 ?_) hP hD hS (lv_sub hl [1, 0] rfl)
        rcases hpost with q | q
        · exact q.2
        · exact absurd q.1 hr1
      · refine lv_iconst (v := 0) hx hb dX0_sorts_22 (by decide) ?_
        refine no H locs ls (fun q => ?_) hP hD hS
        rcases hpost with q2 | q2
        · rw [q2.1] at hr1
          exact absurd hr1 (by decide)
        · exact q2.2 (q wi hc)
end DeskSorts
set_option maxHeartbeats 4000000 in
set_option maxRecDepth 100000 in
/-- sorts(): whether every wire has its own number -/
theorem met_sorts (l : Launch) (dC : Nat → ClassId) (dI : Nat → Nat → Nat) (h0 hf hs ho : Nat) (c1 c2 c3 : ClassId) (z : Nat) (n N : Nat) (Na Nb : Nat → Nat) (hok : xdOK n N Na Nb) (f g : Nat → Int32) (ea : ∀ i, i < N → f i = nI (Na i)) (eb : ∀ i, i < N → g i = nI (Nb i)) (o : Nat → Int64) : xMi l yX0_sorts cX0_sorts 2 (some .boolean) xR2 dC dI (xT c1 c2 c3) [.ref h0] (xW h0 hf hs ho c1 c2 c3 (nI n) (nI N) f g o) z (fun (r : Int32) (_ : Nat → Int64) => (r = 1 ∧ ∀ i, i < n → xdOwnD n N Na Nb i) ∨ (r = 0 ∧ ¬ ∀ i, i < n → xdOwnD n N Na Nb i)) (fun o' : Nat → Int64 => xW h0 hf hs ho c1 c2 c3 (nI n) (nI N) f g o') := by
  refine xd_start (xQi dC dI (xT c1 c2 c3) (fun (r : Int32) (_ : Nat → Int64) => (r = 1 ∧ ∀ i, i < n → xdOwnD n N Na Nb i) ∨ (r = 0 ∧ ¬ ∀ i, i < n → xdOwnD n N Na Nb i)) (fun o' : Nat → Int64 => xW h0 hf hs ho c1 c2 c3 (nI n) (nI N) f g o')) (by decide) (Nat.le_of_ble_eq_true rfl) ?_
  intro p e s m below meth c A ls C hnm hA hP hK hD hS hl
  have C : xC p s m _ meth c cX0_sorts RX0 2 (some .boolean) := C
  obtain ⟨hx, hb, hml, hr, hlk, hown, hts⟩ := id C
  have hl : lv_has ls 2 [(0, .ref h0)] := hl
  refine lv_aload_n hx hb dX0_sorts_0 rfl (lv_at hl 0 rfl) ?_
  refine xd_callVv C (met_actAll l dC dI h0 hf hs ho c1 c2 c3 _ n N Na Nb hok f g ea eb o) (cwV 0 hts (lw_V q56 q58 qs0 q8 q59) rfl rfl rfl (by decide +kernel) ⟨Nat.le_of_ble_eq_true rfl, Nat.le_of_ble_eq_true rfl⟩) hK hP hD hS hA [0, 1, 2, 3] [] [0, 1, 2] [] rfl rfl rfl (by decide) (by decide) (by decide) rfl 0 0 rfl rfl rfl rfl hl.1 rfl (Nat.le_of_ble_eq_true rfl) dX0_sorts_1 ⟨Nat.le_of_ble_eq_true rfl, Nat.le_of_ble_eq_true rfl⟩ (fun o' H locs hpost hP hD hS => ?_)
  have hP : va_P (dC, dI) vwCl (xW h0 hf hs ho c1 c2 c3 (nI n) (nI N) f g o') H := hP
  have hD : va_D A (xW h0 hf hs ho c1 c2 c3 (nI n) (nI N) f g o') := hD
  refine lv_iconst (v := nI 0) hx hb dX0_sorts_4 (by decide) ?_
  refine lv_istore_n (lv' := [(1, .int (nI 0)), (0, .ref h0)]) hx hb dX0_sorts_5 rfl hl (by decide) rfl (fun ls hl => ?_)
  refine lp_sorts C hK hA hok ea eb hpost ?_ ?_ (n + 1) 0 (Nat.zero_le _) (by omega) H locs ls lt_0 hP hD hS (lv_sub hl [1, 0] rfl)
  · intro H locs ls h1 hP hD hS
    exact xd_zret C (Or.inr rfl) hK o' (Or.inl ⟨rfl, h1⟩) hP hD hS dX0_sorts_31
  · intro H locs ls h1 hP hD hS
    exact xd_zret C (Or.inl rfl) hK o' (Or.inr ⟨rfl, h1⟩) hP hD hS dX0_sorts_23
set_option maxHeartbeats 4000000 in
set_option maxRecDepth 100000 in
/-- finds(v): whether a wire has its own number -/
theorem met_finds (l : Launch) (dC : Nat → ClassId) (dI : Nat → Nat → Nat) (h0 hf hs ho : Nat) (c1 c2 c3 : ClassId) (z : Nat) (n N : Nat) (Na Nb : Nat → Nat) (hok : xdOK n N Na Nb) (f g : Nat → Int32) (ea : ∀ i, i < N → f i = nI (Na i)) (eb : ∀ i, i < N → g i = nI (Nb i)) (o : Nat → Int64) (v : Int32) : xMi l yX0_finds cX0_finds 2 (some .boolean) xR2 dC dI (xT c1 c2 c3) [.ref h0, .int v] (xW h0 hf hs ho c1 c2 c3 (nI n) (nI N) f g o) z (fun (r : Int32) (_ : Nat → Int64) => (r = 1 ∧ xdOwnD n N Na Nb (xdCn v n)) ∨ (r = 0 ∧ ¬ xdOwnD n N Na Nb (xdCn v n))) (fun o' : Nat → Int64 => xW h0 hf hs ho c1 c2 c3 (nI n) (nI N) f g o') := by
  refine xd_start (xQi dC dI (xT c1 c2 c3) (fun (r : Int32) (_ : Nat → Int64) => (r = 1 ∧ xdOwnD n N Na Nb (xdCn v n)) ∨ (r = 0 ∧ ¬ xdOwnD n N Na Nb (xdCn v n))) (fun o' : Nat → Int64 => xW h0 hf hs ho c1 c2 c3 (nI n) (nI N) f g o')) (by decide) (Nat.le_of_ble_eq_true rfl) ?_
  intro p e s m below meth c A ls C hnm hA hP hK hD hS hl
  have C : xC p s m _ meth c cX0_finds RX0 2 (some .boolean) := C
  obtain ⟨hx, hb, hml, hr, hlk, hown, hts⟩ := id C
  have hl : lv_has ls 2 [(0, .ref h0), (1, .int v)] := hl
  have hn2 := hok.1
  have hn6 := hok.2.1
  refine lv_aload_n hx hb dX0_finds_0 rfl (lv_at hl 0 rfl) ?_
  refine xd_callVv C (met_actAll l dC dI h0 hf hs ho c1 c2 c3 _ n N Na Nb hok f g ea eb o) (cwV 0 hts (lw_V q56 q58 qs0 q8 q59) rfl rfl rfl (by decide +kernel) ⟨Nat.le_of_ble_eq_true rfl, Nat.le_of_ble_eq_true rfl⟩) hK hP hD hS hA [0, 1, 2, 3] [] [0, 1, 2] [] rfl rfl rfl (by decide) (by decide) (by decide) rfl 0 0 rfl rfl rfl rfl hl.1 rfl (Nat.le_of_ble_eq_true rfl) dX0_finds_1 ⟨Nat.le_of_ble_eq_true rfl, Nat.le_of_ble_eq_true rfl⟩ (fun o' H locs hpost hP hD hS => ?_)
  have hP : va_P (dC, dI) vwCl (xW h0 hf hs ho c1 c2 c3 (nI n) (nI N) f g o') H := hP
  have hD : va_D A (xW h0 hf hs ho c1 c2 c3 (nI n) (nI N) f g o') := hD
  have hrun := hpost
  refine lv_aload_n hx hb dX0_finds_4 rfl (lv_at hl 0 rfl) ?_
  refine lv_iload_n hx hb dX0_finds_5 rfl (lv_at hl 1 rfl) ?_
  refine lv_aload_n hx hb dX0_finds_6 rfl (lv_at hl 0 rfl) ?_
  refine x0_wires C hK hP dX0_finds_7 ?_
  refine xd_callSi C (met_counted l dC dI _ v n (by omega) (by omega)) (va_cwS 2 hts (lw_S q40 q41 q8 q42) rfl rfl rfl (by decide +kernel) ⟨Nat.le_of_ble_eq_true rfl, Nat.le_of_ble_eq_true rfl⟩) hK hP hD hS hA [] [0, 1, 2, 3] [] (xW h0 hf hs ho c1 c2 c3 (nI n) (nI N) f g o') rfl rfl rfl (by decide) (by decide) (by decide) rfl rfl hl.1 rfl (Nat.le_of_ble_eq_true rfl) dX0_finds_10 ⟨Nat.le_of_ble_eq_true rfl, Nat.le_of_ble_eq_true rfl⟩ (fun r1 _ H locs hpost hP hD hS => ?_)
  subst hpost
  have hP : va_P (dC, dI) vwCl (xW h0 hf hs ho c1 c2 c3 (nI n) (nI N) f g o') H := hP
  have hD : va_D A (xW h0 hf hs ho c1 c2 c3 (nI n) (nI N) f g o') := hD
  have hwi : xdCn v n < n := xd_cn_lt v (by omega)
  refine xd_callVi C (met_isOwn l dC dI h0 hf hs ho c1 c2 c3 _ n ⟨hok.1, hok.2.1⟩ (nI N) f g o' (xdCn v n) (by omega)) (cwV 1 hts (lw_V q68 q70 qs3 q8 q71) rfl rfl rfl (by decide +kernel) ⟨Nat.le_of_ble_eq_true rfl, Nat.le_of_ble_eq_true rfl⟩) hK hP hD hS hA [0, 1, 2, 3] [] [0, 1, 2] [] rfl rfl rfl (by decide) (by decide) (by decide) rfl 0 0 rfl rfl rfl rfl hl.1 rfl (Nat.le_of_ble_eq_true rfl) dX0_finds_13 ⟨Nat.le_of_ble_eq_true rfl, Nat.le_of_ble_eq_true rfl⟩ (fun r _ H locs hpost hP hD hS => ?_)
  have hP : va_P (dC, dI) vwCl (xW h0 hf hs ho c1 c2 c3 (nI n) (nI N) f g o') H := hP
  have hD : va_D A (xW h0 hf hs ho c1 c2 c3 (nI n) (nI N) f g o') := hD
  rw [xd_run_bit hok hrun hwi] at hpost
  exact xd_zret C (by rcases hpost with q | q; exact Or.inr q.1; exact Or.inl q.1) hK o' hpost hP hD hS dX0_finds_16
section DeskNeed
variable {p : Program} {l : Launch} {e : Env} {R : Room} {s : State} {m : MethodId} {args : Array Value} {below : List Frame} {meth : Method} {c : Code} {cells slots : Nat} {Q : State → Prop} {dC : Nat → ClassId} {dI : Nat → Nat → Nat} {A : Nat → Prop}
variable {h0 hf hs ho : Nat} {c1 c2 c3 : ClassId}
set_option maxHeartbeats 4000000 in
set_option maxRecDepth 100000 in
theorem lp_needless (C : xC p s m args meth c cX0_needless RX0 3 (some .int)) (hK : va_K (dC, dI) vwCl (xT c1 c2 c3) s) (hA : ∀ q : Nat, s.heap.size ≤ q → A q) {n N : Nat} {Na Nb : Nat → Nat} (hok : xdOK n N Na Nb) {f g : Nat → Int32} (ea : ∀ i, i < N → f i = nI (Na i)) (eb : ∀ i, i < N → g i = nI (Nb i)) {o0 : Nat → Int64} (hbeg : xdBeg n o0)
    (exit : ∀ (H : Heap) (locs : List Loc) (o : Nat → Int64) (x : Int32) (ls : Array Slot), (∀ i, i < 32 → (bt x i = true ↔ i < N ∧ i < 31 ∧ ¬ xdUseD n Na Nb i)) → va_P (dC, dI) vwCl (xW h0 hf hs ho c1 c2 c3 (nI n) (nI N) f g o) H → va_D A (xW h0 hf hs ho c1 c2 c3 (nI n) (nI N) f g o) → va_S A s.heap H locs → W p l e xR1 s m args below meth c H locs 0 0 Q (F0 m 43 ls [.int x])) :
    ∀ (d ci : Nat), ci ≤ N → ci ≤ 31 → N < ci + d → ∀ (H : Heap) (locs : List Loc) (o : Nat → Int64) (x : Int32) (ls : Array Slot), (∀ i, i < n → o i = xdLn Na Nb o0 ci i) → (∀ i, i < 32 → (bt x i = true ↔ i < ci ∧ ¬ xdUseD n Na Nb i)) → va_P (dC, dI) vwCl (xW h0 hf hs ho c1 c2 c3 (nI n) (nI N) f g o) H → va_D A (xW h0 hf hs ho c1 c2 c3 (nI n) (nI N) f g o) → va_S A s.heap H locs → lv_has ls 3 [(0, .ref h0), (1, .int x), (2, .int (nI ci))] → W p l e xR1 s m args below meth c H locs 0 0 Q (F0 m 8 ls []) := by
  obtain ⟨hx, hb, hml, hr, hlk, hown, hts⟩ := id C
  have hn6 := hok.2.1
  have hN48 := hok.2.2.1
  intro d
  induction d with
  | zero => intro ci h1 h2 h3; exact absurd h3 (by omega)
  | succ d ih =>
    intro ci hi1 hi3 hi2 H locs o x ls i1 i2 hP hD hS hl
    refine lv_iload_n hx hb dX0_needless_8 rfl (lv_at hl 2 rfl) ?_
    refine lv_aload_n hx hb dX0_needless_9 rfl (lv_at hl 0 rfl) ?_
    refine x0_many C hK hP dX0_needless_10 ?_
    refine xd_ge C (by omega) (by omega) dX0_needless_13 (tgt := 42) (by decide) (fun hc => ?_) (fun hc => ?_)
    · refine lv_iload_n hx hb dX0_needless_42 rfl (lv_at hl 1 rfl) ?_
      refine exit H locs o x ls (fun i hi => ?_) hP hD hS
      rw [i2 i hi]
      exact ⟨fun q => ⟨by omega, by omega, q.2⟩, fun q => ⟨by omega, q.2.2⟩⟩
    · refine lv_iload_n hx hb dX0_needless_16 rfl (lv_at hl 2 rfl) ?_
      refine lv_bipush (v := nI 31) hx hb dX0_needless_17 (by decide) ?_
      refine xd_ge C (by omega) (by decide) dX0_needless_19 (tgt := 42) (by decide) (fun hd => ?_) (fun hd => ?_)
      · refine lv_iload_n hx hb dX0_needless_42 rfl (lv_at hl 1 rfl) ?_
        refine exit H locs o x ls (fun i hi => ?_) hP hD hS
        rw [i2 i hi]
        exact ⟨fun q => ⟨by omega, by omega, q.2⟩, fun q => ⟨by omega, q.2.2⟩⟩
      · have hab := hok.2.2.2 ci hc
        have huse := xd_run_use hok hbeg hc i1
        refine lv_aload_n hx hb dX0_needless_22 rfl (lv_at hl 0 rfl) ?_
        refine lv_iload_n hx hb dX0_needless_23 rfl (lv_at hl 2 rfl) ?_
        refine xd_callVi C (met_act l dC dI h0 hf hs ho c1 c2 c3 _ (nI n) (nI N) f g o ci (Na ci) (Nb ci) (by omega) (by omega) (by omega) (hok.2.2.2 ci hc).2.2 (ea ci hc) (eb ci hc)) (cwV 1 hts (lw_V q64 q66 qs2 q8 q67) rfl rfl rfl (by decide +kernel) ⟨Nat.le_of_ble_eq_true rfl, Nat.le_of_ble_eq_true rfl⟩) hK hP hD hS hA [0, 1, 2, 3] [] [0, 1, 2] [] rfl rfl rfl (by decide) (by decide) (by decide) rfl 0 0 rfl rfl rfl rfl hl.1 rfl (Nat.le_of_ble_eq_true rfl) dX0_needless_24 ⟨Nat.le_of_ble_eq_true rfl, Nat.le_of_ble_eq_true rfl⟩ (fun r o' H locs hpost hP hD hS => ?_)
        have hP : va_P (dC, dI) vwCl (xW h0 hf hs ho c1 c2 c3 (nI n) (nI N) f g o') H := hP
        have hD : va_D A (xW h0 hf hs ho c1 c2 c3 (nI n) (nI N) f g o') := hD
        refine lv_if_ne (tgt := 36) hx hb dX0_needless_27 (by decide) (fun hr1 => ?_) (fun hr1 => ?_)
        · refine lv_iinc (v := nI (ci + 1)) (lv' := [(2, .int (nI (ci + 1))), (0, .ref h0), (1, .int x)]) hx hb dX0_needless_36 hl (k := 2) rfl (xd_inc1 _) (by decide) rfl (fun ls hl => ?_)
          refine lv_goto (tgt := 8) hx hb dX0_needless_39 (by decide) ?_
          refine ih (ci + 1) (by omega) (by omega) (by omega) H locs o' x ls (xd_ln_step hab.1 hab.2.1 hab.2.2 i1 hpost.1) (xd_no_bit (P := fun i => ¬ xdUseD n Na Nb i) i2 ?_) hP hD hS (lv_sub hl [1, 2, 0] rfl)
          intro q
          apply q
          rw [← huse]
          rcases hpost.2 with q2 | q2
          · exact absurd q2.1 hr1
          · exact q2.2
        · refine lv_iload_n hx hb dX0_needless_30 rfl (lv_at hl 1 rfl) ?_
          refine lv_iconst (v := 1) hx hb dX0_needless_31 (by decide) ?_
          refine lv_iload_n hx hb dX0_needless_32 rfl (lv_at hl 2 rfl) ?_
          refine lv_ishl hx hb dX0_needless_33 ?_
          refine lv_ior hx hb dX0_needless_34 ?_
          refine lv_istore_n (lv' := [(1, .int (x ||| (1 <<< ((nI ci) &&& 31)))), (0, .ref h0), (2, .int (nI ci))]) hx hb dX0_needless_35 rfl hl (by decide) rfl (fun ls hl => ?_)
          refine lv_iinc (v := nI (ci + 1)) (lv' := [(2, .int (nI (ci + 1))), (1, .int (x ||| (1 <<< ((nI ci) &&& 31)))), (0, .ref h0)]) hx hb dX0_needless_36 hl (k := 2) rfl (xd_inc1 _) (by decide) rfl (fun ls hl => ?_)
          refine lv_goto (tgt := 8) hx hb dX0_needless_39 (by decide) ?_
          refine ih (ci + 1) (by omega) (by omega) (by omega) H locs o' _ ls (xd_ln_step hab.1 hab.2.1 hab.2.2 i1 hpost.1) (xd_set_bit (P := fun i => ¬ xdUseD n Na Nb i) hd i2 ?_) hP hD hS (lv_sub hl [2, 1, 0] rfl)
          rw [← huse]
          intro q
          rcases hpost.2 with q2 | q2
          · exact q q2.2
          · rw [q2.1] at hr1
            exact absurd hr1 (by decide)
end DeskNeed
set_option maxHeartbeats 4000000 in
set_option maxRecDepth 100000 in
/-- needless(): of the first 31 crossings those that exchange nothing in any row -/
theorem met_needless (l : Launch) (dC : Nat → ClassId) (dI : Nat → Nat → Nat) (h0 hf hs ho : Nat) (c1 c2 c3 : ClassId) (z : Nat) (n N : Nat) (Na Nb : Nat → Nat) (hok : xdOK n N Na Nb) (f g : Nat → Int32) (ea : ∀ i, i < N → f i = nI (Na i)) (eb : ∀ i, i < N → g i = nI (Nb i)) (o : Nat → Int64) : xMi l yX0_needless cX0_needless 3 (some .int) xR1 dC dI (xT c1 c2 c3) [.ref h0] (xW h0 hf hs ho c1 c2 c3 (nI n) (nI N) f g o) z (fun (r : Int32) (_ : Nat → Int64) => ∀ i, i < 32 → (bt r i = true ↔ i < N ∧ i < 31 ∧ ¬ xdUseD n Na Nb i)) (fun o' : Nat → Int64 => xW h0 hf hs ho c1 c2 c3 (nI n) (nI N) f g o') := by
  refine xd_start (xQi dC dI (xT c1 c2 c3) (fun (r : Int32) (_ : Nat → Int64) => ∀ i, i < 32 → (bt r i = true ↔ i < N ∧ i < 31 ∧ ¬ xdUseD n Na Nb i)) (fun o' : Nat → Int64 => xW h0 hf hs ho c1 c2 c3 (nI n) (nI N) f g o')) (by decide) (Nat.le_of_ble_eq_true rfl) ?_
  intro p e s m below meth c A ls C hnm hA hP hK hD hS hl
  have C : xC p s m _ meth c cX0_needless RX0 3 (some .int) := C
  obtain ⟨hx, hb, hml, hr, hlk, hown, hts⟩ := id C
  have hl : lv_has ls 3 [(0, .ref h0)] := hl
  refine lv_aload_n hx hb dX0_needless_0 rfl (lv_at hl 0 rfl) ?_
  refine xd_callVv C (met_begin l dC dI h0 hf hs ho c1 c2 c3 _ n ⟨hok.1, hok.2.1⟩ (nI N) f g o) (cwV 0 hts (lw_V q60 q62 qs1 q8 q63) rfl rfl rfl (by decide +kernel) ⟨Nat.le_of_ble_eq_true rfl, Nat.le_of_ble_eq_true rfl⟩) hK hP hD hS hA [0, 1, 2, 3] [] [0, 1, 2] [] rfl rfl rfl (by decide) (by decide) (by decide) rfl 0 0 rfl rfl rfl rfl hl.1 rfl (Nat.le_of_ble_eq_true rfl) dX0_needless_1 ⟨Nat.le_of_ble_eq_true rfl, Nat.le_of_ble_eq_true rfl⟩ (fun o0 H locs hpost hP hD hS => ?_)
  have hP : va_P (dC, dI) vwCl (xW h0 hf hs ho c1 c2 c3 (nI n) (nI N) f g o0) H := hP
  have hD : va_D A (xW h0 hf hs ho c1 c2 c3 (nI n) (nI N) f g o0) := hD
  refine lv_iconst (v := 0) hx hb dX0_needless_4 (by decide) ?_
  refine lv_istore_n (lv' := [(1, .int 0), (0, .ref h0)]) hx hb dX0_needless_5 rfl hl (by decide) rfl (fun ls hl => ?_)
  refine lv_iconst (v := nI 0) hx hb dX0_needless_6 (by decide) ?_
  refine lv_istore_n (lv' := [(2, .int (nI 0)), (1, .int 0), (0, .ref h0)]) hx hb dX0_needless_7 rfl hl (by decide) rfl (fun ls hl => ?_)
  refine lp_needless C hK hA hok ea eb (o0 := o0) hpost ?_ (N + 1) 0 (Nat.zero_le _) (Nat.zero_le _) (by omega) H locs o0 0 ls (fun _ _ => rfl) (fun i hi => by rw [b_0]; simp) hP hD hS (lv_sub hl [2, 1, 0] rfl)
  intro H locs o' x ls h1 hP hD hS
  exact xd_iret C hK o' h1 hP hD hS dX0_needless_43
abbrev xU : Type := Nat × Nat × Nat × ClassId × ClassId × ClassId
abbrev xUW (h0 : Nat) (u : xU) : va_W := xW h0 u.1 u.2.1 u.2.2.1 u.2.2.2.1 u.2.2.2.2.1 u.2.2.2.2.2 (nI 4) (nI 0) (fun _ => 0) (fun _ => 0) (fun _ => 0)
abbrev xUT (u : xU) : List (ClassId × FieldType) := xT u.2.2.2.1 u.2.2.2.2.1 u.2.2.2.2.2
abbrev xRi : Room := { frames := 1, cells := 3, slots := 102, locals := 12 }
abbrev xI0 (h0 : Nat) : va_W := [(h0, .inr (0, [.int 0, .int 0, .null, .null, .null]))]
set_option maxHeartbeats 4000000 in
set_option maxRecDepth 100000 in
/-- CrossDesk(): 4 wires, no crossing -/
theorem met_init (l : Launch) (dC : Nat → ClassId) (dI : Nat → Nat → Nat) (h0 z : Nat) : Met l yX0_init (ws_ yX0_init cX0_init 1 none) xRi (va_Pc [.ref h0] (xPre dC dI [] (xI0 h0) z)) (va_Qv (fun _ : xU => True) (fun u t => xPost dC dI (xUT u) (va_A (xI0 h0) z) (xUW h0 u) t) (va_A (xI0 h0) z)) 3 102 (va_A (xI0 h0) z) := by
  refine xd_start (fun A => va_Qv (fun _ : xU => True) (fun u t => xPost dC dI (xUT u) A (xUW h0 u) t) A) (by decide) (Nat.le_of_ble_eq_true rfl) ?_
  intro p e s m below meth c A ls C hin hA hP hK hD hS hl
  have C : xC p s m _ meth c cX0_init RX0 1 none := C
  obtain ⟨hx, hb, hml, hr, hlk, hown, hts⟩ := id C
  have hin : meth.name = "<init>" := hin
  have hl : lv_has ls 1 [(0, .ref h0)] := hl
  refine lv_aload_n hx hb dX0_init_0 rfl (lv_at hl 0 rfl) ?_
  refine W.objInit hx hb hown (hts _ q15) (hts _ q16) (hts _ q17) rfl (by rw [hml]; exact hl.1) rfl dX0_init_1 (Nat.le_of_ble_eq_true rfl) (Nat.le_of_ble_eq_true rfl) ?_
  refine W.eq (g2 := F0 m 4 ls []) rfl ?_
  refine lv_aload_n hx hb dX0_init_4 rfl (lv_at hl 0 rfl) ?_
  refine lv_iconst (v := nI 4) hx hb dX0_init_5 (by decide) ?_
  refine va_put (D := (dC, dI)) (ci := 0) (v := .int (nI 4)) (ty := .int) (C := RX0) (T := TX0) (N := 5) hx hb hts in_X0 tyX0 tyX0_ok nmX0 hown hK hP hD hS 0 rfl rfl 0 (by decide) (hts _ q18) (fun _ h9 => h9) rfl (by decide +kernel) rfl rfl (Nat.le_of_ble_eq_true rfl) dX0_init_6 (fun H locs hP hD hS => ?_)
  have hP : va_P (dC, dI) vwCl [(h0, .inr (0, [.int (nI 4), .int 0, .null, .null, .null]))] H := hP
  have hD : va_D A [(h0, .inr (0, [.int (nI 4), .int 0, .null, .null, .null]))] := hD
  refine lv_aload_n hx hb dX0_init_9 rfl (lv_at hl 0 rfl) ?_
  refine lv_bipush (v := nI 48) hx hb dX0_init_10 (by decide) ?_
  refine va_newa (atype := .byte) (ty := .byte) (N' := 48) (a0 := (48, .inl (fun _ => 0))) hx hb (hts _ q34) rfl hK hP hD hS hA (fun _ => rfl) (by decide) (by decide) (by decide) (Nat.le_of_ble_eq_true rfl) (Nat.le_of_ble_eq_true rfl) dX0_init_12 (fun q1 ca1 H hK hP hD hS => ?_)
  have hP : va_P (dC, dI) vwCl [(h0, .inr (0, [.int (nI 4), .int 0, .null, .null, .null])), (q1, .inl (ca1, 48, .inl (fun _ => 0)))] H := hP
  have hD : va_D A [(h0, .inr (0, [.int (nI 4), .int 0, .null, .null, .null])), (q1, .inl (ca1, 48, .inl (fun _ => 0)))] := hD
  have hK : va_K (dC, dI) vwCl [(ca1, .byte)] s := hK
  refine va_putF (D := (dC, dI)) (ci := 0) (v := .ref q1) (ty := .array .byte) (C := RX0) (T := TX0) (N := 5) hx hb hts in_X0 tyX0 tyX0_ok nmX0 hown hK hP hD hS 0 rfl rfl 2 (by decide) (hts _ q20) (fun _ h9 => h9) rfl hin rfl (by decide +kernel) rfl rfl (Nat.le_of_ble_eq_true rfl) dX0_init_14 (fun H locs hP hD hS => ?_)
  have hP : va_P (dC, dI) vwCl [(h0, .inr (0, [.int (nI 4), .int 0, .ref q1, .null, .null])), (q1, .inl (ca1, 48, .inl (fun _ => 0)))] H := hP
  have hD : va_D A [(h0, .inr (0, [.int (nI 4), .int 0, .ref q1, .null, .null])), (q1, .inl (ca1, 48, .inl (fun _ => 0)))] := hD
  refine lv_aload_n hx hb dX0_init_17 rfl (lv_at hl 0 rfl) ?_
  refine lv_bipush (v := nI 48) hx hb dX0_init_18 (by decide) ?_
  refine va_newa (atype := .byte) (ty := .byte) (N' := 48) (a0 := (48, .inl (fun _ => 0))) hx hb (hts _ q34) rfl hK hP hD hS hA (fun _ => rfl) (by decide) (by decide) (by decide) (Nat.le_of_ble_eq_true rfl) (Nat.le_of_ble_eq_true rfl) dX0_init_20 (fun q2 ca2 H hK hP hD hS => ?_)
  have hP : va_P (dC, dI) vwCl [(h0, .inr (0, [.int (nI 4), .int 0, .ref q1, .null, .null])), (q1, .inl (ca1, 48, .inl (fun _ => 0))), (q2, .inl (ca2, 48, .inl (fun _ => 0)))] H := hP
  have hD : va_D A [(h0, .inr (0, [.int (nI 4), .int 0, .ref q1, .null, .null])), (q1, .inl (ca1, 48, .inl (fun _ => 0))), (q2, .inl (ca2, 48, .inl (fun _ => 0)))] := hD
  have hK : va_K (dC, dI) vwCl [(ca1, .byte), (ca2, .byte)] s := hK
  refine va_putF (D := (dC, dI)) (ci := 0) (v := .ref q2) (ty := .array .byte) (C := RX0) (T := TX0) (N := 5) hx hb hts in_X0 tyX0 tyX0_ok nmX0 hown hK hP hD hS 0 rfl rfl 3 (by decide) (hts _ q21) (fun _ h9 => h9) rfl hin rfl (by decide +kernel) rfl rfl (Nat.le_of_ble_eq_true rfl) dX0_init_22 (fun H locs hP hD hS => ?_)
  have hP : va_P (dC, dI) vwCl [(h0, .inr (0, [.int (nI 4), .int 0, .ref q1, .ref q2, .null])), (q1, .inl (ca1, 48, .inl (fun _ => 0))), (q2, .inl (ca2, 48, .inl (fun _ => 0)))] H := hP
  have hD : va_D A [(h0, .inr (0, [.int (nI 4), .int 0, .ref q1, .ref q2, .null])), (q1, .inl (ca1, 48, .inl (fun _ => 0))), (q2, .inl (ca2, 48, .inl (fun _ => 0)))] := hD
  refine lv_aload_n hx hb dX0_init_25 rfl (lv_at hl 0 rfl) ?_
  refine lv_bipush (v := nI 6) hx hb dX0_init_26 (by decide) ?_
  refine va_newa (atype := .long) (ty := .long) (N' := 6) (a0 := (6, .inr (.inl (fun _ => 0)))) hx hb (hts _ q35) rfl hK hP hD hS hA (fun _ => rfl) (by decide) (by decide) (by decide) (Nat.le_of_ble_eq_true rfl) (Nat.le_of_ble_eq_true rfl) dX0_init_28 (fun q3 ca3 H hK hP hD hS => ?_)
  have hP : va_P (dC, dI) vwCl [(h0, .inr (0, [.int (nI 4), .int 0, .ref q1, .ref q2, .null])), (q1, .inl (ca1, 48, .inl (fun _ => 0))), (q2, .inl (ca2, 48, .inl (fun _ => 0))), (q3, .inl (ca3, 6, .inr (.inl (fun _ => 0))))] H := hP
  have hD : va_D A [(h0, .inr (0, [.int (nI 4), .int 0, .ref q1, .ref q2, .null])), (q1, .inl (ca1, 48, .inl (fun _ => 0))), (q2, .inl (ca2, 48, .inl (fun _ => 0))), (q3, .inl (ca3, 6, .inr (.inl (fun _ => 0))))] := hD
  have hK : va_K (dC, dI) vwCl [(ca1, .byte), (ca2, .byte), (ca3, .long)] s := hK
  refine va_putF (D := (dC, dI)) (ci := 0) (v := .ref q3) (ty := .array .long) (C := RX0) (T := TX0) (N := 5) hx hb hts in_X0 tyX0 tyX0_ok nmX0 hown hK hP hD hS 0 rfl rfl 4 (by decide) (hts _ q22) (fun _ h9 => h9) rfl hin rfl (by decide +kernel) rfl rfl (Nat.le_of_ble_eq_true rfl) dX0_init_30 (fun H locs hP hD hS => ?_)
  exact W.vret hx hb hr (fun t ht hW => ⟨⟨(q1, q2, q3, ca1, ca2, ca3), rfl, trivial, by rw [ht]; exact hP, va_K.moved hW.alike hK, hD⟩, hS.F ht⟩) hS.2.2 dX0_init_33 hlk
end
section
/-! ===== PART 10: the plain law's steps for the reference ===== -/
set_option maxRecDepth 100000
theorem xd_er (L : List Nat) (d t : Nat) : (L.eraseIdx d).getD t 0 = if t < d then L.getD t 0 else L.getD (t + 1) 0 := by
  rw [List.getD_eq_getElem?_getD, List.getElem?_eraseIdx]
  split
  · rw [List.getD_eq_getElem?_getD]
  · rw [List.getD_eq_getElem?_getD]
theorem xd_perm_step {mm rk : Nat} {L : List Nat} (h : 0 < mm) : xdPerm mm rk L = L.getD (rk % mm) 0 :: xdPerm (mm - 1) (rk / mm) (L.eraseIdx (rk % mm)) := by
  cases mm with
  | zero => exact absurd h (Nat.lt_irrefl 0)
  | succ m => rfl
/-- the reference's state in order(k): i numbers placed, L left, rk the rest -/
def xdOrd (n k i rk : Nat) (L : List Nat) (v q : Nat → Int32) : Prop := L.length = n - i ∧ rk < 2 ^ 31 ∧ (∀ t, t < n - i → q t = nI (L.getD t 0)) ∧ (∀ t, t < n - i → xdP n k (i + t) = (xdPerm (n - i) rk L).getD t 0) ∧ ∀ t, t < i → v t = nI (xdP n k t)
theorem xd_ord0 {n k : Nat} (hk : k < 2 ^ 31) {v q : Nat → Int32} (h : ∀ t, t < n → q t = nI t) : xdOrd n k 0 k (List.range n) v q := by
  refine ⟨List.length_range, hk, fun t ht => ?_, fun t ht => ?_, fun t ht => absurd ht (Nat.not_lt_zero t)⟩
  · have ht : t < n := ht
    rw [h t ht, List.getD_eq_getElem?_getD, List.getElem?_range ht]
    rfl
  · rw [Nat.zero_add]
    rfl
theorem xd_ordN {n k i rk : Nat} {L : List Nat} {v q q' : Nat → Int32} (hi : i < n) (h : xdOrd n k i rk L v q) (h1 : ∀ t, t < rk % (n - i) → q' t = q t) (h2 : ∀ t, rk % (n - i) ≤ t → t + 1 < n - i → q' t = q (t + 1)) :
    xdOrd n k (i + 1) (rk / (n - i)) (L.eraseIdx (rk % (n - i))) (upd v i (nI (L.getD (rk % (n - i)) 0))) q' := by
  obtain ⟨hL, hrk, hq, hp, hv⟩ := h
  have hm : 0 < n - i := by omega
  have hd : rk % (n - i) < n - i := Nat.mod_lt _ hm
  have he : n - i - 1 = n - (i + 1) := by omega
  refine ⟨?_, Nat.lt_of_le_of_lt (Nat.div_le_self _ _) hrk, fun t ht => ?_, fun t ht => ?_, fun t ht => ?_⟩
  · rw [List.length_eraseIdx_of_lt (by rw [hL]; exact hd), hL, he]
  · rw [xd_er]
    by_cases c : t < rk % (n - i)
    · rw [if_pos c, h1 t c, hq t (by omega)]
    · rw [if_neg c, h2 t (by omega) (by omega), hq (t + 1) (by omega)]
  · have h3 := hp (t + 1) (by omega)
    rw [xd_perm_step hm, List.getD_cons_succ, he] at h3
    rw [← h3]
    congr 1
    omega
  · by_cases c : t = i
    · subst c
      rw [pk_us]
      have h3 := hp 0 hm
      rw [xd_perm_step hm, List.getD_cons_zero] at h3
      rw [← h3]
      rfl
    · rw [pk_un c]
      exact hv t (by omega)
theorem xd_fac_step (j : Nat) : nI (xdFac j) * nI (j + 1) = nI (xdFac (j + 1)) := by
  rw [pk_mul]
  show nI (xdFac j * (j + 1)) = nI ((j + 1) * xdFac j)
  rw [Nat.mul_comm]
theorem xd_fac_lt {n : Nat} (h : n ≤ 6) : xdFac n < 2 ^ 31 := by
  rcases (show n = 0 ∨ n = 1 ∨ n = 2 ∨ n = 3 ∨ n = 4 ∨ n = 5 ∨ n = 6 by omega) with rfl | rfl | rfl | rfl | rfl | rfl | rfl <;> decide
/-! a crossing of numbers -/
theorem xd_nn_keep {n k : Nat} {A B : Nat → Nat} {c : Nat} (hab : A c ≠ B c) {v : Nat → Int32} (h : ∀ j, j < n → v j = nI (xdNn n A B k c j)) (hle : xdNn n A B k c (A c) ≤ xdNn n A B k c (B c)) : ∀ j, j < n → v j = nI (xdNn n A B k (c + 1) j) := by
  intro j hj
  rw [h j hj]
  congr 1
  show _ = xdStep xdMn xdMx (A c) (B c) (xdNn n A B k c) j
  unfold xdStep xdMn xdMx
  rw [if_pos hle, if_pos hle]
  by_cases q : j = A c
  · rw [if_pos q, q]
  · rw [if_neg q]
    by_cases q2 : j = B c
    · rw [if_pos q2, q2]
    · rw [if_neg q2]
theorem xd_nn_swap {n k : Nat} {A B : Nat → Nat} {c : Nat} (hab : A c ≠ B c) {v : Nat → Int32} (h : ∀ j, j < n → v j = nI (xdNn n A B k c j)) (hlt : xdNn n A B k c (B c) < xdNn n A B k c (A c)) : ∀ j, j < n → upd (upd v (A c) (nI (xdNn n A B k c (B c)))) (B c) (nI (xdNn n A B k c (A c))) j = nI (xdNn n A B k (c + 1) j) := by
  intro j hj
  show _ = nI (xdStep xdMn xdMx (A c) (B c) (xdNn n A B k c) j)
  unfold xdStep xdMn xdMx
  have hnl : ¬ xdNn n A B k c (A c) ≤ xdNn n A B k c (B c) := by omega
  rw [if_neg hnl, if_neg hnl]
  by_cases q : j = A c
  · rw [if_pos q, pk_un (by omega), q, pk_us]
  · rw [if_neg q]
    by_cases q2 : j = B c
    · rw [if_pos q2, q2, pk_us]
    · rw [if_neg q2, pk_un q2, pk_un q, h j hj]
/-! the two words of bits -/
theorem xd_us_set {G S : Nat → Prop} {x : Int32} {c : Nat} (hc : c < 31) (h : ∀ i, i < 32 → (bt x i = true ↔ G i ∨ (i < c ∧ i < 31 ∧ S i))) (hs : S c) : ∀ i, i < 32 → (bt (x ||| ((1 : Int32) <<< (nI c &&& 31))) i = true ↔ G i ∨ (i < c + 1 ∧ i < 31 ∧ S i)) := by
  intro i hi
  rw [b_or, Bool.or_eq_true, xi_pw1 c (by omega) i hi, h i hi, decide_eq_true_eq]
  constructor
  · intro q
    rcases q with (q | q) | q
    · exact Or.inl q
    · exact Or.inr ⟨by omega, q.2⟩
    · subst q
      exact Or.inr ⟨by omega, hc, hs⟩
  · intro q
    rcases q with q | ⟨q1, q2, q3⟩
    · exact Or.inl (Or.inl q)
    · by_cases q : c = i
      · exact Or.inr q
      · exact Or.inl (Or.inr ⟨by omega, q2, q3⟩)
theorem xd_us_keep {G S : Nat → Prop} {x : Int32} {c : Nat} (h : ∀ i, i < 32 → (bt x i = true ↔ G i ∨ (i < c ∧ i < 31 ∧ S i))) (hs : c < 31 → ¬ S c) : ∀ i, i < 32 → (bt x i = true ↔ G i ∨ (i < c + 1 ∧ i < 31 ∧ S i)) := by
  intro i hi
  rw [h i hi]
  constructor
  · intro q
    rcases q with q | q
    · exact Or.inl q
    · exact Or.inr ⟨by omega, q.2⟩
  · intro q
    rcases q with q | ⟨q1, q2, q3⟩
    · exact Or.inl q
    · by_cases q : c = i
      · subst q
        exact absurd q3 (hs q2)
      · exact Or.inr ⟨by omega, q2, q3⟩
theorem xd_fo_clr {G S : Nat → Prop} {x : Int32} {c : Nat} (hc : c < 32) (h : ∀ i, i < 32 → (bt x i = true ↔ G i ∧ (i < c → S i))) (hs : ¬ S c) : ∀ i, i < 32 → (bt (x &&& (((1 : Int32) <<< (nI c &&& 31)) ^^^ (-1))) i = true ↔ G i ∧ (i < c + 1 → S i)) := by
  intro i hi
  rw [b_and, xi_not _ hi, xi_pw1 c hc i hi, Bool.and_eq_true, h i hi]
  by_cases q : c = i
  · subst q
    simp [hs]
  · rw [decide_eq_false q]
    constructor
    · intro q2
      exact ⟨q2.1.1, fun q3 => q2.1.2 (by omega)⟩
    · intro q2
      exact ⟨⟨q2.1, fun q3 => q2.2 (by omega)⟩, rfl⟩
theorem xd_fo_keep {G S : Nat → Prop} {x : Int32} {c : Nat} (h : ∀ i, i < 32 → (bt x i = true ↔ G i ∧ (i < c → S i))) (hs : S c) : ∀ i, i < 32 → (bt x i = true ↔ G i ∧ (i < c + 1 → S i)) := by
  intro i hi
  rw [h i hi]
  constructor
  · intro q
    refine ⟨q.1, fun q3 => ?_⟩
    by_cases q4 : i = c
    · rw [q4]
      exact hs
    · exact q.2 (by omega)
  · intro q
    exact ⟨q.1, fun q3 => q.2 (by omega)⟩
/-- what the reference knows: found, used -/
def xdGood (n N : Nat) (A B : Nat → Nat) (fo us : Int32) : Prop := (∀ i, i < 32 → (bt fo i = true ↔ i < n ∧ xdOwnM n N A B i)) ∧ ∀ i, i < 32 → (bt us i = true ↔ i < N ∧ i < 31 ∧ xdUseM n A B i)
/-- .. behind the first k orders -/
def xdGk (n N k : Nat) (A B : Nat → Nat) (fo us : Int32) : Prop := (∀ i, i < 32 → (bt fo i = true ↔ i < n ∧ ∀ a, a < k → xdNn n A B a N i = i)) ∧ ∀ i, i < 32 → (bt us i = true ↔ i < N ∧ i < 31 ∧ ∃ a, a < k ∧ xdNn n A B a i (B i) < xdNn n A B a i (A i))
theorem xd_gk0 {n N : Nat} (hn : n < 31) {A B : Nat → Nat} : xdGk n N 0 A B (((1 : Int32) <<< (nI n &&& 31)) - 1) 0 := by
  refine ⟨fun i hi => ?_, fun i hi => ?_⟩
  · rw [xi_msk n hn i hi, decide_eq_true_eq]
    exact ⟨fun q => ⟨q, fun a ha => absurd ha (Nat.not_lt_zero a)⟩, fun q => q.1⟩
  · rw [b_0]
    constructor
    · intro q
      cases q
    · intro ⟨_, _, a, ha, _⟩
      exact absurd ha (Nat.not_lt_zero a)
theorem xd_gkS {n N k : Nat} {A B : Nat → Nat} {fo us : Int32}
    (h1 : ∀ i, i < 32 → (bt fo i = true ↔ (i < n ∧ ∀ a, a < k → xdNn n A B a N i = i) ∧ (i < n → xdNn n A B k N i = i)))
    (h2 : ∀ i, i < 32 → (bt us i = true ↔ (i < N ∧ i < 31 ∧ ∃ a, a < k ∧ xdNn n A B a i (B i) < xdNn n A B a i (A i)) ∨ (i < N ∧ i < 31 ∧ xdNn n A B k i (B i) < xdNn n A B k i (A i)))) : xdGk n N (k + 1) A B fo us := by
  refine ⟨fun i hi => ?_, fun i hi => ?_⟩
  · rw [h1 i hi]
    constructor
    · intro q
      refine ⟨q.1.1, fun a ha => ?_⟩
      by_cases c : a = k
      · rw [c]
        exact q.2 q.1.1
      · exact q.1.2 a (by omega)
    · intro q
      exact ⟨⟨q.1, fun a ha => q.2 a (by omega)⟩, fun _ => q.2 k (by omega)⟩
  · rw [h2 i hi]
    constructor
    · intro q
      rcases q with ⟨q1, q2, a, ha, q3⟩ | ⟨q1, q2, q3⟩
      · exact ⟨q1, q2, a, by omega, q3⟩
      · exact ⟨q1, q2, k, by omega, q3⟩
    · intro ⟨q1, q2, a, ha, q3⟩
      by_cases c : a = k
      · subst c
        exact Or.inr ⟨q1, q2, q3⟩
      · exact Or.inl ⟨q1, q2, a, by omega, q3⟩
theorem xd_gk_good {n N : Nat} {A B : Nat → Nat} {fo us : Int32} (h : xdGk n N (xdFac n) A B fo us) : xdGood n N A B fo us := h
theorem xd_found_all {n N : Nat} (hn : n < 31) {A B : Nat → Nat} {fo us : Int32} (h : xdGood n N A B fo us) : fo = ((1 : Int32) <<< (nI n &&& 31)) - 1 ↔ ∀ i, i < n → xdOwnM n N A B i := by
  constructor
  · intro e i hi
    have h1 : bt fo i = true := by rw [e, xi_msk n hn i (by omega)]; exact decide_eq_true hi
    exact ((h.1 i (by omega)).mp h1).2
  · intro q
    apply b_ext
    intro i hi
    rw [xi_msk n hn i hi, Bool.eq_iff_iff, h.1 i hi, decide_eq_true_eq]
    exact ⟨fun q2 => q2.1, fun q2 => ⟨q2, q i q2⟩⟩
theorem xd_need_lo {n N : Nat} (hN : N < 31) {A B : Nat → Nat} {fo us : Int32} (h : xdGood n N A B fo us) : ∀ i, i < 32 → (bt ((((1 : Int32) <<< (nI N &&& 31)) - 1) &&& (us ^^^ (-1))) i = true ↔ i < N ∧ i < 31 ∧ ¬ xdUseM n A B i) := by
  intro i hi
  rw [b_and, xi_not _ hi, xi_msk N hN i hi, Bool.and_eq_true, decide_eq_true_eq, Bool.not_eq_true', ← Bool.not_eq_true, h.2 i hi]
  exact ⟨fun q => ⟨q.1, by omega, fun q2 => q.2 ⟨q.1, by omega, q2⟩⟩, fun q => ⟨q.1, fun q2 => q.2.2 q2.2.2⟩⟩
theorem xd_need_hi {n N : Nat} (hN : 31 ≤ N) {A B : Nat → Nat} {fo us : Int32} (h : xdGood n N A B fo us) : ∀ i, i < 32 → (bt ((2147483647 : Int32) &&& (us ^^^ (-1))) i = true ↔ i < N ∧ i < 31 ∧ ¬ xdUseM n A B i) := by
  intro i hi
  rw [b_and, xi_not _ hi, xi_max i hi, Bool.and_eq_true, decide_eq_true_eq, Bool.not_eq_true', ← Bool.not_eq_true, h.2 i hi]
  exact ⟨fun q => ⟨by omega, q.1, fun q2 => q.2 ⟨by omega, q.1, q2⟩⟩, fun q => ⟨q.2.1, fun q2 => q.2.2 q2.2.2⟩⟩
end
section
/-! ===== PART 11: CrossDeskModel, its leaves: order, orders ===== -/
set_option maxRecDepth 100000
section ModelOrder
variable {p : Program} {l : Launch} {e : Env} {R : Room} {s : State} {m : MethodId} {args : Array Value} {below : List Frame} {meth : Method} {c : Code} {cells slots : Nat} {Q : State → Prop} {dC : Nat → ClassId} {dI : Nat → Nat → Nat} {A : Nat → Prop}
variable {h0 aL aH aV aQ : Nat} {c1 c2 c3 c4 : ClassId}
set_option maxHeartbeats 4000000 in
set_option maxRecDepth 100000 in
theorem lp_ord1 (C : xC p s m args meth c cX1_order RX1 7 none) (hK : va_K (dC, dI) vwCl (mT c1 c2 c3 c4) s) {n : Nat} (hn : 2 ≤ n ∧ n ≤ 6) {sz kn fo us : Int32} {lo hi : Nat → Int32} {v : Nat → Int32} {kk : Nat}
    (exit : ∀ (H : Heap) (locs : List Loc) (q : Nat → Int32) (ls : Array Slot), (∀ t, t < n → q t = nI t) → va_P (dC, dI) vwCl (mW h0 aL aH aV aQ c1 c2 c3 c4 sz (nI n) kn fo us lo hi v q) H → va_D A (mW h0 aL aH aV aQ c1 c2 c3 c4 sz (nI n) kn fo us lo hi v q) → va_S A s.heap H locs → lv_has ls 7 [(0, .ref h0), (2, .int (nI kk))] → W p l e R s m args below meth c H locs cells slots Q (F0 m 25 ls [])) :
    ∀ (d i : Nat), i ≤ n → n < i + d → ∀ (H : Heap) (locs : List Loc) (q : Nat → Int32) (ls : Array Slot), (∀ t, t < i → q t = nI t) → va_P (dC, dI) vwCl (mW h0 aL aH aV aQ c1 c2 c3 c4 sz (nI n) kn fo us lo hi v q) H → va_D A (mW h0 aL aH aV aQ c1 c2 c3 c4 sz (nI n) kn fo us lo hi v q) → va_S A s.heap H locs → lv_has ls 7 [(0, .ref h0), (2, .int (nI kk)), (3, .int (nI i))] → W p l e R s m args below meth c H locs cells slots Q (F0 m 4 ls []) := by
  obtain ⟨hx, hb, hml, hr, hlk, hown, hts⟩ := id C
  intro d
  induction d with
  | zero => intro i h1 h2; exact absurd h2 (by omega)
  | succ d ih =>
    intro i hi1 hi2 H locs q ls i1 hP hD hS hl
    refine lv_iload_n hx hb dX1_order_4 rfl (lv_at hl 2 rfl) ?_
    refine lv_aload_n hx hb dX1_order_5 rfl (lv_at hl 0 rfl) ?_
    refine x1_n C hK hP dX1_order_6 ?_
    refine xd_ge C (by omega) (by omega) dX1_order_9 (tgt := 25) (by decide) (fun hc => ?_) (fun hc => ?_)
    · obtain rfl : i = n := by omega
      exact exit H locs q ls i1 hP hD hS (lv_sub hl [0, 1] rfl)
    · refine lv_aload_n hx hb dX1_order_12 rfl (lv_at hl 0 rfl) ?_
      refine x1_left C hK hP dX1_order_13 ?_
      refine lv_iload_n hx hb dX1_order_16 rfl (lv_at hl 2 rfl) ?_
      refine lv_iload_n hx hb dX1_order_17 rfl (lv_at hl 2 rfl) ?_
      refine x1_q_st C hK hP hD hS (by omega) dX1_order_18 (fun H locs hP hD hS => ?_)
      refine lv_iinc (v := nI (i + 1)) (lv' := [(3, .int (nI (i + 1))), (0, .ref h0), (2, .int (nI kk))]) hx hb dX1_order_19 hl (k := 2) rfl (xd_inc1 _) (by decide) rfl (fun ls hl => ?_)
      refine lv_goto (tgt := 4) hx hb dX1_order_22 (by decide) ?_
      refine ih (i + 1) (by omega) (by omega) H locs _ ls ?_ hP hD hS (lv_sub hl [1, 2, 0] rfl)
      intro t ht
      by_cases c0 : t = i
      · rw [c0, pk_us]
      · rw [pk_un c0]
        exact i1 t (by omega)
set_option maxHeartbeats 4000000 in
set_option maxRecDepth 100000 in
theorem lp_ord3 (C : xC p s m args meth c cX1_order RX1 7 none) (hK : va_K (dC, dI) vwCl (mT c1 c2 c3 c4) s) {n : Nat} (hn : 2 ≤ n ∧ n ≤ 6) {sz kn fo us : Int32} {lo hi : Nat → Int32} {v q0 : Nat → Int32} {rk i mm dd : Nat} (hm : mm ≤ 6)
    (exit : ∀ (H : Heap) (locs : List Loc) (q : Nat → Int32) (ls : Array Slot), (∀ t, t < dd → q t = q0 t) → (∀ t, dd ≤ t → t + 1 < mm → q t = q0 (t + 1)) → va_P (dC, dI) vwCl (mW h0 aL aH aV aQ c1 c2 c3 c4 sz (nI n) kn fo us lo hi v q) H → va_D A (mW h0 aL aH aV aQ c1 c2 c3 c4 sz (nI n) kn fo us lo hi v q) → va_S A s.heap H locs → lv_has ls 7 [(0, .ref h0), (2, .int (nI rk)), (3, .int (nI i))] → W p l e R s m args below meth c H locs cells slots Q (F0 m 102 ls [])) :
    ∀ (d j : Nat), j < mm → mm < j + 1 + d → dd ≤ j → ∀ (H : Heap) (locs : List Loc) (q : Nat → Int32) (ls : Array Slot), (∀ t, t < dd → q t = q0 t) → (∀ t, dd ≤ t → t < j → q t = q0 (t + 1)) → (∀ t, j ≤ t → q t = q0 t) → va_P (dC, dI) vwCl (mW h0 aL aH aV aQ c1 c2 c3 c4 sz (nI n) kn fo us lo hi v q) H → va_D A (mW h0 aL aH aV aQ c1 c2 c3 c4 sz (nI n) kn fo us lo hi v q) → va_S A s.heap H locs → lv_has ls 7 [(0, .ref h0), (2, .int (nI rk)), (3, .int (nI i)), (4, .int (nI mm)), (6, .int (nI j))] → W p l e R s m args below meth c H locs cells slots Q (F0 m 71 ls []) := by
  obtain ⟨hx, hb, hml, hr, hlk, hown, hts⟩ := id C
  intro d
  induction d with
  | zero => intro j h1 h2; exact absurd h2 (by omega)
  | succ d ih =>
    intro j hj1 hj2 hj3 H locs q ls i1 i2 i3 hP hD hS hl
    refine lv_iload hx hb dX1_order_71 (lv_at hl 4 rfl) ?_
    refine lv_iconst (v := nI 1) hx hb dX1_order_73 (by decide) ?_
    refine lv_iadd hx hb dX1_order_74 ?_
    refine xd_top (y := nI (j + 1)) (nI_add j 1) ?_
    refine lv_iload hx hb dX1_order_75 (lv_at hl 3 rfl) ?_
    refine xd_ge C (by omega) (by omega) dX1_order_77 (tgt := 102) (by decide) (fun hc => ?_) (fun hc => ?_)
    · exact exit H locs q ls i1 (fun t h1 h2 => i2 t h1 (by omega)) hP hD hS (lv_sub hl [0, 1, 2] rfl)
    · refine lv_aload_n hx hb dX1_order_80 rfl (lv_at hl 0 rfl) ?_
      refine x1_left C hK hP dX1_order_81 ?_
      refine lv_iload hx hb dX1_order_84 (lv_at hl 4 rfl) ?_
      refine lv_aload_n hx hb dX1_order_86 rfl (lv_at hl 0 rfl) ?_
      refine x1_left C hK hP dX1_order_87 ?_
      refine lv_iload hx hb dX1_order_90 (lv_at hl 4 rfl) ?_
      refine lv_iconst (v := nI 1) hx hb dX1_order_92 (by decide) ?_
      refine lv_iadd hx hb dX1_order_93 ?_
      refine xd_top (y := nI (j + 1)) (nI_add j 1) ?_
      refine x1_q_ld C hK hP (by omega) (i3 (j + 1) (by omega)) dX1_order_94 ?_
      refine x1_q_st C hK hP hD hS (by omega) dX1_order_95 (fun H locs hP hD hS => ?_)
      refine lv_iinc (v := nI (j + 1)) (lv' := [(6, .int (nI (j + 1))), (0, .ref h0), (2, .int (nI rk)), (3, .int (nI i)), (4, .int (nI mm))]) hx hb dX1_order_96 hl (k := 4) rfl (xd_inc1 _) (by decide) rfl (fun ls hl => ?_)
      refine lv_goto (tgt := 71) hx hb dX1_order_99 (by decide) ?_
      refine ih (j + 1) (by omega) (by omega) (by omega) H locs _ ls ?_ ?_ ?_ hP hD hS (lv_sub hl [1, 2, 3, 4, 0] rfl)
      · intro t ht
        rw [pk_un (by omega)]
        exact i1 t ht
      · intro t h1 h2
        by_cases c0 : t = j
        · rw [c0, pk_us]
        · rw [pk_un c0]
          exact i2 t h1 (by omega)
      · intro t ht
        rw [pk_un (by omega)]
        exact i3 t (by omega)
set_option maxHeartbeats 4000000 in
set_option maxRecDepth 100000 in
theorem lp_ord2 (C : xC p s m args meth c cX1_order RX1 7 none) (hK : va_K (dC, dI) vwCl (mT c1 c2 c3 c4) s) {n : Nat} (hn : 2 ≤ n ∧ n ≤ 6) {sz kn fo us : Int32} {lo hi : Nat → Int32} {kk : Nat}
    (exit : ∀ (H : Heap) (locs : List Loc) (v q : Nat → Int32) (ls : Array Slot), (∀ t, t < n → v t = nI (xdP n kk t)) → va_P (dC, dI) vwCl (mW h0 aL aH aV aQ c1 c2 c3 c4 sz (nI n) kn fo us lo hi v q) H → va_D A (mW h0 aL aH aV aQ c1 c2 c3 c4 sz (nI n) kn fo us lo hi v q) → va_S A s.heap H locs → W p l e R s m args below meth c H locs cells slots Q (F0 m 108 ls [])) :
    ∀ (d i rk : Nat) (L : List Nat), i ≤ n → n < i + d → ∀ (H : Heap) (locs : List Loc) (v q : Nat → Int32) (ls : Array Slot), xdOrd n kk i rk L v q → va_P (dC, dI) vwCl (mW h0 aL aH aV aQ c1 c2 c3 c4 sz (nI n) kn fo us lo hi v q) H → va_D A (mW h0 aL aH aV aQ c1 c2 c3 c4 sz (nI n) kn fo us lo hi v q) → va_S A s.heap H locs → lv_has ls 7 [(0, .ref h0), (2, .int (nI rk)), (3, .int (nI i))] → W p l e R s m args below meth c H locs cells slots Q (F0 m 27 ls []) := by
  obtain ⟨hx, hb, hml, hr, hlk, hown, hts⟩ := id C
  intro d
  induction d with
  | zero => intro i rk L h1 h2; exact absurd h2 (by omega)
  | succ d ih =>
    intro i rk L hi1 hi2 H locs v q ls i1 hP hD hS hl
    refine lv_iload_n hx hb dX1_order_27 rfl (lv_at hl 2 rfl) ?_
    refine lv_aload_n hx hb dX1_order_28 rfl (lv_at hl 0 rfl) ?_
    refine x1_n C hK hP dX1_order_29 ?_
    refine xd_ge C (by omega) (by omega) dX1_order_32 (tgt := 108) (by decide) (fun hc => ?_) (fun hc => ?_)
    · obtain rfl : i = n := by omega
      exact exit H locs v q ls i1.2.2.2.2 hP hD hS
    · have hm0 : 0 < n - i := by omega
      have hdd : rk % (n - i) < n - i := Nat.mod_lt _ hm0
      have hrk := i1.2.1
      refine lv_aload_n hx hb dX1_order_35 rfl (lv_at hl 0 rfl) ?_
      refine x1_n C hK hP dX1_order_36 ?_
      refine lv_iload_n hx hb dX1_order_39 rfl (lv_at hl 2 rfl) ?_
      refine lv_isub hx hb dX1_order_40 ?_
      refine xd_top (y := nI (n - i)) (pk_sub (by omega)) ?_
      refine lv_istore (lv' := [(4, .int (nI (n - i))), (0, .ref h0), (2, .int (nI rk)), (3, .int (nI i))]) hx hb dX1_order_41 hl (by decide) rfl (fun ls hl => ?_)
      refine lv_iload_n hx hb dX1_order_43 rfl (lv_at hl 2 rfl) ?_
      refine lv_iload hx hb dX1_order_44 (lv_at hl 0 rfl) ?_
      refine lv_irem hx hb dX1_order_46 (nI_ne0 hm0 (by omega)) ?_
      refine xd_top (y := nI (rk % (n - i))) (pk_rem hrk hm0 (by omega)) ?_
      refine lv_istore (lv' := [(5, .int (nI (rk % (n - i)))), (4, .int (nI (n - i))), (0, .ref h0), (2, .int (nI rk)), (3, .int (nI i))]) hx hb dX1_order_47 hl (by decide) rfl (fun ls hl => ?_)
      refine lv_iload_n hx hb dX1_order_49 rfl (lv_at hl 3 rfl) ?_
      refine lv_iload hx hb dX1_order_50 (lv_at hl 1 rfl) ?_
      refine lv_idiv hx hb dX1_order_52 (nI_ne0 hm0 (by omega)) ?_
      refine xd_top (y := nI (rk / (n - i))) (pk_div hrk hm0 (by omega)) ?_
      refine lv_istore_n (lv' := [(2, .int (nI (rk / (n - i)))), (5, .int (nI (rk % (n - i)))), (4, .int (nI (n - i))), (0, .ref h0), (3, .int (nI i))]) hx hb dX1_order_53 rfl hl (by decide) rfl (fun ls hl => ?_)
      refine lv_aload_n hx hb dX1_order_54 rfl (lv_at hl 3 rfl) ?_
      refine x1_v C hK hP dX1_order_55 ?_
      refine lv_iload_n hx hb dX1_order_58 rfl (lv_at hl 4 rfl) ?_
      refine lv_aload_n hx hb dX1_order_59 rfl (lv_at hl 3 rfl) ?_
      refine x1_left C hK hP dX1_order_60 ?_
      refine lv_iload hx hb dX1_order_63 (lv_at hl 1 rfl) ?_
      refine x1_q_ld C hK hP (by omega) (i1.2.2.1 _ hdd) dX1_order_65 ?_
      refine x1_v_st C hK hP hD hS (by omega) dX1_order_66 (fun H locs hP hD hS => ?_)
      refine lv_iload hx hb dX1_order_67 (lv_at hl 1 rfl) ?_
      refine lv_istore (lv' := [(6, .int (nI (rk % (n - i)))), (2, .int (nI (rk / (n - i)))), (5, .int (nI (rk % (n - i)))), (4, .int (nI (n - i))), (0, .ref h0), (3, .int (nI i))]) hx hb dX1_order_69 hl (by decide) rfl (fun ls hl => ?_)
      refine lp_ord3 C hK hn (q0 := q) (rk := rk / (n - i)) (i := i) (mm := n - i) (dd := rk % (n - i)) (by omega) ?_ (n - i + 1) (rk % (n - i)) hdd (by omega) (Nat.le_refl _) H locs q ls (fun _ _ => rfl) (fun t h1 h2 => absurd h2 (by omega)) (fun _ _ => rfl) hP hD hS (lv_sub hl [4, 1, 5, 3, 0] rfl)
      intro H locs q2 ls j1 j2 hP hD hS hl
      refine lv_iinc (v := nI (i + 1)) (lv' := [(3, .int (nI (i + 1))), (0, .ref h0), (2, .int (nI (rk / (n - i))))]) hx hb dX1_order_102 hl (k := 2) rfl (xd_inc1 _) (by decide) rfl (fun ls hl => ?_)
      refine lv_goto (tgt := 27) hx hb dX1_order_105 (by decide) ?_
      exact ih (i + 1) _ _ (by omega) (by omega) H locs _ q2 ls (xd_ordN hc i1 j1 j2) hP hD hS (lv_sub hl [1, 2, 0] rfl)
end ModelOrder
set_option maxHeartbeats 4000000 in
set_option maxRecDepth 100000 in
/-- order(k): the k-th order of the numbers 0 to n - 1 -/
theorem met_order (l : Launch) (dC : Nat → ClassId) (dI : Nat → Nat → Nat) (h0 aL aH aV aQ : Nat) (c1 c2 c3 c4 : ClassId) (z : Nat) (n : Nat) (hn : 2 ≤ n ∧ n ≤ 6) (sz kn fo us : Int32) (lo hi v q : Nat → Int32) (kk : Nat) (hkk : kk < 2 ^ 31) : xMv l yX1_order cX1_order 7 xR0 dC dI (mT c1 c2 c3 c4) [.ref h0, .int (nI kk)] (mW h0 aL aH aV aQ c1 c2 c3 c4 sz (nI n) kn fo us lo hi v q) z (fun u : (Nat → Int32) × (Nat → Int32) => ∀ t, t < n → u.1 t = nI (xdP n kk t)) (fun u : (Nat → Int32) × (Nat → Int32) => mW h0 aL aH aV aQ c1 c2 c3 c4 sz (nI n) kn fo us lo hi u.1 u.2) := by
  refine xd_start (xQv dC dI (mT c1 c2 c3 c4) (fun u : (Nat → Int32) × (Nat → Int32) => ∀ t, t < n → u.1 t = nI (xdP n kk t)) (fun u : (Nat → Int32) × (Nat → Int32) => mW h0 aL aH aV aQ c1 c2 c3 c4 sz (nI n) kn fo us lo hi u.1 u.2)) (by decide) (Nat.le_of_ble_eq_true rfl) ?_
  intro p e s m below meth c A ls C hnm hA hP hK hD hS hl
  have C : xC p s m _ meth c cX1_order RX1 7 none := C
  obtain ⟨hx, hb, hml, hr, hlk, hown, hts⟩ := id C
  have hl : lv_has ls 7 [(0, .ref h0), (1, .int (nI kk))] := hl
  refine lv_iload_n hx hb dX1_order_0 rfl (lv_at hl 1 rfl) ?_
  refine lv_istore_n (lv' := [(2, .int (nI kk)), (0, .ref h0), (1, .int (nI kk))]) hx hb dX1_order_1 rfl hl (by decide) rfl (fun ls hl => ?_)
  refine lv_iconst (v := nI 0) hx hb dX1_order_2 (by decide) ?_
  refine lv_istore_n (lv' := [(3, .int (nI 0)), (2, .int (nI kk)), (0, .ref h0), (1, .int (nI kk))]) hx hb dX1_order_3 rfl hl (by decide) rfl (fun ls hl => ?_)
  refine lp_ord1 C hK hn (kk := kk) ?_ (n + 1) 0 (Nat.zero_le _) (by omega) _ _ q ls lt_0 hP hD hS (lv_sub hl [2, 1, 0] rfl)
  intro H locs q1 ls h1 hP hD hS hl
  refine lv_iconst (v := nI 0) hx hb dX1_order_25 (by decide) ?_
  refine lv_istore_n (lv' := [(3, .int (nI 0)), (0, .ref h0), (2, .int (nI kk))]) hx hb dX1_order_26 rfl hl (by decide) rfl (fun ls hl => ?_)
  refine lp_ord2 C hK hn (kk := kk) ?_ (n + 1) 0 kk (List.range n) (Nat.zero_le _) (by omega) H locs v q1 ls (xd_ord0 hkk h1) hP hD hS (lv_sub hl [1, 2, 0] rfl)
  intro H locs v2 q2 ls h2 hP hD hS
  exact xd_vret C hK (v2, q2) h2 hP hD hS dX1_order_108
section ModelOrders
variable {p : Program} {l : Launch} {e : Env} {R : Room} {s : State} {m : MethodId} {args : Array Value} {below : List Frame} {meth : Method} {c : Code} {cells slots : Nat} {Q : State → Prop} {dC : Nat → ClassId} {dI : Nat → Nat → Nat} {A : Nat → Prop}
variable {h0 aL aH aV aQ : Nat} {c1 c2 c3 c4 : ClassId}
set_option maxHeartbeats 4000000 in
set_option maxRecDepth 100000 in
theorem lp_orders (C : xC p s m args meth c cX1_orders RX1 3 (some .int)) (hK : va_K (dC, dI) vwCl (mT c1 c2 c3 c4) s) {n : Nat} (hn : 2 ≤ n ∧ n ≤ 6) {sz kn fo us : Int32} {lo hi : Nat → Int32} {v q : Nat → Int32} {H : Heap} {locs : List Loc} (hP : va_P (dC, dI) vwCl (mW h0 aL aH aV aQ c1 c2 c3 c4 sz (nI n) kn fo us lo hi v q) H)
    (exit : ∀ (ls : Array Slot), W p l e R s m args below meth c H locs cells slots Q (F0 m 23 ls [.int (nI (xdFac n))])) :
    ∀ (d j : Nat), j ≤ n → n < j + d → ∀ (ls : Array Slot), lv_has ls 3 [(0, .ref h0), (1, .int (nI (xdFac j))), (2, .int (nI (j + 1)))] → W p l e R s m args below meth c H locs cells slots Q (F0 m 4 ls []) := by
  obtain ⟨hx, hb, hml, hr, hlk, hown, hts⟩ := id C
  intro d
  induction d with
  | zero => intro j h1 h2; exact absurd h2 (by omega)
  | succ d ih =>
    intro j hj1 hj2 ls hl
    refine lv_iload_n hx hb dX1_orders_4 rfl (lv_at hl 2 rfl) ?_
    refine lv_aload_n hx hb dX1_orders_5 rfl (lv_at hl 0 rfl) ?_
    refine x1_n C hK hP dX1_orders_6 ?_
    refine xd_gt C (by omega) (by omega) dX1_orders_9 (tgt := 22) (by decide) (fun hc => ?_) (fun hc => ?_)
    · obtain rfl : j = n := by omega
      refine lv_iload_n hx hb dX1_orders_22 rfl (lv_at hl 1 rfl) ?_
      exact exit ls
    · refine lv_iload_n hx hb dX1_orders_12 rfl (lv_at hl 1 rfl) ?_
      refine lv_iload_n hx hb dX1_orders_13 rfl (lv_at hl 2 rfl) ?_
      refine lv_imul hx hb dX1_orders_14 ?_
      refine xd_top (y := nI (xdFac (j + 1))) (xd_fac_step j) ?_
      refine lv_istore_n (lv' := [(1, .int (nI (xdFac (j + 1)))), (0, .ref h0), (2, .int (nI (j + 1)))]) hx hb dX1_orders_15 rfl hl (by decide) rfl (fun ls hl => ?_)
      refine lv_iinc (v := nI (j + 1 + 1)) (lv' := [(2, .int (nI (j + 1 + 1))), (1, .int (nI (xdFac (j + 1)))), (0, .ref h0)]) hx hb dX1_orders_16 hl (k := 2) rfl (xd_inc1 _) (by decide) rfl (fun ls hl => ?_)
      refine lv_goto (tgt := 4) hx hb dX1_orders_19 (by decide) ?_
      exact ih (j + 1) (by omega) (by omega) ls (lv_sub hl [2, 1, 0] rfl)
end ModelOrders
set_option maxHeartbeats 4000000 in
set_option maxRecDepth 100000 in
/-- orders(): n! -/
theorem met_orders (l : Launch) (dC : Nat → ClassId) (dI : Nat → Nat → Nat) (h0 aL aH aV aQ : Nat) (c1 c2 c3 c4 : ClassId) (z : Nat) (n : Nat) (hn : 2 ≤ n ∧ n ≤ 6) (sz kn fo us : Int32) (lo hi v q : Nat → Int32) : xMi l yX1_orders cX1_orders 3 (some .int) xR0 dC dI (mT c1 c2 c3 c4) [.ref h0] (mW h0 aL aH aV aQ c1 c2 c3 c4 sz (nI n) kn fo us lo hi v q) z (fun (r : Int32) (_ : Unit) => r = nI (xdFac n)) (fun _ : Unit => mW h0 aL aH aV aQ c1 c2 c3 c4 sz (nI n) kn fo us lo hi v q) := by
  refine xd_start (xQi dC dI (mT c1 c2 c3 c4) (fun (r : Int32) (_ : Unit) => r = nI (xdFac n)) (fun _ : Unit => mW h0 aL aH aV aQ c1 c2 c3 c4 sz (nI n) kn fo us lo hi v q)) (by decide) (Nat.le_of_ble_eq_true rfl) ?_
  intro p e s m below meth c A ls C hnm hA hP hK hD hS hl
  have C : xC p s m _ meth c cX1_orders RX1 3 (some .int) := C
  obtain ⟨hx, hb, hml, hr, hlk, hown, hts⟩ := id C
  have hl : lv_has ls 3 [(0, .ref h0)] := hl
  refine lv_iconst (v := nI (xdFac 1)) hx hb dX1_orders_0 (by decide) ?_
  refine lv_istore_n (lv' := [(1, .int (nI (xdFac 1))), (0, .ref h0)]) hx hb dX1_orders_1 rfl hl (by decide) rfl (fun ls hl => ?_)
  refine lv_iconst (v := nI (1 + 1)) hx hb dX1_orders_2 (by decide) ?_
  refine lv_istore_n (lv' := [(2, .int (nI (1 + 1))), (1, .int (nI (xdFac 1))), (0, .ref h0)]) hx hb dX1_orders_3 rfl hl (by decide) rfl (fun ls hl => ?_)
  refine lp_orders C hK hn hP ?_ n 1 (by omega) (by omega) ls (lv_sub hl [2, 1, 0] rfl)
  intro ls
  exact xd_iret C hK () rfl hP hD hS dX1_orders_23
end
section
/-! ===== PART 12: CrossDeskModel, reckon and the rest ===== -/
set_option maxRecDepth 100000
section ModelReckon
variable {p : Program} {l : Launch} {e : Env} {R : Room} {s : State} {m : MethodId} {args : Array Value} {below : List Frame} {meth : Method} {c : Code} {cells slots : Nat} {Q : State → Prop} {dC : Nat → ClassId} {dI : Nat → Nat → Nat} {A : Nat → Prop}
variable {h0 aL aH aV aQ : Nat} {c1 c2 c3 c4 : ClassId}
set_option maxHeartbeats 4000000 in
set_option maxRecDepth 100000 in
theorem lp_rkC (C : xC p s m args meth c cX1_reckon RX1 5 none) (hK : va_K (dC, dI) vwCl (mT c1 c2 c3 c4) s) {n : Nat} (hn : 2 ≤ n ∧ n ≤ 6) {N kk : Nat} {us F : Int32} {lo hi v q : Nat → Int32} {fin : Nat → Nat} (hv0 : ∀ j, j < n → v j = nI (fin j)) (hf0 : ∀ j, j < n → fin j < n) {G : Nat → Prop}
    (exit : ∀ (H : Heap) (locs : List Loc) (fo : Int32) (ls : Array Slot), (∀ i, i < 32 → (bt fo i = true ↔ G i ∧ (i < n → fin i = i))) → va_P (dC, dI) vwCl (mW h0 aL aH aV aQ c1 c2 c3 c4 (nI N) (nI n) 1 fo us lo hi v q) H → va_D A (mW h0 aL aH aV aQ c1 c2 c3 c4 (nI N) (nI n) 1 fo us lo hi v q) → va_S A s.heap H locs → lv_has ls 5 [(0, .ref h0), (1, .int F), (2, .int (nI kk))] → W p l e R s m args below meth c H locs cells slots Q (F0 m 194 ls [])) :
    ∀ (d wi : Nat), wi ≤ n → n < wi + d → ∀ (H : Heap) (locs : List Loc) (fo : Int32) (ls : Array Slot), (∀ i, i < 32 → (bt fo i = true ↔ G i ∧ (i < wi → fin i = i))) → va_P (dC, dI) vwCl (mW h0 aL aH aV aQ c1 c2 c3 c4 (nI N) (nI n) 1 fo us lo hi v q) H → va_D A (mW h0 aL aH aV aQ c1 c2 c3 c4 (nI N) (nI n) 1 fo us lo hi v q) → va_S A s.heap H locs → lv_has ls 5 [(0, .ref h0), (1, .int F), (2, .int (nI kk)), (3, .int (nI wi))] → W p l e R s m args below meth c H locs cells slots Q (F0 m 156 ls []) := by
  obtain ⟨hx, hb, hml, hr, hlk, hown, hts⟩ := id C
  intro d
  induction d with
  | zero => intro wi h1 h2; exact absurd h2 (by omega)
  | succ d ih =>
    intro wi hi1 hi2 H locs fo ls i1 hP hD hS hl
    refine lv_iload_n hx hb dX1_reckon_156 rfl (lv_at hl 3 rfl) ?_
    refine lv_aload_n hx hb dX1_reckon_157 rfl (lv_at hl 0 rfl) ?_
    refine x1_n C hK hP dX1_reckon_158 ?_
    refine xd_ge C (by omega) (by omega) dX1_reckon_161 (tgt := 194) (by decide) (fun hc => ?_) (fun hc => ?_)
    · obtain rfl : wi = n := by omega
      exact exit H locs fo ls i1 hP hD hS (lv_sub hl [0, 1, 2] rfl)
    · have hfin := hf0 wi hc
      refine lv_aload_n hx hb dX1_reckon_164 rfl (lv_at hl 0 rfl) ?_
      refine x1_v C hK hP dX1_reckon_165 ?_
      refine lv_iload_n hx hb dX1_reckon_168 rfl (lv_at hl 3 rfl) ?_
      refine x1_v_ld C hK hP (by omega) (hv0 wi hc) dX1_reckon_169 ?_
      refine lv_iload_n hx hb dX1_reckon_170 rfl (lv_at hl 3 rfl) ?_
      refine xd_eq C (by omega) (by omega) dX1_reckon_171 (tgt := 188) (by decide) (fun hq0 => ?_) (fun hq0 => ?_)
      · refine lv_iinc (v := nI (wi + 1)) (lv' := [(3, .int (nI (wi + 1))), (0, .ref h0), (1, .int F), (2, .int (nI kk))]) hx hb dX1_reckon_188 hl (k := 3) rfl (xd_inc1 _) (by decide) rfl (fun ls hl => ?_)
        refine lv_goto (tgt := 156) hx hb dX1_reckon_191 (by decide) ?_
        exact ih (wi + 1) (by omega) (by omega) H locs fo ls (xd_fo_keep i1 hq0) hP hD hS (lv_sub hl [1, 2, 3, 0] rfl)
      · refine lv_aload_n hx hb dX1_reckon_174 rfl (lv_at hl 0 rfl) ?_
        refine lv_aload_n hx hb dX1_reckon_175 rfl (lv_at hl 0 rfl) ?_
        refine x1_found C hK hP dX1_reckon_176 ?_
        refine lv_iconst (v := 1) hx hb dX1_reckon_179 (by decide) ?_
        refine lv_iload_n hx hb dX1_reckon_180 rfl (lv_at hl 3 rfl) ?_
        refine lv_ishl hx hb dX1_reckon_181 ?_
        refine lv_iconst (v := (-1)) hx hb dX1_reckon_182 (by decide) ?_
        refine lv_ixor hx hb dX1_reckon_183 ?_
        refine lv_iand hx hb dX1_reckon_184 ?_
        refine x1_found_put C hK hP hD hS dX1_reckon_185 (fun H locs hP hD hS => ?_)
        refine lv_iinc (v := nI (wi + 1)) (lv' := [(3, .int (nI (wi + 1))), (0, .ref h0), (1, .int F), (2, .int (nI kk))]) hx hb dX1_reckon_188 hl (k := 3) rfl (xd_inc1 _) (by decide) rfl (fun ls hl => ?_)
        refine lv_goto (tgt := 156) hx hb dX1_reckon_191 (by decide) ?_
        exact ih (wi + 1) (by omega) (by omega) H locs _ ls (xd_fo_clr (by omega) i1 hq0) hP hD hS (lv_sub hl [1, 2, 3, 0] rfl)
set_option maxHeartbeats 4000000 in
set_option maxRecDepth 100000 in
theorem lp_rkB (C : xC p s m args meth c cX1_reckon RX1 5 none) (hK : va_K (dC, dI) vwCl (mT c1 c2 c3 c4) s) {n N : Nat} {Na Nb : Nat → Nat} (hok : xdOK n N Na Nb) {lo hi : Nat → Int32} (el : ∀ i, i < N → lo i = nI (Na i)) (eh : ∀ i, i < N → hi i = nI (Nb i)) {kk : Nat} (hkk : kk < xdFac n) {fo F : Int32} {q : Nat → Int32} {G : Nat → Prop}
    (exit : ∀ (H : Heap) (locs : List Loc) (us : Int32) (v : Nat → Int32) (ls : Array Slot), (∀ j, j < n → v j = nI (xdNn n Na Nb kk N j)) → (∀ i, i < 32 → (bt us i = true ↔ G i ∨ (i < N ∧ i < 31 ∧ xdNn n Na Nb kk i (Nb i) < xdNn n Na Nb kk i (Na i)))) → va_P (dC, dI) vwCl (mW h0 aL aH aV aQ c1 c2 c3 c4 (nI N) (nI n) 1 fo us lo hi v q) H → va_D A (mW h0 aL aH aV aQ c1 c2 c3 c4 (nI N) (nI n) 1 fo us lo hi v q) → va_S A s.heap H locs → lv_has ls 5 [(0, .ref h0), (1, .int F), (2, .int (nI kk))] → W p l e R s m args below meth c H locs cells slots Q (F0 m 154 ls [])) :
    ∀ (d ci : Nat), ci ≤ N → N < ci + d → ∀ (H : Heap) (locs : List Loc) (us : Int32) (v : Nat → Int32) (ls : Array Slot), (∀ j, j < n → v j = nI (xdNn n Na Nb kk ci j)) → (∀ i, i < 32 → (bt us i = true ↔ G i ∨ (i < ci ∧ i < 31 ∧ xdNn n Na Nb kk i (Nb i) < xdNn n Na Nb kk i (Na i)))) → va_P (dC, dI) vwCl (mW h0 aL aH aV aQ c1 c2 c3 c4 (nI N) (nI n) 1 fo us lo hi v q) H → va_D A (mW h0 aL aH aV aQ c1 c2 c3 c4 (nI N) (nI n) 1 fo us lo hi v q) → va_S A s.heap H locs → lv_has ls 5 [(0, .ref h0), (1, .int F), (2, .int (nI kk)), (3, .int (nI ci))] → W p l e R s m args below meth c H locs cells slots Q (F0 m 49 ls []) := by
  obtain ⟨hx, hb, hml, hr, hlk, hown, hts⟩ := id C
  have hn6 := hok.2.1
  have hN48 := hok.2.2.1
  intro d
  induction d with
  | zero => intro ci h1 h2; exact absurd h2 (by omega)
  | succ d ih =>
    intro ci hi1 hi2 H locs us v ls i1 i2 hP hD hS hl
    refine lv_iload_n hx hb dX1_reckon_49 rfl (lv_at hl 3 rfl) ?_
    refine lv_aload_n hx hb dX1_reckon_50 rfl (lv_at hl 0 rfl) ?_
    refine x1_size C hK hP dX1_reckon_51 ?_
    refine xd_ge C (by omega) (by omega) dX1_reckon_54 (tgt := 154) (by decide) (fun hc => ?_) (fun hc => ?_)
    · obtain rfl : ci = N := by omega
      exact exit H locs us v ls i1 i2 hP hD hS (lv_sub hl [0, 1, 2] rfl)
    · obtain ⟨hna, hnb, hab⟩ := hok.2.2.2 ci hc
      have hxa : xdNn n Na Nb kk ci (Na ci) < n := xd_bnd hok.ab (xd_e2 hok.1 hok.2.1 hkk).2 ci (by omega) _ hna
      have hxb : xdNn n Na Nb kk ci (Nb ci) < n := xd_bnd hok.ab (xd_e2 hok.1 hok.2.1 hkk).2 ci (by omega) _ hnb
      refine lv_aload_n hx hb dX1_reckon_57 rfl (lv_at hl 0 rfl) ?_
      refine x1_v C hK hP dX1_reckon_58 ?_
      refine lv_aload_n hx hb dX1_reckon_61 rfl (lv_at hl 0 rfl) ?_
      refine x1_low C hK hP dX1_reckon_62 ?_
      refine lv_iload_n hx hb dX1_reckon_65 rfl (lv_at hl 3 rfl) ?_
      refine x1_lo_ld C hK hP (by omega) (el ci hc) dX1_reckon_66 ?_
      refine x1_v_ld C hK hP (by omega) (i1 _ hna) dX1_reckon_67 ?_
      refine lv_aload_n hx hb dX1_reckon_68 rfl (lv_at hl 0 rfl) ?_
      refine x1_v C hK hP dX1_reckon_69 ?_
      refine lv_aload_n hx hb dX1_reckon_72 rfl (lv_at hl 0 rfl) ?_
      refine x1_high C hK hP dX1_reckon_73 ?_
      refine lv_iload_n hx hb dX1_reckon_76 rfl (lv_at hl 3 rfl) ?_
      refine x1_hi_ld C hK hP (by omega) (eh ci hc) dX1_reckon_77 ?_
      refine x1_v_ld C hK hP (by omega) (i1 _ hnb) dX1_reckon_78 ?_
      refine xd_le C (by omega) (by omega) dX1_reckon_79 (tgt := 148) (by decide) (fun hle => ?_) (fun hle => ?_)
      · refine lv_iinc (v := nI (ci + 1)) (lv' := [(3, .int (nI (ci + 1))), (0, .ref h0), (1, .int F), (2, .int (nI kk))]) hx hb dX1_reckon_148 hl (k := 3) rfl (xd_inc1 _) (by decide) rfl (fun ls hl => ?_)
        refine lv_goto (tgt := 49) hx hb dX1_reckon_151 (by decide) ?_
        exact ih (ci + 1) (by omega) (by omega) H locs us v ls (xd_nn_keep hab i1 hle) (xd_us_keep (S := fun i => xdNn n Na Nb kk i (Nb i) < xdNn n Na Nb kk i (Na i)) i2 (fun _ => Nat.not_lt.mpr hle)) hP hD hS (lv_sub hl [1, 2, 3, 0] rfl)
      · refine lv_aload_n hx hb dX1_reckon_82 rfl (lv_at hl 0 rfl) ?_
        refine x1_v C hK hP dX1_reckon_83 ?_
        refine lv_aload_n hx hb dX1_reckon_86 rfl (lv_at hl 0 rfl) ?_
        refine x1_low C hK hP dX1_reckon_87 ?_
        refine lv_iload_n hx hb dX1_reckon_90 rfl (lv_at hl 3 rfl) ?_
        refine x1_lo_ld C hK hP (by omega) (el ci hc) dX1_reckon_91 ?_
        refine x1_v_ld C hK hP (by omega) (i1 _ hna) dX1_reckon_92 ?_
        refine lv_istore (lv' := [(4, .int (nI (xdNn n Na Nb kk ci (Na ci)))), (0, .ref h0), (1, .int F), (2, .int (nI kk)), (3, .int (nI ci))]) hx hb dX1_reckon_93 hl (by decide) rfl (fun ls hl => ?_)
        refine lv_aload_n hx hb dX1_reckon_95 rfl (lv_at hl 1 rfl) ?_
        refine x1_v C hK hP dX1_reckon_96 ?_
        refine lv_aload_n hx hb dX1_reckon_99 rfl (lv_at hl 1 rfl) ?_
        refine x1_low C hK hP dX1_reckon_100 ?_
        refine lv_iload_n hx hb dX1_reckon_103 rfl (lv_at hl 4 rfl) ?_
        refine x1_lo_ld C hK hP (by omega) (el ci hc) dX1_reckon_104 ?_
        refine lv_aload_n hx hb dX1_reckon_105 rfl (lv_at hl 1 rfl) ?_
        refine x1_v C hK hP dX1_reckon_106 ?_
        refine lv_aload_n hx hb dX1_reckon_109 rfl (lv_at hl 1 rfl) ?_
        refine x1_high C hK hP dX1_reckon_110 ?_
        refine lv_iload_n hx hb dX1_reckon_113 rfl (lv_at hl 4 rfl) ?_
        refine x1_hi_ld C hK hP (by omega) (eh ci hc) dX1_reckon_114 ?_
        refine x1_v_ld C hK hP (by omega) (i1 _ hnb) dX1_reckon_115 ?_
        refine x1_v_st C hK hP hD hS (by omega) dX1_reckon_116 (fun H locs hP hD hS => ?_)
        refine lv_aload_n hx hb dX1_reckon_117 rfl (lv_at hl 1 rfl) ?_
        refine x1_v C hK hP dX1_reckon_118 ?_
        refine lv_aload_n hx hb dX1_reckon_121 rfl (lv_at hl 1 rfl) ?_
        refine x1_high C hK hP dX1_reckon_122 ?_
        refine lv_iload_n hx hb dX1_reckon_125 rfl (lv_at hl 4 rfl) ?_
        refine x1_hi_ld C hK hP (by omega) (eh ci hc) dX1_reckon_126 ?_
        refine lv_iload hx hb dX1_reckon_127 (lv_at hl 0 rfl) ?_
        refine x1_v_st C hK hP hD hS (by omega) dX1_reckon_129 (fun H locs hP hD hS => ?_)
        refine lv_iload_n hx hb dX1_reckon_130 rfl (lv_at hl 4 rfl) ?_
        refine lv_bipush (v := nI 31) hx hb dX1_reckon_131 (by decide) ?_
        refine xd_ge C (by omega) (by decide) dX1_reckon_133 (tgt := 148) (by decide) (fun h31 => ?_) (fun h31 => ?_)
        · refine lv_iinc (v := nI (ci + 1)) (lv' := [(3, .int (nI (ci + 1))), (4, .int (nI (xdNn n Na Nb kk ci (Na ci)))), (0, .ref h0), (1, .int F), (2, .int (nI kk))]) hx hb dX1_reckon_148 hl (k := 4) rfl (xd_inc1 _) (by decide) rfl (fun ls hl => ?_)
          refine lv_goto (tgt := 49) hx hb dX1_reckon_151 (by decide) ?_
          exact ih (ci + 1) (by omega) (by omega) H locs us _ ls (xd_nn_swap hab i1 hle) (xd_us_keep (S := fun i => xdNn n Na Nb kk i (Nb i) < xdNn n Na Nb kk i (Na i)) i2 (fun h => absurd h (by omega))) hP hD hS (lv_sub hl [2, 3, 4, 0] rfl)
        · refine lv_aload_n hx hb dX1_reckon_136 rfl (lv_at hl 1 rfl) ?_
          refine lv_aload_n hx hb dX1_reckon_137 rfl (lv_at hl 1 rfl) ?_
          refine x1_used C hK hP dX1_reckon_138 ?_
          refine lv_iconst (v := 1) hx hb dX1_reckon_141 (by decide) ?_
          refine lv_iload_n hx hb dX1_reckon_142 rfl (lv_at hl 4 rfl) ?_
          refine lv_ishl hx hb dX1_reckon_143 ?_
          refine lv_ior hx hb dX1_reckon_144 ?_
          refine x1_used_put C hK hP hD hS dX1_reckon_145 (fun H locs hP hD hS => ?_)
          refine lv_iinc (v := nI (ci + 1)) (lv' := [(3, .int (nI (ci + 1))), (4, .int (nI (xdNn n Na Nb kk ci (Na ci)))), (0, .ref h0), (1, .int F), (2, .int (nI kk))]) hx hb dX1_reckon_148 hl (k := 4) rfl (xd_inc1 _) (by decide) rfl (fun ls hl => ?_)
          refine lv_goto (tgt := 49) hx hb dX1_reckon_151 (by decide) ?_
          exact ih (ci + 1) (by omega) (by omega) H locs _ _ ls (xd_nn_swap hab i1 hle) (xd_us_set (S := fun i => xdNn n Na Nb kk i (Nb i) < xdNn n Na Nb kk i (Na i)) h31 i2 hle) hP hD hS (lv_sub hl [2, 3, 4, 0] rfl)
set_option maxHeartbeats 4000000 in
set_option maxRecDepth 100000 in
theorem lp_rkA (C : xC p s m args meth c cX1_reckon RX1 5 none) (hK : va_K (dC, dI) vwCl (mT c1 c2 c3 c4) s) (hA : ∀ q : Nat, s.heap.size ≤ q → A q) {n N : Nat} {Na Nb : Nat → Nat} (hok : xdOK n N Na Nb) {lo hi : Nat → Int32} (el : ∀ i, i < N → lo i = nI (Na i)) (eh : ∀ i, i < N → hi i = nI (Nb i))
    (exit : ∀ (H : Heap) (locs : List Loc) (fo us : Int32) (v q : Nat → Int32) (ls : Array Slot), xdGk n N (xdFac n) Na Nb fo us → va_P (dC, dI) vwCl (mW h0 aL aH aV aQ c1 c2 c3 c4 (nI N) (nI n) 1 fo us lo hi v q) H → va_D A (mW h0 aL aH aV aQ c1 c2 c3 c4 (nI N) (nI n) 1 fo us lo hi v q) → va_S A s.heap H locs → W p l e xR1 s m args below meth c H locs 0 0 Q (F0 m 200 ls [])) :
    ∀ (d kk : Nat), kk ≤ xdFac n → xdFac n < kk + d → ∀ (H : Heap) (locs : List Loc) (fo us : Int32) (v q : Nat → Int32) (ls : Array Slot), xdGk n N kk Na Nb fo us → va_P (dC, dI) vwCl (mW h0 aL aH aV aQ c1 c2 c3 c4 (nI N) (nI n) 1 fo us lo hi v q) H → va_D A (mW h0 aL aH aV aQ c1 c2 c3 c4 (nI N) (nI n) 1 fo us lo hi v q) → va_S A s.heap H locs → lv_has ls 5 [(0, .ref h0), (1, .int (nI (xdFac n))), (2, .int (nI kk))] → W p l e xR1 s m args below meth c H locs 0 0 Q (F0 m 37 ls []) := by
  obtain ⟨hx, hb, hml, hr, hlk, hown, hts⟩ := id C
  have hn6 := hok.2.1
  have hfl := xd_fac_lt hn6
  intro d
  induction d with
  | zero => intro kk h1 h2; exact absurd h2 (by omega)
  | succ d ih =>
    intro kk hi1 hi2 H locs fo us v q ls i1 hP hD hS hl
    refine lv_iload_n hx hb dX1_reckon_37 rfl (lv_at hl 2 rfl) ?_
    refine lv_iload_n hx hb dX1_reckon_38 rfl (lv_at hl 1 rfl) ?_
    refine xd_ge C (by omega) (by omega) dX1_reckon_39 (tgt := 200) (by decide) (fun hc => ?_) (fun hc => ?_)
    · obtain rfl : kk = xdFac n := by omega
      exact exit H locs fo us v q ls i1 hP hD hS
    · refine lv_aload_n hx hb dX1_reckon_42 rfl (lv_at hl 0 rfl) ?_
      refine lv_iload_n hx hb dX1_reckon_43 rfl (lv_at hl 2 rfl) ?_
      refine xd_callVv C (met_order l dC dI h0 aL aH aV aQ c1 c2 c3 c4 _ n ⟨hok.1, hok.2.1⟩ (nI N) 1 fo us lo hi v q kk (by omega)) (cwV 1 hts (lw_V q140 q142 qs6 q9 q143) rfl rfl rfl (by decide +kernel) ⟨Nat.le_of_ble_eq_true rfl, Nat.le_of_ble_eq_true rfl⟩) hK hP hD hS hA [0, 1, 2, 3, 4] [] [0, 1, 2, 3] [] rfl rfl rfl (by decide) (by decide) (by decide) rfl 1 0 rfl rfl rfl rfl hl.1 rfl (Nat.le_of_ble_eq_true rfl) dX1_reckon_44 ⟨Nat.le_of_ble_eq_true rfl, Nat.le_of_ble_eq_true rfl⟩ (fun u H locs hpost hP hD hS => ?_)
      have hP : va_P (dC, dI) vwCl (mW h0 aL aH aV aQ c1 c2 c3 c4 (nI N) (nI n) 1 fo us lo hi u.1 u.2) H := hP
      have hD : va_D A (mW h0 aL aH aV aQ c1 c2 c3 c4 (nI N) (nI n) 1 fo us lo hi u.1 u.2) := hD
      refine lv_iconst (v := nI 0) hx hb dX1_reckon_47 (by decide) ?_
      refine lv_istore_n (lv' := [(3, .int (nI 0)), (0, .ref h0), (1, .int (nI (xdFac n))), (2, .int (nI kk))]) hx hb dX1_reckon_48 rfl hl (by decide) rfl (fun ls hl => ?_)
      refine lp_rkB C hK hok el eh hc (G := fun i => i < N ∧ i < 31 ∧ ∃ a, a < kk ∧ xdNn n Na Nb a i (Nb i) < xdNn n Na Nb a i (Na i)) ?_ (N + 1) 0 (Nat.zero_le _) (by omega) H locs us u.1 ls hpost (fun i hi => by rw [i1.2 i hi]; exact ⟨fun q0 => Or.inl q0, fun q0 => by rcases q0 with q0 | q0; exact q0; exact absurd q0.1 (Nat.not_lt_zero i)⟩) hP hD hS (lv_sub hl [1, 2, 3, 0] rfl)
      intro H locs us2 v2 ls j1 j2 hP hD hS hl
      refine lv_iconst (v := nI 0) hx hb dX1_reckon_154 (by decide) ?_
      refine lv_istore_n (lv' := [(3, .int (nI 0)), (0, .ref h0), (1, .int (nI (xdFac n))), (2, .int (nI kk))]) hx hb dX1_reckon_155 rfl hl (by decide) rfl (fun ls hl => ?_)
      refine lp_rkC C hK ⟨hok.1, hok.2.1⟩ (N := N) (fin := xdNn n Na Nb kk N) j1 (fun j hj => xd_bnd hok.ab (xd_e2 hok.1 hok.2.1 hc).2 N (Nat.le_refl N) j hj) (G := fun i => i < n ∧ ∀ a, a < kk → xdNn n Na Nb a N i = i) ?_ (n + 1) 0 (Nat.zero_le _) (by omega) H locs fo ls (fun i hi => by rw [i1.1 i hi]; exact ⟨fun q0 => ⟨q0, fun q1 => absurd q1 (Nat.not_lt_zero i)⟩, fun q0 => q0.1⟩) hP hD hS (lv_sub hl [1, 2, 3, 0] rfl)
      intro H locs fo2 ls m1 hP hD hS hl
      refine lv_iinc (v := nI (kk + 1)) (lv' := [(2, .int (nI (kk + 1))), (0, .ref h0), (1, .int (nI (xdFac n)))]) hx hb dX1_reckon_194 hl (k := 2) rfl (xd_inc1 _) (by decide) rfl (fun ls hl => ?_)
      refine lv_goto (tgt := 37) hx hb dX1_reckon_197 (by decide) ?_
      exact ih (kk + 1) (by omega) (by omega) H locs fo2 us2 v2 _ ls (xd_gkS m1 j2) hP hD hS (lv_sub hl [1, 2, 0] rfl)
end ModelReckon
set_option maxHeartbeats 4000000 in
set_option maxRecDepth 100000 in
/-- reckon(): found and used, over all orders -/
theorem met_reckon (l : Launch) (dC : Nat → ClassId) (dI : Nat → Nat → Nat) (h0 aL aH aV aQ : Nat) (c1 c2 c3 c4 : ClassId) (z : Nat) (n N : Nat) (Na Nb : Nat → Nat) (hok : xdOK n N Na Nb) (lo hi : Nat → Int32) (el : ∀ i, i < N → lo i = nI (Na i)) (eh : ∀ i, i < N → hi i = nI (Nb i)) (v q : Nat → Int32) (kn fo us : Int32) (hkn : kn = 0 ∨ (kn = 1 ∧ xdGood n N Na Nb fo us)) : xMv l yX1_reckon cX1_reckon 5 xR1 dC dI (mT c1 c2 c3 c4) [.ref h0] (mW h0 aL aH aV aQ c1 c2 c3 c4 (nI N) (nI n) kn fo us lo hi v q) z (fun u : Int32 × Int32 × (Nat → Int32) × (Nat → Int32) => xdGood n N Na Nb u.1 u.2.1) (fun u : Int32 × Int32 × (Nat → Int32) × (Nat → Int32) => mW h0 aL aH aV aQ c1 c2 c3 c4 (nI N) (nI n) 1 u.1 u.2.1 lo hi u.2.2.1 u.2.2.2) := by
  refine xd_start (xQv dC dI (mT c1 c2 c3 c4) (fun u : Int32 × Int32 × (Nat → Int32) × (Nat → Int32) => xdGood n N Na Nb u.1 u.2.1) (fun u : Int32 × Int32 × (Nat → Int32) × (Nat → Int32) => mW h0 aL aH aV aQ c1 c2 c3 c4 (nI N) (nI n) 1 u.1 u.2.1 lo hi u.2.2.1 u.2.2.2)) (by decide) (Nat.le_of_ble_eq_true rfl) ?_
  intro p e s m below meth c A ls C hnm hA hP hK hD hS hl
  have C : xC p s m _ meth c cX1_reckon RX1 5 none := C
  obtain ⟨hx, hb, hml, hr, hlk, hown, hts⟩ := id C
  have hl : lv_has ls 5 [(0, .ref h0)] := hl
  have hn2 := hok.1
  have hn6 := hok.2.1
  refine lv_aload_n hx hb dX1_reckon_0 rfl (lv_at hl 0 rfl) ?_
  refine x1_known C hK hP dX1_reckon_1 ?_
  refine lv_if_eq (tgt := 8) hx hb dX1_reckon_4 (by decide) (fun hc => ?_) (fun hc => ?_)
  · refine lv_aload_n hx hb dX1_reckon_8 rfl (lv_at hl 0 rfl) ?_
    refine lv_iconst (v := 1) hx hb dX1_reckon_9 (by decide) ?_
    refine x1_known_put C hK hP hD hS (Or.inr rfl) dX1_reckon_10 (fun H locs hP hD hS => ?_)
    refine lv_aload_n hx hb dX1_reckon_13 rfl (lv_at hl 0 rfl) ?_
    refine lv_iconst (v := 1) hx hb dX1_reckon_14 (by decide) ?_
    refine lv_aload_n hx hb dX1_reckon_15 rfl (lv_at hl 0 rfl) ?_
    refine x1_n C hK hP dX1_reckon_16 ?_
    refine lv_ishl hx hb dX1_reckon_19 ?_
    refine lv_iconst (v := 1) hx hb dX1_reckon_20 (by decide) ?_
    refine lv_isub hx hb dX1_reckon_21 ?_
    refine x1_found_put C hK hP hD hS dX1_reckon_22 (fun H locs hP hD hS => ?_)
    refine lv_aload_n hx hb dX1_reckon_25 rfl (lv_at hl 0 rfl) ?_
    refine lv_iconst (v := 0) hx hb dX1_reckon_26 (by decide) ?_
    refine x1_used_put C hK hP hD hS dX1_reckon_27 (fun H locs hP hD hS => ?_)
    refine lv_aload_n hx hb dX1_reckon_30 rfl (lv_at hl 0 rfl) ?_
    refine xd_callVi C (met_orders l dC dI h0 aL aH aV aQ c1 c2 c3 c4 _ n ⟨hok.1, hok.2.1⟩ (nI N) 1 ((1 <<< ((nI n) &&& 31)) - 1) 0 lo hi v q) (cwV 0 hts (lw_V q136 q138 qs5 q9 q139) rfl rfl rfl (by decide +kernel) ⟨Nat.le_of_ble_eq_true rfl, Nat.le_of_ble_eq_true rfl⟩) hK hP hD hS hA [0, 1, 2, 3, 4] [] [0, 1, 2, 3] [] rfl rfl rfl (by decide) (by decide) (by decide) rfl 1 0 rfl rfl rfl rfl hl.1 rfl (Nat.le_of_ble_eq_true rfl) dX1_reckon_31 ⟨Nat.le_of_ble_eq_true rfl, Nat.le_of_ble_eq_true rfl⟩ (fun r _ H locs hpost hP hD hS => ?_)
    subst hpost
    have hP : va_P (dC, dI) vwCl (mW h0 aL aH aV aQ c1 c2 c3 c4 (nI N) (nI n) 1 ((1 <<< ((nI n) &&& 31)) - 1) 0 lo hi v q) H := hP
    have hD : va_D A (mW h0 aL aH aV aQ c1 c2 c3 c4 (nI N) (nI n) 1 ((1 <<< ((nI n) &&& 31)) - 1) 0 lo hi v q) := hD
    refine lv_istore_n (lv' := [(1, .int (nI (xdFac n))), (0, .ref h0)]) hx hb dX1_reckon_34 rfl hl (by decide) rfl (fun ls hl => ?_)
    refine lv_iconst (v := nI 0) hx hb dX1_reckon_35 (by decide) ?_
    refine lv_istore_n (lv' := [(2, .int (nI 0)), (1, .int (nI (xdFac n))), (0, .ref h0)]) hx hb dX1_reckon_36 rfl hl (by decide) rfl (fun ls hl => ?_)
    refine lp_rkA C hK hA hok el eh ?_ (xdFac n + 1) 0 (Nat.zero_le _) (by omega) H locs _ 0 v q ls (xd_gk0 (by omega)) hP hD hS (lv_sub hl [2, 1, 0] rfl)
    intro H locs fo2 us2 v2 q2 ls h1 hP hD hS
    exact xd_vret C hK (fo2, us2, v2, q2) (xd_gk_good h1) hP hD hS dX1_reckon_200
  · rcases hkn with q0 | ⟨q0, hg⟩
    · exact absurd q0 hc
    · subst q0
      exact xd_vret C hK (fo, us, v, q) hg hP hD hS dX1_reckon_7
set_option maxHeartbeats 4000000 in
set_option maxRecDepth 100000 in
/-- sorts(): whether every wire has its own number for all orders -/
theorem met_msorts (l : Launch) (dC : Nat → ClassId) (dI : Nat → Nat → Nat) (h0 aL aH aV aQ : Nat) (c1 c2 c3 c4 : ClassId) (z : Nat) (n N : Nat) (Na Nb : Nat → Nat) (hok : xdOK n N Na Nb) (lo hi : Nat → Int32) (el : ∀ i, i < N → lo i = nI (Na i)) (eh : ∀ i, i < N → hi i = nI (Nb i)) (v q : Nat → Int32) (kn fo us : Int32) (hkn : kn = 0 ∨ (kn = 1 ∧ xdGood n N Na Nb fo us)) : xMi l yX1_sorts cX1_sorts 1 (some .boolean) xR2 dC dI (mT c1 c2 c3 c4) [.ref h0] (mW h0 aL aH aV aQ c1 c2 c3 c4 (nI N) (nI n) kn fo us lo hi v q) z (fun (r : Int32) (u : Int32 × Int32 × (Nat → Int32) × (Nat → Int32)) => xdGood n N Na Nb u.1 u.2.1 ∧ ((r = 1 ∧ ∀ i, i < n → xdOwnM n N Na Nb i) ∨ (r = 0 ∧ ¬ ∀ i, i < n → xdOwnM n N Na Nb i))) (fun u : Int32 × Int32 × (Nat → Int32) × (Nat → Int32) => mW h0 aL aH aV aQ c1 c2 c3 c4 (nI N) (nI n) 1 u.1 u.2.1 lo hi u.2.2.1 u.2.2.2) := by
  refine xd_start (xQi dC dI (mT c1 c2 c3 c4) (fun (r : Int32) (u : Int32 × Int32 × (Nat → Int32) × (Nat → Int32)) => xdGood n N Na Nb u.1 u.2.1 ∧ ((r = 1 ∧ ∀ i, i < n → xdOwnM n N Na Nb i) ∨ (r = 0 ∧ ¬ ∀ i, i < n → xdOwnM n N Na Nb i))) (fun u : Int32 × Int32 × (Nat → Int32) × (Nat → Int32) => mW h0 aL aH aV aQ c1 c2 c3 c4 (nI N) (nI n) 1 u.1 u.2.1 lo hi u.2.2.1 u.2.2.2)) (by decide) (Nat.le_of_ble_eq_true rfl) ?_
  intro p e s m below meth c A ls C hnm hA hP hK hD hS hl
  have C : xC p s m _ meth c cX1_sorts RX1 1 (some .boolean) := C
  obtain ⟨hx, hb, hml, hr, hlk, hown, hts⟩ := id C
  have hl : lv_has ls 1 [(0, .ref h0)] := hl
  have hn6 := hok.2.1
  refine lv_aload_n hx hb dX1_sorts_0 rfl (lv_at hl 0 rfl) ?_
  refine xd_callVv C (met_reckon l dC dI h0 aL aH aV aQ c1 c2 c3 c4 _ n N Na Nb hok lo hi el eh v q kn fo us hkn) (cwV 0 hts (lw_V q132 q134 qs4 q9 q135) rfl rfl rfl (by decide +kernel) ⟨Nat.le_of_ble_eq_true rfl, Nat.le_of_ble_eq_true rfl⟩) hK hP hD hS hA [0, 1, 2, 3, 4] [] [0, 1, 2, 3] [] rfl rfl rfl (by decide) (by decide) (by decide) rfl 1 0 rfl rfl rfl rfl hl.1 rfl (Nat.le_of_ble_eq_true rfl) dX1_sorts_1 ⟨Nat.le_of_ble_eq_true rfl, Nat.le_of_ble_eq_true rfl⟩ (fun u H locs hpost hP hD hS => ?_)
  have hP : va_P (dC, dI) vwCl (mW h0 aL aH aV aQ c1 c2 c3 c4 (nI N) (nI n) 1 u.1 u.2.1 lo hi u.2.2.1 u.2.2.2) H := hP
  have hD : va_D A (mW h0 aL aH aV aQ c1 c2 c3 c4 (nI N) (nI n) 1 u.1 u.2.1 lo hi u.2.2.1 u.2.2.2) := hD
  have hall := xd_found_all (by omega) hpost
  refine lv_aload_n hx hb dX1_sorts_4 rfl (lv_at hl 0 rfl) ?_
  refine x1_found C hK hP dX1_sorts_5 ?_
  refine lv_iconst (v := 1) hx hb dX1_sorts_8 (by decide) ?_
  refine lv_aload_n hx hb dX1_sorts_9 rfl (lv_at hl 0 rfl) ?_
  refine x1_n C hK hP dX1_sorts_10 ?_
  refine lv_ishl hx hb dX1_sorts_13 ?_
  refine lv_iconst (v := 1) hx hb dX1_sorts_14 (by decide) ?_
  refine lv_isub hx hb dX1_sorts_15 ?_
  refine lv_icmp_ne (tgt := 23) hx hb dX1_sorts_16 (by decide) (fun hc => ?_) (fun hc => ?_)
  · refine lv_iconst (v := 0) hx hb dX1_sorts_23 (by decide) ?_
    exact xd_zret C (Or.inl rfl) hK u ⟨hpost, Or.inr ⟨rfl, fun q0 => hc (hall.mpr q0)⟩⟩ hP hD hS dX1_sorts_24
  · refine lv_iconst (v := 1) hx hb dX1_sorts_19 (by decide) ?_
    refine lv_goto (tgt := 24) hx hb dX1_sorts_20 (by decide) ?_
    exact xd_zret C (Or.inr rfl) hK u ⟨hpost, Or.inl ⟨rfl, hall.mp hc⟩⟩ hP hD hS dX1_sorts_24
set_option maxHeartbeats 4000000 in
set_option maxRecDepth 100000 in
/-- finds(x): whether a wire has its own number for all orders -/
theorem met_mfinds (l : Launch) (dC : Nat → ClassId) (dI : Nat → Nat → Nat) (h0 aL aH aV aQ : Nat) (c1 c2 c3 c4 : ClassId) (z : Nat) (n N : Nat) (Na Nb : Nat → Nat) (hok : xdOK n N Na Nb) (lo hi : Nat → Int32) (el : ∀ i, i < N → lo i = nI (Na i)) (eh : ∀ i, i < N → hi i = nI (Nb i)) (v q : Nat → Int32) (kn fo us : Int32) (hkn : kn = 0 ∨ (kn = 1 ∧ xdGood n N Na Nb fo us)) (x : Int32) : xMi l yX1_finds cX1_finds 2 (some .boolean) xR2 dC dI (mT c1 c2 c3 c4) [.ref h0, .int x] (mW h0 aL aH aV aQ c1 c2 c3 c4 (nI N) (nI n) kn fo us lo hi v q) z (fun (r : Int32) (u : Int32 × Int32 × (Nat → Int32) × (Nat → Int32)) => xdGood n N Na Nb u.1 u.2.1 ∧ ((r = 1 ∧ xdOwnM n N Na Nb (xdCn x n)) ∨ (r = 0 ∧ ¬ xdOwnM n N Na Nb (xdCn x n)))) (fun u : Int32 × Int32 × (Nat → Int32) × (Nat → Int32) => mW h0 aL aH aV aQ c1 c2 c3 c4 (nI N) (nI n) 1 u.1 u.2.1 lo hi u.2.2.1 u.2.2.2) := by
  refine xd_start (xQi dC dI (mT c1 c2 c3 c4) (fun (r : Int32) (u : Int32 × Int32 × (Nat → Int32) × (Nat → Int32)) => xdGood n N Na Nb u.1 u.2.1 ∧ ((r = 1 ∧ xdOwnM n N Na Nb (xdCn x n)) ∨ (r = 0 ∧ ¬ xdOwnM n N Na Nb (xdCn x n)))) (fun u : Int32 × Int32 × (Nat → Int32) × (Nat → Int32) => mW h0 aL aH aV aQ c1 c2 c3 c4 (nI N) (nI n) 1 u.1 u.2.1 lo hi u.2.2.1 u.2.2.2)) (by decide) (Nat.le_of_ble_eq_true rfl) ?_
  intro p e s m below meth c A ls C hnm hA hP hK hD hS hl
  have C : xC p s m _ meth c cX1_finds RX1 2 (some .boolean) := C
  obtain ⟨hx, hb, hml, hr, hlk, hown, hts⟩ := id C
  have hl : lv_has ls 2 [(0, .ref h0), (1, .int x)] := hl
  have hn2 := hok.1
  have hn6 := hok.2.1
  have hwi : xdCn x n < n := xd_cn_lt x (by omega)
  refine lv_aload_n hx hb dX1_finds_0 rfl (lv_at hl 0 rfl) ?_
  refine xd_callVv C (met_reckon l dC dI h0 aL aH aV aQ c1 c2 c3 c4 _ n N Na Nb hok lo hi el eh v q kn fo us hkn) (cwV 0 hts (lw_V q132 q134 qs4 q9 q135) rfl rfl rfl (by decide +kernel) ⟨Nat.le_of_ble_eq_true rfl, Nat.le_of_ble_eq_true rfl⟩) hK hP hD hS hA [0, 1, 2, 3, 4] [] [0, 1, 2, 3] [] rfl rfl rfl (by decide) (by decide) (by decide) rfl 1 0 rfl rfl rfl rfl hl.1 rfl (Nat.le_of_ble_eq_true rfl) dX1_finds_1 ⟨Nat.le_of_ble_eq_true rfl, Nat.le_of_ble_eq_true rfl⟩ (fun u H locs hpost hP hD hS => ?_)
  have hP : va_P (dC, dI) vwCl (mW h0 aL aH aV aQ c1 c2 c3 c4 (nI N) (nI n) 1 u.1 u.2.1 lo hi u.2.2.1 u.2.2.2) H := hP
  have hD : va_D A (mW h0 aL aH aV aQ c1 c2 c3 c4 (nI N) (nI n) 1 u.1 u.2.1 lo hi u.2.2.1 u.2.2.2) := hD
  refine lv_aload_n hx hb dX1_finds_4 rfl (lv_at hl 0 rfl) ?_
  refine x1_found C hK hP dX1_finds_5 ?_
  refine lv_iload_n hx hb dX1_finds_8 rfl (lv_at hl 1 rfl) ?_
  refine lv_ldc (v := 2147483647) hx hb hown (hts _ q119) dX1_finds_9 ?_
  refine lv_iand hx hb dX1_finds_11 ?_
  refine lv_aload_n hx hb dX1_finds_12 rfl (lv_at hl 0 rfl) ?_
  refine x1_n C hK hP dX1_finds_13 ?_
  refine lv_irem hx hb dX1_finds_16 (nI_ne0 (by omega) (by omega)) ?_
  refine xd_top (y := nI (xdCn x n)) (xd_cn x (by omega) (by omega)) ?_
  refine lv_ishr hx hb dX1_finds_17 ?_
  refine lv_iconst (v := 1) hx hb dX1_finds_18 (by decide) ?_
  refine lv_iand hx hb dX1_finds_19 ?_
  have hbit := xi_shr u.1 (w := xdCn x n) (by omega)
  have hgd := hpost.1 (xdCn x n) (by omega)
  refine lv_if_eq (tgt := 27) hx hb dX1_finds_20 (by decide) (fun hc => ?_) (fun hc => ?_)
  · refine lv_iconst (v := 0) hx hb dX1_finds_27 (by decide) ?_
    refine xd_zret C (Or.inl rfl) hK u ⟨hpost, Or.inr ⟨rfl, fun q0 => ?_⟩⟩ hP hD hS dX1_finds_28
    have h1 := hgd.mpr ⟨hwi, q0⟩
    rw [hbit.mp hc] at h1
    cases h1
  · refine lv_iconst (v := 1) hx hb dX1_finds_23 (by decide) ?_
    refine lv_goto (tgt := 28) hx hb dX1_finds_24 (by decide) ?_
    refine xd_zret C (Or.inr rfl) hK u ⟨hpost, Or.inl ⟨rfl, ?_⟩⟩ hP hD hS dX1_finds_28
    cases h1 : bt u.1 (xdCn x n) with
    | true => exact (hgd.mp h1).2
    | false => exact absurd (hbit.mpr h1) hc
set_option maxHeartbeats 4000000 in
set_option maxRecDepth 100000 in
/-- needless(): of the first 31 crossings those that exchange nothing for any order -/
theorem met_mneedless (l : Launch) (dC : Nat → ClassId) (dI : Nat → Nat → Nat) (h0 aL aH aV aQ : Nat) (c1 c2 c3 c4 : ClassId) (z : Nat) (n N : Nat) (Na Nb : Nat → Nat) (hok : xdOK n N Na Nb) (lo hi : Nat → Int32) (el : ∀ i, i < N → lo i = nI (Na i)) (eh : ∀ i, i < N → hi i = nI (Nb i)) (v q : Nat → Int32) (kn fo us : Int32) (hkn : kn = 0 ∨ (kn = 1 ∧ xdGood n N Na Nb fo us)) : xMi l yX1_needless cX1_needless 2 (some .int) xR2 dC dI (mT c1 c2 c3 c4) [.ref h0] (mW h0 aL aH aV aQ c1 c2 c3 c4 (nI N) (nI n) kn fo us lo hi v q) z (fun (r : Int32) (u : Int32 × Int32 × (Nat → Int32) × (Nat → Int32)) => xdGood n N Na Nb u.1 u.2.1 ∧ ∀ i, i < 32 → (bt r i = true ↔ i < N ∧ i < 31 ∧ ¬ xdUseM n Na Nb i)) (fun u : Int32 × Int32 × (Nat → Int32) × (Nat → Int32) => mW h0 aL aH aV aQ c1 c2 c3 c4 (nI N) (nI n) 1 u.1 u.2.1 lo hi u.2.2.1 u.2.2.2) := by
  refine xd_start (xQi dC dI (mT c1 c2 c3 c4) (fun (r : Int32) (u : Int32 × Int32 × (Nat → Int32) × (Nat → Int32)) => xdGood n N Na Nb u.1 u.2.1 ∧ ∀ i, i < 32 → (bt r i = true ↔ i < N ∧ i < 31 ∧ ¬ xdUseM n Na Nb i)) (fun u : Int32 × Int32 × (Nat → Int32) × (Nat → Int32) => mW h0 aL aH aV aQ c1 c2 c3 c4 (nI N) (nI n) 1 u.1 u.2.1 lo hi u.2.2.1 u.2.2.2)) (by decide) (Nat.le_of_ble_eq_true rfl) ?_
  intro p e s m below meth c A ls C hnm hA hP hK hD hS hl
  have C : xC p s m _ meth c cX1_needless RX1 2 (some .int) := C
  obtain ⟨hx, hb, hml, hr, hlk, hown, hts⟩ := id C
  have hl : lv_has ls 2 [(0, .ref h0)] := hl
  have hN48 := hok.2.2.1
  refine lv_aload_n hx hb dX1_needless_0 rfl (lv_at hl 0 rfl) ?_
  refine xd_callVv C (met_reckon l dC dI h0 aL aH aV aQ c1 c2 c3 c4 _ n N Na Nb hok lo hi el eh v q kn fo us hkn) (cwV 0 hts (lw_V q132 q134 qs4 q9 q135) rfl rfl rfl (by decide +kernel) ⟨Nat.le_of_ble_eq_true rfl, Nat.le_of_ble_eq_true rfl⟩) hK hP hD hS hA [0, 1, 2, 3, 4] [] [0, 1, 2, 3] [] rfl rfl rfl (by decide) (by decide) (by decide) rfl 1 0 rfl rfl rfl rfl hl.1 rfl (Nat.le_of_ble_eq_true rfl) dX1_needless_1 ⟨Nat.le_of_ble_eq_true rfl, Nat.le_of_ble_eq_true rfl⟩ (fun u H locs hpost hP hD hS => ?_)
  have hP : va_P (dC, dI) vwCl (mW h0 aL aH aV aQ c1 c2 c3 c4 (nI N) (nI n) 1 u.1 u.2.1 lo hi u.2.2.1 u.2.2.2) H := hP
  have hD : va_D A (mW h0 aL aH aV aQ c1 c2 c3 c4 (nI N) (nI n) 1 u.1 u.2.1 lo hi u.2.2.1 u.2.2.2) := hD
  refine lv_aload_n hx hb dX1_needless_4 rfl (lv_at hl 0 rfl) ?_
  refine x1_size C hK hP dX1_needless_5 ?_
  refine lv_bipush (v := nI 31) hx hb dX1_needless_8 (by decide) ?_
  refine xd_ge C (by omega) (by decide) dX1_needless_10 (tgt := 24) (by decide) (fun hc => ?_) (fun hc => ?_)
  · refine lv_ldc (v := 2147483647) hx hb hown (hts _ q119) dX1_needless_24 ?_
    refine lv_istore_n (lv' := [(1, .int 2147483647), (0, .ref h0)]) hx hb dX1_needless_26 rfl hl (by decide) rfl (fun ls hl => ?_)
    refine lv_iload_n hx hb dX1_needless_27 rfl (lv_at hl 0 rfl) ?_
    refine lv_aload_n hx hb dX1_needless_28 rfl (lv_at hl 1 rfl) ?_
    refine x1_used C hK hP dX1_needless_29 ?_
    refine lv_iconst (v := (-1)) hx hb dX1_needless_32 (by decide) ?_
    refine lv_ixor hx hb dX1_needless_33 ?_
    refine lv_iand hx hb dX1_needless_34 ?_
    exact xd_iret C hK u ⟨hpost, xd_need_hi hc hpost⟩ hP hD hS dX1_needless_35
  · refine lv_iconst (v := 1) hx hb dX1_needless_13 (by decide) ?_
    refine lv_aload_n hx hb dX1_needless_14 rfl (lv_at hl 0 rfl) ?_
    refine x1_size C hK hP dX1_needless_15 ?_
    refine lv_ishl hx hb dX1_needless_18 ?_
    refine lv_iconst (v := 1) hx hb dX1_needless_19 (by decide) ?_
    refine lv_isub hx hb dX1_needless_20 ?_
    refine lv_goto (tgt := 26) hx hb dX1_needless_21 (by decide) ?_
    refine lv_istore_n (lv' := [(1, .int ((1 <<< ((nI N) &&& 31)) - 1)), (0, .ref h0)]) hx hb dX1_needless_26 rfl hl (by decide) rfl (fun ls hl => ?_)
    refine lv_iload_n hx hb dX1_needless_27 rfl (lv_at hl 0 rfl) ?_
    refine lv_aload_n hx hb dX1_needless_28 rfl (lv_at hl 1 rfl) ?_
    refine x1_used C hK hP dX1_needless_29 ?_
    refine lv_iconst (v := (-1)) hx hb dX1_needless_32 (by decide) ?_
    refine lv_ixor hx hb dX1_needless_33 ?_
    refine lv_iand hx hb dX1_needless_34 ?_
    exact xd_iret C hK u ⟨hpost, xd_need_lo hc hpost⟩ hP hD hS dX1_needless_35
set_option maxHeartbeats 4000000 in
set_option maxRecDepth 100000 in
/-- wires(x): 2 to 6 wires, no crossing -/
theorem met_mwires (l : Launch) (dC : Nat → ClassId) (dI : Nat → Nat → Nat) (h0 aL aH aV aQ : Nat) (c1 c2 c3 c4 : ClassId) (z : Nat) (sz n kn fo us : Int32) (lo hi v q : Nat → Int32) (x : Int32) : xMv l yX1_wires cX1_wires 2 xR0 dC dI (mT c1 c2 c3 c4) [.ref h0, .int x] (mW h0 aL aH aV aQ c1 c2 c3 c4 sz n kn fo us lo hi v q) z (fun _ : Unit => True) (fun _ : Unit => mW h0 aL aH aV aQ c1 c2 c3 c4 (nI 0) (nI (2 + xdCn x 5)) 0 fo us lo hi v q) := by
  refine xd_start (xQv dC dI (mT c1 c2 c3 c4) (fun _ : Unit => True) (fun _ : Unit => mW h0 aL aH aV aQ c1 c2 c3 c4 (nI 0) (nI (2 + xdCn x 5)) 0 fo us lo hi v q)) (by decide) (Nat.le_of_ble_eq_true rfl) ?_
  intro p e s m below meth c A ls C hnm hA hP hK hD hS hl
  have C : xC p s m _ meth c cX1_wires RX1 2 none := C
  obtain ⟨hx, hb, hml, hr, hlk, hown, hts⟩ := id C
  have hl : lv_has ls 2 [(0, .ref h0), (1, .int x)] := hl
  refine lv_aload_n hx hb dX1_wires_0 rfl (lv_at hl 0 rfl) ?_
  refine lv_iconst (v := nI 2) hx hb dX1_wires_1 (by decide) ?_
  refine lv_iload_n hx hb dX1_wires_2 rfl (lv_at hl 1 rfl) ?_
  refine lv_ldc (v := 2147483647) hx hb hown (hts _ q119) dX1_wires_3 ?_
  refine lv_iand hx hb dX1_wires_5 ?_
  refine lv_iconst (v := nI 5) hx hb dX1_wires_6 (by decide) ?_
  refine lv_irem hx hb dX1_wires_7 (by decide) ?_
  refine xd_top (y := nI (xdCn x 5)) (xd_cn x (n := 5) (by decide) (by decide)) ?_
  refine lv_iadd hx hb dX1_wires_8 ?_
  refine xd_top (y := nI (2 + xdCn x 5)) (nI_add 2 (xdCn x 5)) ?_
  refine x1_n_put C hK hP hD hS dX1_wires_9 (fun H locs hP hD hS => ?_)
  refine lv_aload_n hx hb dX1_wires_12 rfl (lv_at hl 0 rfl) ?_
  refine lv_iconst (v := nI 0) hx hb dX1_wires_13 (by decide) ?_
  refine x1_size_put C hK hP hD hS dX1_wires_14 (fun H locs hP hD hS => ?_)
  refine lv_aload_n hx hb dX1_wires_17 rfl (lv_at hl 0 rfl) ?_
  refine lv_iconst (v := 0) hx hb dX1_wires_18 (by decide) ?_
  refine x1_known_put C hK hP hD hS (Or.inl rfl) dX1_wires_19 (fun H locs hP hD hS => ?_)
  exact xd_vret C hK () trivial hP hD hS dX1_wires_22
set_option maxHeartbeats 4000000 in
set_option maxRecDepth 100000 in
/-- join(a, b) -/
theorem met_mjoin (l : Launch) (dC : Nat → ClassId) (dI : Nat → Nat → Nat) (h0 aL aH aV aQ : Nat) (c1 c2 c3 c4 : ClassId) (z : Nat) (n N : Nat) (hn : 2 ≤ n ∧ n ≤ 6) (hN : N ≤ 48) (kn fo us : Int32) (lo hi v q : Nat → Int32) (x1 x2 : Int32) : xMi l yX1_join cX1_join 5 (some .boolean) xR0 dC dI (mT c1 c2 c3 c4) [.ref h0, .int x1, .int x2] (mW h0 aL aH aV aQ c1 c2 c3 c4 (nI N) (nI n) kn fo us lo hi v q) z (fun (r : Int32) (u : Nat × Int32 × (Nat → Int32) × (Nat → Int32)) => ((xdCn x1 n = xdCn x2 n ∨ N = 48) ∧ r = 0 ∧ u = (N, kn, lo, hi)) ∨ (xdCn x1 n ≠ xdCn x2 n ∧ N ≠ 48 ∧ r = 1 ∧ u = (N + 1, 0, upd lo N (nI (xdCn x1 n)), upd hi N (nI (xdCn x2 n))))) (fun u : Nat × Int32 × (Nat → Int32) × (Nat → Int32) => mW h0 aL aH aV aQ c1 c2 c3 c4 (nI u.1) (nI n) u.2.1 fo us u.2.2.1 u.2.2.2 v q) := by
  refine xd_start (xQi dC dI (mT c1 c2 c3 c4) (fun (r : Int32) (u : Nat × Int32 × (Nat → Int32) × (Nat → Int32)) => ((xdCn x1 n = xdCn x2 n ∨ N = 48) ∧ r = 0 ∧ u = (N, kn, lo, hi)) ∨ (xdCn x1 n ≠ xdCn x2 n ∧ N ≠ 48 ∧ r = 1 ∧ u = (N + 1, 0, upd lo N (nI (xdCn x1 n)), upd hi N (nI (xdCn x2 n))))) (fun u : Nat × Int32 × (Nat → Int32) × (Nat → Int32) => mW h0 aL aH aV aQ c1 c2 c3 c4 (nI u.1) (nI n) u.2.1 fo us u.2.2.1 u.2.2.2 v q)) (by decide) (Nat.le_of_ble_eq_true rfl) ?_
  intro p e s m below meth c A ls C hnm hA hP hK hD hS hl
  have C : xC p s m _ meth c cX1_join RX1 5 (some .boolean) := C
  obtain ⟨hx, hb, hml, hr, hlk, hown, hts⟩ := id C
  have hl : lv_has ls 5 [(0, .ref h0), (1, .int x1), (2, .int x2)] := hl
  have hx1 : xdCn x1 n < n := xd_cn_lt x1 (by omega)
  have hx2 : xdCn x2 n < n := xd_cn_lt x2 (by omega)
  refine lv_iload_n hx hb dX1_join_0 rfl (lv_at hl 1 rfl) ?_
  refine lv_ldc (v := 2147483647) hx hb hown (hts _ q119) dX1_join_1 ?_
  refine lv_iand hx hb dX1_join_3 ?_
  refine lv_aload_n hx hb dX1_join_4 rfl (lv_at hl 0 rfl) ?_
  refine x1_n C hK hP dX1_join_5 ?_
  refine lv_irem hx hb dX1_join_8 (nI_ne0 (by omega) (by omega)) ?_
  refine xd_top (y := nI (xdCn x1 n)) (xd_cn x1 (by omega) (by omega)) ?_
  refine lv_istore_n (lv' := [(3, .int (nI (xdCn x1 n))), (0, .ref h0), (1, .int x1), (2, .int x2)]) hx hb dX1_join_9 rfl hl (by decide) rfl (fun ls hl => ?_)
  refine lv_iload_n hx hb dX1_join_10 rfl (lv_at hl 3 rfl) ?_
  refine lv_ldc (v := 2147483647) hx hb hown (hts _ q119) dX1_join_11 ?_
  refine lv_iand hx hb dX1_join_13 ?_
  refine lv_aload_n hx hb dX1_join_14 rfl (lv_at hl 1 rfl) ?_
  refine x1_n C hK hP dX1_join_15 ?_
  refine lv_irem hx hb dX1_join_18 (nI_ne0 (by omega) (by omega)) ?_
  refine xd_top (y := nI (xdCn x2 n)) (xd_cn x2 (by omega) (by omega)) ?_
  refine lv_istore (lv' := [(4, .int (nI (xdCn x2 n))), (3, .int (nI (xdCn x1 n))), (0, .ref h0), (1, .int x1), (2, .int x2)]) hx hb dX1_join_19 hl (by decide) rfl (fun ls hl => ?_)
  refine lv_iload_n hx hb dX1_join_21 rfl (lv_at hl 1 rfl) ?_
  refine lv_iload hx hb dX1_join_22 (lv_at hl 0 rfl) ?_
  refine xd_eq C (by omega) (by omega) dX1_join_24 (tgt := 36) (by decide) (fun hc => ?_) (fun hc => ?_)
  · refine lv_iconst (v := 0) hx hb dX1_join_36 (by decide) ?_
    exact xd_zret C (Or.inl rfl) hK (N, kn, lo, hi) (Or.inl ⟨Or.inl hc, rfl, rfl⟩) hP hD hS dX1_join_37
  · refine lv_aload_n hx hb dX1_join_27 rfl (lv_at hl 2 rfl) ?_
    refine x1_size C hK hP dX1_join_28 ?_
    refine lv_bipush (v := nI 48) hx hb dX1_join_31 (by decide) ?_
    refine xd_ne C (by omega) (by decide) dX1_join_33 (tgt := 38) (by decide) (fun hd => ?_) (fun hd => ?_)
    · refine lv_aload_n hx hb dX1_join_38 rfl (lv_at hl 2 rfl) ?_
      refine x1_low C hK hP dX1_join_39 ?_
      refine lv_aload_n hx hb dX1_join_42 rfl (lv_at hl 2 rfl) ?_
      refine x1_size C hK hP dX1_join_43 ?_
      refine lv_iload_n hx hb dX1_join_46 rfl (lv_at hl 1 rfl) ?_
      refine x1_lo_st C hK hP hD hS (by omega) dX1_join_47 (fun H locs hP hD hS => ?_)
      refine lv_aload_n hx hb dX1_join_48 rfl (lv_at hl 2 rfl) ?_
      refine x1_high C hK hP dX1_join_49 ?_
      refine lv_aload_n hx hb dX1_join_52 rfl (lv_at hl 2 rfl) ?_
      refine x1_size C hK hP dX1_join_53 ?_
      refine lv_iload hx hb dX1_join_56 (lv_at hl 0 rfl) ?_
      refine x1_hi_st C hK hP hD hS (by omega) dX1_join_58 (fun H locs hP hD hS => ?_)
      refine lv_aload_n hx hb dX1_join_59 rfl (lv_at hl 2 rfl) ?_
      refine lv_aload_n hx hb dX1_join_60 rfl (lv_at hl 2 rfl) ?_
      refine x1_size C hK hP dX1_join_61 ?_
      refine lv_iconst (v := nI 1) hx hb dX1_join_64 (by decide) ?_
      refine lv_iadd hx hb dX1_join_65 ?_
      refine xd_top (y := nI (N + 1)) (nI_add N 1) ?_
      refine x1_size_put C hK hP hD hS dX1_join_66 (fun H locs hP hD hS => ?_)
      refine lv_aload_n hx hb dX1_join_69 rfl (lv_at hl 2 rfl) ?_
      refine lv_iconst (v := 0) hx hb dX1_join_70 (by decide) ?_
      refine x1_known_put C hK hP hD hS (Or.inl rfl) dX1_join_71 (fun H locs hP hD hS => ?_)
      refine lv_iconst (v := 1) hx hb dX1_join_74 (by decide) ?_
      exact xd_zret C (Or.inr rfl) hK (N + 1, 0, upd lo N (nI (xdCn x1 n)), upd hi N (nI (xdCn x2 n))) (Or.inr ⟨hc, hd, rfl, rfl⟩) hP hD hS dX1_join_75
    · refine lv_iconst (v := 0) hx hb dX1_join_36 (by decide) ?_
      exact xd_zret C (Or.inl rfl) hK (N, kn, lo, hi) (Or.inl ⟨Or.inr hd, rfl, rfl⟩) hP hD hS dX1_join_37
set_option maxHeartbeats 4000000 in
set_option maxRecDepth 100000 in
/-- drop() -/
theorem met_mdrop (l : Launch) (dC : Nat → ClassId) (dI : Nat → Nat → Nat) (h0 aL aH aV aQ : Nat) (c1 c2 c3 c4 : ClassId) (z : Nat) (N : Nat) (hN : N ≤ 48) (n kn fo us : Int32) (lo hi v q : Nat → Int32) : xMi l yX1_drop cX1_drop 1 (some .boolean) xR0 dC dI (mT c1 c2 c3 c4) [.ref h0] (mW h0 aL aH aV aQ c1 c2 c3 c4 (nI N) n kn fo us lo hi v q) z (fun (r : Int32) (u : Nat × Int32) => (N = 0 ∧ r = 0 ∧ u = (0, kn)) ∨ (0 < N ∧ r = 1 ∧ u = (N - 1, 0))) (fun u : Nat × Int32 => mW h0 aL aH aV aQ c1 c2 c3 c4 (nI u.1) n u.2 fo us lo hi v q) := by
  refine xd_start (xQi dC dI (mT c1 c2 c3 c4) (fun (r : Int32) (u : Nat × Int32) => (N = 0 ∧ r = 0 ∧ u = (0, kn)) ∨ (0 < N ∧ r = 1 ∧ u = (N - 1, 0))) (fun u : Nat × Int32 => mW h0 aL aH aV aQ c1 c2 c3 c4 (nI u.1) n u.2 fo us lo hi v q)) (by decide) (Nat.le_of_ble_eq_true rfl) ?_
  intro p e s m below meth c A ls C hnm hA hP hK hD hS hl
  have C : xC p s m _ meth c cX1_drop RX1 1 (some .boolean) := C
  obtain ⟨hx, hb, hml, hr, hlk, hown, hts⟩ := id C
  have hl : lv_has ls 1 [(0, .ref h0)] := hl
  refine lv_aload_n hx hb dX1_drop_0 rfl (lv_at hl 0 rfl) ?_
  refine x1_size C hK hP dX1_drop_1 ?_
  refine lv_if_ne (tgt := 9) hx hb dX1_drop_4 (by decide) (fun hc => ?_) (fun hc => ?_)
  · have hp : 0 < N := by
      rcases Nat.eq_zero_or_pos N with q | q
      · subst q; exact absurd rfl hc
      · exact q
    refine lv_aload_n hx hb dX1_drop_9 rfl (lv_at hl 0 rfl) ?_
    refine lv_aload_n hx hb dX1_drop_10 rfl (lv_at hl 0 rfl) ?_
    refine x1_size C hK hP dX1_drop_11 ?_
    refine lv_iconst (v := nI 1) hx hb dX1_drop_14 (by decide) ?_
    refine lv_isub hx hb dX1_drop_15 ?_
    refine xd_top (y := nI (N - 1)) (pk_sub (a := N) (b := 1) hp) ?_
    refine x1_size_put C hK hP hD hS dX1_drop_16 (fun H locs hP hD hS => ?_)
    refine lv_aload_n hx hb dX1_drop_19 rfl (lv_at hl 0 rfl) ?_
    refine lv_iconst (v := 0) hx hb dX1_drop_20 (by decide) ?_
    refine x1_known_put C hK hP hD hS (Or.inl rfl) dX1_drop_21 (fun H locs hP hD hS => ?_)
    refine lv_iconst (v := 1) hx hb dX1_drop_24 (by decide) ?_
    exact xd_zret C (Or.inr rfl) hK (N - 1, 0) (Or.inr ⟨hp, rfl, rfl⟩) hP hD hS dX1_drop_25
  · have hz : N = 0 := (nI_eq (by omega) (by decide)).mp hc
    subst hz
    refine lv_iconst (v := 0) hx hb dX1_drop_7 (by decide) ?_
    exact xd_zret C (Or.inl rfl) hK (0, kn) (Or.inl ⟨rfl, rfl, rfl⟩) hP hD hS dX1_drop_8
abbrev mU : Type := Nat × Nat × Nat × Nat × ClassId × ClassId × ClassId × ClassId
abbrev mUW (h0 : Nat) (u : mU) : va_W := mW h0 u.1 u.2.1 u.2.2.1 u.2.2.2.1 u.2.2.2.2.1 u.2.2.2.2.2.1 u.2.2.2.2.2.2.1 u.2.2.2.2.2.2.2 (nI 0) (nI 4) 0 0 0 (fun _ => 0) (fun _ => 0) (fun _ => 0) (fun _ => 0)
abbrev mUT (u : mU) : List (ClassId × FieldType) := mT u.2.2.2.2.1 u.2.2.2.2.2.1 u.2.2.2.2.2.2.1 u.2.2.2.2.2.2.2
abbrev mRi : Room := { frames := 1, cells := 4, slots := 112, locals := 12 }
abbrev mI0 (h0 : Nat) : va_W := [(h0, .inr (1, [.null, .null, .int 0, .int 0, .int 0, .int 0, .int 0, .null, .null]))]
set_option maxHeartbeats 4000000 in
set_option maxRecDepth 100000 in
/-- CrossDeskModel(): 4 wires, no crossing, nothing known -/
theorem met_minit (l : Launch) (dC : Nat → ClassId) (dI : Nat → Nat → Nat) (h0 z : Nat) : Met l yX1_init (ws_ yX1_init cX1_init 1 none) mRi (va_Pc [.ref h0] (xPre dC dI [] (mI0 h0) z)) (va_Qv (fun _ : mU => True) (fun u t => xPost dC dI (mUT u) (va_A (mI0 h0) z) (mUW h0 u) t) (va_A (mI0 h0) z)) 4 112 (va_A (mI0 h0) z) := by
  refine xd_start (fun A => va_Qv (fun _ : mU => True) (fun u t => xPost dC dI (mUT u) A (mUW h0 u) t) A) (by decide) (Nat.le_of_ble_eq_true rfl) ?_
  intro p e s m below meth c A ls C hin hA hP hK hD hS hl
  have C : xC p s m _ meth c cX1_init RX1 1 none := C
  obtain ⟨hx, hb, hml, hr, hlk, hown, hts⟩ := id C
  have hin : meth.name = "<init>" := hin
  have hl : lv_has ls 1 [(0, .ref h0)] := hl
  refine lv_aload_n hx hb dX1_init_0 rfl (lv_at hl 0 rfl) ?_
  refine W.objInit hx hb hown (hts _ q85) (hts _ q16) (hts _ q17) rfl (by rw [hml]; exact hl.1) rfl dX1_init_1 (Nat.le_of_ble_eq_true rfl) (Nat.le_of_ble_eq_true rfl) ?_
  refine W.eq (g2 := F0 m 4 ls []) rfl ?_
  have hP : va_P (dC, dI) vwCl [(h0, .inr (1, [.null, .null, .int 0, .int 0, .int 0, .int 0, .int 0, .null, .null]))] s.heap := hP
  have hD : va_D A [(h0, .inr (1, [.null, .null, .int 0, .int 0, .int 0, .int 0, .int 0, .null, .null]))] := hD
  refine lv_aload_n hx hb dX1_init_4 rfl (lv_at hl 0 rfl) ?_
  refine lv_bipush (v := nI 48) hx hb dX1_init_5 (by decide) ?_
  refine va_newa (atype := .int) (ty := .int) (N' := 48) (a0 := (48, .inl (fun _ => 0))) hx hb (hts _ q114) rfl hK hP hD hS hA (fun _ => rfl) (by decide) (by decide) (by decide) (Nat.le_of_ble_eq_true rfl) (Nat.le_of_ble_eq_true rfl) dX1_init_7 (fun q1 ca1 H hK hP hD hS => ?_)
  have hP : va_P (dC, dI) vwCl [(h0, .inr (1, [.null, .null, .int 0, .int 0, .int 0, .int 0, .int 0, .null, .null])), (q1, .inl (ca1, 48, .inl (fun _ => 0)))] H := hP
  have hD : va_D A [(h0, .inr (1, [.null, .null, .int 0, .int 0, .int 0, .int 0, .int 0, .null, .null])), (q1, .inl (ca1, 48, .inl (fun _ => 0)))] := hD
  have hK : va_K (dC, dI) vwCl [(ca1, .int)] s := hK
  refine va_putF (D := (dC, dI)) (ci := 1) (v := .ref q1) (ty := .array .int) (C := RX1) (T := TX1) (N := 9) hx hb hts in_X1 tyX1 tyX1_ok nmX1 hown hK hP hD hS 0 rfl rfl 0 (by decide) (hts _ q86) (fun _ h9 => h9) rfl hin rfl (by decide +kernel) rfl rfl (Nat.le_of_ble_eq_true rfl) dX1_init_9 (fun H locs hP hD hS => ?_)
  have hP : va_P (dC, dI) vwCl [(h0, .inr (1, [.ref q1, .null, .int 0, .int 0, .int 0, .int 0, .int 0, .null, .null])), (q1, .inl (ca1, 48, .inl (fun _ => 0)))] H := hP
  have hD : va_D A [(h0, .inr (1, [.ref q1, .null, .int 0, .int 0, .int 0, .int 0, .int 0, .null, .null])), (q1, .inl (ca1, 48, .inl (fun _ => 0)))] := hD
  refine lv_aload_n hx hb dX1_init_12 rfl (lv_at hl 0 rfl) ?_
  refine lv_bipush (v := nI 48) hx hb dX1_init_13 (by decide) ?_
  refine va_newa (atype := .int) (ty := .int) (N' := 48) (a0 := (48, .inl (fun _ => 0))) hx hb (hts _ q114) rfl hK hP hD hS hA (fun _ => rfl) (by decide) (by decide) (by decide) (Nat.le_of_ble_eq_true rfl) (Nat.le_of_ble_eq_true rfl) dX1_init_15 (fun q2 ca2 H hK hP hD hS => ?_)
  have hP : va_P (dC, dI) vwCl [(h0, .inr (1, [.ref q1, .null, .int 0, .int 0, .int 0, .int 0, .int 0, .null, .null])), (q1, .inl (ca1, 48, .inl (fun _ => 0))), (q2, .inl (ca2, 48, .inl (fun _ => 0)))] H := hP
  have hD : va_D A [(h0, .inr (1, [.ref q1, .null, .int 0, .int 0, .int 0, .int 0, .int 0, .null, .null])), (q1, .inl (ca1, 48, .inl (fun _ => 0))), (q2, .inl (ca2, 48, .inl (fun _ => 0)))] := hD
  have hK : va_K (dC, dI) vwCl [(ca1, .int), (ca2, .int)] s := hK
  refine va_putF (D := (dC, dI)) (ci := 1) (v := .ref q2) (ty := .array .int) (C := RX1) (T := TX1) (N := 9) hx hb hts in_X1 tyX1 tyX1_ok nmX1 hown hK hP hD hS 0 rfl rfl 1 (by decide) (hts _ q87) (fun _ h9 => h9) rfl hin rfl (by decide +kernel) rfl rfl (Nat.le_of_ble_eq_true rfl) dX1_init_17 (fun H locs hP hD hS => ?_)
  have hP : va_P (dC, dI) vwCl [(h0, .inr (1, [.ref q1, .ref q2, .int 0, .int 0, .int 0, .int 0, .int 0, .null, .null])), (q1, .inl (ca1, 48, .inl (fun _ => 0))), (q2, .inl (ca2, 48, .inl (fun _ => 0)))] H := hP
  have hD : va_D A [(h0, .inr (1, [.ref q1, .ref q2, .int 0, .int 0, .int 0, .int 0, .int 0, .null, .null])), (q1, .inl (ca1, 48, .inl (fun _ => 0))), (q2, .inl (ca2, 48, .inl (fun _ => 0)))] := hD
  refine lv_aload_n hx hb dX1_init_20 rfl (lv_at hl 0 rfl) ?_
  refine lv_iconst (v := nI 4) hx hb dX1_init_21 (by decide) ?_
  refine va_put (D := (dC, dI)) (ci := 1) (v := .int (nI 4)) (ty := .int) (C := RX1) (T := TX1) (N := 9) hx hb hts in_X1 tyX1 tyX1_ok nmX1 hown hK hP hD hS 0 rfl rfl 3 (by decide) (hts _ q89) (fun _ h9 => h9) rfl (by decide +kernel) rfl rfl (Nat.le_of_ble_eq_true rfl) dX1_init_22 (fun H locs hP hD hS => ?_)
  have hP : va_P (dC, dI) vwCl [(h0, .inr (1, [.ref q1, .ref q2, .int 0, .int (nI 4), .int 0, .int 0, .int 0, .null, .null])), (q1, .inl (ca1, 48, .inl (fun _ => 0))), (q2, .inl (ca2, 48, .inl (fun _ => 0)))] H := hP
  have hD : va_D A [(h0, .inr (1, [.ref q1, .ref q2, .int 0, .int (nI 4), .int 0, .int 0, .int 0, .null, .null])), (q1, .inl (ca1, 48, .inl (fun _ => 0))), (q2, .inl (ca2, 48, .inl (fun _ => 0)))] := hD
  refine lv_aload_n hx hb dX1_init_25 rfl (lv_at hl 0 rfl) ?_
  refine lv_bipush (v := nI 8) hx hb dX1_init_26 (by decide) ?_
  refine va_newa (atype := .int) (ty := .int) (N' := 8) (a0 := (8, .inl (fun _ => 0))) hx hb (hts _ q114) rfl hK hP hD hS hA (fun _ => rfl) (by decide) (by decide) (by decide) (Nat.le_of_ble_eq_true rfl) (Nat.le_of_ble_eq_true rfl) dX1_init_28 (fun q3 ca3 H hK hP hD hS => ?_)
  have hP : va_P (dC, dI) vwCl [(h0, .inr (1, [.ref q1, .ref q2, .int 0, .int (nI 4), .int 0, .int 0, .int 0, .null, .null])), (q1, .inl (ca1, 48, .inl (fun _ => 0))), (q2, .inl (ca2, 48, .inl (fun _ => 0))), (q3, .inl (ca3, 8, .inl (fun _ => 0)))] H := hP
  have hD : va_D A [(h0, .inr (1, [.ref q1, .ref q2, .int 0, .int (nI 4), .int 0, .int 0, .int 0, .null, .null])), (q1, .inl (ca1, 48, .inl (fun _ => 0))), (q2, .inl (ca2, 48, .inl (fun _ => 0))), (q3, .inl (ca3, 8, .inl (fun _ => 0)))] := hD
  have hK : va_K (dC, dI) vwCl [(ca1, .int), (ca2, .int), (ca3, .int)] s := hK
  refine va_putF (D := (dC, dI)) (ci := 1) (v := .ref q3) (ty := .array .int) (C := RX1) (T := TX1) (N := 9) hx hb hts in_X1 tyX1 tyX1_ok nmX1 hown hK hP hD hS 0 rfl rfl 7 (by decide) (hts _ q93) (fun _ h9 => h9) rfl hin rfl (by decide +kernel) rfl rfl (Nat.le_of_ble_eq_true rfl) dX1_init_30 (fun H locs hP hD hS => ?_)
  have hP : va_P (dC, dI) vwCl [(h0, .inr (1, [.ref q1, .ref q2, .int 0, .int (nI 4), .int 0, .int 0, .int 0, .ref q3, .null])), (q1, .inl (ca1, 48, .inl (fun _ => 0))), (q2, .inl (ca2, 48, .inl (fun _ => 0))), (q3, .inl (ca3, 8, .inl (fun _ => 0)))] H := hP
  have hD : va_D A [(h0, .inr (1, [.ref q1, .ref q2, .int 0, .int (nI 4), .int 0, .int 0, .int 0, .ref q3, .null])), (q1, .inl (ca1, 48, .inl (fun _ => 0))), (q2, .inl (ca2, 48, .inl (fun _ => 0))), (q3, .inl (ca3, 8, .inl (fun _ => 0)))] := hD
  refine lv_aload_n hx hb dX1_init_33 rfl (lv_at hl 0 rfl) ?_
  refine lv_bipush (v := nI 8) hx hb dX1_init_34 (by decide) ?_
  refine va_newa (atype := .int) (ty := .int) (N' := 8) (a0 := (8, .inl (fun _ => 0))) hx hb (hts _ q114) rfl hK hP hD hS hA (fun _ => rfl) (by decide) (by decide) (by decide) (Nat.le_of_ble_eq_true rfl) (Nat.le_of_ble_eq_true rfl) dX1_init_36 (fun q4 ca4 H hK hP hD hS => ?_)
  have hP : va_P (dC, dI) vwCl [(h0, .inr (1, [.ref q1, .ref q2, .int 0, .int (nI 4), .int 0, .int 0, .int 0, .ref q3, .null])), (q1, .inl (ca1, 48, .inl (fun _ => 0))), (q2, .inl (ca2, 48, .inl (fun _ => 0))), (q3, .inl (ca3, 8, .inl (fun _ => 0))), (q4, .inl (ca4, 8, .inl (fun _ => 0)))] H := hP
  have hD : va_D A [(h0, .inr (1, [.ref q1, .ref q2, .int 0, .int (nI 4), .int 0, .int 0, .int 0, .ref q3, .null])), (q1, .inl (ca1, 48, .inl (fun _ => 0))), (q2, .inl (ca2, 48, .inl (fun _ => 0))), (q3, .inl (ca3, 8, .inl (fun _ => 0))), (q4, .inl (ca4, 8, .inl (fun _ => 0)))] := hD
  have hK : va_K (dC, dI) vwCl [(ca1, .int), (ca2, .int), (ca3, .int), (ca4, .int)] s := hK
  refine va_putF (D := (dC, dI)) (ci := 1) (v := .ref q4) (ty := .array .int) (C := RX1) (T := TX1) (N := 9) hx hb hts in_X1 tyX1 tyX1_ok nmX1 hown hK hP hD hS 0 rfl rfl 8 (by decide) (hts _ q94) (fun _ h9 => h9) rfl hin rfl (by decide +kernel) rfl rfl (Nat.le_of_ble_eq_true rfl) dX1_init_38 (fun H locs hP hD hS => ?_)
  exact W.vret hx hb hr (fun t ht hW => ⟨⟨(q1, q2, q3, q4, ca1, ca2, ca3, ca4), rfl, trivial, by rw [ht]; exact hP, va_K.moved hW.alike hK, hD⟩, hS.F ht⟩) hS.2.2 dX1_init_41 hlk
end
section
/-! ===== PART 13: the law ===== -/
set_option maxRecDepth 100000
/-! THE CLAIM OUT OF ONE WALK OF THE LAW'S BODY. Your part is whole_start (and what it stands on); all else here is the same for every law, but numbers. -/
def R_law : String := "CrossDeskLaw"
def lw_P (b : Addr) (xs : List Int32) (args : Array Value) (s : State) : Prop := args = #[.ref b] ∧ s.IntsAt b xs ∧ xs.length ≤ 192 ∧ (Jvm.Cond.and given_1 narrow_1).before args s = true
def lw_Q (_ : Array Value) (s : State) (o : Outcome) (t : State) : Prop := o = .returned (some (.int 1)) ∧ Framed s o t [] 600000 7290000
def lw_Z (below : List Frame) (a : Array Value) (s : State) : State → Prop := fun t => ∃ o, t.status = .running ∧ Ended t below o ∧ lw_Q a s o t
/-- the law's own end, with 1 on the stack, nothing written that was there before, its room as the claim has it -/
theorem lw_ret {p : Program} {l : Launch} {e : Env} {s : State} {m : MethodId} {below : List Frame} {meth : Method} {c : Code} {b : Nat} (hx : p.tables.exec = Jvm.exec) (hb : c.code = code) (hr : meth.sig.returnType = ret) (hlocks : meth.locks = false) {pc : Nat} {H : Heap} {ls : Array Slot} (hdg : decode code pc = .ok (.ireturn, 1)) : W p l e room_1 s m #[Value.ref b] below meth c H [] 600000 7290000 (lw_Z below #[Value.ref b] s) (F0 m pc ls [.int 1]) := by
  intro T hT X
  obtain ⟨fs, hret, hrun, hended, hW, hframe⟩ := X.leave (v := some (.int 1)) (hlocks := hlocks) (fun h => by rw [hr] at h; cases h)
  have hmeth' : T.vm.method? m = some meth := X.method'
  refine ⟨T.setFrames fs, ?_, .returned (some (.int 1)), hrun, hended, rfl, ⟨_, rfl⟩, hW, hframe⟩
  jvm_step X.here [X.here.top, hx, hb, hdg, hmeth', hr, ret, narrow_b1]
  (try refine ⟨rfl, ?_⟩); (try refine ⟨rfl, ?_⟩)
  first | (intro acts; rw [hret _ acts rfl rfl rfl]) | rw [hret _ _ rfl rfl rfl]
  exact Steps.refl _
/-- what holds at the law's entry: the machine, the code, the tables' words (any of lw_tbl by 'hts w (by decide +kernel)'), the script of L ints xs at the cell b, what the Statement gives of the start (any of its parts by flat_of_before) -/
def lw_At (p : Program) (s : State) (m : MethodId) (meth : Method) (c : Code) (b L : Nat) (xs : Nat → Int32) : Prop :=
  p.tables.exec = Jvm.exec ∧ c.code = code ∧ meth.sig.returnType = ret ∧ c.maxLocals = 4 ∧ s.vm.findClass R_law = some m.cls ∧ (∀ w ∈ lw_tbl, w.before #[Value.ref b] s = true) ∧ va_X b L xs s s.heap ∧ b < s.heap.size ∧ meth.locks = false ∧ (Jvm.Cond.and given_1 narrow_1).before #[Value.ref b] s = true
/-- between the desk and the reference, at the loop's head -/
def xdInv (n N : Nat) (Na Nb : Nat → Nat) (f g lo hi : Nat → Int32) (kn fo us : Int32) : Prop := xdOK n N Na Nb ∧ (∀ i, i < N → f i = nI (Na i)) ∧ (∀ i, i < N → g i = nI (Nb i)) ∧ (∀ i, i < N → lo i = nI (Na i)) ∧ (∀ i, i < N → hi i = nI (Nb i)) ∧ (kn = 0 ∨ (kn = 1 ∧ xdGood n N Na Nb fo us))
theorem xd_upA {N x : Nat} {Na : Nat → Nat} {f : Nat → Int32} (h : ∀ i, i < N → f i = nI (Na i)) : ∀ i, i < N + 1 → upd f N (nI x) i = nI (va_up Na N x i) := by
  intro i hi
  by_cases q : i = N
  · rw [q, pk_us, va_up_self]
  · rw [pk_un q, va_up_ne _ _ q]
    exact h i (by omega)
theorem xd_inv_join {n N x y : Nat} {Na Nb : Nat → Nat} {f g lo hi : Nat → Int32} {kn fo us : Int32} (h : xdInv n N Na Nb f g lo hi kn fo us) (hx : x < n) (hy : y < n) (hxy : x ≠ y) (hN : N ≠ 48) : xdInv n (N + 1) (va_up Na N x) (va_up Nb N y) (upd f N (nI x)) (upd g N (nI y)) (upd lo N (nI x)) (upd hi N (nI y)) 0 fo us := by
  obtain ⟨hok, e1, e2, e3, e4, -⟩ := h
  obtain ⟨h1, h2, h3, h4⟩ := hok
  refine ⟨⟨h1, h2, by omega, fun i hi => ?_⟩, xd_upA e1, xd_upA e2, xd_upA e3, xd_upA e4, Or.inl rfl⟩
  by_cases q : i = N
  · rw [q, va_up_self, va_up_self]
    exact ⟨hx, hy, hxy⟩
  · rw [va_up_ne _ _ q, va_up_ne _ _ q]
    exact h4 i (by omega)
theorem xd_inv_drop {n N : Nat} {Na Nb : Nat → Nat} {f g lo hi : Nat → Int32} {kn fo us : Int32} (h : xdInv n N Na Nb f g lo hi kn fo us) : xdInv n (N - 1) Na Nb f g lo hi 0 fo us := by
  obtain ⟨hok, e1, e2, e3, e4, -⟩ := h
  obtain ⟨h1, h2, h3, h4⟩ := hok
  exact ⟨⟨h1, h2, by omega, fun i hi => h4 i (by omega)⟩, fun i hi => e1 i (by omega), fun i hi => e2 i (by omega), fun i hi => e3 i (by omega), fun i hi => e4 i (by omega), Or.inl rfl⟩
theorem xd_inv_wires {n : Nat} (h2 : 2 ≤ n) (h6 : n ≤ 6) {f g lo hi : Nat → Int32} {fo us : Int32} : xdInv n 0 (fun _ => 0) (fun _ => 0) f g lo hi 0 fo us :=
  ⟨⟨h2, h6, by omega, fun i hi => absurd hi (Nat.not_lt_zero i)⟩, fun i hi => absurd hi (Nat.not_lt_zero i), fun i hi => absurd hi (Nat.not_lt_zero i), fun i hi => absurd hi (Nat.not_lt_zero i), fun i hi => absurd hi (Nat.not_lt_zero i), Or.inl rfl⟩
theorem xd_eq_sorts {n N : Nat} {A B : Nat → Nat} (h : xdOK n N A B) {r1 r2 : Int32} (p1 : (r1 = 1 ∧ ∀ i, i < n → xdOwnD n N A B i) ∨ (r1 = 0 ∧ ¬ ∀ i, i < n → xdOwnD n N A B i)) (p2 : (r2 = 1 ∧ ∀ i, i < n → xdOwnM n N A B i) ∨ (r2 = 0 ∧ ¬ ∀ i, i < n → xdOwnM n N A B i)) : r1 = r2 := by
  rcases p1 with ⟨a1, b1⟩ | ⟨a1, b1⟩ <;> rcases p2 with ⟨a2, b2⟩ | ⟨a2, b2⟩
  · rw [a1, a2]
  · exact absurd (fun i hi => (xd_own h hi).mp (b1 i hi)) b2
  · exact absurd (fun i hi => (xd_own h hi).mpr (b2 i hi)) b1
  · rw [a1, a2]
theorem xd_eq_finds {n N w : Nat} {A B : Nat → Nat} (h : xdOK n N A B) (hw : w < n) {r1 r2 : Int32} (p1 : (r1 = 1 ∧ xdOwnD n N A B w) ∨ (r1 = 0 ∧ ¬ xdOwnD n N A B w)) (p2 : (r2 = 1 ∧ xdOwnM n N A B w) ∨ (r2 = 0 ∧ ¬ xdOwnM n N A B w)) : r1 = r2 := by
  rcases p1 with ⟨a1, b1⟩ | ⟨a1, b1⟩ <;> rcases p2 with ⟨a2, b2⟩ | ⟨a2, b2⟩
  · rw [a1, a2]
  · exact absurd ((xd_own h hw).mp b1) b2
  · exact absurd ((xd_own h hw).mpr b2) b1
  · rw [a1, a2]
theorem xd_eq_needless {n N : Nat} {A B : Nat → Nat} (h : xdOK n N A B) {r1 r2 : Int32} (p1 : ∀ i, i < 32 → (bt r1 i = true ↔ i < N ∧ i < 31 ∧ ¬ xdUseD n A B i)) (p2 : ∀ i, i < 32 → (bt r2 i = true ↔ i < N ∧ i < 31 ∧ ¬ xdUseM n A B i)) : r1 = r2 := by
  apply b_ext
  intro i hi
  rw [Bool.eq_iff_iff, p1 i hi, p2 i hi]
  exact ⟨fun q => ⟨q.1, q.2.1, fun u => q.2.2 ((xd_use h q.1).mpr u)⟩, fun q => ⟨q.1, q.2.1, fun u => q.2.2 ((xd_use h q.1).mp u)⟩⟩
theorem xd_law_le {L i : Nat} (hL : L ≤ 192) (hi : i ≤ L) (h : ¬ nI L - nI 3 < nI i) : i + 3 ≤ L := by
  rw [Int32.lt_iff_toInt_lt, pk_sub_toInt (by omega) (by omega), nI_toInt (by omega)] at h
  omega
section LawRows
variable {p : Program} {l : Launch} {e : Env} {R : Room} {s : State} {m : MethodId} {args : Array Value} {below : List Frame} {meth : Method} {c : Code} {H : Heap} {locs : List Loc} {cells slots : Nat} {cc : ByteArray} {pc : Nat} {ls : Array Slot} {rest : List Value} {own : String} {nL : Nat} {ret0 : Option FieldType} {Q : State → Prop} {dC : Nat → ClassId} {dI : Nat → Nat → Nat} {A : Nat → Prop}
theorem xd_sld (C : xC p s m args meth c cc own nL ret0) {b L : Nat} {xs : Nat → Int32} (hX : va_X b L xs s s.heap) (hbl : b < s.heap.size) (hbA : ¬ A b) (hS : va_S A s.heap H locs) {j : Nat} (hj : j < L) (hL : L < 2 ^ 31) (hdg : decode cc pc = .ok (.iaload, 1))
    (kk : W p l e R s m args below meth c H locs cells slots Q (F0 m (pc + 1) ls (.int (xs j) :: rest))) : W p l e R s m args below meth c H locs cells slots Q (F0 m pc ls (.int (nI j) :: .ref b :: rest)) :=
  va_sld C.1 C.2.1 hX hbl hbA hS (vp_in_nI hj hL) hdg (by rw [nI_clamp (Nat.lt_trans hj hL)]; exact kk)
end LawRows
set_option maxHeartbeats 4000000 in
set_option maxRecDepth 100000 in
/-- THE LAW'S LOOP, at its head -/
theorem law_loop {p : Program} {l : Launch} {e : Env} {s : State} {m : MethodId} {below : List Frame} {meth : Method} {c : Code} {dC : Nat → ClassId} {dI : Nat → Nat → Nat} {b L : Nat} {xs : Nat → Int32} {k0 hf hs ho m0 aL aH aV aQ : Nat} {c1 c2 c3 d1 d2 d3 d4 : ClassId} (hL : L ≤ 192) (C0 : lw_At p s m meth c b L xs) (hK : va_K (dC, dI) vwCl (xT c1 c2 c3 ++ mT d1 d2 d3 d4) s) :
    ∀ (d i : Nat), i ≤ L → L < i + d → ∀ (H : Heap) (locs : List Loc) (n N : Nat) (Na Nb : Nat → Nat) (f g lo hi v q : Nat → Int32) (o : Nat → Int64) (kn fo us : Int32) (ls : Array Slot), xdInv n N Na Nb f g lo hi kn fo us → va_P (dC, dI) vwCl (xW k0 hf hs ho c1 c2 c3 (nI n) (nI N) f g o ++ mW m0 aL aH aV aQ d1 d2 d3 d4 (nI N) (nI n) kn fo us lo hi v q) H → va_D (fun q : Nat => s.heap.size ≤ q) (xW k0 hf hs ho c1 c2 c3 (nI n) (nI N) f g o ++ mW m0 aL aH aV aQ d1 d2 d3 d4 (nI N) (nI n) kn fo us lo hi v q) → va_S (fun q : Nat => s.heap.size ≤ q) s.heap H locs → lv_has ls 4 [(0, .ref b), (1, .ref k0), (2, .ref m0), (3, .int (nI i))] → W p l e room_1 s m #[Value.ref b] below meth c H locs 9 228 (lw_Z below #[Value.ref b] s) (F0 m 18 ls []) := by
  obtain ⟨hx, hb, hr, hml, hown, hts, hX, hbl, hlocks, hgv⟩ := C0
  have hta : ∀ w ∈ lw_all, w.before #[Value.ref b] s = true := fun w h => hts w (lw_all_tbl h)
  have C : xC p s m #[Value.ref b] meth c cL_law R_law 4 ret := ⟨hx, hb, hml, hr, hlocks, hown, hta⟩
  have hA : ∀ q : Nat, s.heap.size ≤ q → (fun q : Nat => s.heap.size ≤ q) q := fun _ h => h
  have hbA : ¬ (fun q : Nat => s.heap.size ≤ q) b := Nat.not_le.mpr hbl
  intro d
  induction d with
  | zero => intro i h1 h2; exact absurd h2 (by omega)
  | succ d ih =>
    intro i hi1 hi2 H locs n N Na Nb f g lo hi v q o kn fo us ls inv hP hD hS hl
    refine lv_iload_n hx hb dL_law_18 rfl (lv_at hl 3 rfl) ?_
    refine lv_aload_n hx hb dL_law_19 rfl (lv_at hl 0 rfl) ?_
    refine va_slen hx hb hX hbl hbA hS dL_law_20 ?_
    refine lv_iconst (v := nI 3) hx hb dL_law_21 (by decide) ?_
    refine lv_isub hx hb dL_law_22 ?_
    refine lv_icmp_gt (tgt := 194) hx hb dL_law_23 (by decide) (fun hc => ?_) (fun hc => ?_)
    · refine lv_iconst (v := 1) hx hb dL_law_194 (by decide) ?_
      refine va_forget (fun q hq => hS.2.2 q hq) ?_
      refine W.widen (k := 600000) (n := 7290000) (Nat.le_of_ble_eq_true rfl) (Nat.le_of_ble_eq_true rfl) ?_
      exact lw_ret hx hb hr hlocks dL_law_195
    · have hi3 := xd_law_le hL hi1 hc
      have next : ∀ (H : Heap) (locs : List Loc) (n N : Nat) (Na Nb : Nat → Nat) (f g lo hi v q : Nat → Int32) (o : Nat → Int64) (kn fo us : Int32), xdInv n N Na Nb f g lo hi kn fo us → va_P (dC, dI) vwCl (xW k0 hf hs ho c1 c2 c3 (nI n) (nI N) f g o ++ mW m0 aL aH aV aQ d1 d2 d3 d4 (nI N) (nI n) kn fo us lo hi v q) H → va_D (fun q : Nat => s.heap.size ≤ q) (xW k0 hf hs ho c1 c2 c3 (nI n) (nI N) f g o ++ mW m0 aL aH aV aQ d1 d2 d3 d4 (nI N) (nI n) kn fo us lo hi v q) → va_S (fun q : Nat => s.heap.size ≤ q) s.heap H locs → W p l e room_1 s m #[Value.ref b] below meth c H locs 9 228 (lw_Z below #[Value.ref b] s) (F0 m 188 ls []) := by
        intro H locs n N Na Nb f g lo hi v q o kn fo us inv hP hD hS
        refine lv_iinc (v := nI (i + 3)) (lv' := [(3, .int (nI (i + 3))), (0, .ref b), (1, .ref k0), (2, .ref m0)]) hx hb dL_law_188 hl (k := 3) rfl (xd_inc3 _) (by decide) rfl (fun ls hl => ?_)
        refine lv_goto (tgt := 18) hx hb dL_law_191 (by decide) ?_
        exact ih (i + 3) hi3 (by omega) H locs n N Na Nb f g lo hi v q o kn fo us ls inv hP hD hS (lv_sub hl [1, 2, 3, 0] rfl)
      have hok := inv.1
      have hn2 := hok.1
      have hn6 := hok.2.1
      have hN48 := hok.2.2.1
      obtain ⟨-, ea, eb, el, eh, hkn⟩ := id inv
      refine lv_aload_n hx hb dL_law_26 rfl (lv_at hl 0 rfl) ?_
      refine lv_iload_n hx hb dL_law_27 rfl (lv_at hl 3 rfl) ?_
      refine xd_sld C hX hbl hbA hS (by omega) (by omega) dL_law_28 ?_
      refine lv_bipush (v := 7) hx hb dL_law_29 (by decide) ?_
      refine lv_iand hx hb dL_law_31 ?_
      obtain ⟨jj, hjj, ejj⟩ := pk_andE (xs i) (m := 7) 3 (by decide)
      refine xd_top (y := nI jj) ejj ?_
      rcases (show jj = 0 ∨ jj = 1 ∨ jj = 2 ∨ jj = 3 ∨ jj = 4 ∨ jj = 5 ∨ jj = 6 ∨ jj = 7 by omega) with rfl | rfl | rfl | rfl | rfl | rfl | rfl | rfl
      · refine lv_tableIn (off := 40) (tgt := 72) hx hb dL_law_32 (by decide) (by decide) (by decide) (by decide) ?_
        refine lv_aload_n hx hb dL_law_72 rfl (lv_at hl 1 rfl) ?_
        refine lv_aload_n hx hb dL_law_73 rfl (lv_at hl 0 rfl) ?_
        refine lv_iload_n hx hb dL_law_74 rfl (lv_at hl 3 rfl) ?_
        refine lv_iconst (v := nI 1) hx hb dL_law_75 (by decide) ?_
        refine lv_iadd hx hb dL_law_76 ?_
        refine xd_top (y := nI (i + 1)) (nI_add i 1) ?_
        refine xd_sld C hX hbl hbA hS (by omega) (by omega) dL_law_77 ?_
        refine xd_callVv C (met_wires l dC dI k0 hf hs ho c1 c2 c3 _ (nI n) (nI N) f g o (xs (i + 1))) (cwV 1 hta (lw_V q36 q37 q38 q8 q39) rfl rfl rfl (by decide +kernel) ⟨Nat.le_of_ble_eq_true rfl, Nat.le_of_ble_eq_true rfl⟩) hK hP hD hS hA [0, 1, 2, 3] [4, 5, 6, 7, 8] [0, 1, 2] (mW m0 aL aH aV aQ d1 d2 d3 d4 (nI N) (nI n) kn fo us lo hi v q) rfl rfl rfl (by decide) (by decide) (by decide) rfl 0 0 rfl rfl rfl rfl hl.1 rfl (Nat.le_of_ble_eq_true rfl) dL_law_78 ⟨Nat.le_of_ble_eq_true rfl, Nat.le_of_ble_eq_true rfl⟩ (fun _ H locs hpost hP hD hS => ?_)
        have hP : va_P (dC, dI) vwCl (mW m0 aL aH aV aQ d1 d2 d3 d4 (nI N) (nI n) kn fo us lo hi v q ++ xW k0 hf hs ho c1 c2 c3 (nI (2 + xdCn (xs (i + 1)) 5)) (nI 0) f g o) H := hP
        have hD : va_D (fun q : Nat => s.heap.size ≤ q) (mW m0 aL aH aV aQ d1 d2 d3 d4 (nI N) (nI n) kn fo us lo hi v q ++ xW k0 hf hs ho c1 c2 c3 (nI (2 + xdCn (xs (i + 1)) 5)) (nI 0) f g o) := hD
        refine lv_aload_n hx hb dL_law_81 rfl (lv_at hl 2 rfl) ?_
        refine lv_aload_n hx hb dL_law_82 rfl (lv_at hl 0 rfl) ?_
        refine lv_iload_n hx hb dL_law_83 rfl (lv_at hl 3 rfl) ?_
        refine lv_iconst (v := nI 1) hx hb dL_law_84 (by decide) ?_
        refine lv_iadd hx hb dL_law_85 ?_
        refine xd_top (y := nI (i + 1)) (nI_add i 1) ?_
        refine xd_sld C hX hbl hbA hS (by omega) (by omega) dL_law_86 ?_
        refine xd_callVv C (met_mwires l dC dI m0 aL aH aV aQ d1 d2 d3 d4 _ (nI N) (nI n) kn fo us lo hi v q (xs (i + 1))) (cwV 1 hta (lw_V q115 q116 q117 q9 q118) rfl rfl rfl (by decide +kernel) ⟨Nat.le_of_ble_eq_true rfl, Nat.le_of_ble_eq_true rfl⟩) hK hP hD hS hA [0, 1, 2, 3, 4] [5, 6, 7, 8] [3, 4, 5, 6] (xW k0 hf hs ho c1 c2 c3 (nI (2 + xdCn (xs (i + 1)) 5)) (nI 0) f g o) rfl rfl rfl (by decide) (by decide) (by decide) rfl 1 0 rfl rfl rfl rfl hl.1 rfl (Nat.le_of_ble_eq_true rfl) dL_law_87 ⟨Nat.le_of_ble_eq_true rfl, Nat.le_of_ble_eq_true rfl⟩ (fun _ H locs hpost hP hD hS => ?_)
        have hP : va_P (dC, dI) vwCl (xW k0 hf hs ho c1 c2 c3 (nI (2 + xdCn (xs (i + 1)) 5)) (nI 0) f g o ++ mW m0 aL aH aV aQ d1 d2 d3 d4 (nI 0) (nI (2 + xdCn (xs (i + 1)) 5)) 0 fo us lo hi v q) H := hP
        have hD : va_D (fun q : Nat => s.heap.size ≤ q) (xW k0 hf hs ho c1 c2 c3 (nI (2 + xdCn (xs (i + 1)) 5)) (nI 0) f g o ++ mW m0 aL aH aV aQ d1 d2 d3 d4 (nI 0) (nI (2 + xdCn (xs (i + 1)) 5)) 0 fo us lo hi v q) := hD
        refine lv_goto (tgt := 188) hx hb dL_law_90 (by decide) ?_
        have h5 : xdCn (xs (i + 1)) 5 < 5 := xd_cn_lt _ (by decide)
        exact next H locs _ 0 (fun _ => 0) (fun _ => 0) f g lo hi v q o 0 fo us (xd_inv_wires (by omega) (by omega)) hP hD hS
      · refine lv_tableIn (off := 61) (tgt := 93) hx hb dL_law_32 (by decide) (by decide) (by decide) (by decide) ?_
        refine lv_aload_n hx hb dL_law_93 rfl (lv_at hl 1 rfl) ?_
        refine lv_aload_n hx hb dL_law_94 rfl (lv_at hl 0 rfl) ?_
        refine lv_iload_n hx hb dL_law_95 rfl (lv_at hl 3 rfl) ?_
        refine lv_iconst (v := nI 1) hx hb dL_law_96 (by decide) ?_
        refine lv_iadd hx hb dL_law_97 ?_
        refine xd_top (y := nI (i + 1)) (nI_add i 1) ?_
        refine xd_sld C hX hbl hbA hS (by omega) (by omega) dL_law_98 ?_
        refine lv_aload_n hx hb dL_law_99 rfl (lv_at hl 0 rfl) ?_
        refine lv_iload_n hx hb dL_law_100 rfl (lv_at hl 3 rfl) ?_
        refine lv_iconst (v := nI 2) hx hb dL_law_101 (by decide) ?_
        refine lv_iadd hx hb dL_law_102 ?_
        refine xd_top (y := nI (i + 2)) (nI_add i 2) ?_
        refine xd_sld C hX hbl hbA hS (by omega) (by omega) dL_law_103 ?_
        refine xd_callVi C (met_join l dC dI k0 hf hs ho c1 c2 c3 _ n N ⟨hn2, hn6⟩ hN48 f g o (xs (i + 1)) (xs (i + 2))) (cwV 2 hta (lw_V q44 q45 q46 q8 q47) rfl rfl rfl (by decide +kernel) ⟨Nat.le_of_ble_eq_true rfl, Nat.le_of_ble_eq_true rfl⟩) hK hP hD hS hA [0, 1, 2, 3] [4, 5, 6, 7, 8] [0, 1, 2] (mW m0 aL aH aV aQ d1 d2 d3 d4 (nI N) (nI n) kn fo us lo hi v q) rfl rfl rfl (by decide) (by decide) (by decide) rfl 0 0 rfl rfl rfl rfl hl.1 rfl (Nat.le_of_ble_eq_true rfl) dL_law_104 ⟨Nat.le_of_ble_eq_true rfl, Nat.le_of_ble_eq_true rfl⟩ (fun r1 u1 H locs hpost1 hP hD hS => ?_)
        have hP : va_P (dC, dI) vwCl (mW m0 aL aH aV aQ d1 d2 d3 d4 (nI N) (nI n) kn fo us lo hi v q ++ xW k0 hf hs ho c1 c2 c3 (nI n) (nI u1.1) u1.2.1 u1.2.2 o) H := hP
        have hD : va_D (fun q : Nat => s.heap.size ≤ q) (mW m0 aL aH aV aQ d1 d2 d3 d4 (nI N) (nI n) kn fo us lo hi v q ++ xW k0 hf hs ho c1 c2 c3 (nI n) (nI u1.1) u1.2.1 u1.2.2 o) := hD
        refine lv_aload_n hx hb dL_law_107 rfl (lv_at hl 2 rfl) ?_
        refine lv_aload_n hx hb dL_law_108 rfl (lv_at hl 0 rfl) ?_
        refine lv_iload_n hx hb dL_law_109 rfl (lv_at hl 3 rfl) ?_
        refine lv_iconst (v := nI 1) hx hb dL_law_110 (by decide) ?_
        refine lv_iadd hx hb dL_law_111 ?_
        refine xd_top (y := nI (i + 1)) (nI_add i 1) ?_
        refine xd_sld C hX hbl hbA hS (by omega) (by omega) dL_law_112 ?_
        refine lv_aload_n hx hb dL_law_113 rfl (lv_at hl 0 rfl) ?_
        refine lv_iload_n hx hb dL_law_114 rfl (lv_at hl 3 rfl) ?_
        refine lv_iconst (v := nI 2) hx hb dL_law_115 (by decide) ?_
        refine lv_iadd hx hb dL_law_116 ?_
        refine xd_top (y := nI (i + 2)) (nI_add i 2) ?_
        refine xd_sld C hX hbl hbA hS (by omega) (by omega) dL_law_117 ?_
        refine xd_callVi C (met_mjoin l dC dI m0 aL aH aV aQ d1 d2 d3 d4 _ n N ⟨hn2, hn6⟩ hN48 kn fo us lo hi v q (xs (i + 1)) (xs (i + 2))) (cwV 2 hta (lw_V q120 q121 q122 q9 q123) rfl rfl rfl (by decide +kernel) ⟨Nat.le_of_ble_eq_true rfl, Nat.le_of_ble_eq_true rfl⟩) hK hP hD hS hA [0, 1, 2, 3, 4] [5, 6, 7, 8] [3, 4, 5, 6] (xW k0 hf hs ho c1 c2 c3 (nI n) (nI u1.1) u1.2.1 u1.2.2 o) rfl rfl rfl (by decide) (by decide) (by decide) rfl 1 0 rfl rfl rfl rfl hl.1 rfl (Nat.le_of_ble_eq_true rfl) dL_law_118 ⟨Nat.le_of_ble_eq_true rfl, Nat.le_of_ble_eq_true rfl⟩ (fun r2 u2 H locs hpost2 hP hD hS => ?_)
        have hP : va_P (dC, dI) vwCl (xW k0 hf hs ho c1 c2 c3 (nI n) (nI u1.1) u1.2.1 u1.2.2 o ++ mW m0 aL aH aV aQ d1 d2 d3 d4 (nI u2.1) (nI n) u2.2.1 fo us u2.2.2.1 u2.2.2.2 v q) H := hP
        have hD : va_D (fun q : Nat => s.heap.size ≤ q) (xW k0 hf hs ho c1 c2 c3 (nI n) (nI u1.1) u1.2.1 u1.2.2 o ++ mW m0 aL aH aV aQ d1 d2 d3 d4 (nI u2.1) (nI n) u2.2.1 fo us u2.2.2.1 u2.2.2.2 v q) := hD
        have hx1 : xdCn (xs (i + 1)) n < n := xd_cn_lt _ (by omega)
        have hx2 : xdCn (xs (i + 2)) n < n := xd_cn_lt _ (by omega)
        rcases hpost1 with ⟨g1, rfl, rfl⟩ | ⟨g1, g2, rfl, rfl⟩ <;> rcases hpost2 with ⟨g3, rfl, rfl⟩ | ⟨g3, g4, rfl, rfl⟩
        · refine lv_icmp_eq (tgt := 188) hx hb dL_law_121 (by decide) (fun hq => ?_) (fun hq => ?_)
          · exact next H locs n N Na Nb f g lo hi v q o kn fo us inv hP hD hS
          · exact absurd rfl hq
        · rcases g1 with g1 | g1
          · exact absurd g1 g3
          · exact absurd g1 g4
        · rcases g3 with g3 | g3
          · exact absurd g3 g1
          · exact absurd g3 g2
        · refine lv_icmp_eq (tgt := 188) hx hb dL_law_121 (by decide) (fun hq => ?_) (fun hq => ?_)
          · exact next H locs n (N + 1) _ _ _ _ _ _ v q o 0 fo us (xd_inv_join inv hx1 hx2 g1 g2) hP hD hS
          · exact absurd rfl hq
      · refine lv_tableIn (off := 94) (tgt := 126) hx hb dL_law_32 (by decide) (by decide) (by decide) (by decide) ?_
        refine lv_aload_n hx hb dL_law_126 rfl (lv_at hl 1 rfl) ?_
        refine xd_callVi C (met_drop l dC dI k0 hf hs ho c1 c2 c3 _ (nI n) N hN48 f g o) (cwV 0 hta (lw_V q48 q49 q50 q8 q51) rfl rfl rfl (by decide +kernel) ⟨Nat.le_of_ble_eq_true rfl, Nat.le_of_ble_eq_true rfl⟩) hK hP hD hS hA [0, 1, 2, 3] [4, 5, 6, 7, 8] [0, 1, 2] (mW m0 aL aH aV aQ d1 d2 d3 d4 (nI N) (nI n) kn fo us lo hi v q) rfl rfl rfl (by decide) (by decide) (by decide) rfl 0 0 rfl rfl rfl rfl hl.1 rfl (Nat.le_of_ble_eq_true rfl) dL_law_127 ⟨Nat.le_of_ble_eq_true rfl, Nat.le_of_ble_eq_true rfl⟩ (fun r1 u1 H locs hpost1 hP hD hS => ?_)
        have hP : va_P (dC, dI) vwCl (mW m0 aL aH aV aQ d1 d2 d3 d4 (nI N) (nI n) kn fo us lo hi v q ++ xW k0 hf hs ho c1 c2 c3 (nI n) (nI u1) f g o) H := hP
        have hD : va_D (fun q : Nat => s.heap.size ≤ q) (mW m0 aL aH aV aQ d1 d2 d3 d4 (nI N) (nI n) kn fo us lo hi v q ++ xW k0 hf hs ho c1 c2 c3 (nI n) (nI u1) f g o) := hD
        refine lv_aload_n hx hb dL_law_130 rfl (lv_at hl 2 rfl) ?_
        refine xd_callVi C (met_mdrop l dC dI m0 aL aH aV aQ d1 d2 d3 d4 _ N hN48 (nI n) kn fo us lo hi v q) (cwV 0 hta (lw_V q124 q125 q126 q9 q127) rfl rfl rfl (by decide +kernel) ⟨Nat.le_of_ble_eq_true rfl, Nat.le_of_ble_eq_true rfl⟩) hK hP hD hS hA [0, 1, 2, 3, 4] [5, 6, 7, 8] [3, 4, 5, 6] (xW k0 hf hs ho c1 c2 c3 (nI n) (nI u1) f g o) rfl rfl rfl (by decide) (by decide) (by decide) rfl 1 0 rfl rfl rfl rfl hl.1 rfl (Nat.le_of_ble_eq_true rfl) dL_law_131 ⟨Nat.le_of_ble_eq_true rfl, Nat.le_of_ble_eq_true rfl⟩ (fun r2 u2 H locs hpost2 hP hD hS => ?_)
        have hP : va_P (dC, dI) vwCl (xW k0 hf hs ho c1 c2 c3 (nI n) (nI u1) f g o ++ mW m0 aL aH aV aQ d1 d2 d3 d4 (nI u2.1) (nI n) u2.2 fo us lo hi v q) H := hP
        have hD : va_D (fun q : Nat => s.heap.size ≤ q) (xW k0 hf hs ho c1 c2 c3 (nI n) (nI u1) f g o ++ mW m0 aL aH aV aQ d1 d2 d3 d4 (nI u2.1) (nI n) u2.2 fo us lo hi v q) := hD
        rcases hpost1 with ⟨g1, rfl, rfl⟩ | ⟨g1, rfl, rfl⟩ <;> rcases hpost2 with ⟨g3, rfl, rfl⟩ | ⟨g3, rfl, rfl⟩
        · refine lv_icmp_eq (tgt := 188) hx hb dL_law_134 (by decide) (fun hq => ?_) (fun hq => ?_)
          · exact next H locs n N Na Nb f g lo hi v q o kn fo us inv (by rw [g1]; exact hP) (by rw [g1]; exact hD) hS
          · exact absurd rfl hq
        · exact absurd g3 (by omega)
        · exact absurd g1 (by omega)
        · refine lv_icmp_eq (tgt := 188) hx hb dL_law_134 (by decide) (fun hq => ?_) (fun hq => ?_)
          · exact next H locs n (N - 1) Na Nb f g lo hi v q o 0 fo us (xd_inv_drop inv) hP hD hS
          · exact absurd rfl hq
      · refine lv_tableIn (off := 107) (tgt := 139) hx hb dL_law_32 (by decide) (by decide) (by decide) (by decide) ?_
        refine lv_aload_n hx hb dL_law_139 rfl (lv_at hl 1 rfl) ?_
        refine xd_callVi C (met_sorts l dC dI k0 hf hs ho c1 c2 c3 _ n N Na Nb hok f g ea eb o) (cwV 0 hta (lw_V q52 q53 q54 q8 q55) rfl rfl rfl (by decide +kernel) ⟨Nat.le_of_ble_eq_true rfl, Nat.le_of_ble_eq_true rfl⟩) hK hP hD hS hA [0, 1, 2, 3] [4, 5, 6, 7, 8] [0, 1, 2] (mW m0 aL aH aV aQ d1 d2 d3 d4 (nI N) (nI n) kn fo us lo hi v q) rfl rfl rfl (by decide) (by decide) (by decide) rfl 0 0 rfl rfl rfl rfl hl.1 rfl (Nat.le_of_ble_eq_true rfl) dL_law_140 ⟨Nat.le_of_ble_eq_true rfl, Nat.le_of_ble_eq_true rfl⟩ (fun r1 o1 H locs hpost1 hP hD hS => ?_)
        have hP : va_P (dC, dI) vwCl (mW m0 aL aH aV aQ d1 d2 d3 d4 (nI N) (nI n) kn fo us lo hi v q ++ xW k0 hf hs ho c1 c2 c3 (nI n) (nI N) f g o1) H := hP
        have hD : va_D (fun q : Nat => s.heap.size ≤ q) (mW m0 aL aH aV aQ d1 d2 d3 d4 (nI N) (nI n) kn fo us lo hi v q ++ xW k0 hf hs ho c1 c2 c3 (nI n) (nI N) f g o1) := hD
        refine lv_aload_n hx hb dL_law_143 rfl (lv_at hl 2 rfl) ?_
        refine xd_callVi C (met_msorts l dC dI m0 aL aH aV aQ d1 d2 d3 d4 _ n N Na Nb hok lo hi el eh v q kn fo us hkn) (cwV 0 hta (lw_V q128 q129 q130 q9 q131) rfl rfl rfl (by decide +kernel) ⟨Nat.le_of_ble_eq_true rfl, Nat.le_of_ble_eq_true rfl⟩) hK hP hD hS hA [0, 1, 2, 3, 4] [5, 6, 7, 8] [3, 4, 5, 6] (xW k0 hf hs ho c1 c2 c3 (nI n) (nI N) f g o1) rfl rfl rfl (by decide) (by decide) (by decide) rfl 1 0 rfl rfl rfl rfl hl.1 rfl (Nat.le_of_ble_eq_true rfl) dL_law_144 ⟨Nat.le_of_ble_eq_true rfl, Nat.le_of_ble_eq_true rfl⟩ (fun r2 u2 H locs hpost2 hP hD hS => ?_)
        have hP : va_P (dC, dI) vwCl (xW k0 hf hs ho c1 c2 c3 (nI n) (nI N) f g o1 ++ mW m0 aL aH aV aQ d1 d2 d3 d4 (nI N) (nI n) 1 u2.1 u2.2.1 lo hi u2.2.2.1 u2.2.2.2) H := hP
        have hD : va_D (fun q : Nat => s.heap.size ≤ q) (xW k0 hf hs ho c1 c2 c3 (nI n) (nI N) f g o1 ++ mW m0 aL aH aV aQ d1 d2 d3 d4 (nI N) (nI n) 1 u2.1 u2.2.1 lo hi u2.2.2.1 u2.2.2.2) := hD
        have er : r1 = r2 := xd_eq_sorts hok hpost1 hpost2.2
        refine lv_icmp_eq (tgt := 188) hx hb dL_law_147 (by decide) (fun hq => ?_) (fun hq => ?_)
        · exact next H locs n N Na Nb f g lo hi u2.2.2.1 u2.2.2.2 o1 1 u2.1 u2.2.1 ⟨hok, ea, eb, el, eh, Or.inr ⟨rfl, hpost2.1⟩⟩ hP hD hS
        · exact absurd er hq
      · refine lv_tableIn (off := 120) (tgt := 152) hx hb dL_law_32 (by decide) (by decide) (by decide) (by decide) ?_
        refine lv_aload_n hx hb dL_law_152 rfl (lv_at hl 1 rfl) ?_
        refine lv_aload_n hx hb dL_law_153 rfl (lv_at hl 0 rfl) ?_
        refine lv_iload_n hx hb dL_law_154 rfl (lv_at hl 3 rfl) ?_
        refine lv_iconst (v := nI 1) hx hb dL_law_155 (by decide) ?_
        refine lv_iadd hx hb dL_law_156 ?_
        refine xd_top (y := nI (i + 1)) (nI_add i 1) ?_
        refine xd_sld C hX hbl hbA hS (by omega) (by omega) dL_law_157 ?_
        refine xd_callVi C (met_finds l dC dI k0 hf hs ho c1 c2 c3 _ n N Na Nb hok f g ea eb o (xs (i + 1))) (cwV 1 hta (lw_V q72 q73 q74 q8 q75) rfl rfl rfl (by decide +kernel) ⟨Nat.le_of_ble_eq_true rfl, Nat.le_of_ble_eq_true rfl⟩) hK hP hD hS hA [0, 1, 2, 3] [4, 5, 6, 7, 8] [0, 1, 2] (mW m0 aL aH aV aQ d1 d2 d3 d4 (nI N) (nI n) kn fo us lo hi v q) rfl rfl rfl (by decide) (by decide) (by decide) rfl 0 0 rfl rfl rfl rfl hl.1 rfl (Nat.le_of_ble_eq_true rfl) dL_law_158 ⟨Nat.le_of_ble_eq_true rfl, Nat.le_of_ble_eq_true rfl⟩ (fun r1 o1 H locs hpost1 hP hD hS => ?_)
        have hP : va_P (dC, dI) vwCl (mW m0 aL aH aV aQ d1 d2 d3 d4 (nI N) (nI n) kn fo us lo hi v q ++ xW k0 hf hs ho c1 c2 c3 (nI n) (nI N) f g o1) H := hP
        have hD : va_D (fun q : Nat => s.heap.size ≤ q) (mW m0 aL aH aV aQ d1 d2 d3 d4 (nI N) (nI n) kn fo us lo hi v q ++ xW k0 hf hs ho c1 c2 c3 (nI n) (nI N) f g o1) := hD
        refine lv_aload_n hx hb dL_law_161 rfl (lv_at hl 2 rfl) ?_
        refine lv_aload_n hx hb dL_law_162 rfl (lv_at hl 0 rfl) ?_
        refine lv_iload_n hx hb dL_law_163 rfl (lv_at hl 3 rfl) ?_
        refine lv_iconst (v := nI 1) hx hb dL_law_164 (by decide) ?_
        refine lv_iadd hx hb dL_law_165 ?_
        refine xd_top (y := nI (i + 1)) (nI_add i 1) ?_
        refine xd_sld C hX hbl hbA hS (by omega) (by omega) dL_law_166 ?_
        refine xd_callVi C (met_mfinds l dC dI m0 aL aH aV aQ d1 d2 d3 d4 _ n N Na Nb hok lo hi el eh v q kn fo us hkn (xs (i + 1))) (cwV 1 hta (lw_V q144 q145 q146 q9 q147) rfl rfl rfl (by decide +kernel) ⟨Nat.le_of_ble_eq_true rfl, Nat.le_of_ble_eq_true rfl⟩) hK hP hD hS hA [0, 1, 2, 3, 4] [5, 6, 7, 8] [3, 4, 5, 6] (xW k0 hf hs ho c1 c2 c3 (nI n) (nI N) f g o1) rfl rfl rfl (by decide) (by decide) (by decide) rfl 1 0 rfl rfl rfl rfl hl.1 rfl (Nat.le_of_ble_eq_true rfl) dL_law_167 ⟨Nat.le_of_ble_eq_true rfl, Nat.le_of_ble_eq_true rfl⟩ (fun r2 u2 H locs hpost2 hP hD hS => ?_)
        have hP : va_P (dC, dI) vwCl (xW k0 hf hs ho c1 c2 c3 (nI n) (nI N) f g o1 ++ mW m0 aL aH aV aQ d1 d2 d3 d4 (nI N) (nI n) 1 u2.1 u2.2.1 lo hi u2.2.2.1 u2.2.2.2) H := hP
        have hD : va_D (fun q : Nat => s.heap.size ≤ q) (xW k0 hf hs ho c1 c2 c3 (nI n) (nI N) f g o1 ++ mW m0 aL aH aV aQ d1 d2 d3 d4 (nI N) (nI n) 1 u2.1 u2.2.1 lo hi u2.2.2.1 u2.2.2.2) := hD
        have er : r1 = r2 := xd_eq_finds hok (xd_cn_lt _ (by omega)) hpost1 hpost2.2
        refine lv_icmp_eq (tgt := 188) hx hb dL_law_170 (by decide) (fun hq => ?_) (fun hq => ?_)
        · exact next H locs n N Na Nb f g lo hi u2.2.2.1 u2.2.2.2 o1 1 u2.1 u2.2.1 ⟨hok, ea, eb, el, eh, Or.inr ⟨rfl, hpost2.1⟩⟩ hP hD hS
        · exact absurd er hq
      · refine lv_tableIn (off := 143) (tgt := 175) hx hb dL_law_32 (by decide) (by decide) (by decide) (by decide) ?_
        refine lv_aload_n hx hb dL_law_175 rfl (lv_at hl 1 rfl) ?_
        refine xd_callVi C (met_needless l dC dI k0 hf hs ho c1 c2 c3 _ n N Na Nb hok f g ea eb o) (cwV 0 hta (lw_V q76 q77 q78 q8 q79) rfl rfl rfl (by decide +kernel) ⟨Nat.le_of_ble_eq_true rfl, Nat.le_of_ble_eq_true rfl⟩) hK hP hD hS hA [0, 1, 2, 3] [4, 5, 6, 7, 8] [0, 1, 2] (mW m0 aL aH aV aQ d1 d2 d3 d4 (nI N) (nI n) kn fo us lo hi v q) rfl rfl rfl (by decide) (by decide) (by decide) rfl 0 0 rfl rfl rfl rfl hl.1 rfl (Nat.le_of_ble_eq_true rfl) dL_law_176 ⟨Nat.le_of_ble_eq_true rfl, Nat.le_of_ble_eq_true rfl⟩ (fun r1 o1 H locs hpost1 hP hD hS => ?_)
        have hP : va_P (dC, dI) vwCl (mW m0 aL aH aV aQ d1 d2 d3 d4 (nI N) (nI n) kn fo us lo hi v q ++ xW k0 hf hs ho c1 c2 c3 (nI n) (nI N) f g o1) H := hP
        have hD : va_D (fun q : Nat => s.heap.size ≤ q) (mW m0 aL aH aV aQ d1 d2 d3 d4 (nI N) (nI n) kn fo us lo hi v q ++ xW k0 hf hs ho c1 c2 c3 (nI n) (nI N) f g o1) := hD
        refine lv_aload_n hx hb dL_law_179 rfl (lv_at hl 2 rfl) ?_
        refine xd_callVi C (met_mneedless l dC dI m0 aL aH aV aQ d1 d2 d3 d4 _ n N Na Nb hok lo hi el eh v q kn fo us hkn) (cwV 0 hta (lw_V q148 q149 q150 q9 q151) rfl rfl rfl (by decide +kernel) ⟨Nat.le_of_ble_eq_true rfl, Nat.le_of_ble_eq_true rfl⟩) hK hP hD hS hA [0, 1, 2, 3, 4] [5, 6, 7, 8] [3, 4, 5, 6] (xW k0 hf hs ho c1 c2 c3 (nI n) (nI N) f g o1) rfl rfl rfl (by decide) (by decide) (by decide) rfl 1 0 rfl rfl rfl rfl hl.1 rfl (Nat.le_of_ble_eq_true rfl) dL_law_180 ⟨Nat.le_of_ble_eq_true rfl, Nat.le_of_ble_eq_true rfl⟩ (fun r2 u2 H locs hpost2 hP hD hS => ?_)
        have hP : va_P (dC, dI) vwCl (xW k0 hf hs ho c1 c2 c3 (nI n) (nI N) f g o1 ++ mW m0 aL aH aV aQ d1 d2 d3 d4 (nI N) (nI n) 1 u2.1 u2.2.1 lo hi u2.2.2.1 u2.2.2.2) H := hP
        have hD : va_D (fun q : Nat => s.heap.size ≤ q) (xW k0 hf hs ho c1 c2 c3 (nI n) (nI N) f g o1 ++ mW m0 aL aH aV aQ d1 d2 d3 d4 (nI N) (nI n) 1 u2.1 u2.2.1 lo hi u2.2.2.1 u2.2.2.2) := hD
        have er : r1 = r2 := xd_eq_needless hok hpost1 hpost2.2
        refine lv_icmp_eq (tgt := 188) hx hb dL_law_183 (by decide) (fun hq => ?_) (fun hq => ?_)
        · exact next H locs n N Na Nb f g lo hi u2.2.2.1 u2.2.2.2 o1 1 u2.1 u2.2.1 ⟨hok, ea, eb, el, eh, Or.inr ⟨rfl, hpost2.1⟩⟩ hP hD hS
        · exact absurd er hq
      · refine lv_tableOut (tgt := 188) hx hb dL_law_32 (by decide) (by decide) ?_
        exact next H locs n N Na Nb f g lo hi v q o kn fo us inv hP hD hS
      · refine lv_tableOut (tgt := 188) hx hb dL_law_32 (by decide) (by decide) ?_
        exact next H locs n N Na Nb f g lo hi v q o kn fo us inv hP hD hS
set_option maxHeartbeats 4000000 in
set_option maxRecDepth 100000 in
/-- THE LAW, from its entry -/
theorem whole_start {p : Program} {e : Env} {s : State} {m : MethodId} {below : List Frame} {meth : Method} {c : Code} (l : Launch) {b L : Nat} {xs : Nat → Int32} (hL : L ≤ 192) (C0 : lw_At p s m meth c b L xs) : W p l e room_1 s m #[Value.ref b] below meth c s.heap [] 0 0 (lw_Z below #[Value.ref b] s) (entryFrame m ([Value.ref b] : List Value).toArray 4) := by
  obtain ⟨hx, hb, hr, hml, hown, hts, hX, hbl, hlocks, hgv⟩ := id C0
  have hta : ∀ w ∈ lw_all, w.before #[Value.ref b] s = true := fun w h => hts w (lw_all_tbl h)
  have hA : ∀ q : Nat, s.heap.size ≤ q → (fun q : Nat => s.heap.size ≤ q) q := fun _ h => h
  have hbA : ¬ (fun q : Nat => s.heap.size ≤ q) b := Nat.not_le.mpr hbl
  obtain ⟨cc0, iS0, hKn0⟩ := u_known (C := RX0) (T := TX0) (N := 5) (n := 5) hts (fun w h => lw_all_tbl (in_X0 w h)) (hts _ (lw_all_tbl q11))
  obtain ⟨cc1, iS1, hKn1⟩ := u_known (C := RX1) (T := TX1) (N := 9) (n := 9) hts (fun w h => lw_all_tbl (in_X1 w h)) (hts _ (lw_all_tbl q81))
  obtain ⟨dC, dI, hKd⟩ : ∃ (dC : Nat → ClassId) (dI : Nat → Nat → Nat), ∀ (k : Nat) (q : vw_C), vwCl[k]? = some q → u_Kn s q.1 q.2.1 q.2.2 (dC k) (dI k) := by
    refine ⟨fun k => if k = 0 then cc0 else cc1, fun k => if k = 0 then iS0 else iS1, ?_⟩
    intro k q hq
    match k, hq with
    | 0, hq => cases hq; exact hKn0
    | 1, hq => cases hq; exact hKn1
    | k + 2, hq => simp [vwCl] at hq
  have hS : va_S (fun q : Nat => s.heap.size ≤ q) s.heap s.heap [] := va_S.rf
  have hK : va_K (dC, dI) vwCl [] s := ⟨hKd, fun k q h => by simp at h⟩
  have hP : va_P (dC, dI) vwCl [] s.heap := fun k q h => by simp at h
  have hD : va_D (fun q : Nat => s.heap.size ≤ q) [] := ⟨fun i j p q h => by simp at h, fun k q h => by simp at h⟩
  have hl := lv_entry ([.ref b]) (n := 4) (Nat.le_of_ble_eq_true rfl)
  rw [lg_entry_eq]
  generalize (lg_sl ([.ref b]) ++ List.replicate (4 - (lg_sl ([.ref b])).length) Slot.unset).toArray = ls at hl ⊢
  have hl : lv_has ls 4 [(0, .ref b)] := hl
  refine va_new (ci := 0) (fs := [.int 0, .int 0, .null, .null, .null]) (C := RX0) (T := TX0) (N := 5) hx hb hta in_X0 tyX0 tyX0_ok hown (hta _ q10) (hta _ q11) (hta _ q8) hK hP hD hS hA rfl (fun j hj => by rcases (show j = 0 ∨ j = 1 ∨ j = 2 ∨ j = 3 ∨ j = 4 by omega) with rfl | rfl | rfl | rfl | rfl <;> rfl) (Nat.le_of_ble_eq_true rfl) (Nat.le_of_ble_eq_true rfl) dL_law_0 (fun k0 H hP hD hS => ?_)
  have hP : va_P (dC, dI) vwCl (xI0 k0) H := hP
  have hD : va_D (fun q : Nat => s.heap.size ≤ q) (xI0 k0) := hD
  refine W.widen (k := 1) (n := 5) (by omega) (by omega) ?_
  refine lv_dup hx hb dL_law_3 rfl ?_
  have hPc := hP.sub (ws' := xI0 k0) [0] rfl
  have hDc := hD.sub (ws' := xI0 k0) [0] (by decide) rfl
  have hKc := hK.sub (tys' := []) [] rfl
  have hFc := va_free (wc := xI0 k0) hD hS hA [0] rfl
  refine va_callv (va_runI (As := []) (rest := [.ref k0]) ⟨hx, hb, hml, hown, hta⟩ (met_init l dC dI k0 H.size) (cwI 0 hta (lw_meth q14) rfl rfl rfl (hta _ q8) (hta _ q12) (hta _ q13) rfl (by decide +kernel) ⟨Nat.le_of_ble_eq_true rfl, Nat.le_of_ble_eq_true rfl⟩) ⟨fun a U g mk q => by obtain ⟨q0, q1, qP, qK, qD⟩ := q; exact ⟨q0, q1, qP, va_K.moved (u := U) (U := U.calling g mk a) (Vm.Alike.refl U.vm) qK, qD⟩, fun U hU hW => ⟨rfl, by rw [hU], by rw [hU]; exact hPc, va_K.moved hW.alike hKc, hDc.weaken (fun _ _ _ _ => trivial)⟩⟩ rfl rfl hl.1 rfl (lv_room (Nat.le_of_ble_eq_true rfl)) dL_law_4 ⟨Nat.le_of_ble_eq_true rfl, Nat.le_of_ble_eq_true rfl⟩) hS (fun q _ h => hFc q h) hFc (fun u t H1 locs ht hvm hw hB hz1 hk1 hS => ?_)
  obtain ⟨hf, hs, ho, c1, c2, c3⟩ := u
  obtain ⟨hP1, hK1, hD1⟩ := hB
  rw [ht] at hP1
  have hK1 := va_K.moved hvm.symm hK1
  obtain ⟨hP, hD⟩ := va_join (wr := []) (w1 := xUW k0 (hf, hs, ho, c1, c2, c3)) hP hD [0] [] rfl rfl (by decide) (by decide) hk1 hFc hP1 hD1
  have hK : va_K (dC, dI) vwCl (xT c1 c2 c3) s := hK1
  generalize H1 = H at hP hS ⊢
  have hP : va_P (dC, dI) vwCl (xW k0 hf hs ho c1 c2 c3 (nI 4) (nI 0) (fun _ => 0) (fun _ => 0) (fun _ => 0)) H := hP
  have hD : va_D (fun q : Nat => s.heap.size ≤ q) (xW k0 hf hs ho c1 c2 c3 (nI 4) (nI 0) (fun _ => 0) (fun _ => 0) (fun _ => 0)) := hD
  refine W.widen (k := 4) (n := 107) (by omega) (by omega) ?_
  refine lv_astore_n (lv' := [(1, .ref k0), (0, .ref b)]) hx hb dL_law_7 rfl hl (by decide) rfl (fun ls hl => ?_)
  refine va_new (ci := 1) (fs := [.null, .null, .int 0, .int 0, .int 0, .int 0, .int 0, .null, .null]) (C := RX1) (T := TX1) (N := 9) hx hb hta in_X1 tyX1 tyX1_ok hown (hta _ q80) (hta _ q81) (hta _ q9) hK hP hD hS hA rfl (fun j hj => by rcases (show j = 0 ∨ j = 1 ∨ j = 2 ∨ j = 3 ∨ j = 4 ∨ j = 5 ∨ j = 6 ∨ j = 7 ∨ j = 8 by omega) with rfl | rfl | rfl | rfl | rfl | rfl | rfl | rfl | rfl <;> rfl) (Nat.le_of_ble_eq_true rfl) (Nat.le_of_ble_eq_true rfl) dL_law_8 (fun m0 H hP hD hS => ?_)
  have hP : va_P (dC, dI) vwCl (xW k0 hf hs ho c1 c2 c3 (nI 4) (nI 0) (fun _ => 0) (fun _ => 0) (fun _ => 0) ++ mI0 m0) H := hP
  have hD : va_D (fun q : Nat => s.heap.size ≤ q) (xW k0 hf hs ho c1 c2 c3 (nI 4) (nI 0) (fun _ => 0) (fun _ => 0) (fun _ => 0) ++ mI0 m0) := hD
  refine W.widen (k := 5) (n := 116) (by omega) (by omega) ?_
  refine lv_dup hx hb dL_law_11 rfl ?_
  have hPc := hP.sub (ws' := mI0 m0) [4] rfl
  have hDc := hD.sub (ws' := mI0 m0) [4] (by decide) rfl
  have hKc := hK.sub (tys' := []) [] rfl
  have hFc := va_free (wc := mI0 m0) hD hS hA [4] rfl
  refine va_callv (va_runI (As := []) (rest := [.ref m0]) ⟨hx, hb, hml, hown, hta⟩ (met_minit l dC dI m0 H.size) (cwI 0 hta (lw_meth q84) rfl rfl rfl (hta _ q9) (hta _ q82) (hta _ q83) rfl (by decide +kernel) ⟨Nat.le_of_ble_eq_true rfl, Nat.le_of_ble_eq_true rfl⟩) ⟨fun a U g mk q => by obtain ⟨q0, q1, qP, qK, qD⟩ := q; exact ⟨q0, q1, qP, va_K.moved (u := U) (U := U.calling g mk a) (Vm.Alike.refl U.vm) qK, qD⟩, fun U hU hW => ⟨rfl, by rw [hU], by rw [hU]; exact hPc, va_K.moved hW.alike hKc, hDc.weaken (fun _ _ _ _ => trivial)⟩⟩ rfl rfl hl.1 rfl (lv_room (Nat.le_of_ble_eq_true rfl)) dL_law_12 ⟨Nat.le_of_ble_eq_true rfl, Nat.le_of_ble_eq_true rfl⟩) hS (fun q _ h => hFc q h) hFc (fun u t H1 locs ht hvm hw hB hz1 hk1 hS => ?_)
  obtain ⟨aL, aH, aV, aQ, d1, d2, d3, d4⟩ := u
  obtain ⟨hP1, hK1, hD1⟩ := hB
  rw [ht] at hP1
  have hK1 := va_K.moved hvm.symm hK1
  obtain ⟨hP, hD⟩ := va_join (wr := xW k0 hf hs ho c1 c2 c3 (nI 4) (nI 0) (fun _ => 0) (fun _ => 0) (fun _ => 0)) (w1 := mUW m0 (aL, aH, aV, aQ, d1, d2, d3, d4)) hP hD [4] [0, 1, 2, 3] rfl rfl (by decide) (by decide) hk1 hFc hP1 hD1
  have hK : va_K (dC, dI) vwCl (xT c1 c2 c3 ++ mT d1 d2 d3 d4) s := hK.app hK1
  generalize H1 = H at hP hS ⊢
  refine W.widen (k := 9) (n := 228) (by omega) (by omega) ?_
  refine lv_astore_n (lv' := [(2, .ref m0), (1, .ref k0), (0, .ref b)]) hx hb dL_law_15 rfl hl (by decide) rfl (fun ls hl => ?_)
  refine lv_iconst (v := nI 0) hx hb dL_law_16 (by decide) ?_
  refine lv_istore_n (lv' := [(3, .int (nI 0)), (2, .ref m0), (1, .ref k0), (0, .ref b)]) hx hb dL_law_17 rfl hl (by decide) rfl (fun ls hl => ?_)
  exact law_loop hL C0 hK (L + 1) 0 (Nat.zero_le L) (by omega) H _ 4 0 (fun _ => 0) (fun _ => 0) (fun _ => 0) (fun _ => 0) (fun _ => 0) (fun _ => 0) (fun _ => 0) (fun _ => 0) (fun _ => 0) 0 0 0 ls (xd_inv_wires (by decide) (by decide)) hP hD hS (lv_sub hl [3, 2, 1, 0] rfl)
end
section
/-! ===== PART 14: the claim out of the walk (the skeleton's end) ===== -/
set_option maxHeartbeats 4000000 in
theorem lw_walk (l : Launch) (b : Addr) (xs : List Int32) : MetFree l x (headSpec (Jvm.Cond.code x code maxLocals ret :: tables_1) room_1) (lw_P b xs) (fun _ _ _ _ _ => True) lw_Q := by
  refine MetFree.of_bodyS (code := code) (maxLocals := maxLocals) (ret := ret) (by decide) ?_ ?_
  · intro args s m h hn
    obtain ⟨meth, c, h1, h2, h3, h4, h5, h6, -, -⟩ := Cond.code_spec hn (atoms_spec (ws := Jvm.Cond.code x code maxLocals ret :: tables_1) h _ List.mem_cons_self)
    exact ⟨meth, c, h1, h2, h3, h4, h5, h6⟩
  · intro p e s m args below meth c s₁ B hml0 hP _
    obtain ⟨rfl, hx, hbd, hgv⟩ := hP
    obtain ⟨scr, harrAt, hlist, hof, hsmall⟩ := hx
    obtain ⟨hcb, hkn, -, -⟩ := State.arrayAt?_spec harrAt
    have hown : s.vm.findClass R_law = some m.cls := findClass_of_methodNamed B.named
    have hts0 : ∀ c ∈ (Jvm.Cond.code x code maxLocals ret :: tables_1), c.before #[Value.ref b] s = true := atoms_spec (ws := Jvm.Cond.code x code maxLocals ret :: tables_1) B.pre
    have hts : ∀ w ∈ lw_tbl, w.before #[Value.ref b] s = true := k2_hts_sels lw_privs (fun w hw => hts0 w (List.mem_cons_of_mem _ hw)) lw_privs_ok
    have hml : c.maxLocals = 4 := B.maxLocals_eq (hts0 _ List.mem_cons_self)
    have X₀ : Stand p l e room_1 s m #[Value.ref b] below meth c s₁ [] 0 0 := Stand.of_body B
    have hh0 : s₁.heap = s.heap := by rw [B.state]; rfl
    have hsz : scr.slots.size = xs.length := by rw [← Array.length_toList, hlist, List.length_map]
    have hval : ∀ j : Nat, j < xs.length → scr.slots[j]? = some (.int (xs.getD j 0)) := fun j hj => by
      rw [← Array.getElem?_toList, hlist]
      simp [hj]
    have hbl : b < s.heap.size := (Array.getElem?_eq_some_iff.mp hcb).1
    have hX : va_X b xs.length (fun j => xs.getD j 0) s s.heap := ⟨scr, hcb, hof, hkn, hsz, hval⟩
    have K : W p l e room_1 s m #[Value.ref b] below meth c s₁.heap [] 0 0 (lw_Z below #[Value.ref b] s) (entryFrame m ([Value.ref b] : List Value).toArray 4) := by
      rw [hh0]
      exact whole_start l hbd ⟨B.exec, B.bytes, B.returns, hml, hown, hts, hX, hbl, B.notSynchronized, hgv⟩
    obtain ⟨t, a1, o, b1, b2, b3⟩ := K s₁ rfl X₀
    exact ⟨t, o, a1, b1, b2, b3⟩
theorem lw_pre_spec {args : Array Value} {s : State} (h : (Jvm.Cond.and given_1 narrow_1).before args s = true) (hr : rest_1_c.before args s = true) : ∃ (b : Addr) (xs : List Int32), lw_P b xs args s := by
  have hs := flat_of_before _ h
  have hq := flat_of_before _ hr
  have hc : (Cond.count 1).before args s = true := hs _ (by decide +kernel)
  have harr : (Cond.arrayOf (.arg 0) .int).before args s = true := hs _ (by decide +kernel)
  have hle : (Cond.le (.length (.arg 0)) (.int 192)).before args s = true := hs _ (by decide +kernel)
  have hlen : (Cond.isInt (.length (.arg 0))).before args s = true := hq _ (by decide +kernel)
  have hall : (Cond.all (.arg 0) (.isInt (.elem (.arg 0) (.index 0)))).before args s = true := hq _ (by decide +kernel)
  obtain ⟨b, xs, hb, hx⟩ := State.ints_of_pre rfl harr hlen hall
  have hsm : xs.length < 2 ^ 31 := hx.choose_spec.2.2.2
  have hev : (Term.length (.arg 0)).eval args s none [] s = some (.int xs.length.toInt32) := hx.length_eval hb
  have hv := Cond.le_ints hev (show (Term.int 192).eval args s none [] s = some (.int 192) from rfl)
  have hd : xs.length.toInt32 ≤ 192 := by
    simpa [Cond.before, Cond.holds, hv] using hle
  have hN : xs.length ≤ 192 := (Int32.ofNat_le_ofNat hsm (by decide)).mp (show Int32.ofNat xs.length ≤ Int32.ofNat 192 from hd)
  exact ⟨b, xs, Cond.one_arg hc (show args[0]? = some (.ref b) from hb), hx, hN, h⟩
theorem lw_comes (l : Launch) : Comes l x (Jvm.Cond.code x code maxLocals ret :: tables_1) room_1 (fun tb e args s => Calls_1 tb e args s ∧ rest_1 tb e args s ∧ Pre_1 tb e args s)
    (fun _ _ args s o t => lw_Q args s o t) := by
  intro p e ha hc hk s m args below hf hfit hheap happ hpre
  obtain ⟨b, xs, hP⟩ := lw_pre_spec hpre.2.2 hpre.2.1
  obtain ⟨k, o, h1, h2, h3, hQ⟩ := lw_walk l b xs p e ha hc hk s m args below hf ((Spec.applies_iff_loose hf).mp happ).1 hP trivial
  exact ⟨k, o, h1, h2, h3, hQ⟩
theorem lw_frame {s t : State} {o : Outcome} {args : Array Value} (h : Framed s o t [] 600000 7290000) :
    Framed s o t (fieldLocs frame_1_writes args s ++ arrayLocs frame_1_arrays args s ++ staticLocs frame_1_statics s) 600000 7290000 := h
theorem lw_limb (L : Cond) (hL : ∀ (args : Array Value) (s t : State), L.after args s (.returned (some (.int 1))) t = true) :
    ArmFor flags0 classFile x code maxLocals ret World_1 tables_1 room_1 Calls_1 rest_1 Pre_1
      (fun tb e a s o t => postC L tb e a s o t ∧ Framed s o t (fieldLocs frame_1_writes a s ++ arrayLocs frame_1_arrays a s ++ staticLocs frame_1_statics s) 600000 7290000) := by
  intro l _ _ _ p e ha hc hk s m args below hf hfit hheap happ hpre
  obtain ⟨k, o, h1, h2, h3, rfl, hF⟩ := lw_comes l p e ha hc hk s m args below hf hfit hheap happ hpre
  exact ⟨k, _, h1, h2, h3, hL args s _, lw_frame hF⟩
theorem i_vc : Claimed_1_1 ∧ Claimed_1_2 := ⟨lw_limb limb_1_1 (fun args s t => by simp [limb_1_1, Cond.after, Cond.holds, Cond.value]), lw_limb limb_1_2 (fun args s t => Cond.after_iff.mpr (by
  first | (rw [show limb_1_2 = Cond.eq .result (.int 1) from rfl, Cond.eq_ints (x := 1) (y := 1) rfl rfl]; simp; done) | (simp [limb_1_2, Cond.value, Term.eval]; done)))⟩
end
