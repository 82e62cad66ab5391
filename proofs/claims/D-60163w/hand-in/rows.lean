section
-- ===== PART A: goes FIRST, ahead of the names: the tables' words, and 'selects' of the private methods out of them =====
/-- a private method of a class that the tables say can be made, by its rows of tables_1 -/
def lw_okq (q : MethodName × Nat) : Prop := (q.1.cls ≠ "java/lang/invoke/MethodHandle" ∧ q.1.cls ≠ "java/lang/invoke/VarHandle") ∧ Cond.instantiable q.1.cls q.2 ∈ tables_1 ∧ Cond.privateMethod q.1 ∈ tables_1 ∧ Cond.instanceMethod q.1 ∈ tables_1
set_option maxRecDepth 100000
theorem lw_p0 : lw_okq (⟨"BeadDesk", "turns", "()J"⟩, 2) := ⟨⟨by decide +kernel, by decide +kernel⟩, List.mem_of_getElem? (i := 4) rfl, List.mem_of_getElem? (i := 28) rfl, List.mem_of_getElem? (i := 29) rfl⟩
theorem lw_p1 : lw_okq (⟨"BeadDesk", "power", "(I)J"⟩, 2) := ⟨⟨by decide +kernel, by decide +kernel⟩, List.mem_of_getElem? (i := 4) rfl, List.mem_of_getElem? (i := 35) rfl, List.mem_of_getElem? (i := 36) rfl⟩
theorem lw_p2 : lw_okq (⟨"BeadDesk", "lines", "()J"⟩, 2) := ⟨⟨by decide +kernel, by decide +kernel⟩, List.mem_of_getElem? (i := 4) rfl, List.mem_of_getElem? (i := 43) rfl, List.mem_of_getElem? (i := 44) rfl⟩
theorem lw_p3 : lw_okq (⟨"BeadDesk", "own", "(I)J"⟩, 2) := ⟨⟨by decide +kernel, by decide +kernel⟩, List.mem_of_getElem? (i := 4) rfl, List.mem_of_getElem? (i := 51) rfl, List.mem_of_getElem? (i := 52) rfl⟩
theorem lw_p4 : lw_okq (⟨"BeadDesk", "whole", "(I)J"⟩, 2) := ⟨⟨by decide +kernel, by decide +kernel⟩, List.mem_of_getElem? (i := 4) rfl, List.mem_of_getElem? (i := 55) rfl, List.mem_of_getElem? (i := 56) rfl⟩
theorem lw_p5 : lw_okq (⟨"BeadDeskModel", "reckon", "()V"⟩, 8) := ⟨⟨by decide +kernel, by decide +kernel⟩, List.mem_of_getElem? (i := 67) rfl, List.mem_of_getElem? (i := 108) rfl, List.mem_of_getElem? (i := 109) rfl⟩
def lw_privs_1 : List (MethodName × Nat) := [(⟨"BeadDesk", "turns", "()J"⟩, 2), (⟨"BeadDesk", "power", "(I)J"⟩, 2), (⟨"BeadDesk", "lines", "()J"⟩, 2), (⟨"BeadDesk", "own", "(I)J"⟩, 2), (⟨"BeadDesk", "whole", "(I)J"⟩, 2), (⟨"BeadDeskModel", "reckon", "()V"⟩, 8)]
theorem lw_r1 : ∀ q ∈ lw_privs_1, lw_okq q := List.forall_mem_cons.mpr ⟨lw_p0, List.forall_mem_cons.mpr ⟨lw_p1, List.forall_mem_cons.mpr ⟨lw_p2, List.forall_mem_cons.mpr ⟨lw_p3, List.forall_mem_cons.mpr ⟨lw_p4, List.forall_mem_cons.mpr ⟨lw_p5, fun _ h => absurd h List.not_mem_nil⟩⟩⟩⟩⟩⟩
def lw_privs : List (MethodName × Nat) := lw_privs_1
def lw_tbl : List Cond := k2_sels lw_privs ++ tables_1
theorem lw_privs_ok : ∀ q ∈ lw_privs, lw_okq q := lw_r1
-- ===== ONE list of words for every method: the tables' words that hold all through a run =====
def lw_all : List Cond := lw_tbl.filter goodWord
/-- a word of the tables by its place: claim/WORDS.tsv -/
theorem lw_w {w : Cond} (i : Nat) (h : lw_tbl[i]? = some w) (g : goodWord w = true) : w ∈ lw_all := List.mem_filter.mpr ⟨List.mem_of_getElem? h, g⟩
theorem lw_all_tbl {w : Cond} (h : w ∈ lw_all) : w ∈ lw_tbl := (List.mem_filter.mp h).1
theorem lw_self : GoodIn lw_all lw_all := fun w h => ⟨h, good_of_word (List.mem_filter.mp h).2⟩
/-- a class's field words, by their places -/
theorem lw_in (ws : List Cond) (ps : List Nat) (hp : ws = ps.filterMap (fun i => lw_tbl[i]?)) (hg : ws.all goodWord = true) : ∀ w ∈ ws, w ∈ lw_all := by
  intro w h
  have h1 := List.all_eq_true.mp hg w h
  rw [hp] at h
  obtain ⟨i, -, hi⟩ := List.mem_filterMap.mp h
  exact lw_w i hi h1
/-- the words of a contract for the method y with code b, L locals, answer r -/
abbrev ws_ (y : MethodName) (b : ByteArray) (L : Nat) (r : Option FieldType) : List Cond := Cond.code y b L r :: lw_all
theorem lw_meth {y : MethodName} {b : ByteArray} {L : Nat} {r : Option FieldType} (h : Cond.code y b L r ∈ lw_all) : GoodIn lw_all (ws_ y b L r) := by
  intro w hw
  rcases List.mem_cons.mp hw with e | e
  · rw [e]
    exact lw_self _ h
  · exact lw_self _ e
theorem lw_app {a c : List Cond} (ha : ∀ w ∈ a, w ∈ lw_all) (hc : GoodIn lw_all c) : GoodIn lw_all (a ++ c) := by
  intro w hw
  rcases List.mem_append.mp hw with e | e
  · exact lw_self w (ha w e)
  · exact hc w e
/-- what a call through an object asks: cwV n hts (lw_V ..) -/
theorem lw_V {own : String} {idx : Nat} {C : String} {y : MethodName} {b : ByteArray} {L : Nat} {r : Option FieldType} (h1 : Cond.methodLink own idx y ∈ lw_all) (h2 : Cond.instanceMethod y ∈ lw_all) (h3 : Cond.selects C y y ∈ lw_all) (h4 : Cond.initialized C ∈ lw_all) (h5 : Cond.code y b L r ∈ lw_all) : GoodIn lw_all (wsV own idx C y (ws_ y b L r)) := by
  refine lw_app ?_ (lw_meth h5)
  intro w hw
  simp only [List.mem_cons, List.not_mem_nil, or_false] at hw
  rcases hw with e | e | e | e
  · rw [e]; exact h1
  · rw [e]; exact h2
  · rw [e]; exact h3
  · rw [e]; exact h4
/-- what a static call asks: va_cwS n hts (lw_S ..) -/
theorem lw_S {own : String} {idx : Nat} {y : MethodName} {b : ByteArray} {L : Nat} {r : Option FieldType} (h1 : Cond.methodLink own idx y ∈ lw_all) (h2 : Cond.static y ∈ lw_all) (h3 : Cond.initialized y.cls ∈ lw_all) (h4 : Cond.code y b L r ∈ lw_all) : GoodIn lw_all (va_wsS own idx y (ws_ y b L r)) := by
  refine lw_app ?_ (lw_meth h4)
  intro w hw
  simp only [List.mem_cons, List.not_mem_nil, or_false] at hw
  rcases hw with e | e | e
  · rw [e]; exact h1
  · rw [e]; exact h2
  · rw [e]; exact h3
/-- the words of a contract for a method WITH HANDLERS (hh: its table) -/
abbrev wsW_ (y : MethodName) (b : ByteArray) (L : Nat) (r : Option FieldType) (hh : List (Nat × Nat × Nat × Nat)) : List Cond := Cond.codeWith y b L r hh :: lw_all
theorem lw_methW {y : MethodName} {b : ByteArray} {L : Nat} {r : Option FieldType} {hh : List (Nat × Nat × Nat × Nat)} (h : Cond.codeWith y b L r hh ∈ lw_all) : GoodIn lw_all (wsW_ y b L r hh) := by
  intro w hw
  rcases List.mem_cons.mp hw with e | e
  · rw [e]
    exact lw_self _ h
  · exact lw_self _ e
/-- any list of words by their places (lw_in), good -/
theorem lw_good {ws : List Cond} (h : ∀ w ∈ ws, w ∈ lw_all) : GoodIn lw_all ws := fun w hw => lw_self w (h w hw)
/-- what a call of a method with handlers asks: vx_cwVW n hts (lw_VW ..), vx_cwSW n hts (lw_SW ..) -/
theorem lw_VW {own : String} {idx : Nat} {C : String} {y : MethodName} {b : ByteArray} {L : Nat} {r : Option FieldType} {hh : List (Nat × Nat × Nat × Nat)} (h1 : Cond.methodLink own idx y ∈ lw_all) (h2 : Cond.instanceMethod y ∈ lw_all) (h3 : Cond.selects C y y ∈ lw_all) (h4 : Cond.initialized C ∈ lw_all) (h5 : Cond.codeWith y b L r hh ∈ lw_all) : GoodIn lw_all (wsV own idx C y (wsW_ y b L r hh)) := by
  refine lw_app ?_ (lw_methW h5)
  intro w hw
  simp only [List.mem_cons, List.not_mem_nil, or_false] at hw
  rcases hw with e | e | e | e
  · rw [e]; exact h1
  · rw [e]; exact h2
  · rw [e]; exact h3
  · rw [e]; exact h4
theorem lw_SW {own : String} {idx : Nat} {y : MethodName} {b : ByteArray} {L : Nat} {r : Option FieldType} {hh : List (Nat × Nat × Nat × Nat)} (h1 : Cond.methodLink own idx y ∈ lw_all) (h2 : Cond.static y ∈ lw_all) (h3 : Cond.initialized y.cls ∈ lw_all) (h4 : Cond.codeWith y b L r hh ∈ lw_all) : GoodIn lw_all (va_wsS own idx y (wsW_ y b L r hh)) := by
  refine lw_app ?_ (lw_methW h4)
  intro w hw
  simp only [List.mem_cons, List.not_mem_nil, or_false] at hw
  rcases hw with e | e | e
  · rw [e]; exact h1
  · rw [e]; exact h2
  · rw [e]; exact h3
/-- a word by its place in its run of the tables -/
theorem lw_at {r : List Cond} (hr : ∀ w ∈ r, w ∈ lw_tbl) {w : Cond} (i : Nat) (h : r[i]? = some w) : w ∈ lw_tbl := hr w (List.mem_of_getElem? h)
theorem lw_g {w : Cond} (h : w ∈ lw_tbl) (g : goodWord w = true) : w ∈ lw_all := List.mem_filter.mpr ⟨h, g⟩
theorem lw_ms : ∀ w ∈ k2_sels lw_privs, w ∈ lw_tbl := fun w h => show w ∈ k2_sels lw_privs ++ tables_1 from List.mem_append_left _ h
theorem lw_m0 : ∀ w ∈ tables_1, w ∈ lw_tbl := fun w h => show w ∈ k2_sels lw_privs ++ tables_1 from List.mem_append_right (k2_sels lw_privs) h
theorem qs0 : (Cond.selects "BeadDesk" ⟨"BeadDesk", "turns", "()J"⟩ ⟨"BeadDesk", "turns", "()J"⟩) ∈ lw_all := lw_g (lw_at lw_ms 0 rfl) rfl
theorem qs1 : (Cond.selects "BeadDesk" ⟨"BeadDesk", "power", "(I)J"⟩ ⟨"BeadDesk", "power", "(I)J"⟩) ∈ lw_all := lw_g (lw_at lw_ms 1 rfl) rfl
theorem qs2 : (Cond.selects "BeadDesk" ⟨"BeadDesk", "lines", "()J"⟩ ⟨"BeadDesk", "lines", "()J"⟩) ∈ lw_all := lw_g (lw_at lw_ms 2 rfl) rfl
theorem qs3 : (Cond.selects "BeadDesk" ⟨"BeadDesk", "own", "(I)J"⟩ ⟨"BeadDesk", "own", "(I)J"⟩) ∈ lw_all := lw_g (lw_at lw_ms 3 rfl) rfl
theorem qs4 : (Cond.selects "BeadDesk" ⟨"BeadDesk", "whole", "(I)J"⟩ ⟨"BeadDesk", "whole", "(I)J"⟩) ∈ lw_all := lw_g (lw_at lw_ms 4 rfl) rfl
theorem qs5 : (Cond.selects "BeadDeskModel" ⟨"BeadDeskModel", "reckon", "()V"⟩ ⟨"BeadDeskModel", "reckon", "()V"⟩) ∈ lw_all := lw_g (lw_at lw_ms 5 rfl) rfl
end
section
/-! java/lang/Object -/
set_option maxRecDepth 100000
def RJ0 : String := "java/lang/Object"
abbrev cJ0_init : ByteArray := object_method_1_code
def yJ0_init : MethodName := ⟨RJ0, "<init>", "()V"⟩
theorem dJ0_init_0 : decode cJ0_init 0 = .ok (.return_, 1) := by decide +kernel
theorem q15 : (Jvm.Cond.instanceMethod ({ cls := "java/lang/Object", name := "<init>", desc := "()V" } : Jvm.MethodName)) ∈ lw_all := lw_g (lw_at lw_m0 9 rfl) rfl
theorem q16 : (Jvm.Cond.code ({ cls := "java/lang/Object", name := "<init>", desc := "()V" } : Jvm.MethodName) object_method_1_code (1 : Nat) (Option.none : Option Jvm.ClassFile.FieldType)) ∈ lw_all := lw_g (lw_at lw_m0 10 rfl) rfl
/-! BeadDesk -/
set_option maxRecDepth 100000
def RX0 : String := "BeadDesk"
def TX0 : u_T := fun k => match k with
  | 0 => ("BeadDesk", "beads", "I", false)
  | _ => ("BeadDesk", "colours", "I", false)
def tyX0 : Nat → FieldType := fun k => match k with
  | 0 => .int
  | _ => .int
abbrev wsX00 : List Cond := u_ws RX0 TX0 2
theorem nmX0 : ∀ a, a < 2 → ∀ b, b < 2 → a ≠ b → (TX0 a).2.1 ≠ (TX0 b).2.1 := by decide +kernel
theorem tyX0_ok : ∀ k, k < 2 → parseFieldDescriptor (TX0 k).2.2.1 = some (tyX0 k) := by decide +kernel
abbrev cX0_init : ByteArray := prog_1_method_1_code
def yX0_init : MethodName := ⟨RX0, "<init>", "()V"⟩
theorem dX0_init_0 : decode cX0_init 0 = .ok (.aload_n 0, 1) := by decide +kernel
theorem dX0_init_1 : decode cX0_init 1 = .ok (.invokespecial 1, 3) := by decide +kernel
theorem dX0_init_4 : decode cX0_init 4 = .ok (.aload_n 0, 1) := by decide +kernel
theorem dX0_init_5 : decode cX0_init 5 = .ok (.iconst 4, 1) := by decide +kernel
theorem dX0_init_6 : decode cX0_init 6 = .ok (.putfield 7, 3) := by decide +kernel
theorem dX0_init_9 : decode cX0_init 9 = .ok (.aload_n 0, 1) := by decide +kernel
theorem dX0_init_10 : decode cX0_init 10 = .ok (.iconst 2, 1) := by decide +kernel
theorem dX0_init_11 : decode cX0_init 11 = .ok (.putfield 13, 3) := by decide +kernel
theorem dX0_init_14 : decode cX0_init 14 = .ok (.return_, 1) := by decide +kernel
abbrev cX0_ring : ByteArray := prog_1_method_2_code
def yX0_ring : MethodName := ⟨RX0, "ring", "(II)V"⟩
theorem dX0_ring_0 : decode cX0_ring 0 = .ok (.aload_n 0, 1) := by decide +kernel
theorem dX0_ring_1 : decode cX0_ring 1 = .ok (.iconst 1, 1) := by decide +kernel
theorem dX0_ring_2 : decode cX0_ring 2 = .ok (.iload_n 1, 1) := by decide +kernel
theorem dX0_ring_3 : decode cX0_ring 3 = .ok (.ldc 16, 2) := by decide +kernel
theorem dX0_ring_5 : decode cX0_ring 5 = .ok (.iand, 1) := by decide +kernel
theorem dX0_ring_6 : decode cX0_ring 6 = .ok (.bipush 8, 2) := by decide +kernel
theorem dX0_ring_8 : decode cX0_ring 8 = .ok (.irem, 1) := by decide +kernel
theorem dX0_ring_9 : decode cX0_ring 9 = .ok (.iadd, 1) := by decide +kernel
theorem dX0_ring_10 : decode cX0_ring 10 = .ok (.putfield 7, 3) := by decide +kernel
theorem dX0_ring_13 : decode cX0_ring 13 = .ok (.aload_n 0, 1) := by decide +kernel
theorem dX0_ring_14 : decode cX0_ring 14 = .ok (.iconst 1, 1) := by decide +kernel
theorem dX0_ring_15 : decode cX0_ring 15 = .ok (.iload_n 2, 1) := by decide +kernel
theorem dX0_ring_16 : decode cX0_ring 16 = .ok (.ldc 16, 2) := by decide +kernel
theorem dX0_ring_18 : decode cX0_ring 18 = .ok (.iand, 1) := by decide +kernel
theorem dX0_ring_19 : decode cX0_ring 19 = .ok (.iconst 3, 1) := by decide +kernel
theorem dX0_ring_20 : decode cX0_ring 20 = .ok (.irem, 1) := by decide +kernel
theorem dX0_ring_21 : decode cX0_ring 21 = .ok (.iadd, 1) := by decide +kernel
theorem dX0_ring_22 : decode cX0_ring 22 = .ok (.putfield 13, 3) := by decide +kernel
theorem dX0_ring_25 : decode cX0_ring 25 = .ok (.return_, 1) := by decide +kernel
abbrev cX0_turned : ByteArray := prog_1_method_7_code
def yX0_turned : MethodName := ⟨RX0, "turned", "()J"⟩
theorem dX0_turned_0 : decode cX0_turned 0 = .ok (.aload_n 0, 1) := by decide +kernel
theorem dX0_turned_1 : decode cX0_turned 1 = .ok (.invokevirtual 25, 3) := by decide +kernel
theorem dX0_turned_4 : decode cX0_turned 4 = .ok (.aload_n 0, 1) := by decide +kernel
theorem dX0_turned_5 : decode cX0_turned 5 = .ok (.getfield 7, 3) := by decide +kernel
theorem dX0_turned_8 : decode cX0_turned 8 = .ok (.i2l, 1) := by decide +kernel
theorem dX0_turned_9 : decode cX0_turned 9 = .ok (.ldiv, 1) := by decide +kernel
theorem dX0_turned_10 : decode cX0_turned 10 = .ok (.lreturn, 1) := by decide +kernel
abbrev cX0_turns : ByteArray := prog_1_method_5_code
def yX0_turns : MethodName := ⟨RX0, "turns", "()J"⟩
theorem dX0_turns_0 : decode cX0_turns 0 = .ok (.lconst 0, 1) := by decide +kernel
theorem dX0_turns_1 : decode cX0_turns 1 = .ok (.lstore_n 1, 1) := by decide +kernel
theorem dX0_turns_2 : decode cX0_turns 2 = .ok (.iconst 0, 1) := by decide +kernel
theorem dX0_turns_3 : decode cX0_turns 3 = .ok (.istore_n 3, 1) := by decide +kernel
theorem dX0_turns_4 : decode cX0_turns 4 = .ok (.iload_n 3, 1) := by decide +kernel
theorem dX0_turns_5 : decode cX0_turns 5 = .ok (.aload_n 0, 1) := by decide +kernel
theorem dX0_turns_6 : decode cX0_turns 6 = .ok (.getfield 7, 3) := by decide +kernel
theorem dX0_turns_9 : decode cX0_turns 9 = .ok (.if_icmp .ge 24, 3) := by decide +kernel
theorem dX0_turns_12 : decode cX0_turns 12 = .ok (.lload_n 1, 1) := by decide +kernel
theorem dX0_turns_13 : decode cX0_turns 13 = .ok (.aload_n 0, 1) := by decide +kernel
theorem dX0_turns_14 : decode cX0_turns 14 = .ok (.iload_n 3, 1) := by decide +kernel
theorem dX0_turns_15 : decode cX0_turns 15 = .ok (.aload_n 0, 1) := by decide +kernel
theorem dX0_turns_16 : decode cX0_turns 16 = .ok (.getfield 7, 3) := by decide +kernel
theorem dX0_turns_19 : decode cX0_turns 19 = .ok (.invokestatic 17, 3) := by decide +kernel
theorem dX0_turns_22 : decode cX0_turns 22 = .ok (.invokevirtual 21, 3) := by decide +kernel
theorem dX0_turns_25 : decode cX0_turns 25 = .ok (.ladd, 1) := by decide +kernel
theorem dX0_turns_26 : decode cX0_turns 26 = .ok (.lstore_n 1, 1) := by decide +kernel
theorem dX0_turns_27 : decode cX0_turns 27 = .ok (.iinc 3 1, 3) := by decide +kernel
theorem dX0_turns_30 : decode cX0_turns 30 = .ok (.goto (-26), 3) := by decide +kernel
theorem dX0_turns_33 : decode cX0_turns 33 = .ok (.lload_n 1, 1) := by decide +kernel
theorem dX0_turns_34 : decode cX0_turns 34 = .ok (.lreturn, 1) := by decide +kernel
abbrev cX0_divisor : ByteArray := prog_1_method_3_code
def yX0_divisor : MethodName := ⟨RX0, "divisor", "(II)I"⟩
theorem dX0_divisor_0 : decode cX0_divisor 0 = .ok (.iload_n 0, 1) := by decide +kernel
theorem dX0_divisor_1 : decode cX0_divisor 1 = .ok (.istore_n 2, 1) := by decide +kernel
theorem dX0_divisor_2 : decode cX0_divisor 2 = .ok (.iload_n 1, 1) := by decide +kernel
theorem dX0_divisor_3 : decode cX0_divisor 3 = .ok (.istore_n 3, 1) := by decide +kernel
theorem dX0_divisor_4 : decode cX0_divisor 4 = .ok (.iload_n 3, 1) := by decide +kernel
theorem dX0_divisor_5 : decode cX0_divisor 5 = .ok (.ifCond .le 16, 3) := by decide +kernel
theorem dX0_divisor_8 : decode cX0_divisor 8 = .ok (.iload_n 2, 1) := by decide +kernel
theorem dX0_divisor_9 : decode cX0_divisor 9 = .ok (.iload_n 3, 1) := by decide +kernel
theorem dX0_divisor_10 : decode cX0_divisor 10 = .ok (.irem, 1) := by decide +kernel
theorem dX0_divisor_11 : decode cX0_divisor 11 = .ok (.istore 4, 2) := by decide +kernel
theorem dX0_divisor_13 : decode cX0_divisor 13 = .ok (.iload_n 3, 1) := by decide +kernel
theorem dX0_divisor_14 : decode cX0_divisor 14 = .ok (.istore_n 2, 1) := by decide +kernel
theorem dX0_divisor_15 : decode cX0_divisor 15 = .ok (.iload 4, 2) := by decide +kernel
theorem dX0_divisor_17 : decode cX0_divisor 17 = .ok (.istore_n 3, 1) := by decide +kernel
theorem dX0_divisor_18 : decode cX0_divisor 18 = .ok (.goto (-14), 3) := by decide +kernel
theorem dX0_divisor_21 : decode cX0_divisor 21 = .ok (.iload_n 2, 1) := by decide +kernel
theorem dX0_divisor_22 : decode cX0_divisor 22 = .ok (.ireturn, 1) := by decide +kernel
abbrev cX0_power : ByteArray := prog_1_method_4_code
def yX0_power : MethodName := ⟨RX0, "power", "(I)J"⟩
theorem dX0_power_0 : decode cX0_power 0 = .ok (.lconst 1, 1) := by decide +kernel
theorem dX0_power_1 : decode cX0_power 1 = .ok (.lstore_n 2, 1) := by decide +kernel
theorem dX0_power_2 : decode cX0_power 2 = .ok (.iconst 0, 1) := by decide +kernel
theorem dX0_power_3 : decode cX0_power 3 = .ok (.istore 4, 2) := by decide +kernel
theorem dX0_power_5 : decode cX0_power 5 = .ok (.iload 4, 2) := by decide +kernel
theorem dX0_power_7 : decode cX0_power 7 = .ok (.iload_n 1, 1) := by decide +kernel
theorem dX0_power_8 : decode cX0_power 8 = .ok (.if_icmp .ge 17, 3) := by decide +kernel
theorem dX0_power_11 : decode cX0_power 11 = .ok (.lload_n 2, 1) := by decide +kernel
theorem dX0_power_12 : decode cX0_power 12 = .ok (.aload_n 0, 1) := by decide +kernel
theorem dX0_power_13 : decode cX0_power 13 = .ok (.getfield 13, 3) := by decide +kernel
theorem dX0_power_16 : decode cX0_power 16 = .ok (.i2l, 1) := by decide +kernel
theorem dX0_power_17 : decode cX0_power 17 = .ok (.lmul, 1) := by decide +kernel
theorem dX0_power_18 : decode cX0_power 18 = .ok (.lstore_n 2, 1) := by decide +kernel
theorem dX0_power_19 : decode cX0_power 19 = .ok (.iinc 4 1, 3) := by decide +kernel
theorem dX0_power_22 : decode cX0_power 22 = .ok (.goto (-17), 3) := by decide +kernel
theorem dX0_power_25 : decode cX0_power 25 = .ok (.lload_n 2, 1) := by decide +kernel
theorem dX0_power_26 : decode cX0_power 26 = .ok (.lreturn, 1) := by decide +kernel
abbrev cX0_over : ByteArray := prog_1_method_8_code
def yX0_over : MethodName := ⟨RX0, "over", "()J"⟩
theorem dX0_over_0 : decode cX0_over 0 = .ok (.aload_n 0, 1) := by decide +kernel
theorem dX0_over_1 : decode cX0_over 1 = .ok (.invokevirtual 25, 3) := by decide +kernel
theorem dX0_over_4 : decode cX0_over 4 = .ok (.aload_n 0, 1) := by decide +kernel
theorem dX0_over_5 : decode cX0_over 5 = .ok (.invokevirtual 29, 3) := by decide +kernel
theorem dX0_over_8 : decode cX0_over 8 = .ok (.ladd, 1) := by decide +kernel
theorem dX0_over_9 : decode cX0_over 9 = .ok (.iconst 2, 1) := by decide +kernel
theorem dX0_over_10 : decode cX0_over 10 = .ok (.aload_n 0, 1) := by decide +kernel
theorem dX0_over_11 : decode cX0_over 11 = .ok (.getfield 7, 3) := by decide +kernel
theorem dX0_over_14 : decode cX0_over 14 = .ok (.imul, 1) := by decide +kernel
theorem dX0_over_15 : decode cX0_over 15 = .ok (.i2l, 1) := by decide +kernel
theorem dX0_over_16 : decode cX0_over 16 = .ok (.ldiv, 1) := by decide +kernel
theorem dX0_over_17 : decode cX0_over 17 = .ok (.lreturn, 1) := by decide +kernel
abbrev cX0_lines : ByteArray := prog_1_method_6_code
def yX0_lines : MethodName := ⟨RX0, "lines", "()J"⟩
theorem dX0_lines_0 : decode cX0_lines 0 = .ok (.lconst 0, 1) := by decide +kernel
theorem dX0_lines_1 : decode cX0_lines 1 = .ok (.lstore_n 1, 1) := by decide +kernel
theorem dX0_lines_2 : decode cX0_lines 2 = .ok (.iconst 0, 1) := by decide +kernel
theorem dX0_lines_3 : decode cX0_lines 3 = .ok (.istore_n 3, 1) := by decide +kernel
theorem dX0_lines_4 : decode cX0_lines 4 = .ok (.iload_n 3, 1) := by decide +kernel
theorem dX0_lines_5 : decode cX0_lines 5 = .ok (.aload_n 0, 1) := by decide +kernel
theorem dX0_lines_6 : decode cX0_lines 6 = .ok (.getfield 7, 3) := by decide +kernel
theorem dX0_lines_9 : decode cX0_lines 9 = .ok (.if_icmp .ge 49, 3) := by decide +kernel
theorem dX0_lines_12 : decode cX0_lines 12 = .ok (.lload_n 1, 1) := by decide +kernel
theorem dX0_lines_13 : decode cX0_lines 13 = .ok (.aload_n 0, 1) := by decide +kernel
theorem dX0_lines_14 : decode cX0_lines 14 = .ok (.aload_n 0, 1) := by decide +kernel
theorem dX0_lines_15 : decode cX0_lines 15 = .ok (.getfield 7, 3) := by decide +kernel
theorem dX0_lines_18 : decode cX0_lines 18 = .ok (.aload_n 0, 1) := by decide +kernel
theorem dX0_lines_19 : decode cX0_lines 19 = .ok (.getfield 7, 3) := by decide +kernel
theorem dX0_lines_22 : decode cX0_lines 22 = .ok (.iconst 1, 1) := by decide +kernel
theorem dX0_lines_23 : decode cX0_lines 23 = .ok (.iand, 1) := by decide +kernel
theorem dX0_lines_24 : decode cX0_lines 24 = .ok (.iconst 1, 1) := by decide +kernel
theorem dX0_lines_25 : decode cX0_lines 25 = .ok (.if_icmp .ne 7, 3) := by decide +kernel
theorem dX0_lines_28 : decode cX0_lines 28 = .ok (.iconst 1, 1) := by decide +kernel
theorem dX0_lines_29 : decode cX0_lines 29 = .ok (.goto 15, 3) := by decide +kernel
theorem dX0_lines_32 : decode cX0_lines 32 = .ok (.iload_n 3, 1) := by decide +kernel
theorem dX0_lines_33 : decode cX0_lines 33 = .ok (.iconst 1, 1) := by decide +kernel
theorem dX0_lines_34 : decode cX0_lines 34 = .ok (.iand, 1) := by decide +kernel
theorem dX0_lines_35 : decode cX0_lines 35 = .ok (.iconst 1, 1) := by decide +kernel
theorem dX0_lines_36 : decode cX0_lines 36 = .ok (.if_icmp .ne 7, 3) := by decide +kernel
theorem dX0_lines_39 : decode cX0_lines 39 = .ok (.iconst 2, 1) := by decide +kernel
theorem dX0_lines_40 : decode cX0_lines 40 = .ok (.goto 4, 3) := by decide +kernel
theorem dX0_lines_43 : decode cX0_lines 43 = .ok (.iconst 0, 1) := by decide +kernel
theorem dX0_lines_44 : decode cX0_lines 44 = .ok (.iadd, 1) := by decide +kernel
theorem dX0_lines_45 : decode cX0_lines 45 = .ok (.iconst 2, 1) := by decide +kernel
theorem dX0_lines_46 : decode cX0_lines 46 = .ok (.idiv, 1) := by decide +kernel
theorem dX0_lines_47 : decode cX0_lines 47 = .ok (.invokevirtual 21, 3) := by decide +kernel
theorem dX0_lines_50 : decode cX0_lines 50 = .ok (.ladd, 1) := by decide +kernel
theorem dX0_lines_51 : decode cX0_lines 51 = .ok (.lstore_n 1, 1) := by decide +kernel
theorem dX0_lines_52 : decode cX0_lines 52 = .ok (.iinc 3 1, 3) := by decide +kernel
theorem dX0_lines_55 : decode cX0_lines 55 = .ok (.goto (-51), 3) := by decide +kernel
theorem dX0_lines_58 : decode cX0_lines 58 = .ok (.lload_n 1, 1) := by decide +kernel
theorem dX0_lines_59 : decode cX0_lines 59 = .ok (.lreturn, 1) := by decide +kernel
abbrev cX0_unlike : ByteArray := prog_1_method_11_code
def yX0_unlike : MethodName := ⟨RX0, "unlike", "()J"⟩
theorem dX0_unlike_0 : decode cX0_unlike 0 = .ok (.aload_n 0, 1) := by decide +kernel
theorem dX0_unlike_1 : decode cX0_unlike 1 = .ok (.aload_n 0, 1) := by decide +kernel
theorem dX0_unlike_2 : decode cX0_unlike 2 = .ok (.getfield 7, 3) := by decide +kernel
theorem dX0_unlike_5 : decode cX0_unlike 5 = .ok (.invokevirtual 35, 3) := by decide +kernel
theorem dX0_unlike_8 : decode cX0_unlike 8 = .ok (.aload_n 0, 1) := by decide +kernel
theorem dX0_unlike_9 : decode cX0_unlike 9 = .ok (.getfield 7, 3) := by decide +kernel
theorem dX0_unlike_12 : decode cX0_unlike 12 = .ok (.i2l, 1) := by decide +kernel
theorem dX0_unlike_13 : decode cX0_unlike 13 = .ok (.ldiv, 1) := by decide +kernel
theorem dX0_unlike_14 : decode cX0_unlike 14 = .ok (.lreturn, 1) := by decide +kernel
abbrev cX0_own : ByteArray := prog_1_method_9_code
def yX0_own : MethodName := ⟨RX0, "own", "(I)J"⟩
theorem dX0_own_0 : decode cX0_own 0 = .ok (.aload_n 0, 1) := by decide +kernel
theorem dX0_own_1 : decode cX0_own 1 = .ok (.iload_n 1, 1) := by decide +kernel
theorem dX0_own_2 : decode cX0_own 2 = .ok (.invokevirtual 21, 3) := by decide +kernel
theorem dX0_own_5 : decode cX0_own 5 = .ok (.lstore_n 2, 1) := by decide +kernel
theorem dX0_own_6 : decode cX0_own 6 = .ok (.iconst 1, 1) := by decide +kernel
theorem dX0_own_7 : decode cX0_own 7 = .ok (.istore 4, 2) := by decide +kernel
theorem dX0_own_9 : decode cX0_own 9 = .ok (.iload 4, 2) := by decide +kernel
theorem dX0_own_11 : decode cX0_own 11 = .ok (.iload_n 1, 1) := by decide +kernel
theorem dX0_own_12 : decode cX0_own 12 = .ok (.if_icmp .ge 25, 3) := by decide +kernel
theorem dX0_own_15 : decode cX0_own 15 = .ok (.iload_n 1, 1) := by decide +kernel
theorem dX0_own_16 : decode cX0_own 16 = .ok (.iload 4, 2) := by decide +kernel
theorem dX0_own_18 : decode cX0_own 18 = .ok (.irem, 1) := by decide +kernel
theorem dX0_own_19 : decode cX0_own 19 = .ok (.ifCond .ne 12, 3) := by decide +kernel
theorem dX0_own_22 : decode cX0_own 22 = .ok (.lload_n 2, 1) := by decide +kernel
theorem dX0_own_23 : decode cX0_own 23 = .ok (.aload_n 0, 1) := by decide +kernel
theorem dX0_own_24 : decode cX0_own 24 = .ok (.iload 4, 2) := by decide +kernel
theorem dX0_own_26 : decode cX0_own 26 = .ok (.invokevirtual 32, 3) := by decide +kernel
theorem dX0_own_29 : decode cX0_own 29 = .ok (.lsub, 1) := by decide +kernel
theorem dX0_own_30 : decode cX0_own 30 = .ok (.lstore_n 2, 1) := by decide +kernel
theorem dX0_own_31 : decode cX0_own 31 = .ok (.iinc 4 1, 3) := by decide +kernel
theorem dX0_own_34 : decode cX0_own 34 = .ok (.goto (-25), 3) := by decide +kernel
theorem dX0_own_37 : decode cX0_own 37 = .ok (.lload_n 2, 1) := by decide +kernel
theorem dX0_own_38 : decode cX0_own 38 = .ok (.lreturn, 1) := by decide +kernel
abbrev cX0_whole : ByteArray := prog_1_method_10_code
def yX0_whole : MethodName := ⟨RX0, "whole", "(I)J"⟩
theorem dX0_whole_0 : decode cX0_whole 0 = .ok (.iload_n 1, 1) := by decide +kernel
theorem dX0_whole_1 : decode cX0_whole 1 = .ok (.iconst 1, 1) := by decide +kernel
theorem dX0_whole_2 : decode cX0_whole 2 = .ok (.if_icmp .ne 9, 3) := by decide +kernel
theorem dX0_whole_5 : decode cX0_whole 5 = .ok (.aload_n 0, 1) := by decide +kernel
theorem dX0_whole_6 : decode cX0_whole 6 = .ok (.iconst 1, 1) := by decide +kernel
theorem dX0_whole_7 : decode cX0_whole 7 = .ok (.invokevirtual 21, 3) := by decide +kernel
theorem dX0_whole_10 : decode cX0_whole 10 = .ok (.lreturn, 1) := by decide +kernel
theorem dX0_whole_11 : decode cX0_whole 11 = .ok (.iload_n 1, 1) := by decide +kernel
theorem dX0_whole_12 : decode cX0_whole 12 = .ok (.iconst 4, 1) := by decide +kernel
theorem dX0_whole_13 : decode cX0_whole 13 = .ok (.if_icmp .ne 17, 3) := by decide +kernel
theorem dX0_whole_16 : decode cX0_whole 16 = .ok (.aload_n 0, 1) := by decide +kernel
theorem dX0_whole_17 : decode cX0_whole 17 = .ok (.iconst 4, 1) := by decide +kernel
theorem dX0_whole_18 : decode cX0_whole 18 = .ok (.invokevirtual 21, 3) := by decide +kernel
theorem dX0_whole_21 : decode cX0_whole 21 = .ok (.aload_n 0, 1) := by decide +kernel
theorem dX0_whole_22 : decode cX0_whole 22 = .ok (.iconst 2, 1) := by decide +kernel
theorem dX0_whole_23 : decode cX0_whole 23 = .ok (.invokevirtual 21, 3) := by decide +kernel
theorem dX0_whole_26 : decode cX0_whole 26 = .ok (.lsub, 1) := by decide +kernel
theorem dX0_whole_27 : decode cX0_whole 27 = .ok (.goto 14, 3) := by decide +kernel
theorem dX0_whole_30 : decode cX0_whole 30 = .ok (.aload_n 0, 1) := by decide +kernel
theorem dX0_whole_31 : decode cX0_whole 31 = .ok (.iload_n 1, 1) := by decide +kernel
theorem dX0_whole_32 : decode cX0_whole 32 = .ok (.invokevirtual 21, 3) := by decide +kernel
theorem dX0_whole_35 : decode cX0_whole 35 = .ok (.aload_n 0, 1) := by decide +kernel
theorem dX0_whole_36 : decode cX0_whole 36 = .ok (.iconst 1, 1) := by decide +kernel
theorem dX0_whole_37 : decode cX0_whole 37 = .ok (.invokevirtual 21, 3) := by decide +kernel
theorem dX0_whole_40 : decode cX0_whole 40 = .ok (.lsub, 1) := by decide +kernel
theorem dX0_whole_41 : decode cX0_whole 41 = .ok (.lreturn, 1) := by decide +kernel
abbrev cX0_mirrors : ByteArray := prog_1_method_12_code
def yX0_mirrors : MethodName := ⟨RX0, "mirrors", "()J"⟩
theorem dX0_mirrors_0 : decode cX0_mirrors 0 = .ok (.aload_n 0, 1) := by decide +kernel
theorem dX0_mirrors_1 : decode cX0_mirrors 1 = .ok (.invokevirtual 29, 3) := by decide +kernel
theorem dX0_mirrors_4 : decode cX0_mirrors 4 = .ok (.aload_n 0, 1) := by decide +kernel
theorem dX0_mirrors_5 : decode cX0_mirrors 5 = .ok (.getfield 7, 3) := by decide +kernel
theorem dX0_mirrors_8 : decode cX0_mirrors 8 = .ok (.i2l, 1) := by decide +kernel
theorem dX0_mirrors_9 : decode cX0_mirrors 9 = .ok (.ldiv, 1) := by decide +kernel
theorem dX0_mirrors_10 : decode cX0_mirrors 10 = .ok (.lreturn, 1) := by decide +kernel
abbrev cX0_rows : ByteArray := prog_1_method_13_code
def yX0_rows : MethodName := ⟨RX0, "rows", "()J"⟩
theorem dX0_rows_0 : decode cX0_rows 0 = .ok (.aload_n 0, 1) := by decide +kernel
theorem dX0_rows_1 : decode cX0_rows 1 = .ok (.aload_n 0, 1) := by decide +kernel
theorem dX0_rows_2 : decode cX0_rows 2 = .ok (.getfield 7, 3) := by decide +kernel
theorem dX0_rows_5 : decode cX0_rows 5 = .ok (.invokevirtual 21, 3) := by decide +kernel
theorem dX0_rows_8 : decode cX0_rows 8 = .ok (.lreturn, 1) := by decide +kernel
theorem q7 : (Jvm.Cond.initialized "BeadDesk") ∈ lw_all := lw_g (lw_at lw_m0 1 rfl) rfl
theorem q10 : (Jvm.Cond.instantiable "BeadDesk" (2 : Nat)) ∈ lw_all := lw_g (lw_at lw_m0 4 rfl) rfl
theorem q12 : (Jvm.Cond.instanceMethod ({ cls := "BeadDesk", name := "<init>", desc := "()V" } : Jvm.MethodName)) ∈ lw_all := lw_g (lw_at lw_m0 6 rfl) rfl
theorem q13 : (Jvm.Cond.code ({ cls := "BeadDesk", name := "<init>", desc := "()V" } : Jvm.MethodName) prog_1_method_1_code (1 : Nat) (Option.none : Option Jvm.ClassFile.FieldType)) ∈ lw_all := lw_g (lw_at lw_m0 7 rfl) rfl
theorem q14 : (Jvm.Cond.methodLink "BeadDesk" (1 : Nat) ({ cls := "java/lang/Object", name := "<init>", desc := "()V" } : Jvm.MethodName)) ∈ lw_all := lw_g (lw_at lw_m0 8 rfl) rfl
theorem q17 : (Jvm.Cond.fieldLink "BeadDesk" (7 : Nat) "BeadDesk" "beads" "I") ∈ lw_all := lw_g (lw_at lw_m0 11 rfl) rfl
theorem q18 : (Jvm.Cond.fieldLink "BeadDesk" (13 : Nat) "BeadDesk" "colours" "I") ∈ lw_all := lw_g (lw_at lw_m0 12 rfl) rfl
theorem q19 : (Jvm.Cond.lays "BeadDesk" "BeadDesk" "beads" "I") ∈ lw_all := lw_g (lw_at lw_m0 13 rfl) rfl
theorem q20 : (Jvm.Cond.soleField "BeadDesk" "beads") ∈ lw_all := lw_g (lw_at lw_m0 14 rfl) rfl
theorem q21 : (Jvm.Cond.lays "BeadDesk" "BeadDesk" "colours" "I") ∈ lw_all := lw_g (lw_at lw_m0 15 rfl) rfl
theorem q22 : (Jvm.Cond.soleField "BeadDesk" "colours") ∈ lw_all := lw_g (lw_at lw_m0 16 rfl) rfl
theorem q23 : (Jvm.Cond.superclass "BeadDesk" "java/lang/Object") ∈ lw_all := lw_g (lw_at lw_m0 17 rfl) rfl
theorem q25 : (Jvm.Cond.instanceMethod ({ cls := "BeadDesk", name := "ring", desc := "(II)V" } : Jvm.MethodName)) ∈ lw_all := lw_g (lw_at lw_m0 19 rfl) rfl
theorem q26 : (Jvm.Cond.selects "BeadDesk" ({ cls := "BeadDesk", name := "ring", desc := "(II)V" } : Jvm.MethodName) ({ cls := "BeadDesk", name := "ring", desc := "(II)V" } : Jvm.MethodName)) ∈ lw_all := lw_g (lw_at lw_m0 20 rfl) rfl
theorem q27 : (Jvm.Cond.code ({ cls := "BeadDesk", name := "ring", desc := "(II)V" } : Jvm.MethodName) prog_1_method_2_code (3 : Nat) (Option.none : Option Jvm.ClassFile.FieldType)) ∈ lw_all := lw_g (lw_at lw_m0 21 rfl) rfl
theorem q28 : (Jvm.Cond.constant "BeadDesk" (16 : Nat) (2147483647 : Int32)) ∈ lw_all := lw_g (lw_at lw_m0 22 rfl) rfl
theorem q30 : (Jvm.Cond.instanceMethod ({ cls := "BeadDesk", name := "turned", desc := "()J" } : Jvm.MethodName)) ∈ lw_all := lw_g (lw_at lw_m0 24 rfl) rfl
theorem q31 : (Jvm.Cond.selects "BeadDesk" ({ cls := "BeadDesk", name := "turned", desc := "()J" } : Jvm.MethodName) ({ cls := "BeadDesk", name := "turned", desc := "()J" } : Jvm.MethodName)) ∈ lw_all := lw_g (lw_at lw_m0 25 rfl) rfl
theorem q32 : (Jvm.Cond.code ({ cls := "BeadDesk", name := "turned", desc := "()J" } : Jvm.MethodName) prog_1_method_7_code (1 : Nat) (Option.some Jvm.ClassFile.FieldType.long)) ∈ lw_all := lw_g (lw_at lw_m0 26 rfl) rfl
theorem q33 : (Jvm.Cond.methodLink "BeadDesk" (25 : Nat) ({ cls := "BeadDesk", name := "turns", desc := "()J" } : Jvm.MethodName)) ∈ lw_all := lw_g (lw_at lw_m0 27 rfl) rfl
theorem q34 : (Jvm.Cond.privateMethod ({ cls := "BeadDesk", name := "turns", desc := "()J" } : Jvm.MethodName)) ∈ lw_tbl := lw_at lw_m0 28 rfl
theorem q35 : (Jvm.Cond.instanceMethod ({ cls := "BeadDesk", name := "turns", desc := "()J" } : Jvm.MethodName)) ∈ lw_all := lw_g (lw_at lw_m0 29 rfl) rfl
theorem q36 : (Jvm.Cond.code ({ cls := "BeadDesk", name := "turns", desc := "()J" } : Jvm.MethodName) prog_1_method_5_code (4 : Nat) (Option.some Jvm.ClassFile.FieldType.long)) ∈ lw_all := lw_g (lw_at lw_m0 30 rfl) rfl
theorem q37 : (Jvm.Cond.methodLink "BeadDesk" (17 : Nat) ({ cls := "BeadDesk", name := "divisor", desc := "(II)I" } : Jvm.MethodName)) ∈ lw_all := lw_g (lw_at lw_m0 31 rfl) rfl
theorem q38 : (Jvm.Cond.static ({ cls := "BeadDesk", name := "divisor", desc := "(II)I" } : Jvm.MethodName)) ∈ lw_all := lw_g (lw_at lw_m0 32 rfl) rfl
theorem q39 : (Jvm.Cond.code ({ cls := "BeadDesk", name := "divisor", desc := "(II)I" } : Jvm.MethodName) prog_1_method_3_code (5 : Nat) (Option.some Jvm.ClassFile.FieldType.int)) ∈ lw_all := lw_g (lw_at lw_m0 33 rfl) rfl
theorem q40 : (Jvm.Cond.methodLink "BeadDesk" (21 : Nat) ({ cls := "BeadDesk", name := "power", desc := "(I)J" } : Jvm.MethodName)) ∈ lw_all := lw_g (lw_at lw_m0 34 rfl) rfl
theorem q41 : (Jvm.Cond.privateMethod ({ cls := "BeadDesk", name := "power", desc := "(I)J" } : Jvm.MethodName)) ∈ lw_tbl := lw_at lw_m0 35 rfl
theorem q42 : (Jvm.Cond.instanceMethod ({ cls := "BeadDesk", name := "power", desc := "(I)J" } : Jvm.MethodName)) ∈ lw_all := lw_g (lw_at lw_m0 36 rfl) rfl
theorem q43 : (Jvm.Cond.code ({ cls := "BeadDesk", name := "power", desc := "(I)J" } : Jvm.MethodName) prog_1_method_4_code (5 : Nat) (Option.some Jvm.ClassFile.FieldType.long)) ∈ lw_all := lw_g (lw_at lw_m0 37 rfl) rfl
theorem q45 : (Jvm.Cond.instanceMethod ({ cls := "BeadDesk", name := "over", desc := "()J" } : Jvm.MethodName)) ∈ lw_all := lw_g (lw_at lw_m0 39 rfl) rfl
theorem q46 : (Jvm.Cond.selects "BeadDesk" ({ cls := "BeadDesk", name := "over", desc := "()J" } : Jvm.MethodName) ({ cls := "BeadDesk", name := "over", desc := "()J" } : Jvm.MethodName)) ∈ lw_all := lw_g (lw_at lw_m0 40 rfl) rfl
theorem q47 : (Jvm.Cond.code ({ cls := "BeadDesk", name := "over", desc := "()J" } : Jvm.MethodName) prog_1_method_8_code (1 : Nat) (Option.some Jvm.ClassFile.FieldType.long)) ∈ lw_all := lw_g (lw_at lw_m0 41 rfl) rfl
theorem q48 : (Jvm.Cond.methodLink "BeadDesk" (29 : Nat) ({ cls := "BeadDesk", name := "lines", desc := "()J" } : Jvm.MethodName)) ∈ lw_all := lw_g (lw_at lw_m0 42 rfl) rfl
theorem q49 : (Jvm.Cond.privateMethod ({ cls := "BeadDesk", name := "lines", desc := "()J" } : Jvm.MethodName)) ∈ lw_tbl := lw_at lw_m0 43 rfl
theorem q50 : (Jvm.Cond.instanceMethod ({ cls := "BeadDesk", name := "lines", desc := "()J" } : Jvm.MethodName)) ∈ lw_all := lw_g (lw_at lw_m0 44 rfl) rfl
theorem q51 : (Jvm.Cond.code ({ cls := "BeadDesk", name := "lines", desc := "()J" } : Jvm.MethodName) prog_1_method_6_code (4 : Nat) (Option.some Jvm.ClassFile.FieldType.long)) ∈ lw_all := lw_g (lw_at lw_m0 45 rfl) rfl
theorem q53 : (Jvm.Cond.instanceMethod ({ cls := "BeadDesk", name := "unlike", desc := "()J" } : Jvm.MethodName)) ∈ lw_all := lw_g (lw_at lw_m0 47 rfl) rfl
theorem q54 : (Jvm.Cond.selects "BeadDesk" ({ cls := "BeadDesk", name := "unlike", desc := "()J" } : Jvm.MethodName) ({ cls := "BeadDesk", name := "unlike", desc := "()J" } : Jvm.MethodName)) ∈ lw_all := lw_g (lw_at lw_m0 48 rfl) rfl
theorem q55 : (Jvm.Cond.code ({ cls := "BeadDesk", name := "unlike", desc := "()J" } : Jvm.MethodName) prog_1_method_11_code (1 : Nat) (Option.some Jvm.ClassFile.FieldType.long)) ∈ lw_all := lw_g (lw_at lw_m0 49 rfl) rfl
theorem q56 : (Jvm.Cond.methodLink "BeadDesk" (35 : Nat) ({ cls := "BeadDesk", name := "own", desc := "(I)J" } : Jvm.MethodName)) ∈ lw_all := lw_g (lw_at lw_m0 50 rfl) rfl
theorem q57 : (Jvm.Cond.privateMethod ({ cls := "BeadDesk", name := "own", desc := "(I)J" } : Jvm.MethodName)) ∈ lw_tbl := lw_at lw_m0 51 rfl
theorem q58 : (Jvm.Cond.instanceMethod ({ cls := "BeadDesk", name := "own", desc := "(I)J" } : Jvm.MethodName)) ∈ lw_all := lw_g (lw_at lw_m0 52 rfl) rfl
theorem q59 : (Jvm.Cond.code ({ cls := "BeadDesk", name := "own", desc := "(I)J" } : Jvm.MethodName) prog_1_method_9_code (5 : Nat) (Option.some Jvm.ClassFile.FieldType.long)) ∈ lw_all := lw_g (lw_at lw_m0 53 rfl) rfl
theorem q60 : (Jvm.Cond.methodLink "BeadDesk" (32 : Nat) ({ cls := "BeadDesk", name := "whole", desc := "(I)J" } : Jvm.MethodName)) ∈ lw_all := lw_g (lw_at lw_m0 54 rfl) rfl
theorem q61 : (Jvm.Cond.privateMethod ({ cls := "BeadDesk", name := "whole", desc := "(I)J" } : Jvm.MethodName)) ∈ lw_tbl := lw_at lw_m0 55 rfl
theorem q62 : (Jvm.Cond.instanceMethod ({ cls := "BeadDesk", name := "whole", desc := "(I)J" } : Jvm.MethodName)) ∈ lw_all := lw_g (lw_at lw_m0 56 rfl) rfl
theorem q63 : (Jvm.Cond.code ({ cls := "BeadDesk", name := "whole", desc := "(I)J" } : Jvm.MethodName) prog_1_method_10_code (2 : Nat) (Option.some Jvm.ClassFile.FieldType.long)) ∈ lw_all := lw_g (lw_at lw_m0 57 rfl) rfl
theorem q65 : (Jvm.Cond.instanceMethod ({ cls := "BeadDesk", name := "mirrors", desc := "()J" } : Jvm.MethodName)) ∈ lw_all := lw_g (lw_at lw_m0 59 rfl) rfl
theorem q66 : (Jvm.Cond.selects "BeadDesk" ({ cls := "BeadDesk", name := "mirrors", desc := "()J" } : Jvm.MethodName) ({ cls := "BeadDesk", name := "mirrors", desc := "()J" } : Jvm.MethodName)) ∈ lw_all := lw_g (lw_at lw_m0 60 rfl) rfl
theorem q67 : (Jvm.Cond.code ({ cls := "BeadDesk", name := "mirrors", desc := "()J" } : Jvm.MethodName) prog_1_method_12_code (1 : Nat) (Option.some Jvm.ClassFile.FieldType.long)) ∈ lw_all := lw_g (lw_at lw_m0 61 rfl) rfl
theorem q69 : (Jvm.Cond.instanceMethod ({ cls := "BeadDesk", name := "rows", desc := "()J" } : Jvm.MethodName)) ∈ lw_all := lw_g (lw_at lw_m0 63 rfl) rfl
theorem q70 : (Jvm.Cond.selects "BeadDesk" ({ cls := "BeadDesk", name := "rows", desc := "()J" } : Jvm.MethodName) ({ cls := "BeadDesk", name := "rows", desc := "()J" } : Jvm.MethodName)) ∈ lw_all := lw_g (lw_at lw_m0 64 rfl) rfl
theorem q71 : (Jvm.Cond.code ({ cls := "BeadDesk", name := "rows", desc := "()J" } : Jvm.MethodName) prog_1_method_13_code (1 : Nat) (Option.some Jvm.ClassFile.FieldType.long)) ∈ lw_all := lw_g (lw_at lw_m0 65 rfl) rfl
theorem in_X0 : ∀ w ∈ wsX00, w ∈ lw_all := lw_in wsX00 [19, 21] (by decide +kernel) (by decide +kernel)
end
section
/-! BeadDeskModel -/
set_option maxRecDepth 100000
def RX1 : String := "BeadDeskModel"
def TX1 : u_T := fun k => match k with
  | 0 => ("BeadDeskModel", "n", "I", false)
  | 1 => ("BeadDeskModel", "k", "I", false)
  | 2 => ("BeadDeskModel", "known", "Z", false)
  | 3 => ("BeadDeskModel", "turned", "J", false)
  | 4 => ("BeadDeskModel", "over", "J", false)
  | 5 => ("BeadDeskModel", "prime", "J", false)
  | 6 => ("BeadDeskModel", "mirrors", "J", false)
  | _ => ("BeadDeskModel", "b", "[I", true)
def tyX1 : Nat → FieldType := fun k => match k with
  | 0 => .int
  | 1 => .int
  | 2 => .boolean
  | 3 => .long
  | 4 => .long
  | 5 => .long
  | 6 => .long
  | _ => .array .int
abbrev wsX10 : List Cond := u_ws RX1 TX1 8
theorem nmX1 : ∀ a, a < 8 → ∀ b, b < 8 → a ≠ b → (TX1 a).2.1 ≠ (TX1 b).2.1 := by decide +kernel
theorem tyX1_ok : ∀ k, k < 8 → parseFieldDescriptor (TX1 k).2.2.1 = some (tyX1 k) := by decide +kernel
abbrev cX1_init : ByteArray := prog_3_method_1_code
def yX1_init : MethodName := ⟨RX1, "<init>", "()V"⟩
theorem dX1_init_0 : decode cX1_init 0 = .ok (.aload_n 0, 1) := by decide +kernel
theorem dX1_init_1 : decode cX1_init 1 = .ok (.invokespecial 1, 3) := by decide +kernel
theorem dX1_init_4 : decode cX1_init 4 = .ok (.aload_n 0, 1) := by decide +kernel
theorem dX1_init_5 : decode cX1_init 5 = .ok (.iconst 4, 1) := by decide +kernel
theorem dX1_init_6 : decode cX1_init 6 = .ok (.putfield 7, 3) := by decide +kernel
theorem dX1_init_9 : decode cX1_init 9 = .ok (.aload_n 0, 1) := by decide +kernel
theorem dX1_init_10 : decode cX1_init 10 = .ok (.iconst 2, 1) := by decide +kernel
theorem dX1_init_11 : decode cX1_init 11 = .ok (.putfield 13, 3) := by decide +kernel
theorem dX1_init_14 : decode cX1_init 14 = .ok (.aload_n 0, 1) := by decide +kernel
theorem dX1_init_15 : decode cX1_init 15 = .ok (.bipush 9, 2) := by decide +kernel
theorem dX1_init_17 : decode cX1_init 17 = .ok (.newarray .int, 2) := by decide +kernel
theorem dX1_init_19 : decode cX1_init 19 = .ok (.putfield 16, 3) := by decide +kernel
theorem dX1_init_22 : decode cX1_init 22 = .ok (.return_, 1) := by decide +kernel
abbrev cX1_ring : ByteArray := prog_3_method_2_code
def yX1_ring : MethodName := ⟨RX1, "ring", "(II)V"⟩
theorem dX1_ring_0 : decode cX1_ring 0 = .ok (.aload_n 0, 1) := by decide +kernel
theorem dX1_ring_1 : decode cX1_ring 1 = .ok (.iconst 1, 1) := by decide +kernel
theorem dX1_ring_2 : decode cX1_ring 2 = .ok (.iload_n 1, 1) := by decide +kernel
theorem dX1_ring_3 : decode cX1_ring 3 = .ok (.ldc 20, 2) := by decide +kernel
theorem dX1_ring_5 : decode cX1_ring 5 = .ok (.iand, 1) := by decide +kernel
theorem dX1_ring_6 : decode cX1_ring 6 = .ok (.bipush 8, 2) := by decide +kernel
theorem dX1_ring_8 : decode cX1_ring 8 = .ok (.irem, 1) := by decide +kernel
theorem dX1_ring_9 : decode cX1_ring 9 = .ok (.iadd, 1) := by decide +kernel
theorem dX1_ring_10 : decode cX1_ring 10 = .ok (.putfield 7, 3) := by decide +kernel
theorem dX1_ring_13 : decode cX1_ring 13 = .ok (.aload_n 0, 1) := by decide +kernel
theorem dX1_ring_14 : decode cX1_ring 14 = .ok (.iconst 1, 1) := by decide +kernel
theorem dX1_ring_15 : decode cX1_ring 15 = .ok (.iload_n 2, 1) := by decide +kernel
theorem dX1_ring_16 : decode cX1_ring 16 = .ok (.ldc 20, 2) := by decide +kernel
theorem dX1_ring_18 : decode cX1_ring 18 = .ok (.iand, 1) := by decide +kernel
theorem dX1_ring_19 : decode cX1_ring 19 = .ok (.iconst 3, 1) := by decide +kernel
theorem dX1_ring_20 : decode cX1_ring 20 = .ok (.irem, 1) := by decide +kernel
theorem dX1_ring_21 : decode cX1_ring 21 = .ok (.iadd, 1) := by decide +kernel
theorem dX1_ring_22 : decode cX1_ring 22 = .ok (.putfield 13, 3) := by decide +kernel
theorem dX1_ring_25 : decode cX1_ring 25 = .ok (.aload_n 0, 1) := by decide +kernel
theorem dX1_ring_26 : decode cX1_ring 26 = .ok (.iconst 0, 1) := by decide +kernel
theorem dX1_ring_27 : decode cX1_ring 27 = .ok (.putfield 21, 3) := by decide +kernel
theorem dX1_ring_30 : decode cX1_ring 30 = .ok (.return_, 1) := by decide +kernel
abbrev cX1_turned : ByteArray := prog_3_method_4_code
def yX1_turned : MethodName := ⟨RX1, "turned", "()J"⟩
theorem dX1_turned_0 : decode cX1_turned 0 = .ok (.aload_n 0, 1) := by decide +kernel
theorem dX1_turned_1 : decode cX1_turned 1 = .ok (.invokevirtual 38, 3) := by decide +kernel
theorem dX1_turned_4 : decode cX1_turned 4 = .ok (.aload_n 0, 1) := by decide +kernel
theorem dX1_turned_5 : decode cX1_turned 5 = .ok (.getfield 25, 3) := by decide +kernel
theorem dX1_turned_8 : decode cX1_turned 8 = .ok (.lreturn, 1) := by decide +kernel
abbrev cX1_reckon : ByteArray := prog_3_method_3_code
def yX1_reckon : MethodName := ⟨RX1, "reckon", "()V"⟩
theorem dX1_reckon_0 : decode cX1_reckon 0 = .ok (.aload_n 0, 1) := by decide +kernel
theorem dX1_reckon_1 : decode cX1_reckon 1 = .ok (.getfield 21, 3) := by decide +kernel
theorem dX1_reckon_4 : decode cX1_reckon 4 = .ok (.ifCond .eq 4, 3) := by decide +kernel
theorem dX1_reckon_7 : decode cX1_reckon 7 = .ok (.return_, 1) := by decide +kernel
theorem dX1_reckon_8 : decode cX1_reckon 8 = .ok (.aload_n 0, 1) := by decide +kernel
theorem dX1_reckon_9 : decode cX1_reckon 9 = .ok (.iconst 1, 1) := by decide +kernel
theorem dX1_reckon_10 : decode cX1_reckon 10 = .ok (.putfield 21, 3) := by decide +kernel
theorem dX1_reckon_13 : decode cX1_reckon 13 = .ok (.aload_n 0, 1) := by decide +kernel
theorem dX1_reckon_14 : decode cX1_reckon 14 = .ok (.lconst 0, 1) := by decide +kernel
theorem dX1_reckon_15 : decode cX1_reckon 15 = .ok (.putfield 25, 3) := by decide +kernel
theorem dX1_reckon_18 : decode cX1_reckon 18 = .ok (.aload_n 0, 1) := by decide +kernel
theorem dX1_reckon_19 : decode cX1_reckon 19 = .ok (.lconst 0, 1) := by decide +kernel
theorem dX1_reckon_20 : decode cX1_reckon 20 = .ok (.putfield 29, 3) := by decide +kernel
theorem dX1_reckon_23 : decode cX1_reckon 23 = .ok (.aload_n 0, 1) := by decide +kernel
theorem dX1_reckon_24 : decode cX1_reckon 24 = .ok (.lconst 0, 1) := by decide +kernel
theorem dX1_reckon_25 : decode cX1_reckon 25 = .ok (.putfield 32, 3) := by decide +kernel
theorem dX1_reckon_28 : decode cX1_reckon 28 = .ok (.aload_n 0, 1) := by decide +kernel
theorem dX1_reckon_29 : decode cX1_reckon 29 = .ok (.lconst 0, 1) := by decide +kernel
theorem dX1_reckon_30 : decode cX1_reckon 30 = .ok (.putfield 35, 3) := by decide +kernel
theorem dX1_reckon_33 : decode cX1_reckon 33 = .ok (.iconst 1, 1) := by decide +kernel
theorem dX1_reckon_34 : decode cX1_reckon 34 = .ok (.istore_n 1, 1) := by decide +kernel
theorem dX1_reckon_35 : decode cX1_reckon 35 = .ok (.iconst 0, 1) := by decide +kernel
theorem dX1_reckon_36 : decode cX1_reckon 36 = .ok (.istore_n 2, 1) := by decide +kernel
theorem dX1_reckon_37 : decode cX1_reckon 37 = .ok (.iload_n 2, 1) := by decide +kernel
theorem dX1_reckon_38 : decode cX1_reckon 38 = .ok (.aload_n 0, 1) := by decide +kernel
theorem dX1_reckon_39 : decode cX1_reckon 39 = .ok (.getfield 7, 3) := by decide +kernel
theorem dX1_reckon_42 : decode cX1_reckon 42 = .ok (.if_icmp .ge 16, 3) := by decide +kernel
theorem dX1_reckon_45 : decode cX1_reckon 45 = .ok (.iload_n 1, 1) := by decide +kernel
theorem dX1_reckon_46 : decode cX1_reckon 46 = .ok (.aload_n 0, 1) := by decide +kernel
theorem dX1_reckon_47 : decode cX1_reckon 47 = .ok (.getfield 13, 3) := by decide +kernel
theorem dX1_reckon_50 : decode cX1_reckon 50 = .ok (.imul, 1) := by decide +kernel
theorem dX1_reckon_51 : decode cX1_reckon 51 = .ok (.istore_n 1, 1) := by decide +kernel
theorem dX1_reckon_52 : decode cX1_reckon 52 = .ok (.iinc 2 1, 3) := by decide +kernel
theorem dX1_reckon_55 : decode cX1_reckon 55 = .ok (.goto (-18), 3) := by decide +kernel
theorem dX1_reckon_58 : decode cX1_reckon 58 = .ok (.iconst 0, 1) := by decide +kernel
theorem dX1_reckon_59 : decode cX1_reckon 59 = .ok (.istore_n 2, 1) := by decide +kernel
theorem dX1_reckon_60 : decode cX1_reckon 60 = .ok (.iload_n 2, 1) := by decide +kernel
theorem dX1_reckon_61 : decode cX1_reckon 61 = .ok (.iload_n 1, 1) := by decide +kernel
theorem dX1_reckon_62 : decode cX1_reckon 62 = .ok (.if_icmp .ge 321, 3) := by decide +kernel
theorem dX1_reckon_65 : decode cX1_reckon 65 = .ok (.iload_n 2, 1) := by decide +kernel
theorem dX1_reckon_66 : decode cX1_reckon 66 = .ok (.istore_n 3, 1) := by decide +kernel
theorem dX1_reckon_67 : decode cX1_reckon 67 = .ok (.iconst 0, 1) := by decide +kernel
theorem dX1_reckon_68 : decode cX1_reckon 68 = .ok (.istore 4, 2) := by decide +kernel
theorem dX1_reckon_70 : decode cX1_reckon 70 = .ok (.iload 4, 2) := by decide +kernel
theorem dX1_reckon_72 : decode cX1_reckon 72 = .ok (.aload_n 0, 1) := by decide +kernel
theorem dX1_reckon_73 : decode cX1_reckon 73 = .ok (.getfield 7, 3) := by decide +kernel
theorem dX1_reckon_76 : decode cX1_reckon 76 = .ok (.if_icmp .ge 29, 3) := by decide +kernel
theorem dX1_reckon_79 : decode cX1_reckon 79 = .ok (.aload_n 0, 1) := by decide +kernel
theorem dX1_reckon_80 : decode cX1_reckon 80 = .ok (.getfield 16, 3) := by decide +kernel
theorem dX1_reckon_83 : decode cX1_reckon 83 = .ok (.iload 4, 2) := by decide +kernel
theorem dX1_reckon_85 : decode cX1_reckon 85 = .ok (.iload_n 3, 1) := by decide +kernel
theorem dX1_reckon_86 : decode cX1_reckon 86 = .ok (.aload_n 0, 1) := by decide +kernel
theorem dX1_reckon_87 : decode cX1_reckon 87 = .ok (.getfield 13, 3) := by decide +kernel
theorem dX1_reckon_90 : decode cX1_reckon 90 = .ok (.irem, 1) := by decide +kernel
theorem dX1_reckon_91 : decode cX1_reckon 91 = .ok (.iastore, 1) := by decide +kernel
theorem dX1_reckon_92 : decode cX1_reckon 92 = .ok (.iload_n 3, 1) := by decide +kernel
theorem dX1_reckon_93 : decode cX1_reckon 93 = .ok (.aload_n 0, 1) := by decide +kernel
theorem dX1_reckon_94 : decode cX1_reckon 94 = .ok (.getfield 13, 3) := by decide +kernel
theorem dX1_reckon_97 : decode cX1_reckon 97 = .ok (.idiv, 1) := by decide +kernel
theorem dX1_reckon_98 : decode cX1_reckon 98 = .ok (.istore_n 3, 1) := by decide +kernel
theorem dX1_reckon_99 : decode cX1_reckon 99 = .ok (.iinc 4 1, 3) := by decide +kernel
theorem dX1_reckon_102 : decode cX1_reckon 102 = .ok (.goto (-32), 3) := by decide +kernel
theorem dX1_reckon_105 : decode cX1_reckon 105 = .ok (.iconst 1, 1) := by decide +kernel
theorem dX1_reckon_106 : decode cX1_reckon 106 = .ok (.istore 4, 2) := by decide +kernel
theorem dX1_reckon_108 : decode cX1_reckon 108 = .ok (.iconst 1, 1) := by decide +kernel
theorem dX1_reckon_109 : decode cX1_reckon 109 = .ok (.istore 5, 2) := by decide +kernel
theorem dX1_reckon_111 : decode cX1_reckon 111 = .ok (.iconst 0, 1) := by decide +kernel
theorem dX1_reckon_112 : decode cX1_reckon 112 = .ok (.istore 6, 2) := by decide +kernel
theorem dX1_reckon_114 : decode cX1_reckon 114 = .ok (.iconst 0, 1) := by decide +kernel
theorem dX1_reckon_115 : decode cX1_reckon 115 = .ok (.istore 7, 2) := by decide +kernel
theorem dX1_reckon_117 : decode cX1_reckon 117 = .ok (.iconst 0, 1) := by decide +kernel
theorem dX1_reckon_118 : decode cX1_reckon 118 = .ok (.istore 8, 2) := by decide +kernel
theorem dX1_reckon_120 : decode cX1_reckon 120 = .ok (.iload 8, 2) := by decide +kernel
theorem dX1_reckon_122 : decode cX1_reckon 122 = .ok (.aload_n 0, 1) := by decide +kernel
theorem dX1_reckon_123 : decode cX1_reckon 123 = .ok (.getfield 7, 3) := by decide +kernel
theorem dX1_reckon_126 : decode cX1_reckon 126 = .ok (.if_icmp .ge 191, 3) := by decide +kernel
theorem dX1_reckon_129 : decode cX1_reckon 129 = .ok (.iconst 0, 1) := by decide +kernel
theorem dX1_reckon_130 : decode cX1_reckon 130 = .ok (.istore 9, 2) := by decide +kernel
theorem dX1_reckon_132 : decode cX1_reckon 132 = .ok (.iconst 0, 1) := by decide +kernel
theorem dX1_reckon_133 : decode cX1_reckon 133 = .ok (.istore 10, 2) := by decide +kernel
theorem dX1_reckon_135 : decode cX1_reckon 135 = .ok (.iconst 0, 1) := by decide +kernel
theorem dX1_reckon_136 : decode cX1_reckon 136 = .ok (.istore 11, 2) := by decide +kernel
theorem dX1_reckon_138 : decode cX1_reckon 138 = .ok (.iload 11, 2) := by decide +kernel
theorem dX1_reckon_140 : decode cX1_reckon 140 = .ok (.aload_n 0, 1) := by decide +kernel
theorem dX1_reckon_141 : decode cX1_reckon 141 = .ok (.getfield 7, 3) := by decide +kernel
theorem dX1_reckon_144 : decode cX1_reckon 144 = .ok (.if_icmp .ge 39, 3) := by decide +kernel
theorem dX1_reckon_147 : decode cX1_reckon 147 = .ok (.iload 9, 2) := by decide +kernel
theorem dX1_reckon_149 : decode cX1_reckon 149 = .ok (.ifCond .ne 34, 3) := by decide +kernel
theorem dX1_reckon_152 : decode cX1_reckon 152 = .ok (.aload_n 0, 1) := by decide +kernel
theorem dX1_reckon_153 : decode cX1_reckon 153 = .ok (.getfield 16, 3) := by decide +kernel
theorem dX1_reckon_156 : decode cX1_reckon 156 = .ok (.iload 11, 2) := by decide +kernel
theorem dX1_reckon_158 : decode cX1_reckon 158 = .ok (.iload 8, 2) := by decide +kernel
theorem dX1_reckon_160 : decode cX1_reckon 160 = .ok (.iadd, 1) := by decide +kernel
theorem dX1_reckon_161 : decode cX1_reckon 161 = .ok (.aload_n 0, 1) := by decide +kernel
theorem dX1_reckon_162 : decode cX1_reckon 162 = .ok (.getfield 7, 3) := by decide +kernel
theorem dX1_reckon_165 : decode cX1_reckon 165 = .ok (.irem, 1) := by decide +kernel
theorem dX1_reckon_166 : decode cX1_reckon 166 = .ok (.iaload, 1) := by decide +kernel
theorem dX1_reckon_167 : decode cX1_reckon 167 = .ok (.aload_n 0, 1) := by decide +kernel
theorem dX1_reckon_168 : decode cX1_reckon 168 = .ok (.getfield 16, 3) := by decide +kernel
theorem dX1_reckon_171 : decode cX1_reckon 171 = .ok (.iload 11, 2) := by decide +kernel
theorem dX1_reckon_173 : decode cX1_reckon 173 = .ok (.iaload, 1) := by decide +kernel
theorem dX1_reckon_174 : decode cX1_reckon 174 = .ok (.isub, 1) := by decide +kernel
theorem dX1_reckon_175 : decode cX1_reckon 175 = .ok (.istore 9, 2) := by decide +kernel
theorem dX1_reckon_177 : decode cX1_reckon 177 = .ok (.iinc 11 1, 3) := by decide +kernel
theorem dX1_reckon_180 : decode cX1_reckon 180 = .ok (.goto (-42), 3) := by decide +kernel
theorem dX1_reckon_183 : decode cX1_reckon 183 = .ok (.iconst 0, 1) := by decide +kernel
theorem dX1_reckon_184 : decode cX1_reckon 184 = .ok (.istore 11, 2) := by decide +kernel
theorem dX1_reckon_186 : decode cX1_reckon 186 = .ok (.iload 11, 2) := by decide +kernel
theorem dX1_reckon_188 : decode cX1_reckon 188 = .ok (.aload_n 0, 1) := by decide +kernel
theorem dX1_reckon_189 : decode cX1_reckon 189 = .ok (.getfield 7, 3) := by decide +kernel
theorem dX1_reckon_192 : decode cX1_reckon 192 = .ok (.if_icmp .ge 46, 3) := by decide +kernel
theorem dX1_reckon_195 : decode cX1_reckon 195 = .ok (.iload 10, 2) := by decide +kernel
theorem dX1_reckon_197 : decode cX1_reckon 197 = .ok (.ifCond .ne 41, 3) := by decide +kernel
theorem dX1_reckon_200 : decode cX1_reckon 200 = .ok (.aload_n 0, 1) := by decide +kernel
theorem dX1_reckon_201 : decode cX1_reckon 201 = .ok (.getfield 16, 3) := by decide +kernel
theorem dX1_reckon_204 : decode cX1_reckon 204 = .ok (.iconst 2, 1) := by decide +kernel
theorem dX1_reckon_205 : decode cX1_reckon 205 = .ok (.aload_n 0, 1) := by decide +kernel
theorem dX1_reckon_206 : decode cX1_reckon 206 = .ok (.getfield 7, 3) := by decide +kernel
theorem dX1_reckon_209 : decode cX1_reckon 209 = .ok (.imul, 1) := by decide +kernel
theorem dX1_reckon_210 : decode cX1_reckon 210 = .ok (.iload 11, 2) := by decide +kernel
theorem dX1_reckon_212 : decode cX1_reckon 212 = .ok (.isub, 1) := by decide +kernel
theorem dX1_reckon_213 : decode cX1_reckon 213 = .ok (.iload 8, 2) := by decide +kernel
theorem dX1_reckon_215 : decode cX1_reckon 215 = .ok (.iadd, 1) := by decide +kernel
theorem dX1_reckon_216 : decode cX1_reckon 216 = .ok (.aload_n 0, 1) := by decide +kernel
theorem dX1_reckon_217 : decode cX1_reckon 217 = .ok (.getfield 7, 3) := by decide +kernel
theorem dX1_reckon_220 : decode cX1_reckon 220 = .ok (.irem, 1) := by decide +kernel
theorem dX1_reckon_221 : decode cX1_reckon 221 = .ok (.iaload, 1) := by decide +kernel
theorem dX1_reckon_222 : decode cX1_reckon 222 = .ok (.aload_n 0, 1) := by decide +kernel
theorem dX1_reckon_223 : decode cX1_reckon 223 = .ok (.getfield 16, 3) := by decide +kernel
theorem dX1_reckon_226 : decode cX1_reckon 226 = .ok (.iload 11, 2) := by decide +kernel
theorem dX1_reckon_228 : decode cX1_reckon 228 = .ok (.iaload, 1) := by decide +kernel
theorem dX1_reckon_229 : decode cX1_reckon 229 = .ok (.isub, 1) := by decide +kernel
theorem dX1_reckon_230 : decode cX1_reckon 230 = .ok (.istore 10, 2) := by decide +kernel
theorem dX1_reckon_232 : decode cX1_reckon 232 = .ok (.iinc 11 1, 3) := by decide +kernel
theorem dX1_reckon_235 : decode cX1_reckon 235 = .ok (.goto (-49), 3) := by decide +kernel
theorem dX1_reckon_238 : decode cX1_reckon 238 = .ok (.iload 4, 2) := by decide +kernel
theorem dX1_reckon_240 : decode cX1_reckon 240 = .ok (.ifCond .eq 12, 3) := by decide +kernel
theorem dX1_reckon_243 : decode cX1_reckon 243 = .ok (.iload 9, 2) := by decide +kernel
theorem dX1_reckon_245 : decode cX1_reckon 245 = .ok (.ifCond .lt 7, 3) := by decide +kernel
theorem dX1_reckon_248 : decode cX1_reckon 248 = .ok (.iconst 1, 1) := by decide +kernel
theorem dX1_reckon_249 : decode cX1_reckon 249 = .ok (.goto 4, 3) := by decide +kernel
theorem dX1_reckon_252 : decode cX1_reckon 252 = .ok (.iconst 0, 1) := by decide +kernel
theorem dX1_reckon_253 : decode cX1_reckon 253 = .ok (.istore 4, 2) := by decide +kernel
theorem dX1_reckon_255 : decode cX1_reckon 255 = .ok (.iload 5, 2) := by decide +kernel
theorem dX1_reckon_257 : decode cX1_reckon 257 = .ok (.ifCond .eq 12, 3) := by decide +kernel
theorem dX1_reckon_260 : decode cX1_reckon 260 = .ok (.iload 10, 2) := by decide +kernel
theorem dX1_reckon_262 : decode cX1_reckon 262 = .ok (.ifCond .lt 7, 3) := by decide +kernel
theorem dX1_reckon_265 : decode cX1_reckon 265 = .ok (.iconst 1, 1) := by decide +kernel
theorem dX1_reckon_266 : decode cX1_reckon 266 = .ok (.goto 4, 3) := by decide +kernel
theorem dX1_reckon_269 : decode cX1_reckon 269 = .ok (.iconst 0, 1) := by decide +kernel
theorem dX1_reckon_270 : decode cX1_reckon 270 = .ok (.istore 5, 2) := by decide +kernel
theorem dX1_reckon_272 : decode cX1_reckon 272 = .ok (.iload 6, 2) := by decide +kernel
theorem dX1_reckon_274 : decode cX1_reckon 274 = .ok (.ifCond .ne 13, 3) := by decide +kernel
theorem dX1_reckon_277 : decode cX1_reckon 277 = .ok (.iload 8, 2) := by decide +kernel
theorem dX1_reckon_279 : decode cX1_reckon 279 = .ok (.ifCond .le 12, 3) := by decide +kernel
theorem dX1_reckon_282 : decode cX1_reckon 282 = .ok (.iload 9, 2) := by decide +kernel
theorem dX1_reckon_284 : decode cX1_reckon 284 = .ok (.ifCond .ne 7, 3) := by decide +kernel
theorem dX1_reckon_287 : decode cX1_reckon 287 = .ok (.iconst 1, 1) := by decide +kernel
theorem dX1_reckon_288 : decode cX1_reckon 288 = .ok (.goto 4, 3) := by decide +kernel
theorem dX1_reckon_291 : decode cX1_reckon 291 = .ok (.iconst 0, 1) := by decide +kernel
theorem dX1_reckon_292 : decode cX1_reckon 292 = .ok (.istore 6, 2) := by decide +kernel
theorem dX1_reckon_294 : decode cX1_reckon 294 = .ok (.iload 7, 2) := by decide +kernel
theorem dX1_reckon_296 : decode cX1_reckon 296 = .ok (.ifCond .ne 8, 3) := by decide +kernel
theorem dX1_reckon_299 : decode cX1_reckon 299 = .ok (.iload 10, 2) := by decide +kernel
theorem dX1_reckon_301 : decode cX1_reckon 301 = .ok (.ifCond .ne 7, 3) := by decide +kernel
theorem dX1_reckon_304 : decode cX1_reckon 304 = .ok (.iconst 1, 1) := by decide +kernel
theorem dX1_reckon_305 : decode cX1_reckon 305 = .ok (.goto 4, 3) := by decide +kernel
theorem dX1_reckon_308 : decode cX1_reckon 308 = .ok (.iconst 0, 1) := by decide +kernel
theorem dX1_reckon_309 : decode cX1_reckon 309 = .ok (.istore 7, 2) := by decide +kernel
theorem dX1_reckon_311 : decode cX1_reckon 311 = .ok (.iinc 8 1, 3) := by decide +kernel
theorem dX1_reckon_314 : decode cX1_reckon 314 = .ok (.goto (-194), 3) := by decide +kernel
theorem dX1_reckon_317 : decode cX1_reckon 317 = .ok (.iload 4, 2) := by decide +kernel
theorem dX1_reckon_319 : decode cX1_reckon 319 = .ok (.ifCond .eq 58, 3) := by decide +kernel
theorem dX1_reckon_322 : decode cX1_reckon 322 = .ok (.aload_n 0, 1) := by decide +kernel
theorem dX1_reckon_323 : decode cX1_reckon 323 = .ok (.aload_n 0, 1) := by decide +kernel
theorem dX1_reckon_324 : decode cX1_reckon 324 = .ok (.getfield 25, 3) := by decide +kernel
theorem dX1_reckon_327 : decode cX1_reckon 327 = .ok (.lconst 1, 1) := by decide +kernel
theorem dX1_reckon_328 : decode cX1_reckon 328 = .ok (.ladd, 1) := by decide +kernel
theorem dX1_reckon_329 : decode cX1_reckon 329 = .ok (.putfield 25, 3) := by decide +kernel
theorem dX1_reckon_332 : decode cX1_reckon 332 = .ok (.iload 5, 2) := by decide +kernel
theorem dX1_reckon_334 : decode cX1_reckon 334 = .ok (.ifCond .eq 13, 3) := by decide +kernel
theorem dX1_reckon_337 : decode cX1_reckon 337 = .ok (.aload_n 0, 1) := by decide +kernel
theorem dX1_reckon_338 : decode cX1_reckon 338 = .ok (.aload_n 0, 1) := by decide +kernel
theorem dX1_reckon_339 : decode cX1_reckon 339 = .ok (.getfield 29, 3) := by decide +kernel
theorem dX1_reckon_342 : decode cX1_reckon 342 = .ok (.lconst 1, 1) := by decide +kernel
theorem dX1_reckon_343 : decode cX1_reckon 343 = .ok (.ladd, 1) := by decide +kernel
theorem dX1_reckon_344 : decode cX1_reckon 344 = .ok (.putfield 29, 3) := by decide +kernel
theorem dX1_reckon_347 : decode cX1_reckon 347 = .ok (.iload 6, 2) := by decide +kernel
theorem dX1_reckon_349 : decode cX1_reckon 349 = .ok (.ifCond .ne 13, 3) := by decide +kernel
theorem dX1_reckon_352 : decode cX1_reckon 352 = .ok (.aload_n 0, 1) := by decide +kernel
theorem dX1_reckon_353 : decode cX1_reckon 353 = .ok (.aload_n 0, 1) := by decide +kernel
theorem dX1_reckon_354 : decode cX1_reckon 354 = .ok (.getfield 32, 3) := by decide +kernel
theorem dX1_reckon_357 : decode cX1_reckon 357 = .ok (.lconst 1, 1) := by decide +kernel
theorem dX1_reckon_358 : decode cX1_reckon 358 = .ok (.ladd, 1) := by decide +kernel
theorem dX1_reckon_359 : decode cX1_reckon 359 = .ok (.putfield 32, 3) := by decide +kernel
theorem dX1_reckon_362 : decode cX1_reckon 362 = .ok (.iload 7, 2) := by decide +kernel
theorem dX1_reckon_364 : decode cX1_reckon 364 = .ok (.ifCond .eq 13, 3) := by decide +kernel
theorem dX1_reckon_367 : decode cX1_reckon 367 = .ok (.aload_n 0, 1) := by decide +kernel
theorem dX1_reckon_368 : decode cX1_reckon 368 = .ok (.aload_n 0, 1) := by decide +kernel
theorem dX1_reckon_369 : decode cX1_reckon 369 = .ok (.getfield 35, 3) := by decide +kernel
theorem dX1_reckon_372 : decode cX1_reckon 372 = .ok (.lconst 1, 1) := by decide +kernel
theorem dX1_reckon_373 : decode cX1_reckon 373 = .ok (.ladd, 1) := by decide +kernel
theorem dX1_reckon_374 : decode cX1_reckon 374 = .ok (.putfield 35, 3) := by decide +kernel
theorem dX1_reckon_377 : decode cX1_reckon 377 = .ok (.iinc 2 1, 3) := by decide +kernel
theorem dX1_reckon_380 : decode cX1_reckon 380 = .ok (.goto (-320), 3) := by decide +kernel
theorem dX1_reckon_383 : decode cX1_reckon 383 = .ok (.return_, 1) := by decide +kernel
abbrev cX1_over : ByteArray := prog_3_method_5_code
def yX1_over : MethodName := ⟨RX1, "over", "()J"⟩
theorem dX1_over_0 : decode cX1_over 0 = .ok (.aload_n 0, 1) := by decide +kernel
theorem dX1_over_1 : decode cX1_over 1 = .ok (.invokevirtual 38, 3) := by decide +kernel
theorem dX1_over_4 : decode cX1_over 4 = .ok (.aload_n 0, 1) := by decide +kernel
theorem dX1_over_5 : decode cX1_over 5 = .ok (.getfield 29, 3) := by decide +kernel
theorem dX1_over_8 : decode cX1_over 8 = .ok (.lreturn, 1) := by decide +kernel
abbrev cX1_unlike : ByteArray := prog_3_method_6_code
def yX1_unlike : MethodName := ⟨RX1, "unlike", "()J"⟩
theorem dX1_unlike_0 : decode cX1_unlike 0 = .ok (.aload_n 0, 1) := by decide +kernel
theorem dX1_unlike_1 : decode cX1_unlike 1 = .ok (.invokevirtual 38, 3) := by decide +kernel
theorem dX1_unlike_4 : decode cX1_unlike 4 = .ok (.aload_n 0, 1) := by decide +kernel
theorem dX1_unlike_5 : decode cX1_unlike 5 = .ok (.getfield 32, 3) := by decide +kernel
theorem dX1_unlike_8 : decode cX1_unlike 8 = .ok (.lreturn, 1) := by decide +kernel
abbrev cX1_mirrors : ByteArray := prog_3_method_7_code
def yX1_mirrors : MethodName := ⟨RX1, "mirrors", "()J"⟩
theorem dX1_mirrors_0 : decode cX1_mirrors 0 = .ok (.aload_n 0, 1) := by decide +kernel
theorem dX1_mirrors_1 : decode cX1_mirrors 1 = .ok (.invokevirtual 38, 3) := by decide +kernel
theorem dX1_mirrors_4 : decode cX1_mirrors 4 = .ok (.aload_n 0, 1) := by decide +kernel
theorem dX1_mirrors_5 : decode cX1_mirrors 5 = .ok (.getfield 35, 3) := by decide +kernel
theorem dX1_mirrors_8 : decode cX1_mirrors 8 = .ok (.lreturn, 1) := by decide +kernel
abbrev cX1_rows : ByteArray := prog_3_method_8_code
def yX1_rows : MethodName := ⟨RX1, "rows", "()J"⟩
theorem dX1_rows_0 : decode cX1_rows 0 = .ok (.lconst 1, 1) := by decide +kernel
theorem dX1_rows_1 : decode cX1_rows 1 = .ok (.lstore_n 1, 1) := by decide +kernel
theorem dX1_rows_2 : decode cX1_rows 2 = .ok (.iconst 0, 1) := by decide +kernel
theorem dX1_rows_3 : decode cX1_rows 3 = .ok (.istore_n 3, 1) := by decide +kernel
theorem dX1_rows_4 : decode cX1_rows 4 = .ok (.iload_n 3, 1) := by decide +kernel
theorem dX1_rows_5 : decode cX1_rows 5 = .ok (.aload_n 0, 1) := by decide +kernel
theorem dX1_rows_6 : decode cX1_rows 6 = .ok (.getfield 7, 3) := by decide +kernel
theorem dX1_rows_9 : decode cX1_rows 9 = .ok (.if_icmp .ge 17, 3) := by decide +kernel
theorem dX1_rows_12 : decode cX1_rows 12 = .ok (.lload_n 1, 1) := by decide +kernel
theorem dX1_rows_13 : decode cX1_rows 13 = .ok (.aload_n 0, 1) := by decide +kernel
theorem dX1_rows_14 : decode cX1_rows 14 = .ok (.getfield 13, 3) := by decide +kernel
theorem dX1_rows_17 : decode cX1_rows 17 = .ok (.i2l, 1) := by decide +kernel
theorem dX1_rows_18 : decode cX1_rows 18 = .ok (.lmul, 1) := by decide +kernel
theorem dX1_rows_19 : decode cX1_rows 19 = .ok (.lstore_n 1, 1) := by decide +kernel
theorem dX1_rows_20 : decode cX1_rows 20 = .ok (.iinc 3 1, 3) := by decide +kernel
theorem dX1_rows_23 : decode cX1_rows 23 = .ok (.goto (-19), 3) := by decide +kernel
theorem dX1_rows_26 : decode cX1_rows 26 = .ok (.lload_n 1, 1) := by decide +kernel
theorem dX1_rows_27 : decode cX1_rows 27 = .ok (.lreturn, 1) := by decide +kernel
theorem q8 : (Jvm.Cond.initialized "BeadDeskModel") ∈ lw_all := lw_g (lw_at lw_m0 2 rfl) rfl
theorem q73 : (Jvm.Cond.instantiable "BeadDeskModel" (8 : Nat)) ∈ lw_all := lw_g (lw_at lw_m0 67 rfl) rfl
theorem q75 : (Jvm.Cond.instanceMethod ({ cls := "BeadDeskModel", name := "<init>", desc := "()V" } : Jvm.MethodName)) ∈ lw_all := lw_g (lw_at lw_m0 69 rfl) rfl
theorem q76 : (Jvm.Cond.code ({ cls := "BeadDeskModel", name := "<init>", desc := "()V" } : Jvm.MethodName) prog_3_method_1_code (1 : Nat) (Option.none : Option Jvm.ClassFile.FieldType)) ∈ lw_all := lw_g (lw_at lw_m0 70 rfl) rfl
theorem q77 : (Jvm.Cond.methodLink "BeadDeskModel" (1 : Nat) ({ cls := "java/lang/Object", name := "<init>", desc := "()V" } : Jvm.MethodName)) ∈ lw_all := lw_g (lw_at lw_m0 71 rfl) rfl
theorem q78 : (Jvm.Cond.fieldLink "BeadDeskModel" (7 : Nat) "BeadDeskModel" "n" "I") ∈ lw_all := lw_g (lw_at lw_m0 72 rfl) rfl
theorem q79 : (Jvm.Cond.fieldLink "BeadDeskModel" (13 : Nat) "BeadDeskModel" "k" "I") ∈ lw_all := lw_g (lw_at lw_m0 73 rfl) rfl
theorem q80 : (Jvm.Cond.fieldLink "BeadDeskModel" (21 : Nat) "BeadDeskModel" "known" "Z") ∈ lw_all := lw_g (lw_at lw_m0 74 rfl) rfl
theorem q81 : (Jvm.Cond.fieldLink "BeadDeskModel" (25 : Nat) "BeadDeskModel" "turned" "J") ∈ lw_all := lw_g (lw_at lw_m0 75 rfl) rfl
theorem q82 : (Jvm.Cond.fieldLink "BeadDeskModel" (29 : Nat) "BeadDeskModel" "over" "J") ∈ lw_all := lw_g (lw_at lw_m0 76 rfl) rfl
theorem q83 : (Jvm.Cond.fieldLink "BeadDeskModel" (32 : Nat) "BeadDeskModel" "prime" "J") ∈ lw_all := lw_g (lw_at lw_m0 77 rfl) rfl
theorem q84 : (Jvm.Cond.fieldLink "BeadDeskModel" (35 : Nat) "BeadDeskModel" "mirrors" "J") ∈ lw_all := lw_g (lw_at lw_m0 78 rfl) rfl
theorem q85 : (Jvm.Cond.fieldLink "BeadDeskModel" (16 : Nat) "BeadDeskModel" "b" "[I") ∈ lw_all := lw_g (lw_at lw_m0 79 rfl) rfl
theorem q86 : (Jvm.Cond.lays "BeadDeskModel" "BeadDeskModel" "n" "I") ∈ lw_all := lw_g (lw_at lw_m0 80 rfl) rfl
theorem q87 : (Jvm.Cond.soleField "BeadDeskModel" "n") ∈ lw_all := lw_g (lw_at lw_m0 81 rfl) rfl
theorem q88 : (Jvm.Cond.lays "BeadDeskModel" "BeadDeskModel" "k" "I") ∈ lw_all := lw_g (lw_at lw_m0 82 rfl) rfl
theorem q89 : (Jvm.Cond.soleField "BeadDeskModel" "k") ∈ lw_all := lw_g (lw_at lw_m0 83 rfl) rfl
theorem q90 : (Jvm.Cond.lays "BeadDeskModel" "BeadDeskModel" "known" "Z") ∈ lw_all := lw_g (lw_at lw_m0 84 rfl) rfl
theorem q91 : (Jvm.Cond.soleField "BeadDeskModel" "known") ∈ lw_all := lw_g (lw_at lw_m0 85 rfl) rfl
theorem q92 : (Jvm.Cond.lays "BeadDeskModel" "BeadDeskModel" "turned" "J") ∈ lw_all := lw_g (lw_at lw_m0 86 rfl) rfl
theorem q93 : (Jvm.Cond.soleField "BeadDeskModel" "turned") ∈ lw_all := lw_g (lw_at lw_m0 87 rfl) rfl
theorem q94 : (Jvm.Cond.lays "BeadDeskModel" "BeadDeskModel" "over" "J") ∈ lw_all := lw_g (lw_at lw_m0 88 rfl) rfl
theorem q95 : (Jvm.Cond.soleField "BeadDeskModel" "over") ∈ lw_all := lw_g (lw_at lw_m0 89 rfl) rfl
theorem q96 : (Jvm.Cond.lays "BeadDeskModel" "BeadDeskModel" "prime" "J") ∈ lw_all := lw_g (lw_at lw_m0 90 rfl) rfl
theorem q97 : (Jvm.Cond.soleField "BeadDeskModel" "prime") ∈ lw_all := lw_g (lw_at lw_m0 91 rfl) rfl
theorem q98 : (Jvm.Cond.lays "BeadDeskModel" "BeadDeskModel" "mirrors" "J") ∈ lw_all := lw_g (lw_at lw_m0 92 rfl) rfl
theorem q99 : (Jvm.Cond.soleField "BeadDeskModel" "mirrors") ∈ lw_all := lw_g (lw_at lw_m0 93 rfl) rfl
theorem q100 : (Jvm.Cond.laysFinal "BeadDeskModel" "BeadDeskModel" "b" "[I") ∈ lw_all := lw_g (lw_at lw_m0 94 rfl) rfl
theorem q101 : (Jvm.Cond.soleField "BeadDeskModel" "b") ∈ lw_all := lw_g (lw_at lw_m0 95 rfl) rfl
theorem q102 : (Jvm.Cond.superclass "BeadDeskModel" "java/lang/Object") ∈ lw_all := lw_g (lw_at lw_m0 96 rfl) rfl
theorem q105 : (Jvm.Cond.instanceMethod ({ cls := "BeadDeskModel", name := "ring", desc := "(II)V" } : Jvm.MethodName)) ∈ lw_all := lw_g (lw_at lw_m0 99 rfl) rfl
theorem q106 : (Jvm.Cond.selects "BeadDeskModel" ({ cls := "BeadDeskModel", name := "ring", desc := "(II)V" } : Jvm.MethodName) ({ cls := "BeadDeskModel", name := "ring", desc := "(II)V" } : Jvm.MethodName)) ∈ lw_all := lw_g (lw_at lw_m0 100 rfl) rfl
theorem q107 : (Jvm.Cond.code ({ cls := "BeadDeskModel", name := "ring", desc := "(II)V" } : Jvm.MethodName) prog_3_method_2_code (3 : Nat) (Option.none : Option Jvm.ClassFile.FieldType)) ∈ lw_all := lw_g (lw_at lw_m0 101 rfl) rfl
theorem q108 : (Jvm.Cond.constant "BeadDeskModel" (20 : Nat) (2147483647 : Int32)) ∈ lw_all := lw_g (lw_at lw_m0 102 rfl) rfl
theorem q110 : (Jvm.Cond.instanceMethod ({ cls := "BeadDeskModel", name := "turned", desc := "()J" } : Jvm.MethodName)) ∈ lw_all := lw_g (lw_at lw_m0 104 rfl) rfl
theorem q111 : (Jvm.Cond.selects "BeadDeskModel" ({ cls := "BeadDeskModel", name := "turned", desc := "()J" } : Jvm.MethodName) ({ cls := "BeadDeskModel", name := "turned", desc := "()J" } : Jvm.MethodName)) ∈ lw_all := lw_g (lw_at lw_m0 105 rfl) rfl
theorem q112 : (Jvm.Cond.code ({ cls := "BeadDeskModel", name := "turned", desc := "()J" } : Jvm.MethodName) prog_3_method_4_code (1 : Nat) (Option.some Jvm.ClassFile.FieldType.long)) ∈ lw_all := lw_g (lw_at lw_m0 106 rfl) rfl
theorem q113 : (Jvm.Cond.methodLink "BeadDeskModel" (38 : Nat) ({ cls := "BeadDeskModel", name := "reckon", desc := "()V" } : Jvm.MethodName)) ∈ lw_all := lw_g (lw_at lw_m0 107 rfl) rfl
theorem q114 : (Jvm.Cond.privateMethod ({ cls := "BeadDeskModel", name := "reckon", desc := "()V" } : Jvm.MethodName)) ∈ lw_tbl := lw_at lw_m0 108 rfl
theorem q115 : (Jvm.Cond.instanceMethod ({ cls := "BeadDeskModel", name := "reckon", desc := "()V" } : Jvm.MethodName)) ∈ lw_all := lw_g (lw_at lw_m0 109 rfl) rfl
theorem q116 : (Jvm.Cond.code ({ cls := "BeadDeskModel", name := "reckon", desc := "()V" } : Jvm.MethodName) prog_3_method_3_code (12 : Nat) (Option.none : Option Jvm.ClassFile.FieldType)) ∈ lw_all := lw_g (lw_at lw_m0 110 rfl) rfl
theorem q118 : (Jvm.Cond.instanceMethod ({ cls := "BeadDeskModel", name := "over", desc := "()J" } : Jvm.MethodName)) ∈ lw_all := lw_g (lw_at lw_m0 112 rfl) rfl
theorem q119 : (Jvm.Cond.selects "BeadDeskModel" ({ cls := "BeadDeskModel", name := "over", desc := "()J" } : Jvm.MethodName) ({ cls := "BeadDeskModel", name := "over", desc := "()J" } : Jvm.MethodName)) ∈ lw_all := lw_g (lw_at lw_m0 113 rfl) rfl
theorem q120 : (Jvm.Cond.code ({ cls := "BeadDeskModel", name := "over", desc := "()J" } : Jvm.MethodName) prog_3_method_5_code (1 : Nat) (Option.some Jvm.ClassFile.FieldType.long)) ∈ lw_all := lw_g (lw_at lw_m0 114 rfl) rfl
theorem q122 : (Jvm.Cond.instanceMethod ({ cls := "BeadDeskModel", name := "unlike", desc := "()J" } : Jvm.MethodName)) ∈ lw_all := lw_g (lw_at lw_m0 116 rfl) rfl
theorem q123 : (Jvm.Cond.selects "BeadDeskModel" ({ cls := "BeadDeskModel", name := "unlike", desc := "()J" } : Jvm.MethodName) ({ cls := "BeadDeskModel", name := "unlike", desc := "()J" } : Jvm.MethodName)) ∈ lw_all := lw_g (lw_at lw_m0 117 rfl) rfl
theorem q124 : (Jvm.Cond.code ({ cls := "BeadDeskModel", name := "unlike", desc := "()J" } : Jvm.MethodName) prog_3_method_6_code (1 : Nat) (Option.some Jvm.ClassFile.FieldType.long)) ∈ lw_all := lw_g (lw_at lw_m0 118 rfl) rfl
theorem q126 : (Jvm.Cond.instanceMethod ({ cls := "BeadDeskModel", name := "mirrors", desc := "()J" } : Jvm.MethodName)) ∈ lw_all := lw_g (lw_at lw_m0 120 rfl) rfl
theorem q127 : (Jvm.Cond.selects "BeadDeskModel" ({ cls := "BeadDeskModel", name := "mirrors", desc := "()J" } : Jvm.MethodName) ({ cls := "BeadDeskModel", name := "mirrors", desc := "()J" } : Jvm.MethodName)) ∈ lw_all := lw_g (lw_at lw_m0 121 rfl) rfl
theorem q128 : (Jvm.Cond.code ({ cls := "BeadDeskModel", name := "mirrors", desc := "()J" } : Jvm.MethodName) prog_3_method_7_code (1 : Nat) (Option.some Jvm.ClassFile.FieldType.long)) ∈ lw_all := lw_g (lw_at lw_m0 122 rfl) rfl
theorem q130 : (Jvm.Cond.instanceMethod ({ cls := "BeadDeskModel", name := "rows", desc := "()J" } : Jvm.MethodName)) ∈ lw_all := lw_g (lw_at lw_m0 124 rfl) rfl
theorem q131 : (Jvm.Cond.selects "BeadDeskModel" ({ cls := "BeadDeskModel", name := "rows", desc := "()J" } : Jvm.MethodName) ({ cls := "BeadDeskModel", name := "rows", desc := "()J" } : Jvm.MethodName)) ∈ lw_all := lw_g (lw_at lw_m0 125 rfl) rfl
theorem q132 : (Jvm.Cond.code ({ cls := "BeadDeskModel", name := "rows", desc := "()J" } : Jvm.MethodName) prog_3_method_8_code (4 : Nat) (Option.some Jvm.ClassFile.FieldType.long)) ∈ lw_all := lw_g (lw_at lw_m0 126 rfl) rfl
theorem in_X1 : ∀ w ∈ wsX10, w ∈ lw_all := lw_in wsX10 [86, 88, 90, 92, 94, 96, 98, 100] (by decide +kernel) (by decide +kernel)
theorem q103 : (Jvm.Cond.arrayClass Jvm.ClassFile.FieldType.int) ∈ lw_all := lw_g (lw_at lw_m0 97 rfl) rfl
set_option maxRecDepth 100000
end
section
/-! the law's own entry -/
set_option maxRecDepth 100000
abbrev cL_law : ByteArray := code
theorem dL_law_0 : decode cL_law 0 = .ok (.new 7, 3) := by decide +kernel
theorem dL_law_3 : decode cL_law 3 = .ok (.dup, 1) := by decide +kernel
theorem dL_law_4 : decode cL_law 4 = .ok (.invokespecial 9, 3) := by decide +kernel
theorem dL_law_7 : decode cL_law 7 = .ok (.astore_n 1, 1) := by decide +kernel
theorem dL_law_8 : decode cL_law 8 = .ok (.new 10, 3) := by decide +kernel
theorem dL_law_11 : decode cL_law 11 = .ok (.dup, 1) := by decide +kernel
theorem dL_law_12 : decode cL_law 12 = .ok (.invokespecial 12, 3) := by decide +kernel
theorem dL_law_15 : decode cL_law 15 = .ok (.astore_n 2, 1) := by decide +kernel
theorem dL_law_16 : decode cL_law 16 = .ok (.iconst 0, 1) := by decide +kernel
theorem dL_law_17 : decode cL_law 17 = .ok (.istore_n 3, 1) := by decide +kernel
theorem dL_law_18 : decode cL_law 18 = .ok (.iload_n 3, 1) := by decide +kernel
theorem dL_law_19 : decode cL_law 19 = .ok (.aload_n 0, 1) := by decide +kernel
theorem dL_law_20 : decode cL_law 20 = .ok (.arraylength, 1) := by decide +kernel
theorem dL_law_21 : decode cL_law 21 = .ok (.iconst 3, 1) := by decide +kernel
theorem dL_law_22 : decode cL_law 22 = .ok (.isub, 1) := by decide +kernel
theorem dL_law_23 : decode cL_law 23 = .ok (.if_icmp .gt 156, 3) := by decide +kernel
theorem dL_law_26 : decode cL_law 26 = .ok (.aload_n 0, 1) := by decide +kernel
theorem dL_law_27 : decode cL_law 27 = .ok (.iload_n 3, 1) := by decide +kernel
theorem dL_law_28 : decode cL_law 28 = .ok (.iaload, 1) := by decide +kernel
theorem dL_law_29 : decode cL_law 29 = .ok (.bipush 7, 2) := by decide +kernel
theorem dL_law_31 : decode cL_law 31 = .ok (.iand, 1) := by decide +kernel
theorem dL_law_32 : decode cL_law 32 = .ok (.tableswitch 141 0 5 #[40, 71, 85, 99, 113, 127], 40) := by decide +kernel
theorem dL_law_72 : decode cL_law 72 = .ok (.aload_n 1, 1) := by decide +kernel
theorem dL_law_73 : decode cL_law 73 = .ok (.aload_n 0, 1) := by decide +kernel
theorem dL_law_74 : decode cL_law 74 = .ok (.iload_n 3, 1) := by decide +kernel
theorem dL_law_75 : decode cL_law 75 = .ok (.iconst 1, 1) := by decide +kernel
theorem dL_law_76 : decode cL_law 76 = .ok (.iadd, 1) := by decide +kernel
theorem dL_law_77 : decode cL_law 77 = .ok (.iaload, 1) := by decide +kernel
theorem dL_law_78 : decode cL_law 78 = .ok (.aload_n 0, 1) := by decide +kernel
theorem dL_law_79 : decode cL_law 79 = .ok (.iload_n 3, 1) := by decide +kernel
theorem dL_law_80 : decode cL_law 80 = .ok (.iconst 2, 1) := by decide +kernel
theorem dL_law_81 : decode cL_law 81 = .ok (.iadd, 1) := by decide +kernel
theorem dL_law_82 : decode cL_law 82 = .ok (.iaload, 1) := by decide +kernel
theorem dL_law_83 : decode cL_law 83 = .ok (.invokevirtual 13, 3) := by decide +kernel
theorem dL_law_86 : decode cL_law 86 = .ok (.aload_n 2, 1) := by decide +kernel
theorem dL_law_87 : decode cL_law 87 = .ok (.aload_n 0, 1) := by decide +kernel
theorem dL_law_88 : decode cL_law 88 = .ok (.iload_n 3, 1) := by decide +kernel
theorem dL_law_89 : decode cL_law 89 = .ok (.iconst 1, 1) := by decide +kernel
theorem dL_law_90 : decode cL_law 90 = .ok (.iadd, 1) := by decide +kernel
theorem dL_law_91 : decode cL_law 91 = .ok (.iaload, 1) := by decide +kernel
theorem dL_law_92 : decode cL_law 92 = .ok (.aload_n 0, 1) := by decide +kernel
theorem dL_law_93 : decode cL_law 93 = .ok (.iload_n 3, 1) := by decide +kernel
theorem dL_law_94 : decode cL_law 94 = .ok (.iconst 2, 1) := by decide +kernel
theorem dL_law_95 : decode cL_law 95 = .ok (.iadd, 1) := by decide +kernel
theorem dL_law_96 : decode cL_law 96 = .ok (.iaload, 1) := by decide +kernel
theorem dL_law_97 : decode cL_law 97 = .ok (.invokevirtual 17, 3) := by decide +kernel
theorem dL_law_100 : decode cL_law 100 = .ok (.goto 73, 3) := by decide +kernel
theorem dL_law_103 : decode cL_law 103 = .ok (.aload_n 1, 1) := by decide +kernel
theorem dL_law_104 : decode cL_law 104 = .ok (.invokevirtual 18, 3) := by decide +kernel
theorem dL_law_107 : decode cL_law 107 = .ok (.aload_n 2, 1) := by decide +kernel
theorem dL_law_108 : decode cL_law 108 = .ok (.invokevirtual 22, 3) := by decide +kernel
theorem dL_law_111 : decode cL_law 111 = .ok (.lcmp, 1) := by decide +kernel
theorem dL_law_112 : decode cL_law 112 = .ok (.ifCond .eq 61, 3) := by decide +kernel
theorem dL_law_115 : decode cL_law 115 = .ok (.iconst 0, 1) := by decide +kernel
theorem dL_law_116 : decode cL_law 116 = .ok (.ireturn, 1) := by decide +kernel
theorem dL_law_117 : decode cL_law 117 = .ok (.aload_n 1, 1) := by decide +kernel
theorem dL_law_118 : decode cL_law 118 = .ok (.invokevirtual 23, 3) := by decide +kernel
theorem dL_law_121 : decode cL_law 121 = .ok (.aload_n 2, 1) := by decide +kernel
theorem dL_law_122 : decode cL_law 122 = .ok (.invokevirtual 26, 3) := by decide +kernel
theorem dL_law_125 : decode cL_law 125 = .ok (.lcmp, 1) := by decide +kernel
theorem dL_law_126 : decode cL_law 126 = .ok (.ifCond .eq 47, 3) := by decide +kernel
theorem dL_law_129 : decode cL_law 129 = .ok (.iconst 0, 1) := by decide +kernel
theorem dL_law_130 : decode cL_law 130 = .ok (.ireturn, 1) := by decide +kernel
theorem dL_law_131 : decode cL_law 131 = .ok (.aload_n 1, 1) := by decide +kernel
theorem dL_law_132 : decode cL_law 132 = .ok (.invokevirtual 27, 3) := by decide +kernel
theorem dL_law_135 : decode cL_law 135 = .ok (.aload_n 2, 1) := by decide +kernel
theorem dL_law_136 : decode cL_law 136 = .ok (.invokevirtual 30, 3) := by decide +kernel
theorem dL_law_139 : decode cL_law 139 = .ok (.lcmp, 1) := by decide +kernel
theorem dL_law_140 : decode cL_law 140 = .ok (.ifCond .eq 33, 3) := by decide +kernel
theorem dL_law_143 : decode cL_law 143 = .ok (.iconst 0, 1) := by decide +kernel
theorem dL_law_144 : decode cL_law 144 = .ok (.ireturn, 1) := by decide +kernel
theorem dL_law_145 : decode cL_law 145 = .ok (.aload_n 1, 1) := by decide +kernel
theorem dL_law_146 : decode cL_law 146 = .ok (.invokevirtual 31, 3) := by decide +kernel
theorem dL_law_149 : decode cL_law 149 = .ok (.aload_n 2, 1) := by decide +kernel
theorem dL_law_150 : decode cL_law 150 = .ok (.invokevirtual 34, 3) := by decide +kernel
theorem dL_law_153 : decode cL_law 153 = .ok (.lcmp, 1) := by decide +kernel
theorem dL_law_154 : decode cL_law 154 = .ok (.ifCond .eq 19, 3) := by decide +kernel
theorem dL_law_157 : decode cL_law 157 = .ok (.iconst 0, 1) := by decide +kernel
theorem dL_law_158 : decode cL_law 158 = .ok (.ireturn, 1) := by decide +kernel
theorem dL_law_159 : decode cL_law 159 = .ok (.aload_n 1, 1) := by decide +kernel
theorem dL_law_160 : decode cL_law 160 = .ok (.invokevirtual 35, 3) := by decide +kernel
theorem dL_law_163 : decode cL_law 163 = .ok (.aload_n 2, 1) := by decide +kernel
theorem dL_law_164 : decode cL_law 164 = .ok (.invokevirtual 38, 3) := by decide +kernel
theorem dL_law_167 : decode cL_law 167 = .ok (.lcmp, 1) := by decide +kernel
theorem dL_law_168 : decode cL_law 168 = .ok (.ifCond .eq 5, 3) := by decide +kernel
theorem dL_law_171 : decode cL_law 171 = .ok (.iconst 0, 1) := by decide +kernel
theorem dL_law_172 : decode cL_law 172 = .ok (.ireturn, 1) := by decide +kernel
theorem dL_law_173 : decode cL_law 173 = .ok (.iinc 3 3, 3) := by decide +kernel
theorem dL_law_176 : decode cL_law 176 = .ok (.goto (-158), 3) := by decide +kernel
theorem dL_law_179 : decode cL_law 179 = .ok (.iconst 1, 1) := by decide +kernel
theorem dL_law_180 : decode cL_law 180 = .ok (.ireturn, 1) := by decide +kernel
theorem q6 : (Jvm.Cond.initialized "BeadDeskLaw") ∈ lw_all := lw_g (lw_at lw_m0 0 rfl) rfl
set_option maxRecDepth 100000
theorem q9 : (Jvm.Cond.classLink "BeadDeskLaw" (7 : Nat) "BeadDesk") ∈ lw_all := lw_g (lw_at lw_m0 3 rfl) rfl
theorem q11 : (Jvm.Cond.methodLink "BeadDeskLaw" (9 : Nat) ({ cls := "BeadDesk", name := "<init>", desc := "()V" } : Jvm.MethodName)) ∈ lw_all := lw_g (lw_at lw_m0 5 rfl) rfl
theorem q24 : (Jvm.Cond.methodLink "BeadDeskLaw" (13 : Nat) ({ cls := "BeadDesk", name := "ring", desc := "(II)V" } : Jvm.MethodName)) ∈ lw_all := lw_g (lw_at lw_m0 18 rfl) rfl
theorem q29 : (Jvm.Cond.methodLink "BeadDeskLaw" (18 : Nat) ({ cls := "BeadDesk", name := "turned", desc := "()J" } : Jvm.MethodName)) ∈ lw_all := lw_g (lw_at lw_m0 23 rfl) rfl
theorem q44 : (Jvm.Cond.methodLink "BeadDeskLaw" (23 : Nat) ({ cls := "BeadDesk", name := "over", desc := "()J" } : Jvm.MethodName)) ∈ lw_all := lw_g (lw_at lw_m0 38 rfl) rfl
theorem q52 : (Jvm.Cond.methodLink "BeadDeskLaw" (27 : Nat) ({ cls := "BeadDesk", name := "unlike", desc := "()J" } : Jvm.MethodName)) ∈ lw_all := lw_g (lw_at lw_m0 46 rfl) rfl
theorem q64 : (Jvm.Cond.methodLink "BeadDeskLaw" (31 : Nat) ({ cls := "BeadDesk", name := "mirrors", desc := "()J" } : Jvm.MethodName)) ∈ lw_all := lw_g (lw_at lw_m0 58 rfl) rfl
theorem q68 : (Jvm.Cond.methodLink "BeadDeskLaw" (35 : Nat) ({ cls := "BeadDesk", name := "rows", desc := "()J" } : Jvm.MethodName)) ∈ lw_all := lw_g (lw_at lw_m0 62 rfl) rfl
theorem q72 : (Jvm.Cond.classLink "BeadDeskLaw" (10 : Nat) "BeadDeskModel") ∈ lw_all := lw_g (lw_at lw_m0 66 rfl) rfl
theorem q74 : (Jvm.Cond.methodLink "BeadDeskLaw" (12 : Nat) ({ cls := "BeadDeskModel", name := "<init>", desc := "()V" } : Jvm.MethodName)) ∈ lw_all := lw_g (lw_at lw_m0 68 rfl) rfl
theorem q104 : (Jvm.Cond.methodLink "BeadDeskLaw" (17 : Nat) ({ cls := "BeadDeskModel", name := "ring", desc := "(II)V" } : Jvm.MethodName)) ∈ lw_all := lw_g (lw_at lw_m0 98 rfl) rfl
theorem q109 : (Jvm.Cond.methodLink "BeadDeskLaw" (22 : Nat) ({ cls := "BeadDeskModel", name := "turned", desc := "()J" } : Jvm.MethodName)) ∈ lw_all := lw_g (lw_at lw_m0 103 rfl) rfl
theorem q117 : (Jvm.Cond.methodLink "BeadDeskLaw" (26 : Nat) ({ cls := "BeadDeskModel", name := "over", desc := "()J" } : Jvm.MethodName)) ∈ lw_all := lw_g (lw_at lw_m0 111 rfl) rfl
theorem q121 : (Jvm.Cond.methodLink "BeadDeskLaw" (30 : Nat) ({ cls := "BeadDeskModel", name := "unlike", desc := "()J" } : Jvm.MethodName)) ∈ lw_all := lw_g (lw_at lw_m0 115 rfl) rfl
theorem q125 : (Jvm.Cond.methodLink "BeadDeskLaw" (34 : Nat) ({ cls := "BeadDeskModel", name := "mirrors", desc := "()J" } : Jvm.MethodName)) ∈ lw_all := lw_g (lw_at lw_m0 119 rfl) rfl
theorem q129 : (Jvm.Cond.methodLink "BeadDeskLaw" (38 : Nat) ({ cls := "BeadDeskModel", name := "rows", desc := "()J" } : Jvm.MethodName)) ∈ lw_all := lw_g (lw_at lw_m0 123 rfl) rfl
end
section
/-! pure words of BeadDesk (D) and BeadDeskModel (M), and rows that branch on them -/
abbrev vwCl : List vw_C := [(RX0, TX0, 2), (RX1, TX1, 8)]
/-- a boolean as the machine holds it -/
def bI (b : Bool) : Int32 := bif b then 1 else 0
theorem bI_0 {b : Bool} : bI b = 0 ↔ b = false := by
  cases b
  · exact ⟨fun _ => rfl, fun _ => rfl⟩
  · exact ⟨fun h => absurd h (by decide), fun h => by cases h⟩
/-- what ring(a, c) makes of its arguments -/
def bd_n (a : Int32) : Nat := 1 + a.toBitVec.toNat % 2 ^ 31 % 8
def bd_k (a : Int32) : Nat := 1 + a.toBitVec.toNat % 2 ^ 31 % 3
def bd_ok (n k : Nat) : Prop := (1 ≤ n ∧ n ≤ 8) ∧ (1 ≤ k ∧ k ≤ 3)
theorem bd_ok_ring (a b : Int32) : bd_ok (bd_n a) (bd_k b) := by
  unfold bd_ok bd_n bd_k
  omega
theorem bd_pow_le {n k : Nat} (h : bd_ok n k) : k ^ n ≤ 6561 :=
  Nat.le_trans (Nat.pow_le_pow_left h.2.2 n) (Nat.le_trans (Nat.pow_le_pow_right (by decide) h.1.2) (by decide))
/-- D.turns: what turns leave, t of them added -/
def bd_ts (n k : Nat) : Nat → Int64
  | 0 => lN 0
  | t + 1 => bd_ts n k t + lN (k ^ Nat.gcd n t)
/-- D.lines -/
def bd_ad (n t : Nat) : Nat := if n % 2 = 1 then 1 else if t % 2 = 1 then 2 else 0
def bd_ls (n k : Nat) : Nat → Int64
  | 0 => lN 0
  | t + 1 => bd_ls n k t + lN (k ^ ((n + bd_ad n t) / 2))
/-- D.whole -/
def bd_wh (k d : Nat) : Int64 := if d = 1 then lN (k ^ 1) else if d = 4 then lN (k ^ 4) - lN (k ^ 2) else lN (k ^ d) - lN (k ^ 1)
/-- D.own: the divisors from 1 to d taken away -/
def bd_ow (n k : Nat) : Nat → Int64
  | 0 => lN (k ^ n)
  | d + 1 => if n % (d + 1) = 0 then bd_ow n k d - bd_wh k (d + 1) else bd_ow n k d
/-- M.reckon: the word w's digits -/
def rk_x (k w : Nat) : Nat → Nat
  | 0 => w
  | i + 1 => rk_x k w i / k
def rk_g (k w i : Nat) : Nat := rk_x k w i % k
/-- the first difference that isn't 0, of r places from i on -/
def rk_d (g h : Nat → Nat) : Nat → Nat → Int32
  | 0, _ => nI 0
  | r + 1, i => if nI (g (h i)) - nI (g i) = 0 then rk_d g h r (i + 1) else nI (g (h i)) - nI (g i)
def rk_hD (n z i : Nat) : Nat := (i + z) % n
def rk_hE (n z i : Nat) : Nat := (2 * n - i + z) % n
def rk_D (n k w z : Nat) : Int32 := rk_d (rk_g k w) (rk_hD n z) n 0
def rk_E (n k w z : Nat) : Int32 := rk_d (rk_g k w) (rk_hE n z) n 0
def rk_fs (n k w : Nat) : Nat → Bool
  | 0 => true
  | z + 1 => rk_fs n k w z && !decide (rk_D n k w z < 0)
def rk_fl (n k w : Nat) : Nat → Bool
  | 0 => true
  | z + 1 => rk_fl n k w z && !decide (rk_E n k w z < 0)
def rk_sm (n k w : Nat) : Nat → Bool
  | 0 => false
  | z + 1 => rk_sm n k w z || (decide (0 < z) && decide (rk_D n k w z = 0))
def rk_mi (n k w : Nat) : Nat → Bool
  | 0 => false
  | z + 1 => rk_mi n k w z || decide (rk_E n k w z = 0)
/-- how many of the first w words have p -/
def rk_cnt (p : Nat → Bool) : Nat → Nat
  | 0 => 0
  | w + 1 => rk_cnt p w + (bif p w then 1 else 0)
def rk_pT (n k w : Nat) : Bool := rk_fs n k w n
def rk_pO (n k w : Nat) : Bool := rk_fs n k w n && rk_fl n k w n
def rk_pP (n k w : Nat) : Bool := rk_fs n k w n && !rk_sm n k w n
def rk_pM (n k w : Nat) : Bool := rk_fs n k w n && rk_mi n k w n
def rk_T (n k : Nat) : Int64 := lN (rk_cnt (rk_pT n k) (k ^ n))
def rk_O (n k : Nat) : Int64 := lN (rk_cnt (rk_pO n k) (k ^ n))
def rk_P (n k : Nat) : Int64 := lN (rk_cnt (rk_pP n k) (k ^ n))
def rk_M (n k : Nat) : Int64 := lN (rk_cnt (rk_pM n k) (k ^ n))
/-- the model's cells: nothing reckoned yet, or all of it -/
def rk_ok (n k : Nat) (kn : Int32) (a b c d : Int64) : Prop := kn = nI 0 ∨ (kn = nI 1 ∧ a = rk_T n k ∧ b = rk_O n k ∧ c = rk_P n k ∧ d = rk_M n k)
theorem rk_d_step {g h : Nat → Nat} {n i : Nat} (hi : i < n) : rk_d g h (n - i) i = if nI (g (h i)) - nI (g i) = 0 then rk_d g h (n - (i + 1)) (i + 1) else nI (g (h i)) - nI (g i) := by
  have e : n - i = (n - (i + 1)) + 1 := by omega
  rw [e]
  rfl
theorem rk_g_lt {k : Nat} (h : 0 < k) (w i : Nat) : rk_g k w i < k := Nat.mod_lt _ h
theorem rk_x_le (k w : Nat) : ∀ i, rk_x k w i ≤ w
  | 0 => Nat.le_refl _
  | i + 1 => Nat.le_trans (Nat.div_le_self _ _) (rk_x_le k w i)
theorem bd_and1 {n : Nat} (h : n < 2 ^ 31) : nI n &&& nI 1 = nI (n % 2) := pk_andN (show n < 2 ^ 32 by omega) 1 (by decide)
section BDR
variable {p : Program} {l : Launch} {e : Env} {R : Room} {s : State} {m : MethodId} {args : Array Value} {below : List Frame} {meth : Method} {c : Code} {H : Heap} {locs : List Loc} {cells slots : Nat} {Q : State → Prop}
variable {cc : ByteArray} {pc : Nat} {ls : Array Slot} {rest : List Value}
theorem bd_i {x y : Int32} (h : x = y) (k : W p l e R s m args below meth c H locs cells slots Q (F0 m pc ls (.int y :: rest))) : W p l e R s m args below meth c H locs cells slots Q (F0 m pc ls (.int x :: rest)) := by
  rw [h]; exact k
theorem bd_l {x y : Int64} (h : x = y) (k : W p l e R s m args below meth c H locs cells slots Q (F0 m pc ls (.long y :: rest))) : W p l e R s m args below meth c H locs cells slots Q (F0 m pc ls (.long x :: rest)) := by
  rw [h]; exact k
theorem bd_ge {a b : Nat} (hexec : p.tables.exec = Jvm.exec) (hb : c.code = cc) {off : Int} {tgt : Nat} (hdg : decode cc pc = .ok (.if_icmp .ge off, 3)) (ht : (pc : Int) + off = (tgt : Int)) (h1 : a < 2 ^ 31) (h2 : b < 2 ^ 31)
    (kt : b ≤ a → W p l e R s m args below meth c H locs cells slots Q (F0 m tgt ls rest)) (kf : a < b → W p l e R s m args below meth c H locs cells slots Q (F0 m (pc + 3) ls rest)) : W p l e R s m args below meth c H locs cells slots Q (F0 m pc ls (.int (nI b) :: .int (nI a) :: rest)) :=
  lv_icmp_ge hexec hb hdg ht (fun h => kt ((nI_leI h2 h1).mp h)) (fun h => kf (Nat.lt_of_not_le fun q => h ((nI_leI h2 h1).mpr q)))
theorem bd_ne {a b : Nat} (hexec : p.tables.exec = Jvm.exec) (hb : c.code = cc) {off : Int} {tgt : Nat} (hdg : decode cc pc = .ok (.if_icmp .ne off, 3)) (ht : (pc : Int) + off = (tgt : Int)) (h1 : a < 2 ^ 31) (h2 : b < 2 ^ 31)
    (kt : ¬ a = b → W p l e R s m args below meth c H locs cells slots Q (F0 m tgt ls rest)) (kf : a = b → W p l e R s m args below meth c H locs cells slots Q (F0 m (pc + 3) ls rest)) : W p l e R s m args below meth c H locs cells slots Q (F0 m pc ls (.int (nI b) :: .int (nI a) :: rest)) :=
  lv_icmp_ne hexec hb hdg ht (fun h => kt (fun q => h ((nI_eq h1 h2).mpr q))) (fun h => kf ((nI_eq h1 h2).mp h))
theorem bd_ifle {a : Nat} (hexec : p.tables.exec = Jvm.exec) (hb : c.code = cc) {off : Int} {tgt : Nat} (hdg : decode cc pc = .ok (.ifCond .le off, 3)) (ht : (pc : Int) + off = (tgt : Int)) (h1 : a < 2 ^ 31)
    (kt : a = 0 → W p l e R s m args below meth c H locs cells slots Q (F0 m tgt ls rest)) (kf : 0 < a → W p l e R s m args below meth c H locs cells slots Q (F0 m (pc + 3) ls rest)) : W p l e R s m args below meth c H locs cells slots Q (F0 m pc ls (.int (nI a) :: rest)) :=
  lv_if_le hexec hb hdg ht (fun h => kt (by
    rcases Nat.eq_zero_or_pos a with q | q
    · exact q
    · exact absurd h (nI_nle q h1))) (fun h => kf (Nat.pos_of_ne_zero fun q => h (by rw [q]; decide)))
theorem bd_ifne {a : Nat} (hexec : p.tables.exec = Jvm.exec) (hb : c.code = cc) {off : Int} {tgt : Nat} (hdg : decode cc pc = .ok (.ifCond .ne off, 3)) (ht : (pc : Int) + off = (tgt : Int)) (h1 : a < 2 ^ 31)
    (kt : ¬ a = 0 → W p l e R s m args below meth c H locs cells slots Q (F0 m tgt ls rest)) (kf : a = 0 → W p l e R s m args below meth c H locs cells slots Q (F0 m (pc + 3) ls rest)) : W p l e R s m args below meth c H locs cells slots Q (F0 m pc ls (.int (nI a) :: rest)) :=
  lv_if_ne hexec hb hdg ht (fun h => kt (fun q => h (by rw [q]; decide))) (fun h => kf (by
    rcases Nat.eq_zero_or_pos a with q | q
    · exact q
    · exact absurd h (nI_ne0 q h1)))
theorem bd_ifeqB {b : Bool} (hexec : p.tables.exec = Jvm.exec) (hb : c.code = cc) {off : Int} {tgt : Nat} (hdg : decode cc pc = .ok (.ifCond .eq off, 3)) (ht : (pc : Int) + off = (tgt : Int))
    (kt : b = false → W p l e R s m args below meth c H locs cells slots Q (F0 m tgt ls rest)) (kf : b = true → W p l e R s m args below meth c H locs cells slots Q (F0 m (pc + 3) ls rest)) : W p l e R s m args below meth c H locs cells slots Q (F0 m pc ls (.int (bI b) :: rest)) :=
  lv_if_eq hexec hb hdg ht (fun h => kt (bI_0.mp h)) (fun h => kf (by
    cases b
    · exact absurd rfl h
    · rfl))
theorem bd_ifneB {b : Bool} (hexec : p.tables.exec = Jvm.exec) (hb : c.code = cc) {off : Int} {tgt : Nat} (hdg : decode cc pc = .ok (.ifCond .ne off, 3)) (ht : (pc : Int) + off = (tgt : Int))
    (kt : b = true → W p l e R s m args below meth c H locs cells slots Q (F0 m tgt ls rest)) (kf : b = false → W p l e R s m args below meth c H locs cells slots Q (F0 m (pc + 3) ls rest)) : W p l e R s m args below meth c H locs cells slots Q (F0 m pc ls (.int (bI b) :: rest)) :=
  lv_if_ne hexec hb hdg ht (fun h => kt (by
    cases b
    · exact absurd rfl h
    · rfl)) (fun h => kf (bI_0.mp h))
end BDR
/-- what a call of BeadDesk leaves -/
abbrev BX0 (dC : Nat → ClassId) (dI : Nat → Nat → Nat) (A : Nat → Prop) (h0 n k : Nat) (_ : Unit) (t : State) : Prop :=
  va_P (dC, dI) vwCl [(h0, .inr (0, [.int (nI n), .int (nI k)]))] t.heap ∧ va_K (dC, dI) vwCl [] t ∧ va_D A [(h0, .inr (0, [.int (nI n), .int (nI k)]))]
/-- what a call of BeadDeskModel leaves: the array f too -/
abbrev BX1 (dC : Nat → ClassId) (dI : Nat → Nat → Nat) (A : Nat → Prop) (h0 h1 : Nat) (cA : ClassId) (n k : Nat) (kn : Int32) (v3 v4 v5 v6 : Int64) (f : Nat → Int32) (t : State) : Prop :=
  va_P (dC, dI) vwCl [(h0, .inr (1, [.int (nI n), .int (nI k), .int kn, .long v3, .long v4, .long v5, .long v6, .ref h1])), (h1, .inl (cA, 9, .inl f))] t.heap ∧ va_K (dC, dI) vwCl [(cA, .int)] t ∧ va_D A [(h0, .inr (1, [.int (nI n), .int (nI k), .int kn, .long v3, .long v4, .long v5, .long v6, .ref h1])), (h1, .inl (cA, 9, .inl f))]
abbrev wsX0_init : List Cond := ws_ yX0_init cX0_init 1 none
abbrev wsX0_ring : List Cond := ws_ yX0_ring cX0_ring 3 none
abbrev wsX0_divisor : List Cond := ws_ yX0_divisor cX0_divisor 5 (some .int)
abbrev wsX0_power : List Cond := ws_ yX0_power cX0_power 5 (some .long)
abbrev wsX0_turns : List Cond := ws_ yX0_turns cX0_turns 4 (some .long)
abbrev wsX0_lines : List Cond := ws_ yX0_lines cX0_lines 4 (some .long)
abbrev wsX0_turned : List Cond := ws_ yX0_turned cX0_turned 1 (some .long)
abbrev wsX0_over : List Cond := ws_ yX0_over cX0_over 1 (some .long)
abbrev wsX0_own : List Cond := ws_ yX0_own cX0_own 5 (some .long)
abbrev wsX0_whole : List Cond := ws_ yX0_whole cX0_whole 2 (some .long)
abbrev wsX0_unlike : List Cond := ws_ yX0_unlike cX0_unlike 1 (some .long)
abbrev wsX0_mirrors : List Cond := ws_ yX0_mirrors cX0_mirrors 1 (some .long)
abbrev wsX0_rows : List Cond := ws_ yX0_rows cX0_rows 1 (some .long)
abbrev wsX1_init : List Cond := ws_ yX1_init cX1_init 1 none
abbrev wsX1_ring : List Cond := ws_ yX1_ring cX1_ring 3 none
abbrev wsX1_reckon : List Cond := ws_ yX1_reckon cX1_reckon 12 none
abbrev wsX1_turned : List Cond := ws_ yX1_turned cX1_turned 1 (some .long)
abbrev wsX1_over : List Cond := ws_ yX1_over cX1_over 1 (some .long)
abbrev wsX1_unlike : List Cond := ws_ yX1_unlike cX1_unlike 1 (some .long)
abbrev wsX1_mirrors : List Cond := ws_ yX1_mirrors cX1_mirrors 1 (some .long)
abbrev wsX1_rows : List Cond := ws_ yX1_rows cX1_rows 4 (some .long)
end
section
/-! BeadDesk: the contracts of its methods. The object at h0 holds n beads, k colours -/
theorem bd_lne {n : Nat} (h0 : 0 < n) (h : n < 2 ^ 31) : ¬ lN n = 0 := fun q => by
  have h2 := (lN_eq h (show 0 < 2 ^ 31 by decide)).mp (show lN n = lN 0 from q)
  omega
theorem bd_ow_y {n k i : Nat} (h : n % (i + 1) = 0) : bd_ow n k i - bd_wh k (i + 1) = bd_ow n k (i + 1) := (if_pos h).symm
theorem bd_ow_n {n k i : Nat} (h : ¬ n % (i + 1) = 0) : bd_ow n k (i + 1) = bd_ow n k i := if_neg h
theorem bd_ad_le (n i : Nat) : bd_ad n i ≤ 2 := by
  unfold bd_ad
  split
  · omega
  · split <;> omega
theorem bd_gcd_le {n : Nat} (h : 0 < n) (i : Nat) : Nat.gcd n i ≤ n := Nat.le_of_dvd h (Nat.gcd_dvd_left n i)
set_option maxHeartbeats 4000000 in
set_option maxRecDepth 100000 in
/-- BeadDesk(): 4 beads, 2 colours -/
theorem metX0_init (l : Launch) (dC : Nat → ClassId) (dI : Nat → Nat → Nat) (h0 sz : Nat) : Met l yX0_init wsX0_init ({ frames := 1, cells := 0, slots := 0, locals := 12 }) (va_Pc [.ref h0] (fun U => U.heap.size = sz ∧ va_P (dC, dI) vwCl [(h0, .inr (0, [.int 0, .int 0]))] U.heap ∧ va_K (dC, dI) vwCl [] U ∧ va_D (fun _ => True) [(h0, .inr (0, [.int 0, .int 0]))])) (va_Qv (fun _ : Unit => True) (BX0 dC dI (va_A [(h0, .inr (0, [.int 0, .int 0]))] sz) h0 4 2) (va_A [(h0, .inr (0, [.int 0, .int 0]))] sz)) 0 0 (va_A [(h0, .inr (0, [.int 0, .int 0]))] sz) := by
  refine Met.ofW (cc := cX0_init) (maxL := 1) (ret := none) (by decide) rfl ?_
  intro p e s m args below meth c s₁ B hml hv
  obtain ⟨rfl, hsz, hP, hK, hD0⟩ := hv
  have hx := B.exec
  have hb := B.bytes
  have hr := B.returns
  have hts := atoms_spec (ws := wsX0_init) B.pre
  have hts : ∀ w ∈ lw_all, w.before _ s = true := fun w h => hts w (List.mem_cons_of_mem _ h)
  have hown : s.vm.findClass RX0 = some m.cls := findClass_of_methodNamed B.named
  have hlocks := B.notSynchronized
  have hin : meth.name = "<init>" := (name_of_methodNamed B.named B.method).1
  subst hsz
  have hD := hD0.self (sz := s.heap.size)
  generalize hAe : va_A [(h0, .inr (0, [.int 0, .int 0]))] s.heap.size = A at hD ⊢
  have hA : ∀ q : Nat, s.heap.size ≤ q → A q := fun q h => by rw [← hAe]; exact Or.inr h
  have hS : va_S A s.heap s.heap [] := va_S.rf
  have hP : va_P (dC, dI) vwCl [(h0, .inr (0, [.int 0, .int 0]))] s.heap := hP
  have hl := lv_entry ([.ref h0]) (n := 1) (Nat.le_of_ble_eq_true rfl)
  rw [lg_entry_eq]
  generalize (lg_sl ([.ref h0]) ++ List.replicate (1 - (lg_sl ([.ref h0])).length) Slot.unset).toArray = ls at hl ⊢
  have hl : lv_has ls 1 [(0, .ref h0)] := hl
  refine lv_aload_n hx hb dX0_init_0 rfl (lv_at hl 0 rfl) ?_
  refine W.objInit hx hb hown (hts _ q14) (hts _ q15) (hts _ q16) rfl (by rw [hml]; exact hl.1) rfl dX0_init_1 (Nat.le_of_ble_eq_true rfl) (Nat.le_of_ble_eq_true rfl) ?_
  refine W.eq (g2 := F0 m 4 ls []) rfl ?_
  refine lv_aload_n hx hb dX0_init_4 rfl (lv_at hl 0 rfl) ?_
  refine lv_iconst (v := nI 4) hx hb dX0_init_5 (by decide) ?_
  refine va_put (D := (dC, dI)) (ci := 0) (v := .int (nI 4)) (ty := .int) (C := RX0) (T := TX0) (N := 2) hx hb hts in_X0 tyX0 tyX0_ok nmX0 hown hK hP hD hS 0 rfl rfl 0 (by decide) (hts _ q17) (fun _ h9 => h9) rfl (by decide +kernel) rfl rfl (Nat.le_of_ble_eq_true rfl) dX0_init_6 (fun H locs hP hD hS => ?_)
  have hP : va_P (dC, dI) vwCl [(h0, .inr (0, [.int (nI 4), .int 0]))] H := hP
  have hD : va_D A [(h0, .inr (0, [.int (nI 4), .int 0]))] := hD
  refine lv_aload_n hx hb dX0_init_9 rfl (lv_at hl 0 rfl) ?_
  refine lv_iconst (v := nI 2) hx hb dX0_init_10 (by decide) ?_
  refine va_put (D := (dC, dI)) (ci := 0) (v := .int (nI 2)) (ty := .int) (C := RX0) (T := TX0) (N := 2) hx hb hts in_X0 tyX0 tyX0_ok nmX0 hown hK hP hD hS 0 rfl rfl 1 (by decide) (hts _ q18) (fun _ h9 => h9) rfl (by decide +kernel) rfl rfl (Nat.le_of_ble_eq_true rfl) dX0_init_11 (fun H locs hP hD hS => ?_)
  have hP : va_P (dC, dI) vwCl [(h0, .inr (0, [.int (nI 4), .int (nI 2)]))] H := hP
  have hD : va_D A [(h0, .inr (0, [.int (nI 4), .int (nI 2)]))] := hD
  have hP9 := hP.sub (ws' := [(h0, .inr (0, [.int (nI 4), .int (nI 2)]))]) [0] rfl
  have hD9 := hD.sub (ws' := [(h0, .inr (0, [.int (nI 4), .int (nI 2)]))]) [0] (by decide) rfl
  exact W.vret hx hb hr (fun t ht hW => ⟨⟨(), rfl, trivial, by rw [ht]; exact hP9, va_K.moved hW.alike hK, hD9⟩, hS.F ht⟩) hS.2.2 dX0_init_14
set_option maxHeartbeats 4000000 in
set_option maxRecDepth 100000 in
/-- ring(a, b) -/
theorem metX0_ring (l : Launch) (dC : Nat → ClassId) (dI : Nat → Nat → Nat) (h0 sz n k : Nat) (a b : Int32) : Met l yX0_ring wsX0_ring ({ frames := 0, cells := 0, slots := 0, locals := 0 }) (va_Pc [.ref h0, .int a, .int b] (fun U => U.heap.size = sz ∧ va_P (dC, dI) vwCl [(h0, .inr (0, [.int (nI n), .int (nI k)]))] U.heap ∧ va_K (dC, dI) vwCl [] U ∧ va_D (fun _ => True) [(h0, .inr (0, [.int (nI n), .int (nI k)]))])) (va_Qv (fun _ : Unit => True) (BX0 dC dI (va_A [(h0, .inr (0, [.int (nI n), .int (nI k)]))] sz) h0 (bd_n a) (bd_k b)) (va_A [(h0, .inr (0, [.int (nI n), .int (nI k)]))] sz)) 0 0 (va_A [(h0, .inr (0, [.int (nI n), .int (nI k)]))] sz) := by
  refine Met.ofW (cc := cX0_ring) (maxL := 3) (ret := none) (by decide) rfl ?_
  intro p e s m args below meth c s₁ B hml hv
  obtain ⟨rfl, hsz, hP, hK, hD0⟩ := hv
  have hx := B.exec
  have hb := B.bytes
  have hr := B.returns
  have hts := atoms_spec (ws := wsX0_ring) B.pre
  have hts : ∀ w ∈ lw_all, w.before _ s = true := fun w h => hts w (List.mem_cons_of_mem _ h)
  have hown : s.vm.findClass RX0 = some m.cls := findClass_of_methodNamed B.named
  have hlocks := B.notSynchronized
  subst hsz
  have hD := hD0.self (sz := s.heap.size)
  generalize hAe : va_A [(h0, .inr (0, [.int (nI n), .int (nI k)]))] s.heap.size = A at hD ⊢
  have hA : ∀ q : Nat, s.heap.size ≤ q → A q := fun q h => by rw [← hAe]; exact Or.inr h
  have hS : va_S A s.heap s.heap [] := va_S.rf
  have hP : va_P (dC, dI) vwCl [(h0, .inr (0, [.int (nI n), .int (nI k)]))] s.heap := hP
  have hl := lv_entry ([.ref h0, .int a, .int b]) (n := 3) (Nat.le_of_ble_eq_true rfl)
  rw [lg_entry_eq]
  generalize (lg_sl ([.ref h0, .int a, .int b]) ++ List.replicate (3 - (lg_sl ([.ref h0, .int a, .int b])).length) Slot.unset).toArray = ls at hl ⊢
  have hl : lv_has ls 3 [(0, .ref h0), (1, .int a), (2, .int b)] := hl
  refine lv_aload_n hx hb dX0_ring_0 rfl (lv_at hl 0 rfl) ?_
  refine lv_iconst (v := nI 1) hx hb dX0_ring_1 (by decide) ?_
  refine lv_iload_n hx hb dX0_ring_2 rfl (lv_at hl 1 rfl) ?_
  refine lv_ldc hx hb hown (hts _ q28) dX0_ring_3 ?_
  refine lv_iand hx hb dX0_ring_5 ?_
  refine bd_i (y := nI (a.toBitVec.toNat % 2 ^ 31)) (pk_and a 31 (by decide +kernel)) ?_
  refine lv_bipush (v := nI 8) hx hb dX0_ring_6 (by decide) ?_
  refine lv_irem hx hb dX0_ring_8 (by decide) ?_
  refine bd_i (y := nI ((a.toBitVec.toNat % 2 ^ 31) % 8)) (pk_rem (Nat.mod_lt _ (by decide)) (by decide) (by decide)) ?_
  refine lv_iadd hx hb dX0_ring_9 ?_
  refine bd_i (y := nI (bd_n a)) (nI_add 1 _) ?_
  refine va_put (D := (dC, dI)) (ci := 0) (v := .int (nI (bd_n a))) (ty := .int) (C := RX0) (T := TX0) (N := 2) hx hb hts in_X0 tyX0 tyX0_ok nmX0 hown hK hP hD hS 0 rfl rfl 0 (by decide) (hts _ q17) (fun _ h9 => h9) rfl (by decide +kernel) rfl rfl (Nat.le_of_ble_eq_true rfl) dX0_ring_10 (fun H locs hP hD hS => ?_)
  have hP : va_P (dC, dI) vwCl [(h0, .inr (0, [.int (nI (bd_n a)), .int (nI k)]))] H := hP
  have hD : va_D A [(h0, .inr (0, [.int (nI (bd_n a)), .int (nI k)]))] := hD
  refine lv_aload_n hx hb dX0_ring_13 rfl (lv_at hl 0 rfl) ?_
  refine lv_iconst (v := nI 1) hx hb dX0_ring_14 (by decide) ?_
  refine lv_iload_n hx hb dX0_ring_15 rfl (lv_at hl 2 rfl) ?_
  refine lv_ldc hx hb hown (hts _ q28) dX0_ring_16 ?_
  refine lv_iand hx hb dX0_ring_18 ?_
  refine bd_i (y := nI (b.toBitVec.toNat % 2 ^ 31)) (pk_and b 31 (by decide +kernel)) ?_
  refine lv_iconst (v := nI 3) hx hb dX0_ring_19 (by decide) ?_
  refine lv_irem hx hb dX0_ring_20 (by decide) ?_
  refine bd_i (y := nI ((b.toBitVec.toNat % 2 ^ 31) % 3)) (pk_rem (Nat.mod_lt _ (by decide)) (by decide) (by decide)) ?_
  refine lv_iadd hx hb dX0_ring_21 ?_
  refine bd_i (y := nI (bd_k b)) (nI_add 1 _) ?_
  refine va_put (D := (dC, dI)) (ci := 0) (v := .int (nI (bd_k b))) (ty := .int) (C := RX0) (T := TX0) (N := 2) hx hb hts in_X0 tyX0 tyX0_ok nmX0 hown hK hP hD hS 0 rfl rfl 1 (by decide) (hts _ q18) (fun _ h9 => h9) rfl (by decide +kernel) rfl rfl (Nat.le_of_ble_eq_true rfl) dX0_ring_22 (fun H locs hP hD hS => ?_)
  have hP : va_P (dC, dI) vwCl [(h0, .inr (0, [.int (nI (bd_n a)), .int (nI (bd_k b))]))] H := hP
  have hD : va_D A [(h0, .inr (0, [.int (nI (bd_n a)), .int (nI (bd_k b))]))] := hD
  have hP9 := hP.sub (ws' := [(h0, .inr (0, [.int (nI (bd_n a)), .int (nI (bd_k b))]))]) [0] rfl
  have hD9 := hD.sub (ws' := [(h0, .inr (0, [.int (nI (bd_n a)), .int (nI (bd_k b))]))]) [0] (by decide) rfl
  exact W.vret hx hb hr (fun t ht hW => ⟨⟨(), rfl, trivial, by rw [ht]; exact hP9, va_K.moved hW.alike hK, hD9⟩, hS.F ht⟩) hS.2.2 dX0_ring_25
set_option maxHeartbeats 4000000 in
/-- divisor's loop -/
theorem bd_dv_loop {p : Program} {l : Launch} {e : Env} {R : Room} {s : State} {m : MethodId} {args : Array Value} {below : List Frame} {meth : Method} {c : Code} {cells slots : Nat} {Q : State → Prop} {H : Heap} {locs : List Loc} (hx : p.tables.exec = Jvm.exec) (hb : c.code = cX0_divisor) {G : Nat} (K : ∀ ls : Array Slot, lv_has ls 5 [(2, .int (nI G))] → W p l e R s m args below meth c H locs cells slots Q (F0 m 21 ls [])) :
    ∀ (j x y : Nat), y < j → x < 2 ^ 31 → y < 2 ^ 31 → Nat.gcd y x = G → ∀ ls : Array Slot, lv_has ls 5 [(2, .int (nI x)), (3, .int (nI y))] → W p l e R s m args below meth c H locs cells slots Q (F0 m 4 ls []) := by
  intro j
  induction j with
  | zero =>
    intro x y h
    exact absurd h (Nat.not_lt_zero _)
  | succ j ih =>
    intro x y hj hxb hyb hg ls hl
    refine lv_iload_n hx hb dX0_divisor_4 rfl (lv_at hl 1 rfl) ?_
    refine bd_ifle (tgt := 21) hx hb dX0_divisor_5 (by decide) hyb (fun c_5 => ?_) (fun c_5 => ?_)
    · subst c_5
      rw [Nat.gcd_zero_left] at hg
      subst hg
      exact K ls (lv_sub hl [0] rfl)
    · refine lv_iload_n hx hb dX0_divisor_8 rfl (lv_at hl 0 rfl) ?_
      refine lv_iload_n hx hb dX0_divisor_9 rfl (lv_at hl 1 rfl) ?_
      refine lv_irem hx hb dX0_divisor_10 (nI_ne0 c_5 hyb) ?_
      refine bd_i (y := nI (x % y)) (pk_rem (hxb) (c_5) (hyb)) ?_
      refine lv_istore (lv' := [(4, .int (nI (x % y))), (2, .int (nI x)), (3, .int (nI y))]) hx hb dX0_divisor_11 hl (by decide) rfl (fun ls hl => ?_)
      refine lv_iload_n hx hb dX0_divisor_13 rfl (lv_at hl 2 rfl) ?_
      refine lv_istore_n (lv' := [(2, .int (nI y)), (4, .int (nI (x % y))), (3, .int (nI y))]) hx hb dX0_divisor_14 rfl hl (by decide) rfl (fun ls hl => ?_)
      refine lv_iload hx hb dX0_divisor_15 (lv_at hl 1 rfl) ?_
      refine lv_istore_n (lv' := [(3, .int (nI (x % y))), (2, .int (nI y)), (4, .int (nI (x % y)))]) hx hb dX0_divisor_17 rfl hl (by decide) rfl (fun ls hl => ?_)
      refine lv_goto (tgt := 4) hx hb dX0_divisor_18 (by decide) ?_
      exact ih y (x % y) (by have h := Nat.mod_lt x c_5; omega) hyb (by have h := Nat.mod_lt x c_5; omega) (by rw [← hg, Nat.gcd_rec y x]) ls (lv_sub hl [1, 0] rfl)
set_option maxHeartbeats 4000000 in
set_option maxRecDepth 100000 in
/-- divisor(a, b) -/
theorem metX0_divisor (l : Launch) (dC : Nat → ClassId) (dI : Nat → Nat → Nat) (sz a b : Nat) (ha : a < 2 ^ 31) (hb2 : b < 2 ^ 31) : Met l yX0_divisor wsX0_divisor ({ frames := 0, cells := 0, slots := 0, locals := 0 }) (va_Pc [.int (nI a), .int (nI b)] (fun U => U.heap.size = sz ∧ va_P (dC, dI) vwCl [] U.heap ∧ va_K (dC, dI) vwCl [] U ∧ va_D (fun _ => True) [])) (va_Qi (fun (r : Int32) (_ : Unit) => r = nI (Nat.gcd b a)) (fun (_ : Unit) t => va_P (dC, dI) vwCl [] t.heap ∧ va_K (dC, dI) vwCl [] t ∧ va_D (va_A [] sz) []) (va_A [] sz)) 0 0 (va_A [] sz) := by
  refine Met.ofW (cc := cX0_divisor) (maxL := 5) (ret := (some .int)) (by decide) rfl ?_
  intro p e s m args below meth c s₁ B hml hv
  obtain ⟨rfl, hsz, hP, hK, hD0⟩ := hv
  have hx := B.exec
  have hb := B.bytes
  have hr := B.returns
  have hts := atoms_spec (ws := wsX0_divisor) B.pre
  have hts : ∀ w ∈ lw_all, w.before _ s = true := fun w h => hts w (List.mem_cons_of_mem _ h)
  have hown : s.vm.findClass RX0 = some m.cls := findClass_of_methodNamed B.named
  have hlocks := B.notSynchronized
  subst hsz
  have hD := hD0.self (sz := s.heap.size)
  generalize hAe : va_A [] s.heap.size = A at hD ⊢
  have hA : ∀ q : Nat, s.heap.size ≤ q → A q := fun q h => by rw [← hAe]; exact Or.inr h
  have hS : va_S A s.heap s.heap [] := va_S.rf
  have hP : va_P (dC, dI) vwCl [] s.heap := hP
  have hl := lv_entry ([.int (nI a), .int (nI b)]) (n := 5) (Nat.le_of_ble_eq_true rfl)
  rw [lg_entry_eq]
  generalize (lg_sl ([.int (nI a), .int (nI b)]) ++ List.replicate (5 - (lg_sl ([.int (nI a), .int (nI b)])).length) Slot.unset).toArray = ls at hl ⊢
  have hl : lv_has ls 5 [(0, .int (nI a)), (1, .int (nI b))] := hl
  refine lv_iload_n hx hb dX0_divisor_0 rfl (lv_at hl 0 rfl) ?_
  refine lv_istore_n (lv' := [(2, .int (nI a)), (0, .int (nI a)), (1, .int (nI b))]) hx hb dX0_divisor_1 rfl hl (by decide) rfl (fun ls hl => ?_)
  refine lv_iload_n hx hb dX0_divisor_2 rfl (lv_at hl 2 rfl) ?_
  refine lv_istore_n (lv' := [(3, .int (nI b)), (2, .int (nI a)), (0, .int (nI a)), (1, .int (nI b))]) hx hb dX0_divisor_3 rfl hl (by decide) rfl (fun ls hl => ?_)
  refine bd_dv_loop hx hb (G := Nat.gcd b a) (fun ls hl => ?_) (b + 1) a b (Nat.lt_succ_self b) ha hb2 rfl ls (lv_sub hl [1, 0] rfl)
  refine lv_iload_n hx hb dX0_divisor_21 rfl (lv_at hl 0 rfl) ?_
  have hP9 := hP.sub (ws' := []) [] rfl
  have hD9 := hD.sub (ws' := []) [] (by decide) rfl
  exact W.iret (v := nI (Nat.gcd b a)) hx hb hr (fun t ht hW => ⟨⟨nI (Nat.gcd b a), (), rfl, rfl, by rw [ht]; exact hP9, va_K.moved hW.alike hK, hD9⟩, hS.F ht⟩) hS.2.2 dX0_divisor_22
set_option maxHeartbeats 4000000 in
/-- power's loop -/
theorem bd_pw_loop {p : Program} {l : Launch} {e : Env} {R : Room} {s : State} {m : MethodId} {args : Array Value} {below : List Frame} {meth : Method} {c : Code} {cells slots : Nat} {Q : State → Prop} {dC : Nat → ClassId} {dI : Nat → Nat → Nat} {H : Heap} {locs : List Loc} (hx : p.tables.exec = Jvm.exec) (hb : c.code = cX0_power) (hown : s.vm.findClass RX0 = some m.cls) (hts : ∀ w ∈ lw_all, w.before args s = true) (hK : va_K (dC, dI) vwCl [] s) {h0 n k M : Nat} (hM : M < 2 ^ 31) (hk : k < 2 ^ 31) (hP : va_P (dC, dI) vwCl [(h0, .inr (0, [.int (nI n), .int (nI k)]))] H) (K : ∀ ls : Array Slot, lv_has ls 5 [(2, .long (lN (k ^ M)))] → W p l e R s m args below meth c H locs cells slots Q (F0 m 25 ls [])) :
    ∀ (j i : Nat), i ≤ M → M < i + j → ∀ ls : Array Slot, lv_has ls 5 [(0, .ref h0), (1, .int (nI M)), (2, .long (lN (k ^ i))), (4, .int (nI i))] → W p l e R s m args below meth c H locs cells slots Q (F0 m 5 ls []) := by
  intro j
  induction j with
  | zero =>
    intro i h1 h2
    exact absurd h2 (by omega)
  | succ j ih =>
    intro i h1 h2 ls hl
    refine lv_iload hx hb dX0_power_5 (lv_at hl 3 rfl) ?_
    refine lv_iload_n hx hb dX0_power_7 rfl (lv_at hl 1 rfl) ?_
    refine bd_ge (tgt := 25) hx hb dX0_power_8 (by decide) (by omega) hM (fun c_8 => ?_) (fun c_8 => ?_)
    · have e1 : i = M := Nat.le_antisymm h1 c_8
      subst e1
      exact K ls (lv_sub hl [2] rfl)
    · refine lv_lload_n hx hb dX0_power_11 rfl (lv_at hl 2 rfl) ?_
      refine lv_aload_n hx hb dX0_power_12 rfl (lv_at hl 0 rfl) ?_
      refine va_get (D := (dC, dI)) (ci := 0) (v := .int (nI k)) (C := RX0) (T := TX0) (N := 2) hx hb hts in_X0 hown hK hP 0 rfl rfl 1 (by decide) (hts _ q18) (fun _ h9 => h9) rfl dX0_power_13 ?_
      refine lv_i2l (v := lN k) hx hb dX0_power_16 (nI_l (hk)) ?_
      refine lv_lmul hx hb dX0_power_17 ?_
      refine bd_l (y := lN (k ^ (i + 1))) (lN_mul _ _) ?_
      refine lv_lstore_n (lv' := [(2, .long (lN (k ^ (i + 1)))), (0, .ref h0), (1, .int (nI M)), (4, .int (nI i))]) hx hb dX0_power_18 rfl hl (by decide) rfl (fun ls hl => ?_)
      refine lv_iinc (v := nI (i + 1)) (lv' := [(4, .int (nI (i + 1))), (2, .long (lN (k ^ (i + 1)))), (0, .ref h0), (1, .int (nI M))]) hx hb dX0_power_19 hl (k := 3) rfl (nI_1 i) (by decide) rfl (fun ls hl => ?_)
      refine lv_goto (tgt := 5) hx hb dX0_power_22 (by decide) ?_
      exact ih (i + 1) c_8 (by omega) ls (lv_sub hl [2, 3, 1, 0] rfl)
set_option maxHeartbeats 4000000 in
set_option maxRecDepth 100000 in
/-- power(M) -/
theorem metX0_power (l : Launch) (dC : Nat → ClassId) (dI : Nat → Nat → Nat) (h0 sz n k M : Nat) (hM : M < 2 ^ 31) (hk : k < 2 ^ 31) : Met l yX0_power wsX0_power ({ frames := 0, cells := 0, slots := 0, locals := 0 }) (va_Pc [.ref h0, .int (nI M)] (fun U => U.heap.size = sz ∧ va_P (dC, dI) vwCl [(h0, .inr (0, [.int (nI n), .int (nI k)]))] U.heap ∧ va_K (dC, dI) vwCl [] U ∧ va_D (fun _ => True) [(h0, .inr (0, [.int (nI n), .int (nI k)]))])) (va_Ql (fun (r : Int64) (_ : Unit) => r = lN (k ^ M)) (BX0 dC dI (va_A [(h0, .inr (0, [.int (nI n), .int (nI k)]))] sz) h0 n k) (va_A [(h0, .inr (0, [.int (nI n), .int (nI k)]))] sz)) 0 0 (va_A [(h0, .inr (0, [.int (nI n), .int (nI k)]))] sz) := by
  refine Met.ofW (cc := cX0_power) (maxL := 5) (ret := (some .long)) (by decide) rfl ?_
  intro p e s m args below meth c s₁ B hml hv
  obtain ⟨rfl, hsz, hP, hK, hD0⟩ := hv
  have hx := B.exec
  have hb := B.bytes
  have hr := B.returns
  have hts := atoms_spec (ws := wsX0_power) B.pre
  have hts : ∀ w ∈ lw_all, w.before _ s = true := fun w h => hts w (List.mem_cons_of_mem _ h)
  have hown : s.vm.findClass RX0 = some m.cls := findClass_of_methodNamed B.named
  have hlocks := B.notSynchronized
  subst hsz
  have hD := hD0.self (sz := s.heap.size)
  generalize hAe : va_A [(h0, .inr (0, [.int (nI n), .int (nI k)]))] s.heap.size = A at hD ⊢
  have hA : ∀ q : Nat, s.heap.size ≤ q → A q := fun q h => by rw [← hAe]; exact Or.inr h
  have hS : va_S A s.heap s.heap [] := va_S.rf
  have hP : va_P (dC, dI) vwCl [(h0, .inr (0, [.int (nI n), .int (nI k)]))] s.heap := hP
  have hl := lv_entry ([.ref h0, .int (nI M)]) (n := 5) (Nat.le_of_ble_eq_true rfl)
  rw [lg_entry_eq]
  generalize (lg_sl ([.ref h0, .int (nI M)]) ++ List.replicate (5 - (lg_sl ([.ref h0, .int (nI M)])).length) Slot.unset).toArray = ls at hl ⊢
  have hl : lv_has ls 5 [(0, .ref h0), (1, .int (nI M))] := hl
  refine lv_lconst (v := lN (k ^ 0)) hx hb dX0_power_0 (rfl) ?_
  refine lv_lstore_n (lv' := [(2, .long (lN (k ^ 0))), (0, .ref h0), (1, .int (nI M))]) hx hb dX0_power_1 rfl hl (by decide) rfl (fun ls hl => ?_)
  refine lv_iconst (v := nI 0) hx hb dX0_power_2 (by decide) ?_
  refine lv_istore (lv' := [(4, .int (nI 0)), (2, .long (lN (k ^ 0))), (0, .ref h0), (1, .int (nI M))]) hx hb dX0_power_3 hl (by decide) rfl (fun ls hl => ?_)
  refine bd_pw_loop hx hb hown hts hK hM hk hP (fun ls hl => ?_) (M + 1) 0 (Nat.zero_le M) (by omega) ls (lv_sub hl [2, 3, 1, 0] rfl)
  refine lv_lload_n hx hb dX0_power_25 rfl (lv_at hl 0 rfl) ?_
  have hP9 := hP.sub (ws' := [(h0, .inr (0, [.int (nI n), .int (nI k)]))]) [0] rfl
  have hD9 := hD.sub (ws' := [(h0, .inr (0, [.int (nI n), .int (nI k)]))]) [0] (by decide) rfl
  exact W.lret (v := lN (k ^ M)) hx hb hr (fun t ht hW => ⟨⟨lN (k ^ M), (), rfl, rfl, by rw [ht]; exact hP9, va_K.moved hW.alike hK, hD9⟩, hS.F ht⟩) hS.2.2 dX0_power_26
set_option maxHeartbeats 4000000 in
set_option maxRecDepth 100000 in
/-- turns' loop -/
theorem bd_ts_loop {p : Program} {l : Launch} {e : Env} {s : State} {m : MethodId} {args : Array Value} {below : List Frame} {meth : Method} {c : Code} {Q : State → Prop} {dC : Nat → ClassId} {dI : Nat → Nat → Nat} {A : Nat → Prop} (hx : p.tables.exec = Jvm.exec) (hb : c.code = cX0_turns) (hml : c.maxLocals = 4) (hown : s.vm.findClass RX0 = some m.cls) (hts : ∀ w ∈ lw_all, w.before args s = true) (hA : ∀ q : Nat, s.heap.size ≤ q → A q) (hK : va_K (dC, dI) vwCl [] s) {h0 n k : Nat} (hn : 1 ≤ n ∧ n ≤ 8) (hk : k < 2 ^ 31)
    (K : ∀ (H : Heap) (locs : List Loc) (ls : Array Slot), va_P (dC, dI) vwCl [(h0, .inr (0, [.int (nI n), .int (nI k)]))] H → va_D A [(h0, .inr (0, [.int (nI n), .int (nI k)]))] → va_S A s.heap H locs → lv_has ls 4 [(1, .long (bd_ts n k n))] → W p l e (headSpec wsX0_turns ({ frames := 1, cells := 0, slots := 0, locals := 24 })).room s m args below meth c H locs 0 0 Q (F0 m 33 ls [])) :
    ∀ (j i : Nat), i ≤ n → n < i + j → ∀ (H : Heap) (locs : List Loc) (ls : Array Slot), va_P (dC, dI) vwCl [(h0, .inr (0, [.int (nI n), .int (nI k)]))] H → va_D A [(h0, .inr (0, [.int (nI n), .int (nI k)]))] → va_S A s.heap H locs → lv_has ls 4 [(0, .ref h0), (1, .long (bd_ts n k i)), (3, .int (nI i))] → W p l e (headSpec wsX0_turns ({ frames := 1, cells := 0, slots := 0, locals := 24 })).room s m args below meth c H locs 0 0 Q (F0 m 4 ls []) := by
  intro j
  induction j with
  | zero =>
    intro i h1 h2
    exact absurd h2 (by omega)
  | succ j ih =>
    intro i h1 h2 H locs ls hP hD hS hl
    refine lv_iload_n hx hb dX0_turns_4 rfl (lv_at hl 2 rfl) ?_
    refine lv_aload_n hx hb dX0_turns_5 rfl (lv_at hl 0 rfl) ?_
    refine va_get (D := (dC, dI)) (ci := 0) (v := .int (nI n)) (C := RX0) (T := TX0) (N := 2) hx hb hts in_X0 hown hK hP 0 rfl rfl 0 (by decide) (hts _ q17) (fun _ h9 => h9) rfl dX0_turns_6 ?_
    refine bd_ge (tgt := 33) hx hb dX0_turns_9 (by decide) (by omega) (by omega) (fun c_9 => ?_) (fun c_9 => ?_)
    · have e1 : i = n := Nat.le_antisymm h1 c_9
      subst e1
      exact K H locs ls hP hD hS (lv_sub hl [1] rfl)
    · refine lv_lload_n hx hb dX0_turns_12 rfl (lv_at hl 1 rfl) ?_
      refine lv_aload_n hx hb dX0_turns_13 rfl (lv_at hl 0 rfl) ?_
      refine lv_iload_n hx hb dX0_turns_14 rfl (lv_at hl 2 rfl) ?_
      refine lv_aload_n hx hb dX0_turns_15 rfl (lv_at hl 0 rfl) ?_
      refine va_get (D := (dC, dI)) (ci := 0) (v := .int (nI n)) (C := RX0) (T := TX0) (N := 2) hx hb hts in_X0 hown hK hP 0 rfl rfl 0 (by decide) (hts _ q17) (fun _ h9 => h9) rfl dX0_turns_16 ?_
      have hPc := hP.sub (ws' := []) [] rfl
      have hDc := hD.sub (ws' := []) [] (by decide) rfl
      have hKc := hK.sub (tys' := []) [] rfl
      have hFc := va_free (wc := []) hD hS hA [] rfl
      refine va_calli (va_runS (As := [.int (nI i), .int (nI n)]) (rest := [.ref h0, .long (bd_ts n k i)]) ⟨hx, hb, hml, hown, hts⟩ (metX0_divisor l dC dI H.size i n (by omega) (by omega)) (va_cwS 2 hts (lw_S q37 q38 q7 q39) rfl rfl rfl (by decide +kernel) ⟨Nat.le_of_ble_eq_true rfl, Nat.le_of_ble_eq_true rfl⟩) ⟨fun a U g mk q => by obtain ⟨q0, q1, qP, qK, qD⟩ := q; exact ⟨q0, q1, qP, va_K.moved (u := U) (U := U.calling g mk a) (Vm.Alike.refl U.vm) qK, qD⟩, fun U hU hW => ⟨rfl, by rw [hU], by rw [hU]; exact hPc, va_K.moved hW.alike hKc, hDc.weaken (fun _ _ _ _ => trivial)⟩⟩ rfl rfl hl.1 rfl (lv_room (Nat.le_of_ble_eq_true rfl)) dX0_turns_19 ⟨Nat.le_of_ble_eq_true rfl, Nat.le_of_ble_eq_true rfl⟩) hS (fun q _ h => hFc q h) hFc (fun r_19 u t H1 locs ht hvm hw hB hz1 hk1 hS => ?_)
      obtain ⟨hP1, hK1, hD1⟩ := hB
      rw [ht] at hP1
      obtain ⟨hP, hD⟩ := va_join (wr := [(h0, .inr (0, [.int (nI n), .int (nI k)]))]) (w1 := []) hP hD [] [0] rfl rfl (by decide) (by decide) hk1 hFc hP1 hD1
      generalize H1 = H at hP hS ⊢
      have hP : va_P (dC, dI) vwCl [(h0, .inr (0, [.int (nI n), .int (nI k)]))] H := hP
      have hD : va_D A [(h0, .inr (0, [.int (nI n), .int (nI k)]))] := hD
      have hw : r_19 = nI (Nat.gcd n i) := hw
      subst hw
      have hPc := hP.sub (ws' := [(h0, .inr (0, [.int (nI n), .int (nI k)]))]) [0] rfl
      have hDc := hD.sub (ws' := [(h0, .inr (0, [.int (nI n), .int (nI k)]))]) [0] (by decide) rfl
      have hKc := hK.sub (tys' := []) [] rfl
      have hFc := va_free (wc := [(h0, .inr (0, [.int (nI n), .int (nI k)]))]) hD hS hA [0] rfl
      refine va_calll (va_runV (As := [.int (nI (Nat.gcd n i))]) (rest := [.long (bd_ts n k i)]) ⟨hx, hb, hml, hown, hts⟩ (metX0_power l dC dI h0 H.size n k (Nat.gcd n i) (by have h := bd_gcd_le hn.1 i; omega) hk) (cwV 1 hts (lw_V q40 q42 qs1 q7 q43) rfl rfl rfl (by decide +kernel) ⟨Nat.le_of_ble_eq_true rfl, Nat.le_of_ble_eq_true rfl⟩) ⟨fun a U g mk q => by obtain ⟨q0, q1, qP, qK, qD⟩ := q; exact ⟨q0, q1, qP, va_K.moved (u := U) (U := U.calling g mk a) (Vm.Alike.refl U.vm) qK, qD⟩, va_recv hKc hPc (ci := 0) (q0 := 0) rfl rfl, fun U hU hW => ⟨rfl, by rw [hU], by rw [hU]; exact hPc, va_K.moved hW.alike hKc, hDc.weaken (fun _ _ _ _ => trivial)⟩⟩ rfl rfl hl.1 rfl (lv_room (Nat.le_of_ble_eq_true rfl)) dX0_turns_22 ⟨Nat.le_of_ble_eq_true rfl, Nat.le_of_ble_eq_true rfl⟩) hS (fun q _ h => hFc q h) hFc (fun r_22 u t H1 locs ht hvm hw hB hz1 hk1 hS => ?_)
      obtain ⟨hP1, hK1, hD1⟩ := hB
      rw [ht] at hP1
      obtain ⟨hP, hD⟩ := va_join (wr := []) (w1 := [(h0, .inr (0, [.int (nI n), .int (nI k)]))]) hP hD [0] [] rfl rfl (by decide) (by decide) hk1 hFc hP1 hD1
      generalize H1 = H at hP hS ⊢
      have hP : va_P (dC, dI) vwCl [(h0, .inr (0, [.int (nI n), .int (nI k)]))] H := hP
      have hD : va_D A [(h0, .inr (0, [.int (nI n), .int (nI k)]))] := hD
      have hw : r_22 = lN (k ^ (Nat.gcd n i)) := hw
      subst hw
      refine lv_ladd hx hb dX0_turns_25 ?_
      refine bd_l (y := bd_ts n k (i + 1)) (rfl) ?_
      refine lv_lstore_n (lv' := [(1, .long (bd_ts n k (i + 1))), (0, .ref h0), (3, .int (nI i))]) hx hb dX0_turns_26 rfl hl (by decide) rfl (fun ls hl => ?_)
      refine lv_iinc (v := nI (i + 1)) (lv' := [(3, .int (nI (i + 1))), (1, .long (bd_ts n k (i + 1))), (0, .ref h0)]) hx hb dX0_turns_27 hl (k := 2) rfl (nI_1 i) (by decide) rfl (fun ls hl => ?_)
      refine lv_goto (tgt := 4) hx hb dX0_turns_30 (by decide) ?_
      exact ih (i + 1) c_9 (by omega) _ _ ls hP hD hS (lv_sub hl [2, 1, 0] rfl)
set_option maxHeartbeats 4000000 in
set_option maxRecDepth 100000 in
/-- turns() -/
theorem metX0_turns (l : Launch) (dC : Nat → ClassId) (dI : Nat → Nat → Nat) (h0 sz n k : Nat) (hn : 1 ≤ n ∧ n ≤ 8) (hk : k < 2 ^ 31) : Met l yX0_turns wsX0_turns ({ frames := 1, cells := 0, slots := 0, locals := 24 }) (va_Pc [.ref h0] (fun U => U.heap.size = sz ∧ va_P (dC, dI) vwCl [(h0, .inr (0, [.int (nI n), .int (nI k)]))] U.heap ∧ va_K (dC, dI) vwCl [] U ∧ va_D (fun _ => True) [(h0, .inr (0, [.int (nI n), .int (nI k)]))])) (va_Ql (fun (r : Int64) (_ : Unit) => r = bd_ts n k n) (BX0 dC dI (va_A [(h0, .inr (0, [.int (nI n), .int (nI k)]))] sz) h0 n k) (va_A [(h0, .inr (0, [.int (nI n), .int (nI k)]))] sz)) 0 0 (va_A [(h0, .inr (0, [.int (nI n), .int (nI k)]))] sz) := by
  refine Met.ofW (cc := cX0_turns) (maxL := 4) (ret := (some .long)) (by decide) rfl ?_
  intro p e s m args below meth c s₁ B hml hv
  obtain ⟨rfl, hsz, hP, hK, hD0⟩ := hv
  have hx := B.exec
  have hb := B.bytes
  have hr := B.returns
  have hts := atoms_spec (ws := wsX0_turns) B.pre
  have hts : ∀ w ∈ lw_all, w.before _ s = true := fun w h => hts w (List.mem_cons_of_mem _ h)
  have hown : s.vm.findClass RX0 = some m.cls := findClass_of_methodNamed B.named
  have hlocks := B.notSynchronized
  subst hsz
  have hD := hD0.self (sz := s.heap.size)
  generalize hAe : va_A [(h0, .inr (0, [.int (nI n), .int (nI k)]))] s.heap.size = A at hD ⊢
  have hA : ∀ q : Nat, s.heap.size ≤ q → A q := fun q h => by rw [← hAe]; exact Or.inr h
  have hS : va_S A s.heap s.heap [] := va_S.rf
  have hP : va_P (dC, dI) vwCl [(h0, .inr (0, [.int (nI n), .int (nI k)]))] s.heap := hP
  have hl := lv_entry ([.ref h0]) (n := 4) (Nat.le_of_ble_eq_true rfl)
  rw [lg_entry_eq]
  generalize (lg_sl ([.ref h0]) ++ List.replicate (4 - (lg_sl ([.ref h0])).length) Slot.unset).toArray = ls at hl ⊢
  have hl : lv_has ls 4 [(0, .ref h0)] := hl
  refine lv_lconst (v := bd_ts n k 0) hx hb dX0_turns_0 (rfl) ?_
  refine lv_lstore_n (lv' := [(1, .long (bd_ts n k 0)), (0, .ref h0)]) hx hb dX0_turns_1 rfl hl (by decide) rfl (fun ls hl => ?_)
  refine lv_iconst (v := nI 0) hx hb dX0_turns_2 (by decide) ?_
  refine lv_istore_n (lv' := [(3, .int (nI 0)), (1, .long (bd_ts n k 0)), (0, .ref h0)]) hx hb dX0_turns_3 rfl hl (by decide) rfl (fun ls hl => ?_)
  refine bd_ts_loop hx hb hml hown hts hA hK hn hk (fun H locs ls hP hD hS hl => ?_) (n + 1) 0 (Nat.zero_le n) (by omega) _ _ ls hP hD hS (lv_sub hl [2, 1, 0] rfl)
  refine lv_lload_n hx hb dX0_turns_33 rfl (lv_at hl 0 rfl) ?_
  have hP9 := hP.sub (ws' := [(h0, .inr (0, [.int (nI n), .int (nI k)]))]) [0] rfl
  have hD9 := hD.sub (ws' := [(h0, .inr (0, [.int (nI n), .int (nI k)]))]) [0] (by decide) rfl
  exact W.lret (v := bd_ts n k n) hx hb hr (fun t ht hW => ⟨⟨bd_ts n k n, (), rfl, rfl, by rw [ht]; exact hP9, va_K.moved hW.alike hK, hD9⟩, hS.F ht⟩) hS.2.2 dX0_turns_34
set_option maxHeartbeats 4000000 in
set_option maxRecDepth 100000 in
/-- lines' loop -/
theorem bd_ls_loop {p : Program} {l : Launch} {e : Env} {s : State} {m : MethodId} {args : Array Value} {below : List Frame} {meth : Method} {c : Code} {Q : State → Prop} {dC : Nat → ClassId} {dI : Nat → Nat → Nat} {A : Nat → Prop} (hx : p.tables.exec = Jvm.exec) (hb : c.code = cX0_lines) (hml : c.maxLocals = 4) (hown : s.vm.findClass RX0 = some m.cls) (hts : ∀ w ∈ lw_all, w.before args s = true) (hA : ∀ q : Nat, s.heap.size ≤ q → A q) (hK : va_K (dC, dI) vwCl [] s) {h0 n k : Nat} (hn : 1 ≤ n ∧ n ≤ 8) (hk : k < 2 ^ 31)
    (K : ∀ (H : Heap) (locs : List Loc) (ls : Array Slot), va_P (dC, dI) vwCl [(h0, .inr (0, [.int (nI n), .int (nI k)]))] H → va_D A [(h0, .inr (0, [.int (nI n), .int (nI k)]))] → va_S A s.heap H locs → lv_has ls 4 [(1, .long (bd_ls n k n))] → W p l e (headSpec wsX0_lines ({ frames := 1, cells := 0, slots := 0, locals := 24 })).room s m args below meth c H locs 0 0 Q (F0 m 58 ls [])) :
    ∀ (j i : Nat), i ≤ n → n < i + j → ∀ (H : Heap) (locs : List Loc) (ls : Array Slot), va_P (dC, dI) vwCl [(h0, .inr (0, [.int (nI n), .int (nI k)]))] H → va_D A [(h0, .inr (0, [.int (nI n), .int (nI k)]))] → va_S A s.heap H locs → lv_has ls 4 [(0, .ref h0), (1, .long (bd_ls n k i)), (3, .int (nI i))] → W p l e (headSpec wsX0_lines ({ frames := 1, cells := 0, slots := 0, locals := 24 })).room s m args below meth c H locs 0 0 Q (F0 m 4 ls []) := by
  intro j
  induction j with
  | zero =>
    intro i h1 h2
    exact absurd h2 (by omega)
  | succ j ih =>
    intro i h1 h2 H locs ls hP hD hS hl
    refine lv_iload_n hx hb dX0_lines_4 rfl (lv_at hl 2 rfl) ?_
    refine lv_aload_n hx hb dX0_lines_5 rfl (lv_at hl 0 rfl) ?_
    refine va_get (D := (dC, dI)) (ci := 0) (v := .int (nI n)) (C := RX0) (T := TX0) (N := 2) hx hb hts in_X0 hown hK hP 0 rfl rfl 0 (by decide) (hts _ q17) (fun _ h9 => h9) rfl dX0_lines_6 ?_
    refine bd_ge (tgt := 58) hx hb dX0_lines_9 (by decide) (by omega) (by omega) (fun c_9 => ?_) (fun c_9 => ?_)
    · have e1 : i = n := Nat.le_antisymm h1 c_9
      subst e1
      exact K H locs ls hP hD hS (lv_sub hl [1] rfl)
    · have hq := bd_ad_le n i
      have J : W p l e (headSpec wsX0_lines ({ frames := 1, cells := 0, slots := 0, locals := 24 })).room s m args below meth c H locs 0 0 Q (F0 m 44 ls [.int (nI (bd_ad n i)), .int (nI n), .ref h0, .long (bd_ls n k i)]) := by
        refine lv_iadd hx hb dX0_lines_44 ?_
        refine bd_i (y := nI (n + (bd_ad n i))) (nI_add n (bd_ad n i)) ?_
        refine lv_iconst (v := nI 2) hx hb dX0_lines_45 (by decide) ?_
        refine lv_idiv hx hb dX0_lines_46 (by decide) ?_
        refine bd_i (y := nI ((n + (bd_ad n i)) / 2)) (pk_div (by omega) (by decide) (by decide)) ?_
        have hPc := hP.sub (ws' := [(h0, .inr (0, [.int (nI n), .int (nI k)]))]) [0] rfl
        have hDc := hD.sub (ws' := [(h0, .inr (0, [.int (nI n), .int (nI k)]))]) [0] (by decide) rfl
        have hKc := hK.sub (tys' := []) [] rfl
        have hFc := va_free (wc := [(h0, .inr (0, [.int (nI n), .int (nI k)]))]) hD hS hA [0] rfl
        refine va_calll (va_runV (As := [.int (nI ((n + (bd_ad n i)) / 2))]) (rest := [.long (bd_ls n k i)]) ⟨hx, hb, hml, hown, hts⟩ (metX0_power l dC dI h0 H.size n k ((n + bd_ad n i) / 2) (by omega) hk) (cwV 1 hts (lw_V q40 q42 qs1 q7 q43) rfl rfl rfl (by decide +kernel) ⟨Nat.le_of_ble_eq_true rfl, Nat.le_of_ble_eq_true rfl⟩) ⟨fun a U g mk q => by obtain ⟨q0, q1, qP, qK, qD⟩ := q; exact ⟨q0, q1, qP, va_K.moved (u := U) (U := U.calling g mk a) (Vm.Alike.refl U.vm) qK, qD⟩, va_recv hKc hPc (ci := 0) (q0 := 0) rfl rfl, fun U hU hW => ⟨rfl, by rw [hU], by rw [hU]; exact hPc, va_K.moved hW.alike hKc, hDc.weaken (fun _ _ _ _ => trivial)⟩⟩ rfl rfl hl.1 rfl (lv_room (Nat.le_of_ble_eq_true rfl)) dX0_lines_47 ⟨Nat.le_of_ble_eq_true rfl, Nat.le_of_ble_eq_true rfl⟩) hS (fun q _ h => hFc q h) hFc (fun r_47 u t H1 locs ht hvm hw hB hz1 hk1 hS => ?_)
        obtain ⟨hP1, hK1, hD1⟩ := hB
        rw [ht] at hP1
        obtain ⟨hP, hD⟩ := va_join (wr := []) (w1 := [(h0, .inr (0, [.int (nI n), .int (nI k)]))]) hP hD [0] [] rfl rfl (by decide) (by decide) hk1 hFc hP1 hD1
        generalize H1 = H at hP hS ⊢
        have hP : va_P (dC, dI) vwCl [(h0, .inr (0, [.int (nI n), .int (nI k)]))] H := hP
        have hD : va_D A [(h0, .inr (0, [.int (nI n), .int (nI k)]))] := hD
        have hw : r_47 = lN (k ^ ((n + bd_ad n i) / 2)) := hw
        subst hw
        refine lv_ladd hx hb dX0_lines_50 ?_
        refine bd_l (y := bd_ls n k (i + 1)) (rfl) ?_
        refine lv_lstore_n (lv' := [(1, .long (bd_ls n k (i + 1))), (0, .ref h0), (3, .int (nI i))]) hx hb dX0_lines_51 rfl hl (by decide) rfl (fun ls hl => ?_)
        refine lv_iinc (v := nI (i + 1)) (lv' := [(3, .int (nI (i + 1))), (1, .long (bd_ls n k (i + 1))), (0, .ref h0)]) hx hb dX0_lines_52 hl (k := 2) rfl (nI_1 i) (by decide) rfl (fun ls hl => ?_)
        refine lv_goto (tgt := 4) hx hb dX0_lines_55 (by decide) ?_
        exact ih (i + 1) c_9 (by omega) _ _ ls hP hD hS (lv_sub hl [2, 1, 0] rfl)
      refine lv_lload_n hx hb dX0_lines_12 rfl (lv_at hl 1 rfl) ?_
      refine lv_aload_n hx hb dX0_lines_13 rfl (lv_at hl 0 rfl) ?_
      refine lv_aload_n hx hb dX0_lines_14 rfl (lv_at hl 0 rfl) ?_
      refine va_get (D := (dC, dI)) (ci := 0) (v := .int (nI n)) (C := RX0) (T := TX0) (N := 2) hx hb hts in_X0 hown hK hP 0 rfl rfl 0 (by decide) (hts _ q17) (fun _ h9 => h9) rfl dX0_lines_15 ?_
      refine lv_aload_n hx hb dX0_lines_18 rfl (lv_at hl 0 rfl) ?_
      refine va_get (D := (dC, dI)) (ci := 0) (v := .int (nI n)) (C := RX0) (T := TX0) (N := 2) hx hb hts in_X0 hown hK hP 0 rfl rfl 0 (by decide) (hts _ q17) (fun _ h9 => h9) rfl dX0_lines_19 ?_
      refine lv_iconst (v := nI 1) hx hb dX0_lines_22 (by decide) ?_
      refine lv_iand hx hb dX0_lines_23 ?_
      refine bd_i (y := nI (n % 2)) (bd_and1 (by omega)) ?_
      refine lv_iconst (v := nI 1) hx hb dX0_lines_24 (by decide) ?_
      refine bd_ne (tgt := 32) hx hb dX0_lines_25 (by decide) (by omega) (by decide) (fun c_25 => ?_) (fun c_25 => ?_)
      · refine lv_iload_n hx hb dX0_lines_32 rfl (lv_at hl 2 rfl) ?_
        refine lv_iconst (v := nI 1) hx hb dX0_lines_33 (by decide) ?_
        refine lv_iand hx hb dX0_lines_34 ?_
        refine bd_i (y := nI (i % 2)) (bd_and1 (by omega)) ?_
        refine lv_iconst (v := nI 1) hx hb dX0_lines_35 (by decide) ?_
        refine bd_ne (tgt := 43) hx hb dX0_lines_36 (by decide) (by omega) (by decide) (fun c_36 => ?_) (fun c_36 => ?_)
        · refine lv_iconst (v := nI (bd_ad n i)) hx hb dX0_lines_43 (by rw [show bd_ad n i = 0 by simp [bd_ad, c_25, c_36]]; decide) ?_
          exact J
        · refine lv_iconst (v := nI (bd_ad n i)) hx hb dX0_lines_39 (by rw [show bd_ad n i = 2 by simp [bd_ad, c_25, c_36]]; decide) ?_
          refine lv_goto (tgt := 44) hx hb dX0_lines_40 (by decide) ?_
          exact J
      · refine lv_iconst (v := nI (bd_ad n i)) hx hb dX0_lines_28 (by rw [show bd_ad n i = 1 by simp [bd_ad, c_25]]; decide) ?_
        refine lv_goto (tgt := 44) hx hb dX0_lines_29 (by decide) ?_
        exact J
set_option maxHeartbeats 4000000 in
set_option maxRecDepth 100000 in
/-- lines() -/
theorem metX0_lines (l : Launch) (dC : Nat → ClassId) (dI : Nat → Nat → Nat) (h0 sz n k : Nat) (hn : 1 ≤ n ∧ n ≤ 8) (hk : k < 2 ^ 31) : Met l yX0_lines wsX0_lines ({ frames := 1, cells := 0, slots := 0, locals := 24 }) (va_Pc [.ref h0] (fun U => U.heap.size = sz ∧ va_P (dC, dI) vwCl [(h0, .inr (0, [.int (nI n), .int (nI k)]))] U.heap ∧ va_K (dC, dI) vwCl [] U ∧ va_D (fun _ => True) [(h0, .inr (0, [.int (nI n), .int (nI k)]))])) (va_Ql (fun (r : Int64) (_ : Unit) => r = bd_ls n k n) (BX0 dC dI (va_A [(h0, .inr (0, [.int (nI n), .int (nI k)]))] sz) h0 n k) (va_A [(h0, .inr (0, [.int (nI n), .int (nI k)]))] sz)) 0 0 (va_A [(h0, .inr (0, [.int (nI n), .int (nI k)]))] sz) := by
  refine Met.ofW (cc := cX0_lines) (maxL := 4) (ret := (some .long)) (by decide) rfl ?_
  intro p e s m args below meth c s₁ B hml hv
  obtain ⟨rfl, hsz, hP, hK, hD0⟩ := hv
  have hx := B.exec
  have hb := B.bytes
  have hr := B.returns
  have hts := atoms_spec (ws := wsX0_lines) B.pre
  have hts : ∀ w ∈ lw_all, w.before _ s = true := fun w h => hts w (List.mem_cons_of_mem _ h)
  have hown : s.vm.findClass RX0 = some m.cls := findClass_of_methodNamed B.named
  have hlocks := B.notSynchronized
  subst hsz
  have hD := hD0.self (sz := s.heap.size)
  generalize hAe : va_A [(h0, .inr (0, [.int (nI n), .int (nI k)]))] s.heap.size = A at hD ⊢
  have hA : ∀ q : Nat, s.heap.size ≤ q → A q := fun q h => by rw [← hAe]; exact Or.inr h
  have hS : va_S A s.heap s.heap [] := va_S.rf
  have hP : va_P (dC, dI) vwCl [(h0, .inr (0, [.int (nI n), .int (nI k)]))] s.heap := hP
  have hl := lv_entry ([.ref h0]) (n := 4) (Nat.le_of_ble_eq_true rfl)
  rw [lg_entry_eq]
  generalize (lg_sl ([.ref h0]) ++ List.replicate (4 - (lg_sl ([.ref h0])).length) Slot.unset).toArray = ls at hl ⊢
  have hl : lv_has ls 4 [(0, .ref h0)] := hl
  refine lv_lconst (v := bd_ls n k 0) hx hb dX0_lines_0 (rfl) ?_
  refine lv_lstore_n (lv' := [(1, .long (bd_ls n k 0)), (0, .ref h0)]) hx hb dX0_lines_1 rfl hl (by decide) rfl (fun ls hl => ?_)
  refine lv_iconst (v := nI 0) hx hb dX0_lines_2 (by decide) ?_
  refine lv_istore_n (lv' := [(3, .int (nI 0)), (1, .long (bd_ls n k 0)), (0, .ref h0)]) hx hb dX0_lines_3 rfl hl (by decide) rfl (fun ls hl => ?_)
  refine bd_ls_loop hx hb hml hown hts hA hK hn hk (fun H locs ls hP hD hS hl => ?_) (n + 1) 0 (Nat.zero_le n) (by omega) _ _ ls hP hD hS (lv_sub hl [2, 1, 0] rfl)
  refine lv_lload_n hx hb dX0_lines_58 rfl (lv_at hl 0 rfl) ?_
  have hP9 := hP.sub (ws' := [(h0, .inr (0, [.int (nI n), .int (nI k)]))]) [0] rfl
  have hD9 := hD.sub (ws' := [(h0, .inr (0, [.int (nI n), .int (nI k)]))]) [0] (by decide) rfl
  exact W.lret (v := bd_ls n k n) hx hb hr (fun t ht hW => ⟨⟨bd_ls n k n, (), rfl, rfl, by rw [ht]; exact hP9, va_K.moved hW.alike hK, hD9⟩, hS.F ht⟩) hS.2.2 dX0_lines_59
set_option maxHeartbeats 4000000 in
set_option maxRecDepth 100000 in
/-- turned() -/
theorem metX0_turned (l : Launch) (dC : Nat → ClassId) (dI : Nat → Nat → Nat) (h0 sz n k : Nat) (hn : 1 ≤ n ∧ n ≤ 8) (hk : k < 2 ^ 31) : Met l yX0_turned wsX0_turned ({ frames := 2, cells := 0, slots := 0, locals := 47 }) (va_Pc [.ref h0] (fun U => U.heap.size = sz ∧ va_P (dC, dI) vwCl [(h0, .inr (0, [.int (nI n), .int (nI k)]))] U.heap ∧ va_K (dC, dI) vwCl [] U ∧ va_D (fun _ => True) [(h0, .inr (0, [.int (nI n), .int (nI k)]))])) (va_Ql (fun (r : Int64) (_ : Unit) => r = bd_ts n k n / lN n) (BX0 dC dI (va_A [(h0, .inr (0, [.int (nI n), .int (nI k)]))] sz) h0 n k) (va_A [(h0, .inr (0, [.int (nI n), .int (nI k)]))] sz)) 0 0 (va_A [(h0, .inr (0, [.int (nI n), .int (nI k)]))] sz) := by
  refine Met.ofW (cc := cX0_turned) (maxL := 1) (ret := (some .long)) (by decide) rfl ?_
  intro p e s m args below meth c s₁ B hml hv
  obtain ⟨rfl, hsz, hP, hK, hD0⟩ := hv
  have hx := B.exec
  have hb := B.bytes
  have hr := B.returns
  have hts := atoms_spec (ws := wsX0_turned) B.pre
  have hts : ∀ w ∈ lw_all, w.before _ s = true := fun w h => hts w (List.mem_cons_of_mem _ h)
  have hown : s.vm.findClass RX0 = some m.cls := findClass_of_methodNamed B.named
  have hlocks := B.notSynchronized
  subst hsz
  have hD := hD0.self (sz := s.heap.size)
  generalize hAe : va_A [(h0, .inr (0, [.int (nI n), .int (nI k)]))] s.heap.size = A at hD ⊢
  have hA : ∀ q : Nat, s.heap.size ≤ q → A q := fun q h => by rw [← hAe]; exact Or.inr h
  have hS : va_S A s.heap s.heap [] := va_S.rf
  have hP : va_P (dC, dI) vwCl [(h0, .inr (0, [.int (nI n), .int (nI k)]))] s.heap := hP
  have hl := lv_entry ([.ref h0]) (n := 1) (Nat.le_of_ble_eq_true rfl)
  rw [lg_entry_eq]
  generalize (lg_sl ([.ref h0]) ++ List.replicate (1 - (lg_sl ([.ref h0])).length) Slot.unset).toArray = ls at hl ⊢
  have hl : lv_has ls 1 [(0, .ref h0)] := hl
  refine lv_aload_n hx hb dX0_turned_0 rfl (lv_at hl 0 rfl) ?_
  have hPc := hP.sub (ws' := [(h0, .inr (0, [.int (nI n), .int (nI k)]))]) [0] rfl
  have hDc := hD.sub (ws' := [(h0, .inr (0, [.int (nI n), .int (nI k)]))]) [0] (by decide) rfl
  have hKc := hK.sub (tys' := []) [] rfl
  have hFc := va_free (wc := [(h0, .inr (0, [.int (nI n), .int (nI k)]))]) hD hS hA [0] rfl
  refine va_calll (va_runV (As := []) (rest := []) ⟨hx, hb, hml, hown, hts⟩ (metX0_turns l dC dI h0 s.heap.size n k hn hk) (cwV 0 hts (lw_V q33 q35 qs0 q7 q36) rfl rfl rfl (by decide +kernel) ⟨Nat.le_of_ble_eq_true rfl, Nat.le_of_ble_eq_true rfl⟩) ⟨fun a U g mk q => by obtain ⟨q0, q1, qP, qK, qD⟩ := q; exact ⟨q0, q1, qP, va_K.moved (u := U) (U := U.calling g mk a) (Vm.Alike.refl U.vm) qK, qD⟩, va_recv hKc hPc (ci := 0) (q0 := 0) rfl rfl, fun U hU hW => ⟨rfl, by rw [hU], by rw [hU]; exact hPc, va_K.moved hW.alike hKc, hDc.weaken (fun _ _ _ _ => trivial)⟩⟩ rfl rfl hl.1 rfl (lv_room (Nat.le_of_ble_eq_true rfl)) dX0_turned_1 ⟨Nat.le_of_ble_eq_true rfl, Nat.le_of_ble_eq_true rfl⟩) hS (fun q _ h => hFc q h) hFc (fun r_1 u t H1 locs ht hvm hw hB hz1 hk1 hS => ?_)
  obtain ⟨hP1, hK1, hD1⟩ := hB
  rw [ht] at hP1
  obtain ⟨hP, hD⟩ := va_join (wr := []) (w1 := [(h0, .inr (0, [.int (nI n), .int (nI k)]))]) hP hD [0] [] rfl rfl (by decide) (by decide) hk1 hFc hP1 hD1
  generalize H1 = H at hP hS ⊢
  have hP : va_P (dC, dI) vwCl [(h0, .inr (0, [.int (nI n), .int (nI k)]))] H := hP
  have hD : va_D A [(h0, .inr (0, [.int (nI n), .int (nI k)]))] := hD
  have hw : r_1 = bd_ts n k n := hw
  subst hw
  refine lv_aload_n hx hb dX0_turned_4 rfl (lv_at hl 0 rfl) ?_
  refine va_get (D := (dC, dI)) (ci := 0) (v := .int (nI n)) (C := RX0) (T := TX0) (N := 2) hx hb hts in_X0 hown hK hP 0 rfl rfl 0 (by decide) (hts _ q17) (fun _ h9 => h9) rfl dX0_turned_5 ?_
  refine lv_i2l (v := lN n) hx hb dX0_turned_8 (nI_l (by omega)) ?_
  refine lv_ldiv hx hb dX0_turned_9 (bd_lne hn.1 (by omega)) ?_
  have hP9 := hP.sub (ws' := [(h0, .inr (0, [.int (nI n), .int (nI k)]))]) [0] rfl
  have hD9 := hD.sub (ws' := [(h0, .inr (0, [.int (nI n), .int (nI k)]))]) [0] (by decide) rfl
  exact W.lret (v := bd_ts n k n / lN n) hx hb hr (fun t ht hW => ⟨⟨bd_ts n k n / lN n, (), rfl, rfl, by rw [ht]; exact hP9, va_K.moved hW.alike hK, hD9⟩, hS.F ht⟩) hS.2.2 dX0_turned_10
set_option maxHeartbeats 4000000 in
set_option maxRecDepth 100000 in
/-- mirrors() -/
theorem metX0_mirrors (l : Launch) (dC : Nat → ClassId) (dI : Nat → Nat → Nat) (h0 sz n k : Nat) (hn : 1 ≤ n ∧ n ≤ 8) (hk : k < 2 ^ 31) : Met l yX0_mirrors wsX0_mirrors ({ frames := 2, cells := 0, slots := 0, locals := 47 }) (va_Pc [.ref h0] (fun U => U.heap.size = sz ∧ va_P (dC, dI) vwCl [(h0, .inr (0, [.int (nI n), .int (nI k)]))] U.heap ∧ va_K (dC, dI) vwCl [] U ∧ va_D (fun _ => True) [(h0, .inr (0, [.int (nI n), .int (nI k)]))])) (va_Ql (fun (r : Int64) (_ : Unit) => r = bd_ls n k n / lN n) (BX0 dC dI (va_A [(h0, .inr (0, [.int (nI n), .int (nI k)]))] sz) h0 n k) (va_A [(h0, .inr (0, [.int (nI n), .int (nI k)]))] sz)) 0 0 (va_A [(h0, .inr (0, [.int (nI n), .int (nI k)]))] sz) := by
  refine Met.ofW (cc := cX0_mirrors) (maxL := 1) (ret := (some .long)) (by decide) rfl ?_
  intro p e s m args below meth c s₁ B hml hv
  obtain ⟨rfl, hsz, hP, hK, hD0⟩ := hv
  have hx := B.exec
  have hb := B.bytes
  have hr := B.returns
  have hts := atoms_spec (ws := wsX0_mirrors) B.pre
  have hts : ∀ w ∈ lw_all, w.before _ s = true := fun w h => hts w (List.mem_cons_of_mem _ h)
  have hown : s.vm.findClass RX0 = some m.cls := findClass_of_methodNamed B.named
  have hlocks := B.notSynchronized
  subst hsz
  have hD := hD0.self (sz := s.heap.size)
  generalize hAe : va_A [(h0, .inr (0, [.int (nI n), .int (nI k)]))] s.heap.size = A at hD ⊢
  have hA : ∀ q : Nat, s.heap.size ≤ q → A q := fun q h => by rw [← hAe]; exact Or.inr h
  have hS : va_S A s.heap s.heap [] := va_S.rf
  have hP : va_P (dC, dI) vwCl [(h0, .inr (0, [.int (nI n), .int (nI k)]))] s.heap := hP
  have hl := lv_entry ([.ref h0]) (n := 1) (Nat.le_of_ble_eq_true rfl)
  rw [lg_entry_eq]
  generalize (lg_sl ([.ref h0]) ++ List.replicate (1 - (lg_sl ([.ref h0])).length) Slot.unset).toArray = ls at hl ⊢
  have hl : lv_has ls 1 [(0, .ref h0)] := hl
  refine lv_aload_n hx hb dX0_mirrors_0 rfl (lv_at hl 0 rfl) ?_
  have hPc := hP.sub (ws' := [(h0, .inr (0, [.int (nI n), .int (nI k)]))]) [0] rfl
  have hDc := hD.sub (ws' := [(h0, .inr (0, [.int (nI n), .int (nI k)]))]) [0] (by decide) rfl
  have hKc := hK.sub (tys' := []) [] rfl
  have hFc := va_free (wc := [(h0, .inr (0, [.int (nI n), .int (nI k)]))]) hD hS hA [0] rfl
  refine va_calll (va_runV (As := []) (rest := []) ⟨hx, hb, hml, hown, hts⟩ (metX0_lines l dC dI h0 s.heap.size n k hn hk) (cwV 0 hts (lw_V q48 q50 qs2 q7 q51) rfl rfl rfl (by decide +kernel) ⟨Nat.le_of_ble_eq_true rfl, Nat.le_of_ble_eq_true rfl⟩) ⟨fun a U g mk q => by obtain ⟨q0, q1, qP, qK, qD⟩ := q; exact ⟨q0, q1, qP, va_K.moved (u := U) (U := U.calling g mk a) (Vm.Alike.refl U.vm) qK, qD⟩, va_recv hKc hPc (ci := 0) (q0 := 0) rfl rfl, fun U hU hW => ⟨rfl, by rw [hU], by rw [hU]; exact hPc, va_K.moved hW.alike hKc, hDc.weaken (fun _ _ _ _ => trivial)⟩⟩ rfl rfl hl.1 rfl (lv_room (Nat.le_of_ble_eq_true rfl)) dX0_mirrors_1 ⟨Nat.le_of_ble_eq_true rfl, Nat.le_of_ble_eq_true rfl⟩) hS (fun q _ h => hFc q h) hFc (fun r_1 u t H1 locs ht hvm hw hB hz1 hk1 hS => ?_)
  obtain ⟨hP1, hK1, hD1⟩ := hB
  rw [ht] at hP1
  obtain ⟨hP, hD⟩ := va_join (wr := []) (w1 := [(h0, .inr (0, [.int (nI n), .int (nI k)]))]) hP hD [0] [] rfl rfl (by decide) (by decide) hk1 hFc hP1 hD1
  generalize H1 = H at hP hS ⊢
  have hP : va_P (dC, dI) vwCl [(h0, .inr (0, [.int (nI n), .int (nI k)]))] H := hP
  have hD : va_D A [(h0, .inr (0, [.int (nI n), .int (nI k)]))] := hD
  have hw : r_1 = bd_ls n k n := hw
  subst hw
  refine lv_aload_n hx hb dX0_mirrors_4 rfl (lv_at hl 0 rfl) ?_
  refine va_get (D := (dC, dI)) (ci := 0) (v := .int (nI n)) (C := RX0) (T := TX0) (N := 2) hx hb hts in_X0 hown hK hP 0 rfl rfl 0 (by decide) (hts _ q17) (fun _ h9 => h9) rfl dX0_mirrors_5 ?_
  refine lv_i2l (v := lN n) hx hb dX0_mirrors_8 (nI_l (by omega)) ?_
  refine lv_ldiv hx hb dX0_mirrors_9 (bd_lne hn.1 (by omega)) ?_
  have hP9 := hP.sub (ws' := [(h0, .inr (0, [.int (nI n), .int (nI k)]))]) [0] rfl
  have hD9 := hD.sub (ws' := [(h0, .inr (0, [.int (nI n), .int (nI k)]))]) [0] (by decide) rfl
  exact W.lret (v := bd_ls n k n / lN n) hx hb hr (fun t ht hW => ⟨⟨bd_ls n k n / lN n, (), rfl, rfl, by rw [ht]; exact hP9, va_K.moved hW.alike hK, hD9⟩, hS.F ht⟩) hS.2.2 dX0_mirrors_10
set_option maxHeartbeats 4000000 in
set_option maxRecDepth 100000 in
/-- over() -/
theorem metX0_over (l : Launch) (dC : Nat → ClassId) (dI : Nat → Nat → Nat) (h0 sz n k : Nat) (hn : 1 ≤ n ∧ n ≤ 8) (hk : k < 2 ^ 31) : Met l yX0_over wsX0_over ({ frames := 2, cells := 0, slots := 0, locals := 47 }) (va_Pc [.ref h0] (fun U => U.heap.size = sz ∧ va_P (dC, dI) vwCl [(h0, .inr (0, [.int (nI n), .int (nI k)]))] U.heap ∧ va_K (dC, dI) vwCl [] U ∧ va_D (fun _ => True) [(h0, .inr (0, [.int (nI n), .int (nI k)]))])) (va_Ql (fun (r : Int64) (_ : Unit) => r = (bd_ts n k n + bd_ls n k n) / lN (2 * n)) (BX0 dC dI (va_A [(h0, .inr (0, [.int (nI n), .int (nI k)]))] sz) h0 n k) (va_A [(h0, .inr (0, [.int (nI n), .int (nI k)]))] sz)) 0 0 (va_A [(h0, .inr (0, [.int (nI n), .int (nI k)]))] sz) := by
  refine Met.ofW (cc := cX0_over) (maxL := 1) (ret := (some .long)) (by decide) rfl ?_
  intro p e s m args below meth c s₁ B hml hv
  obtain ⟨rfl, hsz, hP, hK, hD0⟩ := hv
  have hx := B.exec
  have hb := B.bytes
  have hr := B.returns
  have hts := atoms_spec (ws := wsX0_over) B.pre
  have hts : ∀ w ∈ lw_all, w.before _ s = true := fun w h => hts w (List.mem_cons_of_mem _ h)
  have hown : s.vm.findClass RX0 = some m.cls := findClass_of_methodNamed B.named
  have hlocks := B.notSynchronized
  subst hsz
  have hD := hD0.self (sz := s.heap.size)
  generalize hAe : va_A [(h0, .inr (0, [.int (nI n), .int (nI k)]))] s.heap.size = A at hD ⊢
  have hA : ∀ q : Nat, s.heap.size ≤ q → A q := fun q h => by rw [← hAe]; exact Or.inr h
  have hS : va_S A s.heap s.heap [] := va_S.rf
  have hP : va_P (dC, dI) vwCl [(h0, .inr (0, [.int (nI n), .int (nI k)]))] s.heap := hP
  have hl := lv_entry ([.ref h0]) (n := 1) (Nat.le_of_ble_eq_true rfl)
  rw [lg_entry_eq]
  generalize (lg_sl ([.ref h0]) ++ List.replicate (1 - (lg_sl ([.ref h0])).length) Slot.unset).toArray = ls at hl ⊢
  have hl : lv_has ls 1 [(0, .ref h0)] := hl
  refine lv_aload_n hx hb dX0_over_0 rfl (lv_at hl 0 rfl) ?_
  have hPc := hP.sub (ws' := [(h0, .inr (0, [.int (nI n), .int (nI k)]))]) [0] rfl
  have hDc := hD.sub (ws' := [(h0, .inr (0, [.int (nI n), .int (nI k)]))]) [0] (by decide) rfl
  have hKc := hK.sub (tys' := []) [] rfl
  have hFc := va_free (wc := [(h0, .inr (0, [.int (nI n), .int (nI k)]))]) hD hS hA [0] rfl
  refine va_calll (va_runV (As := []) (rest := []) ⟨hx, hb, hml, hown, hts⟩ (metX0_turns l dC dI h0 s.heap.size n k hn hk) (cwV 0 hts (lw_V q33 q35 qs0 q7 q36) rfl rfl rfl (by decide +kernel) ⟨Nat.le_of_ble_eq_true rfl, Nat.le_of_ble_eq_true rfl⟩) ⟨fun a U g mk q => by obtain ⟨q0, q1, qP, qK, qD⟩ := q; exact ⟨q0, q1, qP, va_K.moved (u := U) (U := U.calling g mk a) (Vm.Alike.refl U.vm) qK, qD⟩, va_recv hKc hPc (ci := 0) (q0 := 0) rfl rfl, fun U hU hW => ⟨rfl, by rw [hU], by rw [hU]; exact hPc, va_K.moved hW.alike hKc, hDc.weaken (fun _ _ _ _ => trivial)⟩⟩ rfl rfl hl.1 rfl (lv_room (Nat.le_of_ble_eq_true rfl)) dX0_over_1 ⟨Nat.le_of_ble_eq_true rfl, Nat.le_of_ble_eq_true rfl⟩) hS (fun q _ h => hFc q h) hFc (fun r_1 u t H1 locs ht hvm hw hB hz1 hk1 hS => ?_)
  obtain ⟨hP1, hK1, hD1⟩ := hB
  rw [ht] at hP1
  obtain ⟨hP, hD⟩ := va_join (wr := []) (w1 := [(h0, .inr (0, [.int (nI n), .int (nI k)]))]) hP hD [0] [] rfl rfl (by decide) (by decide) hk1 hFc hP1 hD1
  generalize H1 = H at hP hS ⊢
  have hP : va_P (dC, dI) vwCl [(h0, .inr (0, [.int (nI n), .int (nI k)]))] H := hP
  have hD : va_D A [(h0, .inr (0, [.int (nI n), .int (nI k)]))] := hD
  have hw : r_1 = bd_ts n k n := hw
  subst hw
  refine lv_aload_n hx hb dX0_over_4 rfl (lv_at hl 0 rfl) ?_
  have hPc := hP.sub (ws' := [(h0, .inr (0, [.int (nI n), .int (nI k)]))]) [0] rfl
  have hDc := hD.sub (ws' := [(h0, .inr (0, [.int (nI n), .int (nI k)]))]) [0] (by decide) rfl
  have hKc := hK.sub (tys' := []) [] rfl
  have hFc := va_free (wc := [(h0, .inr (0, [.int (nI n), .int (nI k)]))]) hD hS hA [0] rfl
  refine va_calll (va_runV (As := []) (rest := [.long (bd_ts n k n)]) ⟨hx, hb, hml, hown, hts⟩ (metX0_lines l dC dI h0 H.size n k hn hk) (cwV 0 hts (lw_V q48 q50 qs2 q7 q51) rfl rfl rfl (by decide +kernel) ⟨Nat.le_of_ble_eq_true rfl, Nat.le_of_ble_eq_true rfl⟩) ⟨fun a U g mk q => by obtain ⟨q0, q1, qP, qK, qD⟩ := q; exact ⟨q0, q1, qP, va_K.moved (u := U) (U := U.calling g mk a) (Vm.Alike.refl U.vm) qK, qD⟩, va_recv hKc hPc (ci := 0) (q0 := 0) rfl rfl, fun U hU hW => ⟨rfl, by rw [hU], by rw [hU]; exact hPc, va_K.moved hW.alike hKc, hDc.weaken (fun _ _ _ _ => trivial)⟩⟩ rfl rfl hl.1 rfl (lv_room (Nat.le_of_ble_eq_true rfl)) dX0_over_5 ⟨Nat.le_of_ble_eq_true rfl, Nat.le_of_ble_eq_true rfl⟩) hS (fun q _ h => hFc q h) hFc (fun r_5 u t H1 locs ht hvm hw hB hz1 hk1 hS => ?_)
  obtain ⟨hP1, hK1, hD1⟩ := hB
  rw [ht] at hP1
  obtain ⟨hP, hD⟩ := va_join (wr := []) (w1 := [(h0, .inr (0, [.int (nI n), .int (nI k)]))]) hP hD [0] [] rfl rfl (by decide) (by decide) hk1 hFc hP1 hD1
  generalize H1 = H at hP hS ⊢
  have hP : va_P (dC, dI) vwCl [(h0, .inr (0, [.int (nI n), .int (nI k)]))] H := hP
  have hD : va_D A [(h0, .inr (0, [.int (nI n), .int (nI k)]))] := hD
  have hw : r_5 = bd_ls n k n := hw
  subst hw
  refine lv_ladd hx hb dX0_over_8 ?_
  refine lv_iconst (v := nI 2) hx hb dX0_over_9 (by decide) ?_
  refine lv_aload_n hx hb dX0_over_10 rfl (lv_at hl 0 rfl) ?_
  refine va_get (D := (dC, dI)) (ci := 0) (v := .int (nI n)) (C := RX0) (T := TX0) (N := 2) hx hb hts in_X0 hown hK hP 0 rfl rfl 0 (by decide) (hts _ q17) (fun _ h9 => h9) rfl dX0_over_11 ?_
  refine lv_imul hx hb dX0_over_14 ?_
  refine bd_i (y := nI (2 * n)) (pk_mul 2 n) ?_
  refine lv_i2l (v := lN (2 * n)) hx hb dX0_over_15 (nI_l (by omega)) ?_
  refine lv_ldiv hx hb dX0_over_16 (bd_lne (by omega) (by omega)) ?_
  have hP9 := hP.sub (ws' := [(h0, .inr (0, [.int (nI n), .int (nI k)]))]) [0] rfl
  have hD9 := hD.sub (ws' := [(h0, .inr (0, [.int (nI n), .int (nI k)]))]) [0] (by decide) rfl
  exact W.lret (v := (bd_ts n k n + bd_ls n k n) / lN (2 * n)) hx hb hr (fun t ht hW => ⟨⟨(bd_ts n k n + bd_ls n k n) / lN (2 * n), (), rfl, rfl, by rw [ht]; exact hP9, va_K.moved hW.alike hK, hD9⟩, hS.F ht⟩) hS.2.2 dX0_over_17
set_option maxHeartbeats 4000000 in
set_option maxRecDepth 100000 in
/-- whole(d) -/
theorem metX0_whole (l : Launch) (dC : Nat → ClassId) (dI : Nat → Nat → Nat) (h0 sz n k d : Nat) (hd : d ≤ 8) (hk : k < 2 ^ 31) : Met l yX0_whole wsX0_whole ({ frames := 1, cells := 0, slots := 0, locals := 24 }) (va_Pc [.ref h0, .int (nI d)] (fun U => U.heap.size = sz ∧ va_P (dC, dI) vwCl [(h0, .inr (0, [.int (nI n), .int (nI k)]))] U.heap ∧ va_K (dC, dI) vwCl [] U ∧ va_D (fun _ => True) [(h0, .inr (0, [.int (nI n), .int (nI k)]))])) (va_Ql (fun (r : Int64) (_ : Unit) => r = bd_wh k d) (BX0 dC dI (va_A [(h0, .inr (0, [.int (nI n), .int (nI k)]))] sz) h0 n k) (va_A [(h0, .inr (0, [.int (nI n), .int (nI k)]))] sz)) 0 0 (va_A [(h0, .inr (0, [.int (nI n), .int (nI k)]))] sz) := by
  refine Met.ofW (cc := cX0_whole) (maxL := 2) (ret := (some .long)) (by decide) rfl ?_
  intro p e s m args below meth c s₁ B hml hv
  obtain ⟨rfl, hsz, hP, hK, hD0⟩ := hv
  have hx := B.exec
  have hb := B.bytes
  have hr := B.returns
  have hts := atoms_spec (ws := wsX0_whole) B.pre
  have hts : ∀ w ∈ lw_all, w.before _ s = true := fun w h => hts w (List.mem_cons_of_mem _ h)
  have hown : s.vm.findClass RX0 = some m.cls := findClass_of_methodNamed B.named
  have hlocks := B.notSynchronized
  subst hsz
  have hD := hD0.self (sz := s.heap.size)
  generalize hAe : va_A [(h0, .inr (0, [.int (nI n), .int (nI k)]))] s.heap.size = A at hD ⊢
  have hA : ∀ q : Nat, s.heap.size ≤ q → A q := fun q h => by rw [← hAe]; exact Or.inr h
  have hS : va_S A s.heap s.heap [] := va_S.rf
  have hP : va_P (dC, dI) vwCl [(h0, .inr (0, [.int (nI n), .int (nI k)]))] s.heap := hP
  have hl := lv_entry ([.ref h0, .int (nI d)]) (n := 2) (Nat.le_of_ble_eq_true rfl)
  rw [lg_entry_eq]
  generalize (lg_sl ([.ref h0, .int (nI d)]) ++ List.replicate (2 - (lg_sl ([.ref h0, .int (nI d)])).length) Slot.unset).toArray = ls at hl ⊢
  have hl : lv_has ls 2 [(0, .ref h0), (1, .int (nI d))] := hl
  refine lv_iload_n hx hb dX0_whole_0 rfl (lv_at hl 1 rfl) ?_
  refine lv_iconst (v := nI 1) hx hb dX0_whole_1 (by decide) ?_
  refine bd_ne (tgt := 11) hx hb dX0_whole_2 (by decide) (by omega) (by decide) (fun c_2 => ?_) (fun c_2 => ?_)
  · refine lv_iload_n hx hb dX0_whole_11 rfl (lv_at hl 1 rfl) ?_
    refine lv_iconst (v := nI 4) hx hb dX0_whole_12 (by decide) ?_
    refine bd_ne (tgt := 30) hx hb dX0_whole_13 (by decide) (by omega) (by decide) (fun c_13 => ?_) (fun c_13 => ?_)
    · refine lv_aload_n hx hb dX0_whole_30 rfl (lv_at hl 0 rfl) ?_
      refine lv_iload_n hx hb dX0_whole_31 rfl (lv_at hl 1 rfl) ?_
      have hPc := hP.sub (ws' := [(h0, .inr (0, [.int (nI n), .int (nI k)]))]) [0] rfl
      have hDc := hD.sub (ws' := [(h0, .inr (0, [.int (nI n), .int (nI k)]))]) [0] (by decide) rfl
      have hKc := hK.sub (tys' := []) [] rfl
      have hFc := va_free (wc := [(h0, .inr (0, [.int (nI n), .int (nI k)]))]) hD hS hA [0] rfl
      refine va_calll (va_runV (As := [.int (nI d)]) (rest := []) ⟨hx, hb, hml, hown, hts⟩ (metX0_power l dC dI h0 s.heap.size n k d (by omega) hk) (cwV 1 hts (lw_V q40 q42 qs1 q7 q43) rfl rfl rfl (by decide +kernel) ⟨Nat.le_of_ble_eq_true rfl, Nat.le_of_ble_eq_true rfl⟩) ⟨fun a U g mk q => by obtain ⟨q0, q1, qP, qK, qD⟩ := q; exact ⟨q0, q1, qP, va_K.moved (u := U) (U := U.calling g mk a) (Vm.Alike.refl U.vm) qK, qD⟩, va_recv hKc hPc (ci := 0) (q0 := 0) rfl rfl, fun U hU hW => ⟨rfl, by rw [hU], by rw [hU]; exact hPc, va_K.moved hW.alike hKc, hDc.weaken (fun _ _ _ _ => trivial)⟩⟩ rfl rfl hl.1 rfl (lv_room (Nat.le_of_ble_eq_true rfl)) dX0_whole_32 ⟨Nat.le_of_ble_eq_true rfl, Nat.le_of_ble_eq_true rfl⟩) hS (fun q _ h => hFc q h) hFc (fun r_32 u t H1 locs ht hvm hw hB hz1 hk1 hS => ?_)
      obtain ⟨hP1, hK1, hD1⟩ := hB
      rw [ht] at hP1
      obtain ⟨hP, hD⟩ := va_join (wr := []) (w1 := [(h0, .inr (0, [.int (nI n), .int (nI k)]))]) hP hD [0] [] rfl rfl (by decide) (by decide) hk1 hFc hP1 hD1
      generalize H1 = H at hP hS ⊢
      have hP : va_P (dC, dI) vwCl [(h0, .inr (0, [.int (nI n), .int (nI k)]))] H := hP
      have hD : va_D A [(h0, .inr (0, [.int (nI n), .int (nI k)]))] := hD
      have hw : r_32 = lN (k ^ d) := hw
      subst hw
      refine lv_aload_n hx hb dX0_whole_35 rfl (lv_at hl 0 rfl) ?_
      refine lv_iconst (v := nI 1) hx hb dX0_whole_36 (by decide) ?_
      have hPc := hP.sub (ws' := [(h0, .inr (0, [.int (nI n), .int (nI k)]))]) [0] rfl
      have hDc := hD.sub (ws' := [(h0, .inr (0, [.int (nI n), .int (nI k)]))]) [0] (by decide) rfl
      have hKc := hK.sub (tys' := []) [] rfl
      have hFc := va_free (wc := [(h0, .inr (0, [.int (nI n), .int (nI k)]))]) hD hS hA [0] rfl
      refine va_calll (va_runV (As := [.int (nI 1)]) (rest := [.long (lN (k ^ d))]) ⟨hx, hb, hml, hown, hts⟩ (metX0_power l dC dI h0 H.size n k 1 (by decide) hk) (cwV 1 hts (lw_V q40 q42 qs1 q7 q43) rfl rfl rfl (by decide +kernel) ⟨Nat.le_of_ble_eq_true rfl, Nat.le_of_ble_eq_true rfl⟩) ⟨fun a U g mk q => by obtain ⟨q0, q1, qP, qK, qD⟩ := q; exact ⟨q0, q1, qP, va_K.moved (u := U) (U := U.calling g mk a) (Vm.Alike.refl U.vm) qK, qD⟩, va_recv hKc hPc (ci := 0) (q0 := 0) rfl rfl, fun U hU hW => ⟨rfl, by rw [hU], by rw [hU]; exact hPc, va_K.moved hW.alike hKc, hDc.weaken (fun _ _ _ _ => trivial)⟩⟩ rfl rfl hl.1 rfl (lv_room (Nat.le_of_ble_eq_true rfl)) dX0_whole_37 ⟨Nat.le_of_ble_eq_true rfl, Nat.le_of_ble_eq_true rfl⟩) hS (fun q _ h => hFc q h) hFc (fun r_37 u t H1 locs ht hvm hw hB hz1 hk1 hS => ?_)
      obtain ⟨hP1, hK1, hD1⟩ := hB
      rw [ht] at hP1
      obtain ⟨hP, hD⟩ := va_join (wr := []) (w1 := [(h0, .inr (0, [.int (nI n), .int (nI k)]))]) hP hD [0] [] rfl rfl (by decide) (by decide) hk1 hFc hP1 hD1
      generalize H1 = H at hP hS ⊢
      have hP : va_P (dC, dI) vwCl [(h0, .inr (0, [.int (nI n), .int (nI k)]))] H := hP
      have hD : va_D A [(h0, .inr (0, [.int (nI n), .int (nI k)]))] := hD
      have hw : r_37 = lN (k ^ 1) := hw
      subst hw
      refine lv_lsub hx hb dX0_whole_40 ?_
      have hP9 := hP.sub (ws' := [(h0, .inr (0, [.int (nI n), .int (nI k)]))]) [0] rfl
      have hD9 := hD.sub (ws' := [(h0, .inr (0, [.int (nI n), .int (nI k)]))]) [0] (by decide) rfl
      exact W.lret (v := lN (k ^ d) - lN (k ^ 1)) hx hb hr (fun t ht hW => ⟨⟨lN (k ^ d) - lN (k ^ 1), (), rfl, by rw [bd_wh, if_neg c_2, if_neg c_13], by rw [ht]; exact hP9, va_K.moved hW.alike hK, hD9⟩, hS.F ht⟩) hS.2.2 dX0_whole_41
    · refine lv_aload_n hx hb dX0_whole_16 rfl (lv_at hl 0 rfl) ?_
      refine lv_iconst (v := nI 4) hx hb dX0_whole_17 (by decide) ?_
      have hPc := hP.sub (ws' := [(h0, .inr (0, [.int (nI n), .int (nI k)]))]) [0] rfl
      have hDc := hD.sub (ws' := [(h0, .inr (0, [.int (nI n), .int (nI k)]))]) [0] (by decide) rfl
      have hKc := hK.sub (tys' := []) [] rfl
      have hFc := va_free (wc := [(h0, .inr (0, [.int (nI n), .int (nI k)]))]) hD hS hA [0] rfl
      refine va_calll (va_runV (As := [.int (nI 4)]) (rest := []) ⟨hx, hb, hml, hown, hts⟩ (metX0_power l dC dI h0 s.heap.size n k 4 (by decide) hk) (cwV 1 hts (lw_V q40 q42 qs1 q7 q43) rfl rfl rfl (by decide +kernel) ⟨Nat.le_of_ble_eq_true rfl, Nat.le_of_ble_eq_true rfl⟩) ⟨fun a U g mk q => by obtain ⟨q0, q1, qP, qK, qD⟩ := q; exact ⟨q0, q1, qP, va_K.moved (u := U) (U := U.calling g mk a) (Vm.Alike.refl U.vm) qK, qD⟩, va_recv hKc hPc (ci := 0) (q0 := 0) rfl rfl, fun U hU hW => ⟨rfl, by rw [hU], by rw [hU]; exact hPc, va_K.moved hW.alike hKc, hDc.weaken (fun _ _ _ _ => trivial)⟩⟩ rfl rfl hl.1 rfl (lv_room (Nat.le_of_ble_eq_true rfl)) dX0_whole_18 ⟨Nat.le_of_ble_eq_true rfl, Nat.le_of_ble_eq_true rfl⟩) hS (fun q _ h => hFc q h) hFc (fun r_18 u t H1 locs ht hvm hw hB hz1 hk1 hS => ?_)
      obtain ⟨hP1, hK1, hD1⟩ := hB
      rw [ht] at hP1
      obtain ⟨hP, hD⟩ := va_join (wr := []) (w1 := [(h0, .inr (0, [.int (nI n), .int (nI k)]))]) hP hD [0] [] rfl rfl (by decide) (by decide) hk1 hFc hP1 hD1
      generalize H1 = H at hP hS ⊢
      have hP : va_P (dC, dI) vwCl [(h0, .inr (0, [.int (nI n), .int (nI k)]))] H := hP
      have hD : va_D A [(h0, .inr (0, [.int (nI n), .int (nI k)]))] := hD
      have hw : r_18 = lN (k ^ 4) := hw
      subst hw
      refine lv_aload_n hx hb dX0_whole_21 rfl (lv_at hl 0 rfl) ?_
      refine lv_iconst (v := nI 2) hx hb dX0_whole_22 (by decide) ?_
      have hPc := hP.sub (ws' := [(h0, .inr (0, [.int (nI n), .int (nI k)]))]) [0] rfl
      have hDc := hD.sub (ws' := [(h0, .inr (0, [.int (nI n), .int (nI k)]))]) [0] (by decide) rfl
      have hKc := hK.sub (tys' := []) [] rfl
      have hFc := va_free (wc := [(h0, .inr (0, [.int (nI n), .int (nI k)]))]) hD hS hA [0] rfl
      refine va_calll (va_runV (As := [.int (nI 2)]) (rest := [.long (lN (k ^ 4))]) ⟨hx, hb, hml, hown, hts⟩ (metX0_power l dC dI h0 H.size n k 2 (by decide) hk) (cwV 1 hts (lw_V q40 q42 qs1 q7 q43) rfl rfl rfl (by decide +kernel) ⟨Nat.le_of_ble_eq_true rfl, Nat.le_of_ble_eq_true rfl⟩) ⟨fun a U g mk q => by obtain ⟨q0, q1, qP, qK, qD⟩ := q; exact ⟨q0, q1, qP, va_K.moved (u := U) (U := U.calling g mk a) (Vm.Alike.refl U.vm) qK, qD⟩, va_recv hKc hPc (ci := 0) (q0 := 0) rfl rfl, fun U hU hW => ⟨rfl, by rw [hU], by rw [hU]; exact hPc, va_K.moved hW.alike hKc, hDc.weaken (fun _ _ _ _ => trivial)⟩⟩ rfl rfl hl.1 rfl (lv_room (Nat.le_of_ble_eq_true rfl)) dX0_whole_23 ⟨Nat.le_of_ble_eq_true rfl, Nat.le_of_ble_eq_true rfl⟩) hS (fun q _ h => hFc q h) hFc (fun r_23 u t H1 locs ht hvm hw hB hz1 hk1 hS => ?_)
      obtain ⟨hP1, hK1, hD1⟩ := hB
      rw [ht] at hP1
      obtain ⟨hP, hD⟩ := va_join (wr := []) (w1 := [(h0, .inr (0, [.int (nI n), .int (nI k)]))]) hP hD [0] [] rfl rfl (by decide) (by decide) hk1 hFc hP1 hD1
      generalize H1 = H at hP hS ⊢
      have hP : va_P (dC, dI) vwCl [(h0, .inr (0, [.int (nI n), .int (nI k)]))] H := hP
      have hD : va_D A [(h0, .inr (0, [.int (nI n), .int (nI k)]))] := hD
      have hw : r_23 = lN (k ^ 2) := hw
      subst hw
      refine lv_lsub hx hb dX0_whole_26 ?_
      refine lv_goto (tgt := 41) hx hb dX0_whole_27 (by decide) ?_
      have hP9 := hP.sub (ws' := [(h0, .inr (0, [.int (nI n), .int (nI k)]))]) [0] rfl
      have hD9 := hD.sub (ws' := [(h0, .inr (0, [.int (nI n), .int (nI k)]))]) [0] (by decide) rfl
      exact W.lret (v := lN (k ^ 4) - lN (k ^ 2)) hx hb hr (fun t ht hW => ⟨⟨lN (k ^ 4) - lN (k ^ 2), (), rfl, by rw [bd_wh, if_neg c_2, if_pos c_13], by rw [ht]; exact hP9, va_K.moved hW.alike hK, hD9⟩, hS.F ht⟩) hS.2.2 dX0_whole_41
  · refine lv_aload_n hx hb dX0_whole_5 rfl (lv_at hl 0 rfl) ?_
    refine lv_iconst (v := nI 1) hx hb dX0_whole_6 (by decide) ?_
    have hPc := hP.sub (ws' := [(h0, .inr (0, [.int (nI n), .int (nI k)]))]) [0] rfl
    have hDc := hD.sub (ws' := [(h0, .inr (0, [.int (nI n), .int (nI k)]))]) [0] (by decide) rfl
    have hKc := hK.sub (tys' := []) [] rfl
    have hFc := va_free (wc := [(h0, .inr (0, [.int (nI n), .int (nI k)]))]) hD hS hA [0] rfl
    refine va_calll (va_runV (As := [.int (nI 1)]) (rest := []) ⟨hx, hb, hml, hown, hts⟩ (metX0_power l dC dI h0 s.heap.size n k 1 (by decide) hk) (cwV 1 hts (lw_V q40 q42 qs1 q7 q43) rfl rfl rfl (by decide +kernel) ⟨Nat.le_of_ble_eq_true rfl, Nat.le_of_ble_eq_true rfl⟩) ⟨fun a U g mk q => by obtain ⟨q0, q1, qP, qK, qD⟩ := q; exact ⟨q0, q1, qP, va_K.moved (u := U) (U := U.calling g mk a) (Vm.Alike.refl U.vm) qK, qD⟩, va_recv hKc hPc (ci := 0) (q0 := 0) rfl rfl, fun U hU hW => ⟨rfl, by rw [hU], by rw [hU]; exact hPc, va_K.moved hW.alike hKc, hDc.weaken (fun _ _ _ _ => trivial)⟩⟩ rfl rfl hl.1 rfl (lv_room (Nat.le_of_ble_eq_true rfl)) dX0_whole_7 ⟨Nat.le_of_ble_eq_true rfl, Nat.le_of_ble_eq_true rfl⟩) hS (fun q _ h => hFc q h) hFc (fun r_7 u t H1 locs ht hvm hw hB hz1 hk1 hS => ?_)
    obtain ⟨hP1, hK1, hD1⟩ := hB
    rw [ht] at hP1
    obtain ⟨hP, hD⟩ := va_join (wr := []) (w1 := [(h0, .inr (0, [.int (nI n), .int (nI k)]))]) hP hD [0] [] rfl rfl (by decide) (by decide) hk1 hFc hP1 hD1
    generalize H1 = H at hP hS ⊢
    have hP : va_P (dC, dI) vwCl [(h0, .inr (0, [.int (nI n), .int (nI k)]))] H := hP
    have hD : va_D A [(h0, .inr (0, [.int (nI n), .int (nI k)]))] := hD
    have hw : r_7 = lN (k ^ 1) := hw
    subst hw
    have hP9 := hP.sub (ws' := [(h0, .inr (0, [.int (nI n), .int (nI k)]))]) [0] rfl
    have hD9 := hD.sub (ws' := [(h0, .inr (0, [.int (nI n), .int (nI k)]))]) [0] (by decide) rfl
    exact W.lret (v := lN (k ^ 1)) hx hb hr (fun t ht hW => ⟨⟨lN (k ^ 1), (), rfl, by rw [bd_wh, if_pos c_2], by rw [ht]; exact hP9, va_K.moved hW.alike hK, hD9⟩, hS.F ht⟩) hS.2.2 dX0_whole_10
set_option maxHeartbeats 4000000 in
set_option maxRecDepth 100000 in
/-- own's loop -/
theorem bd_ow_loop {p : Program} {l : Launch} {e : Env} {s : State} {m : MethodId} {args : Array Value} {below : List Frame} {meth : Method} {c : Code} {Q : State → Prop} {dC : Nat → ClassId} {dI : Nat → Nat → Nat} {A : Nat → Prop} (hx : p.tables.exec = Jvm.exec) (hb : c.code = cX0_own) (hml : c.maxLocals = 5) (hown : s.vm.findClass RX0 = some m.cls) (hts : ∀ w ∈ lw_all, w.before args s = true) (hA : ∀ q : Nat, s.heap.size ≤ q → A q) (hK : va_K (dC, dI) vwCl [] s) {h0 n k : Nat} (hn : 1 ≤ n ∧ n ≤ 8) (hk : k < 2 ^ 31)
    (K : ∀ (H : Heap) (locs : List Loc) (ls : Array Slot), va_P (dC, dI) vwCl [(h0, .inr (0, [.int (nI n), .int (nI k)]))] H → va_D A [(h0, .inr (0, [.int (nI n), .int (nI k)]))] → va_S A s.heap H locs → lv_has ls 5 [(2, .long (bd_ow n k (n - 1)))] → W p l e (headSpec wsX0_own ({ frames := 2, cells := 0, slots := 0, locals := 45 })).room s m args below meth c H locs 0 0 Q (F0 m 37 ls [])) :
    ∀ (j i : Nat), i + 1 ≤ n → n < i + 1 + j → ∀ (H : Heap) (locs : List Loc) (ls : Array Slot), va_P (dC, dI) vwCl [(h0, .inr (0, [.int (nI n), .int (nI k)]))] H → va_D A [(h0, .inr (0, [.int (nI n), .int (nI k)]))] → va_S A s.heap H locs → lv_has ls 5 [(0, .ref h0), (1, .int (nI n)), (2, .long (bd_ow n k i)), (4, .int (nI (i + 1)))] → W p l e (headSpec wsX0_own ({ frames := 2, cells := 0, slots := 0, locals := 45 })).room s m args below meth c H locs 0 0 Q (F0 m 9 ls []) := by
  intro j
  induction j with
  | zero =>
    intro i h1 h2
    exact absurd h2 (by omega)
  | succ j ih =>
    intro i h1 h2 H locs ls hP hD hS hl
    refine lv_iload hx hb dX0_own_9 (lv_at hl 3 rfl) ?_
    refine lv_iload_n hx hb dX0_own_11 rfl (lv_at hl 1 rfl) ?_
    refine bd_ge (tgt := 37) hx hb dX0_own_12 (by decide) (by omega) (by omega) (fun c_12 => ?_) (fun c_12 => ?_)
    · have e1 : i = n - 1 := by omega
      subst e1
      exact K H locs ls hP hD hS (lv_sub hl [2] rfl)
    · refine lv_iload_n hx hb dX0_own_15 rfl (lv_at hl 1 rfl) ?_
      refine lv_iload hx hb dX0_own_16 (lv_at hl 3 rfl) ?_
      refine lv_irem hx hb dX0_own_18 (nI_ne0 (by omega) (by omega)) ?_
      refine bd_i (y := nI (n % (i + 1))) (pk_rem (by omega) (by omega) (by omega)) ?_
      refine bd_ifne (tgt := 31) hx hb dX0_own_19 (by decide) (by have h := Nat.mod_lt n (show 0 < i + 1 by omega); omega) (fun c_19 => ?_) (fun c_19 => ?_)
      · refine lv_iinc (v := nI ((i + 1) + 1)) (lv' := [(4, .int (nI ((i + 1) + 1))), (0, .ref h0), (1, .int (nI n)), (2, .long (bd_ow n k i))]) hx hb dX0_own_31 hl (k := 3) rfl (nI_1 (i + 1)) (by decide) rfl (fun ls hl => ?_)
        refine lv_goto (tgt := 9) hx hb dX0_own_34 (by decide) ?_
        exact ih (i + 1) c_12 (by omega) _ _ ls hP hD hS (by rw [bd_ow_n c_19]; exact lv_sub hl [1, 2, 3, 0] rfl)
      · refine lv_lload_n hx hb dX0_own_22 rfl (lv_at hl 2 rfl) ?_
        refine lv_aload_n hx hb dX0_own_23 rfl (lv_at hl 0 rfl) ?_
        refine lv_iload hx hb dX0_own_24 (lv_at hl 3 rfl) ?_
        have hPc := hP.sub (ws' := [(h0, .inr (0, [.int (nI n), .int (nI k)]))]) [0] rfl
        have hDc := hD.sub (ws' := [(h0, .inr (0, [.int (nI n), .int (nI k)]))]) [0] (by decide) rfl
        have hKc := hK.sub (tys' := []) [] rfl
        have hFc := va_free (wc := [(h0, .inr (0, [.int (nI n), .int (nI k)]))]) hD hS hA [0] rfl
        refine va_calll (va_runV (As := [.int (nI (i + 1))]) (rest := [.long (bd_ow n k i)]) ⟨hx, hb, hml, hown, hts⟩ (metX0_whole l dC dI h0 H.size n k (i + 1) (by omega) hk) (cwV 1 hts (lw_V q60 q62 qs4 q7 q63) rfl rfl rfl (by decide +kernel) ⟨Nat.le_of_ble_eq_true rfl, Nat.le_of_ble_eq_true rfl⟩) ⟨fun a U g mk q => by obtain ⟨q0, q1, qP, qK, qD⟩ := q; exact ⟨q0, q1, qP, va_K.moved (u := U) (U := U.calling g mk a) (Vm.Alike.refl U.vm) qK, qD⟩, va_recv hKc hPc (ci := 0) (q0 := 0) rfl rfl, fun U hU hW => ⟨rfl, by rw [hU], by rw [hU]; exact hPc, va_K.moved hW.alike hKc, hDc.weaken (fun _ _ _ _ => trivial)⟩⟩ rfl rfl hl.1 rfl (lv_room (Nat.le_of_ble_eq_true rfl)) dX0_own_26 ⟨Nat.le_of_ble_eq_true rfl, Nat.le_of_ble_eq_true rfl⟩) hS (fun q _ h => hFc q h) hFc (fun r_26 u t H1 locs ht hvm hw hB hz1 hk1 hS => ?_)
        obtain ⟨hP1, hK1, hD1⟩ := hB
        rw [ht] at hP1
        obtain ⟨hP, hD⟩ := va_join (wr := []) (w1 := [(h0, .inr (0, [.int (nI n), .int (nI k)]))]) hP hD [0] [] rfl rfl (by decide) (by decide) hk1 hFc hP1 hD1
        generalize H1 = H at hP hS ⊢
        have hP : va_P (dC, dI) vwCl [(h0, .inr (0, [.int (nI n), .int (nI k)]))] H := hP
        have hD : va_D A [(h0, .inr (0, [.int (nI n), .int (nI k)]))] := hD
        have hw : r_26 = bd_wh k (i + 1) := hw
        subst hw
        refine lv_lsub hx hb dX0_own_29 ?_
        refine bd_l (y := bd_ow n k (i + 1)) (bd_ow_y c_19) ?_
        refine lv_lstore_n (lv' := [(2, .long (bd_ow n k (i + 1))), (0, .ref h0), (1, .int (nI n)), (4, .int (nI (i + 1)))]) hx hb dX0_own_30 rfl hl (by decide) rfl (fun ls hl => ?_)
        refine lv_iinc (v := nI ((i + 1) + 1)) (lv' := [(4, .int (nI ((i + 1) + 1))), (2, .long (bd_ow n k (i + 1))), (0, .ref h0), (1, .int (nI n))]) hx hb dX0_own_31 hl (k := 3) rfl (nI_1 (i + 1)) (by decide) rfl (fun ls hl => ?_)
        refine lv_goto (tgt := 9) hx hb dX0_own_34 (by decide) ?_
        exact ih (i + 1) c_12 (by omega) _ _ ls hP hD hS (lv_sub hl [2, 3, 1, 0] rfl)
set_option maxHeartbeats 4000000 in
set_option maxRecDepth 100000 in
/-- own(n) -/
theorem metX0_own (l : Launch) (dC : Nat → ClassId) (dI : Nat → Nat → Nat) (h0 sz n k : Nat) (hn : 1 ≤ n ∧ n ≤ 8) (hk : k < 2 ^ 31) : Met l yX0_own wsX0_own ({ frames := 2, cells := 0, slots := 0, locals := 45 }) (va_Pc [.ref h0, .int (nI n)] (fun U => U.heap.size = sz ∧ va_P (dC, dI) vwCl [(h0, .inr (0, [.int (nI n), .int (nI k)]))] U.heap ∧ va_K (dC, dI) vwCl [] U ∧ va_D (fun _ => True) [(h0, .inr (0, [.int (nI n), .int (nI k)]))])) (va_Ql (fun (r : Int64) (_ : Unit) => r = bd_ow n k (n - 1)) (BX0 dC dI (va_A [(h0, .inr (0, [.int (nI n), .int (nI k)]))] sz) h0 n k) (va_A [(h0, .inr (0, [.int (nI n), .int (nI k)]))] sz)) 0 0 (va_A [(h0, .inr (0, [.int (nI n), .int (nI k)]))] sz) := by
  refine Met.ofW (cc := cX0_own) (maxL := 5) (ret := (some .long)) (by decide) rfl ?_
  intro p e s m args below meth c s₁ B hml hv
  obtain ⟨rfl, hsz, hP, hK, hD0⟩ := hv
  have hx := B.exec
  have hb := B.bytes
  have hr := B.returns
  have hts := atoms_spec (ws := wsX0_own) B.pre
  have hts : ∀ w ∈ lw_all, w.before _ s = true := fun w h => hts w (List.mem_cons_of_mem _ h)
  have hown : s.vm.findClass RX0 = some m.cls := findClass_of_methodNamed B.named
  have hlocks := B.notSynchronized
  subst hsz
  have hD := hD0.self (sz := s.heap.size)
  generalize hAe : va_A [(h0, .inr (0, [.int (nI n), .int (nI k)]))] s.heap.size = A at hD ⊢
  have hA : ∀ q : Nat, s.heap.size ≤ q → A q := fun q h => by rw [← hAe]; exact Or.inr h
  have hS : va_S A s.heap s.heap [] := va_S.rf
  have hP : va_P (dC, dI) vwCl [(h0, .inr (0, [.int (nI n), .int (nI k)]))] s.heap := hP
  have hl := lv_entry ([.ref h0, .int (nI n)]) (n := 5) (Nat.le_of_ble_eq_true rfl)
  rw [lg_entry_eq]
  generalize (lg_sl ([.ref h0, .int (nI n)]) ++ List.replicate (5 - (lg_sl ([.ref h0, .int (nI n)])).length) Slot.unset).toArray = ls at hl ⊢
  have hl : lv_has ls 5 [(0, .ref h0), (1, .int (nI n))] := hl
  refine lv_aload_n hx hb dX0_own_0 rfl (lv_at hl 0 rfl) ?_
  refine lv_iload_n hx hb dX0_own_1 rfl (lv_at hl 1 rfl) ?_
  have hPc := hP.sub (ws' := [(h0, .inr (0, [.int (nI n), .int (nI k)]))]) [0] rfl
  have hDc := hD.sub (ws' := [(h0, .inr (0, [.int (nI n), .int (nI k)]))]) [0] (by decide) rfl
  have hKc := hK.sub (tys' := []) [] rfl
  have hFc := va_free (wc := [(h0, .inr (0, [.int (nI n), .int (nI k)]))]) hD hS hA [0] rfl
  refine va_calll (va_runV (As := [.int (nI n)]) (rest := []) ⟨hx, hb, hml, hown, hts⟩ (metX0_power l dC dI h0 s.heap.size n k n (by omega) hk) (cwV 1 hts (lw_V q40 q42 qs1 q7 q43) rfl rfl rfl (by decide +kernel) ⟨Nat.le_of_ble_eq_true rfl, Nat.le_of_ble_eq_true rfl⟩) ⟨fun a U g mk q => by obtain ⟨q0, q1, qP, qK, qD⟩ := q; exact ⟨q0, q1, qP, va_K.moved (u := U) (U := U.calling g mk a) (Vm.Alike.refl U.vm) qK, qD⟩, va_recv hKc hPc (ci := 0) (q0 := 0) rfl rfl, fun U hU hW => ⟨rfl, by rw [hU], by rw [hU]; exact hPc, va_K.moved hW.alike hKc, hDc.weaken (fun _ _ _ _ => trivial)⟩⟩ rfl rfl hl.1 rfl (lv_room (Nat.le_of_ble_eq_true rfl)) dX0_own_2 ⟨Nat.le_of_ble_eq_true rfl, Nat.le_of_ble_eq_true rfl⟩) hS (fun q _ h => hFc q h) hFc (fun r_2 u t H1 locs ht hvm hw hB hz1 hk1 hS => ?_)
  obtain ⟨hP1, hK1, hD1⟩ := hB
  rw [ht] at hP1
  obtain ⟨hP, hD⟩ := va_join (wr := []) (w1 := [(h0, .inr (0, [.int (nI n), .int (nI k)]))]) hP hD [0] [] rfl rfl (by decide) (by decide) hk1 hFc hP1 hD1
  generalize H1 = H at hP hS ⊢
  have hP : va_P (dC, dI) vwCl [(h0, .inr (0, [.int (nI n), .int (nI k)]))] H := hP
  have hD : va_D A [(h0, .inr (0, [.int (nI n), .int (nI k)]))] := hD
  have hw : r_2 = lN (k ^ n) := hw
  subst hw
  refine bd_l (y := bd_ow n k 0) (rfl) ?_
  refine lv_lstore_n (lv' := [(2, .long (bd_ow n k 0)), (0, .ref h0), (1, .int (nI n))]) hx hb dX0_own_5 rfl hl (by decide) rfl (fun ls hl => ?_)
  refine lv_iconst (v := nI (0 + 1)) hx hb dX0_own_6 (by decide) ?_
  refine lv_istore (lv' := [(4, .int (nI (0 + 1))), (2, .long (bd_ow n k 0)), (0, .ref h0), (1, .int (nI n))]) hx hb dX0_own_7 hl (by decide) rfl (fun ls hl => ?_)
  refine bd_ow_loop hx hb hml hown hts hA hK hn hk (fun H locs ls hP hD hS hl => ?_) (n + 1) 0 hn.1 (by omega) _ _ ls hP hD hS (lv_sub hl [2, 3, 1, 0] rfl)
  refine lv_lload_n hx hb dX0_own_37 rfl (lv_at hl 0 rfl) ?_
  have hP9 := hP.sub (ws' := [(h0, .inr (0, [.int (nI n), .int (nI k)]))]) [0] rfl
  have hD9 := hD.sub (ws' := [(h0, .inr (0, [.int (nI n), .int (nI k)]))]) [0] (by decide) rfl
  exact W.lret (v := bd_ow n k (n - 1)) hx hb hr (fun t ht hW => ⟨⟨bd_ow n k (n - 1), (), rfl, rfl, by rw [ht]; exact hP9, va_K.moved hW.alike hK, hD9⟩, hS.F ht⟩) hS.2.2 dX0_own_38
set_option maxHeartbeats 4000000 in
set_option maxRecDepth 100000 in
/-- unlike() -/
theorem metX0_unlike (l : Launch) (dC : Nat → ClassId) (dI : Nat → Nat → Nat) (h0 sz n k : Nat) (hn : 1 ≤ n ∧ n ≤ 8) (hk : k < 2 ^ 31) : Met l yX0_unlike wsX0_unlike ({ frames := 3, cells := 0, slots := 0, locals := 69 }) (va_Pc [.ref h0] (fun U => U.heap.size = sz ∧ va_P (dC, dI) vwCl [(h0, .inr (0, [.int (nI n), .int (nI k)]))] U.heap ∧ va_K (dC, dI) vwCl [] U ∧ va_D (fun _ => True) [(h0, .inr (0, [.int (nI n), .int (nI k)]))])) (va_Ql (fun (r : Int64) (_ : Unit) => r = bd_ow n k (n - 1) / lN n) (BX0 dC dI (va_A [(h0, .inr (0, [.int (nI n), .int (nI k)]))] sz) h0 n k) (va_A [(h0, .inr (0, [.int (nI n), .int (nI k)]))] sz)) 0 0 (va_A [(h0, .inr (0, [.int (nI n), .int (nI k)]))] sz) := by
  refine Met.ofW (cc := cX0_unlike) (maxL := 1) (ret := (some .long)) (by decide) rfl ?_
  intro p e s m args below meth c s₁ B hml hv
  obtain ⟨rfl, hsz, hP, hK, hD0⟩ := hv
  have hx := B.exec
  have hb := B.bytes
  have hr := B.returns
  have hts := atoms_spec (ws := wsX0_unlike) B.pre
  have hts : ∀ w ∈ lw_all, w.before _ s = true := fun w h => hts w (List.mem_cons_of_mem _ h)
  have hown : s.vm.findClass RX0 = some m.cls := findClass_of_methodNamed B.named
  have hlocks := B.notSynchronized
  subst hsz
  have hD := hD0.self (sz := s.heap.size)
  generalize hAe : va_A [(h0, .inr (0, [.int (nI n), .int (nI k)]))] s.heap.size = A at hD ⊢
  have hA : ∀ q : Nat, s.heap.size ≤ q → A q := fun q h => by rw [← hAe]; exact Or.inr h
  have hS : va_S A s.heap s.heap [] := va_S.rf
  have hP : va_P (dC, dI) vwCl [(h0, .inr (0, [.int (nI n), .int (nI k)]))] s.heap := hP
  have hl := lv_entry ([.ref h0]) (n := 1) (Nat.le_of_ble_eq_true rfl)
  rw [lg_entry_eq]
  generalize (lg_sl ([.ref h0]) ++ List.replicate (1 - (lg_sl ([.ref h0])).length) Slot.unset).toArray = ls at hl ⊢
  have hl : lv_has ls 1 [(0, .ref h0)] := hl
  refine lv_aload_n hx hb dX0_unlike_0 rfl (lv_at hl 0 rfl) ?_
  refine lv_aload_n hx hb dX0_unlike_1 rfl (lv_at hl 0 rfl) ?_
  refine va_get (D := (dC, dI)) (ci := 0) (v := .int (nI n)) (C := RX0) (T := TX0) (N := 2) hx hb hts in_X0 hown hK hP 0 rfl rfl 0 (by decide) (hts _ q17) (fun _ h9 => h9) rfl dX0_unlike_2 ?_
  have hPc := hP.sub (ws' := [(h0, .inr (0, [.int (nI n), .int (nI k)]))]) [0] rfl
  have hDc := hD.sub (ws' := [(h0, .inr (0, [.int (nI n), .int (nI k)]))]) [0] (by decide) rfl
  have hKc := hK.sub (tys' := []) [] rfl
  have hFc := va_free (wc := [(h0, .inr (0, [.int (nI n), .int (nI k)]))]) hD hS hA [0] rfl
  refine va_calll (va_runV (As := [.int (nI n)]) (rest := []) ⟨hx, hb, hml, hown, hts⟩ (metX0_own l dC dI h0 s.heap.size n k hn hk) (cwV 1 hts (lw_V q56 q58 qs3 q7 q59) rfl rfl rfl (by decide +kernel) ⟨Nat.le_of_ble_eq_true rfl, Nat.le_of_ble_eq_true rfl⟩) ⟨fun a U g mk q => by obtain ⟨q0, q1, qP, qK, qD⟩ := q; exact ⟨q0, q1, qP, va_K.moved (u := U) (U := U.calling g mk a) (Vm.Alike.refl U.vm) qK, qD⟩, va_recv hKc hPc (ci := 0) (q0 := 0) rfl rfl, fun U hU hW => ⟨rfl, by rw [hU], by rw [hU]; exact hPc, va_K.moved hW.alike hKc, hDc.weaken (fun _ _ _ _ => trivial)⟩⟩ rfl rfl hl.1 rfl (lv_room (Nat.le_of_ble_eq_true rfl)) dX0_unlike_5 ⟨Nat.le_of_ble_eq_true rfl, Nat.le_of_ble_eq_true rfl⟩) hS (fun q _ h => hFc q h) hFc (fun r_5 u t H1 locs ht hvm hw hB hz1 hk1 hS => ?_)
  obtain ⟨hP1, hK1, hD1⟩ := hB
  rw [ht] at hP1
  obtain ⟨hP, hD⟩ := va_join (wr := []) (w1 := [(h0, .inr (0, [.int (nI n), .int (nI k)]))]) hP hD [0] [] rfl rfl (by decide) (by decide) hk1 hFc hP1 hD1
  generalize H1 = H at hP hS ⊢
  have hP : va_P (dC, dI) vwCl [(h0, .inr (0, [.int (nI n), .int (nI k)]))] H := hP
  have hD : va_D A [(h0, .inr (0, [.int (nI n), .int (nI k)]))] := hD
  have hw : r_5 = bd_ow n k (n - 1) := hw
  subst hw
  refine lv_aload_n hx hb dX0_unlike_8 rfl (lv_at hl 0 rfl) ?_
  refine va_get (D := (dC, dI)) (ci := 0) (v := .int (nI n)) (C := RX0) (T := TX0) (N := 2) hx hb hts in_X0 hown hK hP 0 rfl rfl 0 (by decide) (hts _ q17) (fun _ h9 => h9) rfl dX0_unlike_9 ?_
  refine lv_i2l (v := lN n) hx hb dX0_unlike_12 (nI_l (by omega)) ?_
  refine lv_ldiv hx hb dX0_unlike_13 (bd_lne hn.1 (by omega)) ?_
  have hP9 := hP.sub (ws' := [(h0, .inr (0, [.int (nI n), .int (nI k)]))]) [0] rfl
  have hD9 := hD.sub (ws' := [(h0, .inr (0, [.int (nI n), .int (nI k)]))]) [0] (by decide) rfl
  exact W.lret (v := bd_ow n k (n - 1) / lN n) hx hb hr (fun t ht hW => ⟨⟨bd_ow n k (n - 1) / lN n, (), rfl, rfl, by rw [ht]; exact hP9, va_K.moved hW.alike hK, hD9⟩, hS.F ht⟩) hS.2.2 dX0_unlike_14
set_option maxHeartbeats 4000000 in
set_option maxRecDepth 100000 in
/-- rows() -/
theorem metX0_rows (l : Launch) (dC : Nat → ClassId) (dI : Nat → Nat → Nat) (h0 sz n k : Nat) (hn : 1 ≤ n ∧ n ≤ 8) (hk : k < 2 ^ 31) : Met l yX0_rows wsX0_rows ({ frames := 1, cells := 0, slots := 0, locals := 24 }) (va_Pc [.ref h0] (fun U => U.heap.size = sz ∧ va_P (dC, dI) vwCl [(h0, .inr (0, [.int (nI n), .int (nI k)]))] U.heap ∧ va_K (dC, dI) vwCl [] U ∧ va_D (fun _ => True) [(h0, .inr (0, [.int (nI n), .int (nI k)]))])) (va_Ql (fun (r : Int64) (_ : Unit) => r = lN (k ^ n)) (BX0 dC dI (va_A [(h0, .inr (0, [.int (nI n), .int (nI k)]))] sz) h0 n k) (va_A [(h0, .inr (0, [.int (nI n), .int (nI k)]))] sz)) 0 0 (va_A [(h0, .inr (0, [.int (nI n), .int (nI k)]))] sz) := by
  refine Met.ofW (cc := cX0_rows) (maxL := 1) (ret := (some .long)) (by decide) rfl ?_
  intro p e s m args below meth c s₁ B hml hv
  obtain ⟨rfl, hsz, hP, hK, hD0⟩ := hv
  have hx := B.exec
  have hb := B.bytes
  have hr := B.returns
  have hts := atoms_spec (ws := wsX0_rows) B.pre
  have hts : ∀ w ∈ lw_all, w.before _ s = true := fun w h => hts w (List.mem_cons_of_mem _ h)
  have hown : s.vm.findClass RX0 = some m.cls := findClass_of_methodNamed B.named
  have hlocks := B.notSynchronized
  subst hsz
  have hD := hD0.self (sz := s.heap.size)
  generalize hAe : va_A [(h0, .inr (0, [.int (nI n), .int (nI k)]))] s.heap.size = A at hD ⊢
  have hA : ∀ q : Nat, s.heap.size ≤ q → A q := fun q h => by rw [← hAe]; exact Or.inr h
  have hS : va_S A s.heap s.heap [] := va_S.rf
  have hP : va_P (dC, dI) vwCl [(h0, .inr (0, [.int (nI n), .int (nI k)]))] s.heap := hP
  have hl := lv_entry ([.ref h0]) (n := 1) (Nat.le_of_ble_eq_true rfl)
  rw [lg_entry_eq]
  generalize (lg_sl ([.ref h0]) ++ List.replicate (1 - (lg_sl ([.ref h0])).length) Slot.unset).toArray = ls at hl ⊢
  have hl : lv_has ls 1 [(0, .ref h0)] := hl
  refine lv_aload_n hx hb dX0_rows_0 rfl (lv_at hl 0 rfl) ?_
  refine lv_aload_n hx hb dX0_rows_1 rfl (lv_at hl 0 rfl) ?_
  refine va_get (D := (dC, dI)) (ci := 0) (v := .int (nI n)) (C := RX0) (T := TX0) (N := 2) hx hb hts in_X0 hown hK hP 0 rfl rfl 0 (by decide) (hts _ q17) (fun _ h9 => h9) rfl dX0_rows_2 ?_
  have hPc := hP.sub (ws' := [(h0, .inr (0, [.int (nI n), .int (nI k)]))]) [0] rfl
  have hDc := hD.sub (ws' := [(h0, .inr (0, [.int (nI n), .int (nI k)]))]) [0] (by decide) rfl
  have hKc := hK.sub (tys' := []) [] rfl
  have hFc := va_free (wc := [(h0, .inr (0, [.int (nI n), .int (nI k)]))]) hD hS hA [0] rfl
  refine va_calll (va_runV (As := [.int (nI n)]) (rest := []) ⟨hx, hb, hml, hown, hts⟩ (metX0_power l dC dI h0 s.heap.size n k n (by omega) hk) (cwV 1 hts (lw_V q40 q42 qs1 q7 q43) rfl rfl rfl (by decide +kernel) ⟨Nat.le_of_ble_eq_true rfl, Nat.le_of_ble_eq_true rfl⟩) ⟨fun a U g mk q => by obtain ⟨q0, q1, qP, qK, qD⟩ := q; exact ⟨q0, q1, qP, va_K.moved (u := U) (U := U.calling g mk a) (Vm.Alike.refl U.vm) qK, qD⟩, va_recv hKc hPc (ci := 0) (q0 := 0) rfl rfl, fun U hU hW => ⟨rfl, by rw [hU], by rw [hU]; exact hPc, va_K.moved hW.alike hKc, hDc.weaken (fun _ _ _ _ => trivial)⟩⟩ rfl rfl hl.1 rfl (lv_room (Nat.le_of_ble_eq_true rfl)) dX0_rows_5 ⟨Nat.le_of_ble_eq_true rfl, Nat.le_of_ble_eq_true rfl⟩) hS (fun q _ h => hFc q h) hFc (fun r_5 u t H1 locs ht hvm hw hB hz1 hk1 hS => ?_)
  obtain ⟨hP1, hK1, hD1⟩ := hB
  rw [ht] at hP1
  obtain ⟨hP, hD⟩ := va_join (wr := []) (w1 := [(h0, .inr (0, [.int (nI n), .int (nI k)]))]) hP hD [0] [] rfl rfl (by decide) (by decide) hk1 hFc hP1 hD1
  generalize H1 = H at hP hS ⊢
  have hP : va_P (dC, dI) vwCl [(h0, .inr (0, [.int (nI n), .int (nI k)]))] H := hP
  have hD : va_D A [(h0, .inr (0, [.int (nI n), .int (nI k)]))] := hD
  have hw : r_5 = lN (k ^ n) := hw
  subst hw
  have hP9 := hP.sub (ws' := [(h0, .inr (0, [.int (nI n), .int (nI k)]))]) [0] rfl
  have hD9 := hD.sub (ws' := [(h0, .inr (0, [.int (nI n), .int (nI k)]))]) [0] (by decide) rfl
  exact W.lret (v := lN (k ^ n)) hx hb hr (fun t ht hW => ⟨⟨lN (k ^ n), (), rfl, rfl, by rw [ht]; exact hP9, va_K.moved hW.alike hK, hD9⟩, hS.F ht⟩) hS.2.2 dX0_rows_8
end
section
/-! reckon's loops, each with what follows it as a hypothesis (K). The object at h0 holds n, k; its array at h1 -/
set_option maxHeartbeats 4000000 in
set_option maxRecDepth 100000 in
/-- all: k to the n -/
theorem rk_all_loop {p : Program} {l : Launch} {e : Env} {R : Room} {s : State} {m : MethodId} {args : Array Value} {below : List Frame} {meth : Method} {c : Code} {cells slots : Nat} {Q : State → Prop} {dC : Nat → ClassId} {dI : Nat → Nat → Nat} {h0 h1 n k : Nat} {cA : ClassId} {kn : Int32} {v3 v4 v5 v6 : Int64} {f : Nat → Int32} {H : Heap} {locs : List Loc} (hx : p.tables.exec = Jvm.exec) (hb : c.code = cX1_reckon) (hown : s.vm.findClass RX1 = some m.cls) (hts : ∀ w ∈ lw_all, w.before args s = true) (hK : va_K (dC, dI) vwCl [(cA, .int)] s) (hok : bd_ok n k) (hP : va_P (dC, dI) vwCl [(h0, .inr (1, [.int (nI n), .int (nI k), .int kn, .long v3, .long v4, .long v5, .long v6, .ref h1])), (h1, .inl (cA, 9, .inl f))] H) (K : ∀ ls : Array Slot, lv_has ls 12 [(0, .ref h0), (1, .int (nI (k ^ n)))] → W p l e R s m args below meth c H locs cells slots Q (F0 m 58 ls [])) :
    ∀ (j i : Nat), i ≤ n → n < i + j → ∀ ls : Array Slot, lv_has ls 12 [(0, .ref h0), (1, .int (nI (k ^ i))), (2, .int (nI i))] → W p l e R s m args below meth c H locs cells slots Q (F0 m 37 ls []) := by
  intro j
  induction j with
  | zero =>
    intro i h1q h2q
    exact absurd h2q (by omega)
  | succ j ih =>
    intro i h1q h2q ls hl
    obtain ⟨⟨hn1, hn8⟩, hk1, hk3⟩ := id hok
    refine lv_iload_n hx hb dX1_reckon_37 rfl (lv_at hl 2 rfl) ?_
    refine lv_aload_n hx hb dX1_reckon_38 rfl (lv_at hl 0 rfl) ?_
    refine va_get (D := (dC, dI)) (ci := 1) (v := .int (nI n)) (C := RX1) (T := TX1) (N := 8) hx hb hts in_X1 hown hK hP 0 rfl rfl 0 (by decide) (hts _ q78) (fun _ h9 => h9) rfl dX1_reckon_39 ?_
    refine bd_ge (tgt := 58) hx hb dX1_reckon_42 (by decide) (by omega) (by omega) (fun c_42 => ?_) (fun c_42 => ?_)
    · have e1 : i = n := Nat.le_antisymm h1q c_42
      subst e1
      exact K ls (lv_sub hl [0, 1] rfl)
    · refine lv_iload_n hx hb dX1_reckon_45 rfl (lv_at hl 1 rfl) ?_
      refine lv_aload_n hx hb dX1_reckon_46 rfl (lv_at hl 0 rfl) ?_
      refine va_get (D := (dC, dI)) (ci := 1) (v := .int (nI k)) (C := RX1) (T := TX1) (N := 8) hx hb hts in_X1 hown hK hP 0 rfl rfl 1 (by decide) (hts _ q79) (fun _ h9 => h9) rfl dX1_reckon_47 ?_
      refine lv_imul hx hb dX1_reckon_50 ?_
      refine bd_i (y := nI (k ^ (i + 1))) (pk_mul _ _) ?_
      refine lv_istore_n (lv' := [(1, .int (nI (k ^ (i + 1)))), (0, .ref h0), (2, .int (nI i))]) hx hb dX1_reckon_51 rfl hl (by decide) rfl (fun ls hl => ?_)
      refine lv_iinc (v := nI (i + 1)) (lv' := [(2, .int (nI (i + 1))), (1, .int (nI (k ^ (i + 1)))), (0, .ref h0)]) hx hb dX1_reckon_52 hl (k := 2) rfl (nI_1 i) (by decide) rfl (fun ls hl => ?_)
      refine lv_goto (tgt := 37) hx hb dX1_reckon_55 (by decide) ?_
      exact ih (i + 1) c_42 (by omega) ls (lv_sub hl [2, 1, 0] rfl)
set_option maxHeartbeats 4000000 in
set_option maxRecDepth 100000 in
/-- the digits of the word w -/
theorem rk_dig_loop {p : Program} {l : Launch} {e : Env} {R : Room} {s : State} {m : MethodId} {args : Array Value} {below : List Frame} {meth : Method} {c : Code} {cells slots : Nat} {Q : State → Prop} {dC : Nat → ClassId} {dI : Nat → Nat → Nat} {A : Nat → Prop} {h0 h1 n k : Nat} {cA : ClassId} {kn : Int32} {v3 v4 v5 v6 : Int64} (hx : p.tables.exec = Jvm.exec) (hb : c.code = cX1_reckon) (hown : s.vm.findClass RX1 = some m.cls) (hts : ∀ w ∈ lw_all, w.before args s = true) (hK : va_K (dC, dI) vwCl [(cA, .int)] s) (hok : bd_ok n k) {a w : Nat} (hwb : w < 2 ^ 31) (K : ∀ (H : Heap) (locs : List Loc) (ls : Array Slot) (f : Nat → Int32), (∀ j, j < n → f j = nI (rk_g k w j)) → va_P (dC, dI) vwCl [(h0, .inr (1, [.int (nI n), .int (nI k), .int kn, .long v3, .long v4, .long v5, .long v6, .ref h1])), (h1, .inl (cA, 9, .inl f))] H → va_D A [(h0, .inr (1, [.int (nI n), .int (nI k), .int kn, .long v3, .long v4, .long v5, .long v6, .ref h1])), (h1, .inl (cA, 9, .inl f))] → va_S A s.heap H locs → lv_has ls 12 [(0, .ref h0), (1, .int (nI a)), (2, .int (nI w))] → W p l e R s m args below meth c H locs cells slots Q (F0 m 105 ls [])) :
    ∀ (j i : Nat), i ≤ n → n < i + j → ∀ (H : Heap) (locs : List Loc) (ls : Array Slot) (f : Nat → Int32), (∀ j, j < i → f j = nI (rk_g k w j)) → va_P (dC, dI) vwCl [(h0, .inr (1, [.int (nI n), .int (nI k), .int kn, .long v3, .long v4, .long v5, .long v6, .ref h1])), (h1, .inl (cA, 9, .inl f))] H → va_D A [(h0, .inr (1, [.int (nI n), .int (nI k), .int kn, .long v3, .long v4, .long v5, .long v6, .ref h1])), (h1, .inl (cA, 9, .inl f))] → va_S A s.heap H locs → lv_has ls 12 [(0, .ref h0), (1, .int (nI a)), (2, .int (nI w)), (3, .int (nI (rk_x k w i))), (4, .int (nI i))] → W p l e R s m args below meth c H locs cells slots Q (F0 m 70 ls []) := by
  intro j
  induction j with
  | zero =>
    intro i h1q h2q
    exact absurd h2q (by omega)
  | succ j ih =>
    intro i h1q h2q H locs ls f hf hP hD hS hl
    obtain ⟨⟨hn1, hn8⟩, hk1, hk3⟩ := id hok
    refine lv_iload hx hb dX1_reckon_70 (lv_at hl 4 rfl) ?_
    refine lv_aload_n hx hb dX1_reckon_72 rfl (lv_at hl 0 rfl) ?_
    refine va_get (D := (dC, dI)) (ci := 1) (v := .int (nI n)) (C := RX1) (T := TX1) (N := 8) hx hb hts in_X1 hown hK hP 0 rfl rfl 0 (by decide) (hts _ q78) (fun _ h9 => h9) rfl dX1_reckon_73 ?_
    refine bd_ge (tgt := 105) hx hb dX1_reckon_76 (by decide) (by omega) (by omega) (fun c_76 => ?_) (fun c_76 => ?_)
    · have e1 : i = n := Nat.le_antisymm h1q c_76
      subst e1
      exact K H locs ls f hf hP hD hS (lv_sub hl [0, 1, 2] rfl)
    · have hxl := rk_x_le k w i
      refine lv_aload_n hx hb dX1_reckon_79 rfl (lv_at hl 0 rfl) ?_
      refine va_get (D := (dC, dI)) (ci := 1) (v := .ref h1) (C := RX1) (T := TX1) (N := 8) hx hb hts in_X1 hown hK hP 0 rfl rfl 7 (by decide) (hts _ q85) (fun _ h9 => h9) rfl dX1_reckon_80 ?_
      refine lv_iload hx hb dX1_reckon_83 (lv_at hl 4 rfl) ?_
      refine lv_iload_n hx hb dX1_reckon_85 rfl (lv_at hl 3 rfl) ?_
      refine lv_aload_n hx hb dX1_reckon_86 rfl (lv_at hl 0 rfl) ?_
      refine va_get (D := (dC, dI)) (ci := 1) (v := .int (nI k)) (C := RX1) (T := TX1) (N := 8) hx hb hts in_X1 hown hK hP 0 rfl rfl 1 (by decide) (hts _ q79) (fun _ h9 => h9) rfl dX1_reckon_87 ?_
      refine lv_irem hx hb dX1_reckon_90 (nI_ne0 (by omega) (by omega)) ?_
      refine bd_i (y := nI ((rk_x k w i) % k)) (pk_rem (by omega) (by omega) (by omega)) ?_
      refine va_iast hx hb hK hP hD hS 1 0 rfl rfl (vp_in_nI (by omega) (by decide)) dX1_reckon_91 (fun H locs hP hD hS => ?_)
      have hP : va_P (dC, dI) vwCl [(h0, .inr (1, [.int (nI n), .int (nI k), .int kn, .long v3, .long v4, .long v5, .long v6, .ref h1])), (h1, .inl (cA, 9, .inl (upd f (nI i).toNatClampNeg (nI ((rk_x k w i) % k)))))] H := hP
      have hD : va_D A [(h0, .inr (1, [.int (nI n), .int (nI k), .int kn, .long v3, .long v4, .long v5, .long v6, .ref h1])), (h1, .inl (cA, 9, .inl (upd f (nI i).toNatClampNeg (nI ((rk_x k w i) % k)))))] := hD
      refine lv_iload_n hx hb dX1_reckon_92 rfl (lv_at hl 3 rfl) ?_
      refine lv_aload_n hx hb dX1_reckon_93 rfl (lv_at hl 0 rfl) ?_
      refine va_get (D := (dC, dI)) (ci := 1) (v := .int (nI k)) (C := RX1) (T := TX1) (N := 8) hx hb hts in_X1 hown hK hP 0 rfl rfl 1 (by decide) (hts _ q79) (fun _ h9 => h9) rfl dX1_reckon_94 ?_
      refine lv_idiv hx hb dX1_reckon_97 (nI_ne0 (by omega) (by omega)) ?_
      refine bd_i (y := nI (rk_x k w (i + 1))) (pk_div (by omega) (by omega) (by omega)) ?_
      refine lv_istore_n (lv' := [(3, .int (nI (rk_x k w (i + 1)))), (0, .ref h0), (1, .int (nI a)), (2, .int (nI w)), (4, .int (nI i))]) hx hb dX1_reckon_98 rfl hl (by decide) rfl (fun ls hl => ?_)
      refine lv_iinc (v := nI (i + 1)) (lv' := [(4, .int (nI (i + 1))), (3, .int (nI (rk_x k w (i + 1)))), (0, .ref h0), (1, .int (nI a)), (2, .int (nI w))]) hx hb dX1_reckon_99 hl (k := 4) rfl (nI_1 i) (by decide) rfl (fun ls hl => ?_)
      refine lv_goto (tgt := 70) hx hb dX1_reckon_102 (by decide) ?_
      refine ih (i + 1) c_76 (by omega) _ _ ls _ (fun j hj => ?_) hP hD hS (lv_sub hl [2, 3, 4, 1, 0] rfl)
      rw [nI_clamp (show i < 2 ^ 31 by omega)]
      rcases Nat.lt_or_ge j i with q | q
      · rw [pk_un (by omega)]; exact hf j q
      · have e1 : j = i := by omega
        subst e1
        rw [pk_us]; rfl
set_option maxHeartbeats 4000000 in
set_option maxRecDepth 100000 in
/-- turned by z: the first difference -/
theorem rk_D_loop {p : Program} {l : Launch} {e : Env} {R : Room} {s : State} {m : MethodId} {args : Array Value} {below : List Frame} {meth : Method} {c : Code} {cells slots : Nat} {Q : State → Prop} {dC : Nat → ClassId} {dI : Nat → Nat → Nat} {h0 h1 n k : Nat} {cA : ClassId} {kn : Int32} {v3 v4 v5 v6 : Int64} {b4 b5 b6 b7 : Int32} {f : Nat → Int32} {H : Heap} {locs : List Loc} {a w z : Nat} {ov dv : Int32} (hx : p.tables.exec = Jvm.exec) (hb : c.code = cX1_reckon) (hown : s.vm.findClass RX1 = some m.cls) (hts : ∀ w ∈ lw_all, w.before args s = true) (hK : va_K (dC, dI) vwCl [(cA, .int)] s) (hok : bd_ok n k) (hz : z < n) (hf : ∀ j, j < n → f j = nI (rk_g k w j)) (hP : va_P (dC, dI) vwCl [(h0, .inr (1, [.int (nI n), .int (nI k), .int kn, .long v3, .long v4, .long v5, .long v6, .ref h1])), (h1, .inl (cA, 9, .inl f))] H) (K : ∀ ls : Array Slot, lv_has ls 12 [(0, .ref h0), (1, .int (nI a)), (2, .int (nI w)), (4, .int b4), (5, .int b5), (6, .int b6), (7, .int b7), (8, .int (nI z)), (9, .int dv), (10, .int ov)] → W p l e R s m args below meth c H locs cells slots Q (F0 m 183 ls [])) :
    ∀ (j i : Nat), i ≤ n → n < i + j → ∀ (d : Int32) (ls : Array Slot), dv = (if d = 0 then rk_d (rk_g k w) (rk_hD n z) (n - i) i else d) → lv_has ls 12 [(0, .ref h0), (1, .int (nI a)), (2, .int (nI w)), (4, .int b4), (5, .int b5), (6, .int b6), (7, .int b7), (8, .int (nI z)), (9, .int d), (10, .int ov), (11, .int (nI i))] → W p l e R s m args below meth c H locs cells slots Q (F0 m 138 ls []) := by
  intro j
  induction j with
  | zero =>
    intro i h1q h2q
    exact absurd h2q (by omega)
  | succ j ih =>
    intro i h1q h2q d ls hd hl
    obtain ⟨⟨hn1, hn8⟩, hk1, hk3⟩ := id hok
    refine lv_iload hx hb dX1_reckon_138 (lv_at hl 10 rfl) ?_
    refine lv_aload_n hx hb dX1_reckon_140 rfl (lv_at hl 0 rfl) ?_
    refine va_get (D := (dC, dI)) (ci := 1) (v := .int (nI n)) (C := RX1) (T := TX1) (N := 8) hx hb hts in_X1 hown hK hP 0 rfl rfl 0 (by decide) (hts _ q78) (fun _ h9 => h9) rfl dX1_reckon_141 ?_
    refine bd_ge (tgt := 183) hx hb dX1_reckon_144 (by decide) (by omega) (by omega) (fun c_144 => ?_) (fun c_144 => ?_)
    · have e1 : i = n := Nat.le_antisymm h1q c_144
      subst e1
      have e2 : dv = d := by
        rw [hd, Nat.sub_self]
        by_cases q : d = 0
        · rw [if_pos q, q]; rfl
        · rw [if_neg q]
      exact K ls (by rw [e2]; exact lv_sub hl [0, 1, 2, 3, 4, 5, 6, 7, 8, 9] rfl)
    · refine lv_iload hx hb dX1_reckon_147 (lv_at hl 8 rfl) ?_
      refine lv_if_ne (tgt := 183) hx hb dX1_reckon_149 (by decide) (fun c_149 => ?_) (fun c_149 => ?_)
      · exact K ls (by rw [show dv = d by rw [hd, if_neg c_149]]; exact lv_sub hl [0, 1, 2, 3, 4, 5, 6, 7, 8, 9] rfl)
      · have hlt := Nat.mod_lt (i + z) hn1
        refine lv_aload_n hx hb dX1_reckon_152 rfl (lv_at hl 0 rfl) ?_
        refine va_get (D := (dC, dI)) (ci := 1) (v := .ref h1) (C := RX1) (T := TX1) (N := 8) hx hb hts in_X1 hown hK hP 0 rfl rfl 7 (by decide) (hts _ q85) (fun _ h9 => h9) rfl dX1_reckon_153 ?_
        refine lv_iload hx hb dX1_reckon_156 (lv_at hl 10 rfl) ?_
        refine lv_iload hx hb dX1_reckon_158 (lv_at hl 7 rfl) ?_
        refine lv_iadd hx hb dX1_reckon_160 ?_
        refine bd_i (y := nI (i + z)) (nI_add i z) ?_
        refine lv_aload_n hx hb dX1_reckon_161 rfl (lv_at hl 0 rfl) ?_
        refine va_get (D := (dC, dI)) (ci := 1) (v := .int (nI n)) (C := RX1) (T := TX1) (N := 8) hx hb hts in_X1 hown hK hP 0 rfl rfl 0 (by decide) (hts _ q78) (fun _ h9 => h9) rfl dX1_reckon_162 ?_
        refine lv_irem hx hb dX1_reckon_165 (nI_ne0 (by omega) (by omega)) ?_
        refine bd_i (y := nI ((i + z) % n)) (pk_rem (by omega) (by omega) (by omega)) ?_
        refine va_iald hx hb hK hP 1 0 rfl rfl (vp_in_nI (by omega) (by decide)) dX1_reckon_166 ?_
        refine bd_i (y := nI (rk_g k w ((i + z) % n))) (by rw [nI_clamp (by omega), hf _ (by omega)]) ?_
        refine lv_aload_n hx hb dX1_reckon_167 rfl (lv_at hl 0 rfl) ?_
        refine va_get (D := (dC, dI)) (ci := 1) (v := .ref h1) (C := RX1) (T := TX1) (N := 8) hx hb hts in_X1 hown hK hP 0 rfl rfl 7 (by decide) (hts _ q85) (fun _ h9 => h9) rfl dX1_reckon_168 ?_
        refine lv_iload hx hb dX1_reckon_171 (lv_at hl 10 rfl) ?_
        refine va_iald hx hb hK hP 1 0 rfl rfl (vp_in_nI (by omega) (by decide)) dX1_reckon_173 ?_
        refine bd_i (y := nI (rk_g k w i)) (by rw [nI_clamp (by omega), hf _ (by omega)]) ?_
        refine lv_isub hx hb dX1_reckon_174 ?_
        refine lv_istore (lv' := [(9, .int ((nI (rk_g k w ((i + z) % n))) - (nI (rk_g k w i)))), (0, .ref h0), (1, .int (nI a)), (2, .int (nI w)), (4, .int b4), (5, .int b5), (6, .int b6), (7, .int b7), (8, .int (nI z)), (10, .int ov), (11, .int (nI i))]) hx hb dX1_reckon_175 hl (by decide) rfl (fun ls hl => ?_)
        refine lv_iinc (v := nI (i + 1)) (lv' := [(11, .int (nI (i + 1))), (9, .int ((nI (rk_g k w ((i + z) % n))) - (nI (rk_g k w i)))), (0, .ref h0), (1, .int (nI a)), (2, .int (nI w)), (4, .int b4), (5, .int b5), (6, .int b6), (7, .int b7), (8, .int (nI z)), (10, .int ov)]) hx hb dX1_reckon_177 hl (k := 10) rfl (nI_1 i) (by decide) rfl (fun ls hl => ?_)
        refine lv_goto (tgt := 138) hx hb dX1_reckon_180 (by decide) ?_
        exact ih (i + 1) c_144 (by omega) _ ls (hd.trans ((if_pos c_149).trans (rk_d_step c_144))) (lv_sub hl [2, 3, 4, 5, 6, 7, 8, 9, 1, 10, 0] rfl)
set_option maxHeartbeats 4000000 in
set_option maxRecDepth 100000 in
/-- turned over by z: the first difference -/
theorem rk_E_loop {p : Program} {l : Launch} {e : Env} {R : Room} {s : State} {m : MethodId} {args : Array Value} {below : List Frame} {meth : Method} {c : Code} {cells slots : Nat} {Q : State → Prop} {dC : Nat → ClassId} {dI : Nat → Nat → Nat} {h0 h1 n k : Nat} {cA : ClassId} {kn : Int32} {v3 v4 v5 v6 : Int64} {b4 b5 b6 b7 : Int32} {f : Nat → Int32} {H : Heap} {locs : List Loc} {a w z : Nat} {ov dv : Int32} (hx : p.tables.exec = Jvm.exec) (hb : c.code = cX1_reckon) (hown : s.vm.findClass RX1 = some m.cls) (hts : ∀ w ∈ lw_all, w.before args s = true) (hK : va_K (dC, dI) vwCl [(cA, .int)] s) (hok : bd_ok n k) (hz : z < n) (hf : ∀ j, j < n → f j = nI (rk_g k w j)) (hP : va_P (dC, dI) vwCl [(h0, .inr (1, [.int (nI n), .int (nI k), .int kn, .long v3, .long v4, .long v5, .long v6, .ref h1])), (h1, .inl (cA, 9, .inl f))] H) (K : ∀ ls : Array Slot, lv_has ls 12 [(0, .ref h0), (1, .int (nI a)), (2, .int (nI w)), (4, .int b4), (5, .int b5), (6, .int b6), (7, .int b7), (8, .int (nI z)), (10, .int dv), (9, .int ov)] → W p l e R s m args below meth c H locs cells slots Q (F0 m 238 ls [])) :
    ∀ (j i : Nat), i ≤ n → n < i + j → ∀ (d : Int32) (ls : Array Slot), dv = (if d = 0 then rk_d (rk_g k w) (rk_hE n z) (n - i) i else d) → lv_has ls 12 [(0, .ref h0), (1, .int (nI a)), (2, .int (nI w)), (4, .int b4), (5, .int b5), (6, .int b6), (7, .int b7), (8, .int (nI z)), (10, .int d), (9, .int ov), (11, .int (nI i))] → W p l e R s m args below meth c H locs cells slots Q (F0 m 186 ls []) := by
  intro j
  induction j with
  | zero =>
    intro i h1q h2q
    exact absurd h2q (by omega)
  | succ j ih =>
    intro i h1q h2q d ls hd hl
    obtain ⟨⟨hn1, hn8⟩, hk1, hk3⟩ := id hok
    refine lv_iload hx hb dX1_reckon_186 (lv_at hl 10 rfl) ?_
    refine lv_aload_n hx hb dX1_reckon_188 rfl (lv_at hl 0 rfl) ?_
    refine va_get (D := (dC, dI)) (ci := 1) (v := .int (nI n)) (C := RX1) (T := TX1) (N := 8) hx hb hts in_X1 hown hK hP 0 rfl rfl 0 (by decide) (hts _ q78) (fun _ h9 => h9) rfl dX1_reckon_189 ?_
    refine bd_ge (tgt := 238) hx hb dX1_reckon_192 (by decide) (by omega) (by omega) (fun c_192 => ?_) (fun c_192 => ?_)
    · have e1 : i = n := Nat.le_antisymm h1q c_192
      subst e1
      have e2 : dv = d := by
        rw [hd, Nat.sub_self]
        by_cases q : d = 0
        · rw [if_pos q, q]; rfl
        · rw [if_neg q]
      exact K ls (by rw [e2]; exact lv_sub hl [0, 1, 2, 3, 4, 5, 6, 7, 8, 9] rfl)
    · refine lv_iload hx hb dX1_reckon_195 (lv_at hl 8 rfl) ?_
      refine lv_if_ne (tgt := 238) hx hb dX1_reckon_197 (by decide) (fun c_197 => ?_) (fun c_197 => ?_)
      · exact K ls (by rw [show dv = d by rw [hd, if_neg c_197]]; exact lv_sub hl [0, 1, 2, 3, 4, 5, 6, 7, 8, 9] rfl)
      · have hlt := Nat.mod_lt (2 * n - i + z) hn1
        refine lv_aload_n hx hb dX1_reckon_200 rfl (lv_at hl 0 rfl) ?_
        refine va_get (D := (dC, dI)) (ci := 1) (v := .ref h1) (C := RX1) (T := TX1) (N := 8) hx hb hts in_X1 hown hK hP 0 rfl rfl 7 (by decide) (hts _ q85) (fun _ h9 => h9) rfl dX1_reckon_201 ?_
        refine lv_iconst (v := nI 2) hx hb dX1_reckon_204 (by decide) ?_
        refine lv_aload_n hx hb dX1_reckon_205 rfl (lv_at hl 0 rfl) ?_
        refine va_get (D := (dC, dI)) (ci := 1) (v := .int (nI n)) (C := RX1) (T := TX1) (N := 8) hx hb hts in_X1 hown hK hP 0 rfl rfl 0 (by decide) (hts _ q78) (fun _ h9 => h9) rfl dX1_reckon_206 ?_
        refine lv_imul hx hb dX1_reckon_209 ?_
        refine bd_i (y := nI (2 * n)) (pk_mul 2 n) ?_
        refine lv_iload hx hb dX1_reckon_210 (lv_at hl 10 rfl) ?_
        refine lv_isub hx hb dX1_reckon_212 ?_
        refine bd_i (y := nI ((2 * n) - i)) (pk_sub (by omega)) ?_
        refine lv_iload hx hb dX1_reckon_213 (lv_at hl 7 rfl) ?_
        refine lv_iadd hx hb dX1_reckon_215 ?_
        refine bd_i (y := nI (((2 * n) - i) + z)) (nI_add ((2 * n) - i) z) ?_
        refine lv_aload_n hx hb dX1_reckon_216 rfl (lv_at hl 0 rfl) ?_
        refine va_get (D := (dC, dI)) (ci := 1) (v := .int (nI n)) (C := RX1) (T := TX1) (N := 8) hx hb hts in_X1 hown hK hP 0 rfl rfl 0 (by decide) (hts _ q78) (fun _ h9 => h9) rfl dX1_reckon_217 ?_
        refine lv_irem hx hb dX1_reckon_220 (nI_ne0 (by omega) (by omega)) ?_
        refine bd_i (y := nI ((((2 * n) - i) + z) % n)) (pk_rem (by omega) (by omega) (by omega)) ?_
        refine va_iald hx hb hK hP 1 0 rfl rfl (vp_in_nI (by omega) (by decide)) dX1_reckon_221 ?_
        refine bd_i (y := nI (rk_g k w ((2 * n - i + z) % n))) (by rw [nI_clamp (by omega), hf _ (by omega)]) ?_
        refine lv_aload_n hx hb dX1_reckon_222 rfl (lv_at hl 0 rfl) ?_
        refine va_get (D := (dC, dI)) (ci := 1) (v := .ref h1) (C := RX1) (T := TX1) (N := 8) hx hb hts in_X1 hown hK hP 0 rfl rfl 7 (by decide) (hts _ q85) (fun _ h9 => h9) rfl dX1_reckon_223 ?_
        refine lv_iload hx hb dX1_reckon_226 (lv_at hl 10 rfl) ?_
        refine va_iald hx hb hK hP 1 0 rfl rfl (vp_in_nI (by omega) (by decide)) dX1_reckon_228 ?_
        refine bd_i (y := nI (rk_g k w i)) (by rw [nI_clamp (by omega), hf _ (by omega)]) ?_
        refine lv_isub hx hb dX1_reckon_229 ?_
        refine lv_istore (lv' := [(10, .int ((nI (rk_g k w ((2 * n - i + z) % n))) - (nI (rk_g k w i)))), (0, .ref h0), (1, .int (nI a)), (2, .int (nI w)), (4, .int b4), (5, .int b5), (6, .int b6), (7, .int b7), (8, .int (nI z)), (9, .int ov), (11, .int (nI i))]) hx hb dX1_reckon_230 hl (by decide) rfl (fun ls hl => ?_)
        refine lv_iinc (v := nI (i + 1)) (lv' := [(11, .int (nI (i + 1))), (10, .int ((nI (rk_g k w ((2 * n - i + z) % n))) - (nI (rk_g k w i)))), (0, .ref h0), (1, .int (nI a)), (2, .int (nI w)), (4, .int b4), (5, .int b5), (6, .int b6), (7, .int b7), (8, .int (nI z)), (9, .int ov)]) hx hb dX1_reckon_232 hl (k := 10) rfl (nI_1 i) (by decide) rfl (fun ls hl => ?_)
        refine lv_goto (tgt := 186) hx hb dX1_reckon_235 (by decide) ?_
        exact ih (i + 1) c_192 (by omega) _ ls (hd.trans ((if_pos c_197).trans (rk_d_step c_192))) (lv_sub hl [2, 3, 4, 5, 6, 7, 8, 9, 1, 10, 0] rfl)
set_option maxHeartbeats 4000000 in
set_option maxRecDepth 100000 in
/-- first -/
theorem rk_seg1 {p : Program} {l : Launch} {e : Env} {R : Room} {s : State} {m : MethodId} {args : Array Value} {below : List Frame} {meth : Method} {c : Code} {cells slots : Nat} {Q : State → Prop} {h0 : Nat} {H : Heap} {locs : List Loc} {a w z : Nat} {dv ev : Int32} {x4 x5 x6 x7 : Bool} (hx : p.tables.exec = Jvm.exec) (hb : c.code = cX1_reckon) (hzb : z < 2 ^ 31) (K : ∀ ls : Array Slot, lv_has ls 12 [(0, .ref h0), (1, .int (nI a)), (2, .int (nI w)), (4, .int (bI (x4 && !decide (dv < 0)))), (5, .int (bI x5)), (6, .int (bI x6)), (7, .int (bI x7)), (8, .int (nI z)), (9, .int dv), (10, .int ev)] → W p l e R s m args below meth c H locs cells slots Q (F0 m 255 ls [])) : ∀ ls : Array Slot, lv_has ls 12 [(0, .ref h0), (1, .int (nI a)), (2, .int (nI w)), (4, .int (bI x4)), (5, .int (bI x5)), (6, .int (bI x6)), (7, .int (bI x7)), (8, .int (nI z)), (9, .int dv), (10, .int ev)] → W p l e R s m args below meth c H locs cells slots Q (F0 m 238 ls []) := by
  intro ls hl
  refine lv_iload hx hb dX1_reckon_238 (lv_at hl 3 rfl) ?_
  refine bd_ifeqB (tgt := 252) hx hb dX1_reckon_240 (by decide) (fun c_240 => ?_) (fun c_240 => ?_)
  · refine lv_iconst (v := bI (x4 && !decide (dv < 0))) hx hb dX1_reckon_252 (by rw [c_240, Bool.false_and]; decide) ?_
    refine lv_istore (lv' := [(4, .int (bI (x4 && !decide (dv < 0)))), (0, .ref h0), (1, .int (nI a)), (2, .int (nI w)), (5, .int (bI x5)), (6, .int (bI x6)), (7, .int (bI x7)), (8, .int (nI z)), (9, .int dv), (10, .int ev)]) hx hb dX1_reckon_253 hl (by decide) rfl (fun ls hl => ?_)
    exact K ls (lv_sub hl [1, 2, 3, 0, 4, 5, 6, 7, 8, 9] rfl)
  · refine lv_iload hx hb dX1_reckon_243 (lv_at hl 8 rfl) ?_
    refine lv_if_lt (tgt := 252) hx hb dX1_reckon_245 (by decide) (fun c_245 => ?_) (fun c_245 => ?_)
    · refine lv_iconst (v := bI (x4 && !decide (dv < 0))) hx hb dX1_reckon_252 (by rw [decide_eq_true c_245, Bool.not_true, Bool.and_false]; decide) ?_
      refine lv_istore (lv' := [(4, .int (bI (x4 && !decide (dv < 0)))), (0, .ref h0), (1, .int (nI a)), (2, .int (nI w)), (5, .int (bI x5)), (6, .int (bI x6)), (7, .int (bI x7)), (8, .int (nI z)), (9, .int dv), (10, .int ev)]) hx hb dX1_reckon_253 hl (by decide) rfl (fun ls hl => ?_)
      exact K ls (lv_sub hl [1, 2, 3, 0, 4, 5, 6, 7, 8, 9] rfl)
    · refine lv_iconst (v := bI (x4 && !decide (dv < 0))) hx hb dX1_reckon_248 (by rw [c_240, decide_eq_false c_245]; decide) ?_
      refine lv_goto (tgt := 253) hx hb dX1_reckon_249 (by decide) ?_
      refine lv_istore (lv' := [(4, .int (bI (x4 && !decide (dv < 0)))), (0, .ref h0), (1, .int (nI a)), (2, .int (nI w)), (5, .int (bI x5)), (6, .int (bI x6)), (7, .int (bI x7)), (8, .int (nI z)), (9, .int dv), (10, .int ev)]) hx hb dX1_reckon_253 hl (by decide) rfl (fun ls hl => ?_)
      exact K ls (lv_sub hl [1, 2, 3, 0, 4, 5, 6, 7, 8, 9] rfl)
set_option maxHeartbeats 4000000 in
set_option maxRecDepth 100000 in
/-- flip -/
theorem rk_seg2 {p : Program} {l : Launch} {e : Env} {R : Room} {s : State} {m : MethodId} {args : Array Value} {below : List Frame} {meth : Method} {c : Code} {cells slots : Nat} {Q : State → Prop} {h0 : Nat} {H : Heap} {locs : List Loc} {a w z : Nat} {dv ev : Int32} {x4 x5 x6 x7 : Bool} (hx : p.tables.exec = Jvm.exec) (hb : c.code = cX1_reckon) (hzb : z < 2 ^ 31) (K : ∀ ls : Array Slot, lv_has ls 12 [(0, .ref h0), (1, .int (nI a)), (2, .int (nI w)), (4, .int (bI x4)), (5, .int (bI (x5 && !decide (ev < 0)))), (6, .int (bI x6)), (7, .int (bI x7)), (8, .int (nI z)), (9, .int dv), (10, .int ev)] → W p l e R s m args below meth c H locs cells slots Q (F0 m 272 ls [])) : ∀ ls : Array Slot, lv_has ls 12 [(0, .ref h0), (1, .int (nI a)), (2, .int (nI w)), (4, .int (bI x4)), (5, .int (bI x5)), (6, .int (bI x6)), (7, .int (bI x7)), (8, .int (nI z)), (9, .int dv), (10, .int ev)] → W p l e R s m args below meth c H locs cells slots Q (F0 m 255 ls []) := by
  intro ls hl
  refine lv_iload hx hb dX1_reckon_255 (lv_at hl 4 rfl) ?_
  refine bd_ifeqB (tgt := 269) hx hb dX1_reckon_257 (by decide) (fun c_257 => ?_) (fun c_257 => ?_)
  · refine lv_iconst (v := bI (x5 && !decide (ev < 0))) hx hb dX1_reckon_269 (by rw [c_257, Bool.false_and]; decide) ?_
    refine lv_istore (lv' := [(5, .int (bI (x5 && !decide (ev < 0)))), (0, .ref h0), (1, .int (nI a)), (2, .int (nI w)), (4, .int (bI x4)), (6, .int (bI x6)), (7, .int (bI x7)), (8, .int (nI z)), (9, .int dv), (10, .int ev)]) hx hb dX1_reckon_270 hl (by decide) rfl (fun ls hl => ?_)
    exact K ls (lv_sub hl [1, 2, 3, 4, 0, 5, 6, 7, 8, 9] rfl)
  · refine lv_iload hx hb dX1_reckon_260 (lv_at hl 9 rfl) ?_
    refine lv_if_lt (tgt := 269) hx hb dX1_reckon_262 (by decide) (fun c_262 => ?_) (fun c_262 => ?_)
    · refine lv_iconst (v := bI (x5 && !decide (ev < 0))) hx hb dX1_reckon_269 (by rw [decide_eq_true c_262, Bool.not_true, Bool.and_false]; decide) ?_
      refine lv_istore (lv' := [(5, .int (bI (x5 && !decide (ev < 0)))), (0, .ref h0), (1, .int (nI a)), (2, .int (nI w)), (4, .int (bI x4)), (6, .int (bI x6)), (7, .int (bI x7)), (8, .int (nI z)), (9, .int dv), (10, .int ev)]) hx hb dX1_reckon_270 hl (by decide) rfl (fun ls hl => ?_)
      exact K ls (lv_sub hl [1, 2, 3, 4, 0, 5, 6, 7, 8, 9] rfl)
    · refine lv_iconst (v := bI (x5 && !decide (ev < 0))) hx hb dX1_reckon_265 (by rw [c_257, decide_eq_false c_262]; decide) ?_
      refine lv_goto (tgt := 270) hx hb dX1_reckon_266 (by decide) ?_
      refine lv_istore (lv' := [(5, .int (bI (x5 && !decide (ev < 0)))), (0, .ref h0), (1, .int (nI a)), (2, .int (nI w)), (4, .int (bI x4)), (6, .int (bI x6)), (7, .int (bI x7)), (8, .int (nI z)), (9, .int dv), (10, .int ev)]) hx hb dX1_reckon_270 hl (by decide) rfl (fun ls hl => ?_)
      exact K ls (lv_sub hl [1, 2, 3, 4, 0, 5, 6, 7, 8, 9] rfl)
set_option maxHeartbeats 4000000 in
set_option maxRecDepth 100000 in
/-- same -/
theorem rk_seg3 {p : Program} {l : Launch} {e : Env} {R : Room} {s : State} {m : MethodId} {args : Array Value} {below : List Frame} {meth : Method} {c : Code} {cells slots : Nat} {Q : State → Prop} {h0 : Nat} {H : Heap} {locs : List Loc} {a w z : Nat} {dv ev : Int32} {x4 x5 x6 x7 : Bool} (hx : p.tables.exec = Jvm.exec) (hb : c.code = cX1_reckon) (hzb : z < 2 ^ 31) (K : ∀ ls : Array Slot, lv_has ls 12 [(0, .ref h0), (1, .int (nI a)), (2, .int (nI w)), (4, .int (bI x4)), (5, .int (bI x5)), (6, .int (bI (x6 || (decide (0 < z) && decide (dv = 0))))), (7, .int (bI x7)), (8, .int (nI z)), (9, .int dv), (10, .int ev)] → W p l e R s m args below meth c H locs cells slots Q (F0 m 294 ls [])) : ∀ ls : Array Slot, lv_has ls 12 [(0, .ref h0), (1, .int (nI a)), (2, .int (nI w)), (4, .int (bI x4)), (5, .int (bI x5)), (6, .int (bI x6)), (7, .int (bI x7)), (8, .int (nI z)), (9, .int dv), (10, .int ev)] → W p l e R s m args below meth c H locs cells slots Q (F0 m 272 ls []) := by
  intro ls hl
  refine lv_iload hx hb dX1_reckon_272 (lv_at hl 5 rfl) ?_
  refine bd_ifneB (tgt := 287) hx hb dX1_reckon_274 (by decide) (fun c_274 => ?_) (fun c_274 => ?_)
  · refine lv_iconst (v := bI (x6 || (decide (0 < z) && decide (dv = 0)))) hx hb dX1_reckon_287 (by rw [c_274, Bool.true_or]; decide) ?_
    refine lv_goto (tgt := 292) hx hb dX1_reckon_288 (by decide) ?_
    refine lv_istore (lv' := [(6, .int (bI (x6 || (decide (0 < z) && decide (dv = 0))))), (0, .ref h0), (1, .int (nI a)), (2, .int (nI w)), (4, .int (bI x4)), (5, .int (bI x5)), (7, .int (bI x7)), (8, .int (nI z)), (9, .int dv), (10, .int ev)]) hx hb dX1_reckon_292 hl (by decide) rfl (fun ls hl => ?_)
    exact K ls (lv_sub hl [1, 2, 3, 4, 5, 0, 6, 7, 8, 9] rfl)
  · refine lv_iload hx hb dX1_reckon_277 (lv_at hl 7 rfl) ?_
    refine bd_ifle (tgt := 291) hx hb dX1_reckon_279 (by decide) hzb (fun c_279 => ?_) (fun c_279 => ?_)
    · refine lv_iconst (v := bI (x6 || (decide (0 < z) && decide (dv = 0)))) hx hb dX1_reckon_291 (by rw [c_274, decide_eq_false (show ¬ 0 < z by omega), Bool.false_and]; decide) ?_
      refine lv_istore (lv' := [(6, .int (bI (x6 || (decide (0 < z) && decide (dv = 0))))), (0, .ref h0), (1, .int (nI a)), (2, .int (nI w)), (4, .int (bI x4)), (5, .int (bI x5)), (7, .int (bI x7)), (8, .int (nI z)), (9, .int dv), (10, .int ev)]) hx hb dX1_reckon_292 hl (by decide) rfl (fun ls hl => ?_)
      exact K ls (lv_sub hl [1, 2, 3, 4, 5, 0, 6, 7, 8, 9] rfl)
    · refine lv_iload hx hb dX1_reckon_282 (lv_at hl 8 rfl) ?_
      refine lv_if_ne (tgt := 291) hx hb dX1_reckon_284 (by decide) (fun c_284 => ?_) (fun c_284 => ?_)
      · refine lv_iconst (v := bI (x6 || (decide (0 < z) && decide (dv = 0)))) hx hb dX1_reckon_291 (by rw [c_274, decide_eq_false c_284, Bool.and_false]; decide) ?_
        refine lv_istore (lv' := [(6, .int (bI (x6 || (decide (0 < z) && decide (dv = 0))))), (0, .ref h0), (1, .int (nI a)), (2, .int (nI w)), (4, .int (bI x4)), (5, .int (bI x5)), (7, .int (bI x7)), (8, .int (nI z)), (9, .int dv), (10, .int ev)]) hx hb dX1_reckon_292 hl (by decide) rfl (fun ls hl => ?_)
        exact K ls (lv_sub hl [1, 2, 3, 4, 5, 0, 6, 7, 8, 9] rfl)
      · refine lv_iconst (v := bI (x6 || (decide (0 < z) && decide (dv = 0)))) hx hb dX1_reckon_287 (by rw [c_274, decide_eq_true c_279, decide_eq_true c_284]; decide) ?_
        refine lv_goto (tgt := 292) hx hb dX1_reckon_288 (by decide) ?_
        refine lv_istore (lv' := [(6, .int (bI (x6 || (decide (0 < z) && decide (dv = 0))))), (0, .ref h0), (1, .int (nI a)), (2, .int (nI w)), (4, .int (bI x4)), (5, .int (bI x5)), (7, .int (bI x7)), (8, .int (nI z)), (9, .int dv), (10, .int ev)]) hx hb dX1_reckon_292 hl (by decide) rfl (fun ls hl => ?_)
        exact K ls (lv_sub hl [1, 2, 3, 4, 5, 0, 6, 7, 8, 9] rfl)
set_option maxHeartbeats 4000000 in
set_option maxRecDepth 100000 in
/-- mirror -/
theorem rk_seg4 {p : Program} {l : Launch} {e : Env} {R : Room} {s : State} {m : MethodId} {args : Array Value} {below : List Frame} {meth : Method} {c : Code} {cells slots : Nat} {Q : State → Prop} {h0 : Nat} {H : Heap} {locs : List Loc} {a w z : Nat} {dv ev : Int32} {x4 x5 x6 x7 : Bool} (hx : p.tables.exec = Jvm.exec) (hb : c.code = cX1_reckon) (hzb : z < 2 ^ 31) (K : ∀ ls : Array Slot, lv_has ls 12 [(0, .ref h0), (1, .int (nI a)), (2, .int (nI w)), (4, .int (bI x4)), (5, .int (bI x5)), (6, .int (bI x6)), (7, .int (bI (x7 || decide (ev = 0)))), (8, .int (nI z)), (9, .int dv), (10, .int ev)] → W p l e R s m args below meth c H locs cells slots Q (F0 m 311 ls [])) : ∀ ls : Array Slot, lv_has ls 12 [(0, .ref h0), (1, .int (nI a)), (2, .int (nI w)), (4, .int (bI x4)), (5, .int (bI x5)), (6, .int (bI x6)), (7, .int (bI x7)), (8, .int (nI z)), (9, .int dv), (10, .int ev)] → W p l e R s m args below meth c H locs cells slots Q (F0 m 294 ls []) := by
  intro ls hl
  refine lv_iload hx hb dX1_reckon_294 (lv_at hl 6 rfl) ?_
  refine bd_ifneB (tgt := 304) hx hb dX1_reckon_296 (by decide) (fun c_296 => ?_) (fun c_296 => ?_)
  · refine lv_iconst (v := bI (x7 || decide (ev = 0))) hx hb dX1_reckon_304 (by rw [c_296, Bool.true_or]; decide) ?_
    refine lv_goto (tgt := 309) hx hb dX1_reckon_305 (by decide) ?_
    refine lv_istore (lv' := [(7, .int (bI (x7 || decide (ev = 0)))), (0, .ref h0), (1, .int (nI a)), (2, .int (nI w)), (4, .int (bI x4)), (5, .int (bI x5)), (6, .int (bI x6)), (8, .int (nI z)), (9, .int dv), (10, .int ev)]) hx hb dX1_reckon_309 hl (by decide) rfl (fun ls hl => ?_)
    exact K ls (lv_sub hl [1, 2, 3, 4, 5, 6, 0, 7, 8, 9] rfl)
  · refine lv_iload hx hb dX1_reckon_299 (lv_at hl 9 rfl) ?_
    refine lv_if_ne (tgt := 308) hx hb dX1_reckon_301 (by decide) (fun c_301 => ?_) (fun c_301 => ?_)
    · refine lv_iconst (v := bI (x7 || decide (ev = 0))) hx hb dX1_reckon_308 (by rw [c_296, decide_eq_false c_301]; decide) ?_
      refine lv_istore (lv' := [(7, .int (bI (x7 || decide (ev = 0)))), (0, .ref h0), (1, .int (nI a)), (2, .int (nI w)), (4, .int (bI x4)), (5, .int (bI x5)), (6, .int (bI x6)), (8, .int (nI z)), (9, .int dv), (10, .int ev)]) hx hb dX1_reckon_309 hl (by decide) rfl (fun ls hl => ?_)
      exact K ls (lv_sub hl [1, 2, 3, 4, 5, 6, 0, 7, 8, 9] rfl)
    · refine lv_iconst (v := bI (x7 || decide (ev = 0))) hx hb dX1_reckon_304 (by rw [c_296, decide_eq_true c_301]; decide) ?_
      refine lv_goto (tgt := 309) hx hb dX1_reckon_305 (by decide) ?_
      refine lv_istore (lv' := [(7, .int (bI (x7 || decide (ev = 0)))), (0, .ref h0), (1, .int (nI a)), (2, .int (nI w)), (4, .int (bI x4)), (5, .int (bI x5)), (6, .int (bI x6)), (8, .int (nI z)), (9, .int dv), (10, .int ev)]) hx hb dX1_reckon_309 hl (by decide) rfl (fun ls hl => ?_)
      exact K ls (lv_sub hl [1, 2, 3, 4, 5, 6, 0, 7, 8, 9] rfl)
set_option maxHeartbeats 4000000 in
set_option maxRecDepth 100000 in
/-- all turns of the word w -/
theorem rk_z_loop {p : Program} {l : Launch} {e : Env} {R : Room} {s : State} {m : MethodId} {args : Array Value} {below : List Frame} {meth : Method} {c : Code} {cells slots : Nat} {Q : State → Prop} {dC : Nat → ClassId} {dI : Nat → Nat → Nat} {h0 h1 n k : Nat} {cA : ClassId} {kn : Int32} {v3 v4 v5 v6 : Int64} (hx : p.tables.exec = Jvm.exec) (hb : c.code = cX1_reckon) (hown : s.vm.findClass RX1 = some m.cls) (hts : ∀ w ∈ lw_all, w.before args s = true) (hK : va_K (dC, dI) vwCl [(cA, .int)] s) (hok : bd_ok n k) {f : Nat → Int32} {H : Heap} {locs : List Loc} {a w : Nat} (hf : ∀ j, j < n → f j = nI (rk_g k w j)) (hP : va_P (dC, dI) vwCl [(h0, .inr (1, [.int (nI n), .int (nI k), .int kn, .long v3, .long v4, .long v5, .long v6, .ref h1])), (h1, .inl (cA, 9, .inl f))] H) (K : ∀ ls : Array Slot, lv_has ls 12 [(0, .ref h0), (1, .int (nI a)), (2, .int (nI w)), (4, .int (bI (rk_fs n k w n))), (5, .int (bI (rk_fl n k w n))), (6, .int (bI (rk_sm n k w n))), (7, .int (bI (rk_mi n k w n)))] → W p l e R s m args below meth c H locs cells slots Q (F0 m 317 ls [])) :
    ∀ (j i : Nat), i ≤ n → n < i + j → ∀ ls : Array Slot, lv_has ls 12 [(0, .ref h0), (1, .int (nI a)), (2, .int (nI w)), (4, .int (bI (rk_fs n k w i))), (5, .int (bI (rk_fl n k w i))), (6, .int (bI (rk_sm n k w i))), (7, .int (bI (rk_mi n k w i))), (8, .int (nI i))] → W p l e R s m args below meth c H locs cells slots Q (F0 m 120 ls []) := by
  intro j
  induction j with
  | zero =>
    intro i h1q h2q
    exact absurd h2q (by omega)
  | succ j ih =>
    intro i h1q h2q ls hl
    obtain ⟨⟨hn1, hn8⟩, hk1, hk3⟩ := id hok
    refine lv_iload hx hb dX1_reckon_120 (lv_at hl 7 rfl) ?_
    refine lv_aload_n hx hb dX1_reckon_122 rfl (lv_at hl 0 rfl) ?_
    refine va_get (D := (dC, dI)) (ci := 1) (v := .int (nI n)) (C := RX1) (T := TX1) (N := 8) hx hb hts in_X1 hown hK hP 0 rfl rfl 0 (by decide) (hts _ q78) (fun _ h9 => h9) rfl dX1_reckon_123 ?_
    refine bd_ge (tgt := 317) hx hb dX1_reckon_126 (by decide) (by omega) (by omega) (fun c_126 => ?_) (fun c_126 => ?_)
    · have e1 : i = n := Nat.le_antisymm h1q c_126
      subst e1
      exact K ls (lv_sub hl [0, 1, 2, 3, 4, 5, 6] rfl)
    · refine lv_iconst (v := nI 0) hx hb dX1_reckon_129 (by decide) ?_
      refine lv_istore (lv' := [(9, .int (nI 0)), (0, .ref h0), (1, .int (nI a)), (2, .int (nI w)), (4, .int (bI (rk_fs n k w i))), (5, .int (bI (rk_fl n k w i))), (6, .int (bI (rk_sm n k w i))), (7, .int (bI (rk_mi n k w i))), (8, .int (nI i))]) hx hb dX1_reckon_130 hl (by decide) rfl (fun ls hl => ?_)
      refine lv_iconst (v := nI 0) hx hb dX1_reckon_132 (by decide) ?_
      refine lv_istore (lv' := [(10, .int (nI 0)), (9, .int (nI 0)), (0, .ref h0), (1, .int (nI a)), (2, .int (nI w)), (4, .int (bI (rk_fs n k w i))), (5, .int (bI (rk_fl n k w i))), (6, .int (bI (rk_sm n k w i))), (7, .int (bI (rk_mi n k w i))), (8, .int (nI i))]) hx hb dX1_reckon_133 hl (by decide) rfl (fun ls hl => ?_)
      refine lv_iconst (v := nI 0) hx hb dX1_reckon_135 (by decide) ?_
      refine lv_istore (lv' := [(11, .int (nI 0)), (10, .int (nI 0)), (9, .int (nI 0)), (0, .ref h0), (1, .int (nI a)), (2, .int (nI w)), (4, .int (bI (rk_fs n k w i))), (5, .int (bI (rk_fl n k w i))), (6, .int (bI (rk_sm n k w i))), (7, .int (bI (rk_mi n k w i))), (8, .int (nI i))]) hx hb dX1_reckon_136 hl (by decide) rfl (fun ls hl => ?_)
      refine rk_D_loop hx hb hown hts hK hok (dv := rk_D n k w i) c_126 hf hP (fun ls hl => ?_) (n + 1) 0 (Nat.zero_le n) (by omega) (nI 0) ls (if_pos (show nI 0 = 0 by decide)).symm (lv_sub hl [3, 4, 5, 6, 7, 8, 9, 10, 2, 1, 0] rfl)
      refine lv_iconst (v := nI 0) hx hb dX1_reckon_183 (by decide) ?_
      refine lv_istore (lv' := [(11, .int (nI 0)), (0, .ref h0), (1, .int (nI a)), (2, .int (nI w)), (4, .int (bI (rk_fs n k w i))), (5, .int (bI (rk_fl n k w i))), (6, .int (bI (rk_sm n k w i))), (7, .int (bI (rk_mi n k w i))), (8, .int (nI i)), (9, .int (rk_D n k w i)), (10, .int (nI 0))]) hx hb dX1_reckon_184 hl (by decide) rfl (fun ls hl => ?_)
      refine rk_E_loop hx hb hown hts hK hok (dv := rk_E n k w i) c_126 hf hP (fun ls hl => ?_) (n + 1) 0 (Nat.zero_le n) (by omega) (nI 0) ls (if_pos (show nI 0 = 0 by decide)).symm (lv_sub hl [1, 2, 3, 4, 5, 6, 7, 8, 10, 9, 0] rfl)
      refine rk_seg1 (h0 := h0) hx hb (show i < 2 ^ 31 by omega) (fun ls hl => ?_) ls (lv_sub hl [0, 1, 2, 3, 4, 5, 6, 7, 9, 8] rfl)
      have hl : lv_has ls 12 [(0, .ref h0), (1, .int (nI a)), (2, .int (nI w)), (4, .int (bI (rk_fs n k w (i + 1)))), (5, .int (bI (rk_fl n k w i))), (6, .int (bI (rk_sm n k w i))), (7, .int (bI (rk_mi n k w i))), (8, .int (nI i)), (9, .int (rk_D n k w i)), (10, .int (rk_E n k w i))] := hl
      refine rk_seg2 (h0 := h0) hx hb (show i < 2 ^ 31 by omega) (fun ls hl => ?_) ls (lv_sub hl [0, 1, 2, 3, 4, 5, 6, 7, 8, 9] rfl)
      have hl : lv_has ls 12 [(0, .ref h0), (1, .int (nI a)), (2, .int (nI w)), (4, .int (bI (rk_fs n k w (i + 1)))), (5, .int (bI (rk_fl n k w (i + 1)))), (6, .int (bI (rk_sm n k w i))), (7, .int (bI (rk_mi n k w i))), (8, .int (nI i)), (9, .int (rk_D n k w i)), (10, .int (rk_E n k w i))] := hl
      refine rk_seg3 (h0 := h0) hx hb (show i < 2 ^ 31 by omega) (fun ls hl => ?_) ls (lv_sub hl [0, 1, 2, 3, 4, 5, 6, 7, 8, 9] rfl)
      have hl : lv_has ls 12 [(0, .ref h0), (1, .int (nI a)), (2, .int (nI w)), (4, .int (bI (rk_fs n k w (i + 1)))), (5, .int (bI (rk_fl n k w (i + 1)))), (6, .int (bI (rk_sm n k w (i + 1)))), (7, .int (bI (rk_mi n k w i))), (8, .int (nI i)), (9, .int (rk_D n k w i)), (10, .int (rk_E n k w i))] := hl
      refine rk_seg4 (h0 := h0) hx hb (show i < 2 ^ 31 by omega) (fun ls hl => ?_) ls (lv_sub hl [0, 1, 2, 3, 4, 5, 6, 7, 8, 9] rfl)
      have hl : lv_has ls 12 [(0, .ref h0), (1, .int (nI a)), (2, .int (nI w)), (4, .int (bI (rk_fs n k w (i + 1)))), (5, .int (bI (rk_fl n k w (i + 1)))), (6, .int (bI (rk_sm n k w (i + 1)))), (7, .int (bI (rk_mi n k w (i + 1)))), (8, .int (nI i)), (9, .int (rk_D n k w i)), (10, .int (rk_E n k w i))] := hl
      refine lv_iinc (v := nI (i + 1)) (lv' := [(8, .int (nI (i + 1))), (0, .ref h0), (1, .int (nI a)), (2, .int (nI w)), (4, .int (bI (rk_fs n k w (i + 1)))), (5, .int (bI (rk_fl n k w (i + 1)))), (6, .int (bI (rk_sm n k w (i + 1)))), (7, .int (bI (rk_mi n k w (i + 1)))), (9, .int (rk_D n k w i)), (10, .int (rk_E n k w i))]) hx hb dX1_reckon_311 hl (k := 7) rfl (nI_1 i) (by decide) rfl (fun ls hl => ?_)
      refine lv_goto (tgt := 120) hx hb dX1_reckon_314 (by decide) ?_
      exact ih (i + 1) c_126 (by omega) ls (lv_sub hl [1, 2, 3, 4, 5, 6, 7, 0] rfl)
set_option maxHeartbeats 4000000 in
set_option maxRecDepth 100000 in
/-- over -/
theorem rk_cntO {p : Program} {l : Launch} {e : Env} {R : Room} {s : State} {m : MethodId} {args : Array Value} {below : List Frame} {meth : Method} {c : Code} {cells slots : Nat} {Q : State → Prop} {dC : Nat → ClassId} {dI : Nat → Nat → Nat} {A : Nat → Prop} {h0 h1 n k : Nat} {cA : ClassId} {kn : Int32} {v3 v5 v6 : Int64} {f : Nat → Int32} {a w cc : Nat} {x4 x5 x6 x7 : Bool} (hx : p.tables.exec = Jvm.exec) (hb : c.code = cX1_reckon) (hown : s.vm.findClass RX1 = some m.cls) (hts : ∀ w ∈ lw_all, w.before args s = true) (hK : va_K (dC, dI) vwCl [(cA, .int)] s) (hok : bd_ok n k) (H : Heap) (locs : List Loc) (ls : Array Slot) (hP : va_P (dC, dI) vwCl [(h0, .inr (1, [.int (nI n), .int (nI k), .int kn, .long v3, .long (lN cc), .long v5, .long v6, .ref h1])), (h1, .inl (cA, 9, .inl f))] H) (hD : va_D A [(h0, .inr (1, [.int (nI n), .int (nI k), .int kn, .long v3, .long (lN cc), .long v5, .long v6, .ref h1])), (h1, .inl (cA, 9, .inl f))]) (hS : va_S A s.heap H locs) (hl : lv_has ls 12 [(0, .ref h0), (1, .int (nI a)), (2, .int (nI w)), (4, .int (bI x4)), (5, .int (bI x5)), (6, .int (bI x6)), (7, .int (bI x7))]) (K : ∀ (H : Heap) (locs : List Loc), va_P (dC, dI) vwCl [(h0, .inr (1, [.int (nI n), .int (nI k), .int kn, .long v3, .long (lN (cc + (bif x5 then 1 else 0))), .long v5, .long v6, .ref h1])), (h1, .inl (cA, 9, .inl f))] H → va_D A [(h0, .inr (1, [.int (nI n), .int (nI k), .int kn, .long v3, .long (lN (cc + (bif x5 then 1 else 0))), .long v5, .long v6, .ref h1])), (h1, .inl (cA, 9, .inl f))] → va_S A s.heap H locs → W p l e R s m args below meth c H locs cells slots Q (F0 m 347 ls [])) : W p l e R s m args below meth c H locs cells slots Q (F0 m 332 ls []) := by
  refine lv_iload hx hb dX1_reckon_332 (lv_at hl 4 rfl) ?_
  refine bd_ifeqB (tgt := 347) hx hb dX1_reckon_334 (by decide) (fun c_334 => ?_) (fun c_334 => ?_)
  · rw [c_334] at K
    simp only [Bool.not_true, cond_false, Nat.add_zero] at K
    exact K H locs hP hD hS
  · rw [c_334] at K
    simp only [Bool.not_false, cond_true] at K
    refine lv_aload_n hx hb dX1_reckon_337 rfl (lv_at hl 0 rfl) ?_
    refine lv_aload_n hx hb dX1_reckon_338 rfl (lv_at hl 0 rfl) ?_
    refine va_get (D := (dC, dI)) (ci := 1) (v := .long (lN cc)) (C := RX1) (T := TX1) (N := 8) hx hb hts in_X1 hown hK hP 0 rfl rfl 4 (by decide) (hts _ q82) (fun _ h9 => h9) rfl dX1_reckon_339 ?_
    refine lv_lconst (v := lN 1) hx hb dX1_reckon_342 (by decide) ?_
    refine lv_ladd hx hb dX1_reckon_343 ?_
    refine bd_l (y := lN (cc + 1)) (lN_add cc 1) ?_
    refine va_put (D := (dC, dI)) (ci := 1) (v := .long (lN (cc + 1))) (ty := .long) (C := RX1) (T := TX1) (N := 8) hx hb hts in_X1 tyX1 tyX1_ok nmX1 hown hK hP hD hS 0 rfl rfl 4 (by decide) (hts _ q82) (fun _ h9 => h9) rfl (by decide +kernel) rfl rfl (Nat.le_of_ble_eq_true rfl) dX1_reckon_344 (fun H locs hP hD hS => ?_)
    have hP : va_P (dC, dI) vwCl [(h0, .inr (1, [.int (nI n), .int (nI k), .int kn, .long v3, .long (lN (cc + 1)), .long v5, .long v6, .ref h1])), (h1, .inl (cA, 9, .inl f))] H := hP
    have hD : va_D A [(h0, .inr (1, [.int (nI n), .int (nI k), .int kn, .long v3, .long (lN (cc + 1)), .long v5, .long v6, .ref h1])), (h1, .inl (cA, 9, .inl f))] := hD
    exact K H locs hP hD hS
set_option maxHeartbeats 4000000 in
set_option maxRecDepth 100000 in
/-- prime -/
theorem rk_cntP {p : Program} {l : Launch} {e : Env} {R : Room} {s : State} {m : MethodId} {args : Array Value} {below : List Frame} {meth : Method} {c : Code} {cells slots : Nat} {Q : State → Prop} {dC : Nat → ClassId} {dI : Nat → Nat → Nat} {A : Nat → Prop} {h0 h1 n k : Nat} {cA : ClassId} {kn : Int32} {v3 v4 v6 : Int64} {f : Nat → Int32} {a w cc : Nat} {x4 x5 x6 x7 : Bool} (hx : p.tables.exec = Jvm.exec) (hb : c.code = cX1_reckon) (hown : s.vm.findClass RX1 = some m.cls) (hts : ∀ w ∈ lw_all, w.before args s = true) (hK : va_K (dC, dI) vwCl [(cA, .int)] s) (hok : bd_ok n k) (H : Heap) (locs : List Loc) (ls : Array Slot) (hP : va_P (dC, dI) vwCl [(h0, .inr (1, [.int (nI n), .int (nI k), .int kn, .long v3, .long v4, .long (lN cc), .long v6, .ref h1])), (h1, .inl (cA, 9, .inl f))] H) (hD : va_D A [(h0, .inr (1, [.int (nI n), .int (nI k), .int kn, .long v3, .long v4, .long (lN cc), .long v6, .ref h1])), (h1, .inl (cA, 9, .inl f))]) (hS : va_S A s.heap H locs) (hl : lv_has ls 12 [(0, .ref h0), (1, .int (nI a)), (2, .int (nI w)), (4, .int (bI x4)), (5, .int (bI x5)), (6, .int (bI x6)), (7, .int (bI x7))]) (K : ∀ (H : Heap) (locs : List Loc), va_P (dC, dI) vwCl [(h0, .inr (1, [.int (nI n), .int (nI k), .int kn, .long v3, .long v4, .long (lN (cc + (bif !x6 then 1 else 0))), .long v6, .ref h1])), (h1, .inl (cA, 9, .inl f))] H → va_D A [(h0, .inr (1, [.int (nI n), .int (nI k), .int kn, .long v3, .long v4, .long (lN (cc + (bif !x6 then 1 else 0))), .long v6, .ref h1])), (h1, .inl (cA, 9, .inl f))] → va_S A s.heap H locs → W p l e R s m args below meth c H locs cells slots Q (F0 m 362 ls [])) : W p l e R s m args below meth c H locs cells slots Q (F0 m 347 ls []) := by
  refine lv_iload hx hb dX1_reckon_347 (lv_at hl 5 rfl) ?_
  refine bd_ifneB (tgt := 362) hx hb dX1_reckon_349 (by decide) (fun c_349 => ?_) (fun c_349 => ?_)
  · rw [c_349] at K
    simp only [Bool.not_true, cond_false, Nat.add_zero] at K
    exact K H locs hP hD hS
  · rw [c_349] at K
    simp only [Bool.not_false, cond_true] at K
    refine lv_aload_n hx hb dX1_reckon_352 rfl (lv_at hl 0 rfl) ?_
    refine lv_aload_n hx hb dX1_reckon_353 rfl (lv_at hl 0 rfl) ?_
    refine va_get (D := (dC, dI)) (ci := 1) (v := .long (lN cc)) (C := RX1) (T := TX1) (N := 8) hx hb hts in_X1 hown hK hP 0 rfl rfl 5 (by decide) (hts _ q83) (fun _ h9 => h9) rfl dX1_reckon_354 ?_
    refine lv_lconst (v := lN 1) hx hb dX1_reckon_357 (by decide) ?_
    refine lv_ladd hx hb dX1_reckon_358 ?_
    refine bd_l (y := lN (cc + 1)) (lN_add cc 1) ?_
    refine va_put (D := (dC, dI)) (ci := 1) (v := .long (lN (cc + 1))) (ty := .long) (C := RX1) (T := TX1) (N := 8) hx hb hts in_X1 tyX1 tyX1_ok nmX1 hown hK hP hD hS 0 rfl rfl 5 (by decide) (hts _ q83) (fun _ h9 => h9) rfl (by decide +kernel) rfl rfl (Nat.le_of_ble_eq_true rfl) dX1_reckon_359 (fun H locs hP hD hS => ?_)
    have hP : va_P (dC, dI) vwCl [(h0, .inr (1, [.int (nI n), .int (nI k), .int kn, .long v3, .long v4, .long (lN (cc + 1)), .long v6, .ref h1])), (h1, .inl (cA, 9, .inl f))] H := hP
    have hD : va_D A [(h0, .inr (1, [.int (nI n), .int (nI k), .int kn, .long v3, .long v4, .long (lN (cc + 1)), .long v6, .ref h1])), (h1, .inl (cA, 9, .inl f))] := hD
    exact K H locs hP hD hS
set_option maxHeartbeats 4000000 in
set_option maxRecDepth 100000 in
/-- mirrors -/
theorem rk_cntM {p : Program} {l : Launch} {e : Env} {R : Room} {s : State} {m : MethodId} {args : Array Value} {below : List Frame} {meth : Method} {c : Code} {cells slots : Nat} {Q : State → Prop} {dC : Nat → ClassId} {dI : Nat → Nat → Nat} {A : Nat → Prop} {h0 h1 n k : Nat} {cA : ClassId} {kn : Int32} {v3 v4 v5 : Int64} {f : Nat → Int32} {a w cc : Nat} {x4 x5 x6 x7 : Bool} (hx : p.tables.exec = Jvm.exec) (hb : c.code = cX1_reckon) (hown : s.vm.findClass RX1 = some m.cls) (hts : ∀ w ∈ lw_all, w.before args s = true) (hK : va_K (dC, dI) vwCl [(cA, .int)] s) (hok : bd_ok n k) (H : Heap) (locs : List Loc) (ls : Array Slot) (hP : va_P (dC, dI) vwCl [(h0, .inr (1, [.int (nI n), .int (nI k), .int kn, .long v3, .long v4, .long v5, .long (lN cc), .ref h1])), (h1, .inl (cA, 9, .inl f))] H) (hD : va_D A [(h0, .inr (1, [.int (nI n), .int (nI k), .int kn, .long v3, .long v4, .long v5, .long (lN cc), .ref h1])), (h1, .inl (cA, 9, .inl f))]) (hS : va_S A s.heap H locs) (hl : lv_has ls 12 [(0, .ref h0), (1, .int (nI a)), (2, .int (nI w)), (4, .int (bI x4)), (5, .int (bI x5)), (6, .int (bI x6)), (7, .int (bI x7))]) (K : ∀ (H : Heap) (locs : List Loc), va_P (dC, dI) vwCl [(h0, .inr (1, [.int (nI n), .int (nI k), .int kn, .long v3, .long v4, .long v5, .long (lN (cc + (bif x7 then 1 else 0))), .ref h1])), (h1, .inl (cA, 9, .inl f))] H → va_D A [(h0, .inr (1, [.int (nI n), .int (nI k), .int kn, .long v3, .long v4, .long v5, .long (lN (cc + (bif x7 then 1 else 0))), .ref h1])), (h1, .inl (cA, 9, .inl f))] → va_S A s.heap H locs → W p l e R s m args below meth c H locs cells slots Q (F0 m 377 ls [])) : W p l e R s m args below meth c H locs cells slots Q (F0 m 362 ls []) := by
  refine lv_iload hx hb dX1_reckon_362 (lv_at hl 6 rfl) ?_
  refine bd_ifeqB (tgt := 377) hx hb dX1_reckon_364 (by decide) (fun c_364 => ?_) (fun c_364 => ?_)
  · rw [c_364] at K
    simp only [Bool.not_true, cond_false, Nat.add_zero] at K
    exact K H locs hP hD hS
  · rw [c_364] at K
    simp only [Bool.not_false, cond_true] at K
    refine lv_aload_n hx hb dX1_reckon_367 rfl (lv_at hl 0 rfl) ?_
    refine lv_aload_n hx hb dX1_reckon_368 rfl (lv_at hl 0 rfl) ?_
    refine va_get (D := (dC, dI)) (ci := 1) (v := .long (lN cc)) (C := RX1) (T := TX1) (N := 8) hx hb hts in_X1 hown hK hP 0 rfl rfl 6 (by decide) (hts _ q84) (fun _ h9 => h9) rfl dX1_reckon_369 ?_
    refine lv_lconst (v := lN 1) hx hb dX1_reckon_372 (by decide) ?_
    refine lv_ladd hx hb dX1_reckon_373 ?_
    refine bd_l (y := lN (cc + 1)) (lN_add cc 1) ?_
    refine va_put (D := (dC, dI)) (ci := 1) (v := .long (lN (cc + 1))) (ty := .long) (C := RX1) (T := TX1) (N := 8) hx hb hts in_X1 tyX1 tyX1_ok nmX1 hown hK hP hD hS 0 rfl rfl 6 (by decide) (hts _ q84) (fun _ h9 => h9) rfl (by decide +kernel) rfl rfl (Nat.le_of_ble_eq_true rfl) dX1_reckon_374 (fun H locs hP hD hS => ?_)
    have hP : va_P (dC, dI) vwCl [(h0, .inr (1, [.int (nI n), .int (nI k), .int kn, .long v3, .long v4, .long v5, .long (lN (cc + 1)), .ref h1])), (h1, .inl (cA, 9, .inl f))] H := hP
    have hD : va_D A [(h0, .inr (1, [.int (nI n), .int (nI k), .int kn, .long v3, .long v4, .long v5, .long (lN (cc + 1)), .ref h1])), (h1, .inl (cA, 9, .inl f))] := hD
    exact K H locs hP hD hS
set_option maxHeartbeats 4000000 in
set_option maxRecDepth 100000 in
/-- a word's end: it is counted -/
theorem rk_tail {p : Program} {l : Launch} {e : Env} {R : Room} {s : State} {m : MethodId} {args : Array Value} {below : List Frame} {meth : Method} {c : Code} {cells slots : Nat} {Q : State → Prop} {dC : Nat → ClassId} {dI : Nat → Nat → Nat} {A : Nat → Prop} {h0 h1 n k : Nat} {cA : ClassId} {kn : Int32} {f : Nat → Int32} {a w c3 c4 c5 c6 : Nat} {x4 x5 x6 x7 : Bool} (hx : p.tables.exec = Jvm.exec) (hb : c.code = cX1_reckon) (hown : s.vm.findClass RX1 = some m.cls) (hts : ∀ w ∈ lw_all, w.before args s = true) (hK : va_K (dC, dI) vwCl [(cA, .int)] s) (hok : bd_ok n k) (H : Heap) (locs : List Loc) (ls : Array Slot) (hP : va_P (dC, dI) vwCl [(h0, .inr (1, [.int (nI n), .int (nI k), .int kn, .long (lN c3), .long (lN c4), .long (lN c5), .long (lN c6), .ref h1])), (h1, .inl (cA, 9, .inl f))] H) (hD : va_D A [(h0, .inr (1, [.int (nI n), .int (nI k), .int kn, .long (lN c3), .long (lN c4), .long (lN c5), .long (lN c6), .ref h1])), (h1, .inl (cA, 9, .inl f))]) (hS : va_S A s.heap H locs) (hl : lv_has ls 12 [(0, .ref h0), (1, .int (nI a)), (2, .int (nI w)), (4, .int (bI x4)), (5, .int (bI x5)), (6, .int (bI x6)), (7, .int (bI x7))]) (K : ∀ (H : Heap) (locs : List Loc), va_P (dC, dI) vwCl [(h0, .inr (1, [.int (nI n), .int (nI k), .int kn, .long (lN (c3 + (bif x4 then 1 else 0))), .long (lN (c4 + (bif x4 && x5 then 1 else 0))), .long (lN (c5 + (bif x4 && !x6 then 1 else 0))), .long (lN (c6 + (bif x4 && x7 then 1 else 0))), .ref h1])), (h1, .inl (cA, 9, .inl f))] H → va_D A [(h0, .inr (1, [.int (nI n), .int (nI k), .int kn, .long (lN (c3 + (bif x4 then 1 else 0))), .long (lN (c4 + (bif x4 && x5 then 1 else 0))), .long (lN (c5 + (bif x4 && !x6 then 1 else 0))), .long (lN (c6 + (bif x4 && x7 then 1 else 0))), .ref h1])), (h1, .inl (cA, 9, .inl f))] → va_S A s.heap H locs → W p l e R s m args below meth c H locs cells slots Q (F0 m 377 ls [])) : W p l e R s m args below meth c H locs cells slots Q (F0 m 317 ls []) := by
  refine lv_iload hx hb dX1_reckon_317 (lv_at hl 3 rfl) ?_
  refine bd_ifeqB (tgt := 377) hx hb dX1_reckon_319 (by decide) (fun c_319 => ?_) (fun c_319 => ?_)
  · rw [c_319] at K
    simp only [Bool.false_and, cond_false, Nat.add_zero] at K
    exact K H locs hP hD hS
  · rw [c_319] at K
    simp only [Bool.true_and, cond_true] at K
    refine lv_aload_n hx hb dX1_reckon_322 rfl (lv_at hl 0 rfl) ?_
    refine lv_aload_n hx hb dX1_reckon_323 rfl (lv_at hl 0 rfl) ?_
    refine va_get (D := (dC, dI)) (ci := 1) (v := .long (lN c3)) (C := RX1) (T := TX1) (N := 8) hx hb hts in_X1 hown hK hP 0 rfl rfl 3 (by decide) (hts _ q81) (fun _ h9 => h9) rfl dX1_reckon_324 ?_
    refine lv_lconst (v := lN 1) hx hb dX1_reckon_327 (by decide) ?_
    refine lv_ladd hx hb dX1_reckon_328 ?_
    refine bd_l (y := lN (c3 + 1)) (lN_add c3 1) ?_
    refine va_put (D := (dC, dI)) (ci := 1) (v := .long (lN (c3 + 1))) (ty := .long) (C := RX1) (T := TX1) (N := 8) hx hb hts in_X1 tyX1 tyX1_ok nmX1 hown hK hP hD hS 0 rfl rfl 3 (by decide) (hts _ q81) (fun _ h9 => h9) rfl (by decide +kernel) rfl rfl (Nat.le_of_ble_eq_true rfl) dX1_reckon_329 (fun H locs hP hD hS => ?_)
    have hP : va_P (dC, dI) vwCl [(h0, .inr (1, [.int (nI n), .int (nI k), .int kn, .long (lN (c3 + 1)), .long (lN c4), .long (lN c5), .long (lN c6), .ref h1])), (h1, .inl (cA, 9, .inl f))] H := hP
    have hD : va_D A [(h0, .inr (1, [.int (nI n), .int (nI k), .int kn, .long (lN (c3 + 1)), .long (lN c4), .long (lN c5), .long (lN c6), .ref h1])), (h1, .inl (cA, 9, .inl f))] := hD
    refine rk_cntO hx hb hown hts hK hok H locs ls hP hD hS hl (fun H locs hP hD hS => ?_)
    refine rk_cntP hx hb hown hts hK hok H locs ls hP hD hS hl (fun H locs hP hD hS => ?_)
    refine rk_cntM hx hb hown hts hK hok H locs ls hP hD hS hl (fun H locs hP hD hS => ?_)
    exact K H locs hP hD hS
set_option maxHeartbeats 4000000 in
set_option maxRecDepth 100000 in
/-- all words -/
theorem rk_w_loop {p : Program} {l : Launch} {e : Env} {R : Room} {s : State} {m : MethodId} {args : Array Value} {below : List Frame} {meth : Method} {c : Code} {cells slots : Nat} {Q : State → Prop} {dC : Nat → ClassId} {dI : Nat → Nat → Nat} {A : Nat → Prop} {h0 h1 n k : Nat} {cA : ClassId} (hx : p.tables.exec = Jvm.exec) (hb : c.code = cX1_reckon) (hown : s.vm.findClass RX1 = some m.cls) (hts : ∀ w ∈ lw_all, w.before args s = true) (hK : va_K (dC, dI) vwCl [(cA, .int)] s) (hok : bd_ok n k) (K : ∀ (H : Heap) (locs : List Loc) (ls : Array Slot) (f : Nat → Int32), va_P (dC, dI) vwCl [(h0, .inr (1, [.int (nI n), .int (nI k), .int (nI 1), .long (lN (rk_cnt (rk_pT n k) (k ^ n))), .long (lN (rk_cnt (rk_pO n k) (k ^ n))), .long (lN (rk_cnt (rk_pP n k) (k ^ n))), .long (lN (rk_cnt (rk_pM n k) (k ^ n))), .ref h1])), (h1, .inl (cA, 9, .inl f))] H → va_D A [(h0, .inr (1, [.int (nI n), .int (nI k), .int (nI 1), .long (lN (rk_cnt (rk_pT n k) (k ^ n))), .long (lN (rk_cnt (rk_pO n k) (k ^ n))), .long (lN (rk_cnt (rk_pP n k) (k ^ n))), .long (lN (rk_cnt (rk_pM n k) (k ^ n))), .ref h1])), (h1, .inl (cA, 9, .inl f))] → va_S A s.heap H locs → W p l e R s m args below meth c H locs cells slots Q (F0 m 383 ls [])) :
    ∀ (j i : Nat), i ≤ k ^ n → k ^ n < i + j → ∀ (H : Heap) (locs : List Loc) (ls : Array Slot) (f : Nat → Int32), va_P (dC, dI) vwCl [(h0, .inr (1, [.int (nI n), .int (nI k), .int (nI 1), .long (lN (rk_cnt (rk_pT n k) i)), .long (lN (rk_cnt (rk_pO n k) i)), .long (lN (rk_cnt (rk_pP n k) i)), .long (lN (rk_cnt (rk_pM n k) i)), .ref h1])), (h1, .inl (cA, 9, .inl f))] H → va_D A [(h0, .inr (1, [.int (nI n), .int (nI k), .int (nI 1), .long (lN (rk_cnt (rk_pT n k) i)), .long (lN (rk_cnt (rk_pO n k) i)), .long (lN (rk_cnt (rk_pP n k) i)), .long (lN (rk_cnt (rk_pM n k) i)), .ref h1])), (h1, .inl (cA, 9, .inl f))] → va_S A s.heap H locs → lv_has ls 12 [(0, .ref h0), (1, .int (nI (k ^ n))), (2, .int (nI i))] → W p l e R s m args below meth c H locs cells slots Q (F0 m 60 ls []) := by
  have hpw := bd_pow_le hok
  intro j
  induction j with
  | zero =>
    intro i h1q h2q
    exact absurd h2q (by omega)
  | succ j ih =>
    intro i h1q h2q H locs ls f hP hD hS hl
    obtain ⟨⟨hn1, hn8⟩, hk1, hk3⟩ := id hok
    refine lv_iload_n hx hb dX1_reckon_60 rfl (lv_at hl 2 rfl) ?_
    refine lv_iload_n hx hb dX1_reckon_61 rfl (lv_at hl 1 rfl) ?_
    refine bd_ge (tgt := 383) hx hb dX1_reckon_62 (by decide) (by omega) (by omega) (fun c_62 => ?_) (fun c_62 => ?_)
    · have e1 : i = k ^ n := Nat.le_antisymm h1q c_62
      subst e1
      exact K H locs ls f hP hD hS
    · refine lv_iload_n hx hb dX1_reckon_65 rfl (lv_at hl 2 rfl) ?_
      refine lv_istore_n (lv' := [(3, .int (nI i)), (0, .ref h0), (1, .int (nI (k ^ n))), (2, .int (nI i))]) hx hb dX1_reckon_66 rfl hl (by decide) rfl (fun ls hl => ?_)
      refine lv_iconst (v := nI 0) hx hb dX1_reckon_67 (by decide) ?_
      refine lv_istore (lv' := [(4, .int (nI 0)), (3, .int (nI i)), (0, .ref h0), (1, .int (nI (k ^ n))), (2, .int (nI i))]) hx hb dX1_reckon_68 hl (by decide) rfl (fun ls hl => ?_)
      refine rk_dig_loop hx hb hown hts hK hok (w := i) (show i < 2 ^ 31 by omega) (fun H locs ls f hf hP hD hS hl => ?_) (n + 1) 0 (Nat.zero_le n) (by omega) H locs ls f (fun j hj => absurd hj (Nat.not_lt_zero j)) hP hD hS (lv_sub hl [2, 3, 4, 1, 0] rfl)
      refine lv_iconst (v := bI (rk_fs n k i 0)) hx hb dX1_reckon_105 (rfl) ?_
      refine lv_istore (lv' := [(4, .int (bI (rk_fs n k i 0))), (0, .ref h0), (1, .int (nI (k ^ n))), (2, .int (nI i))]) hx hb dX1_reckon_106 hl (by decide) rfl (fun ls hl => ?_)
      refine lv_iconst (v := bI (rk_fl n k i 0)) hx hb dX1_reckon_108 (rfl) ?_
      refine lv_istore (lv' := [(5, .int (bI (rk_fl n k i 0))), (4, .int (bI (rk_fs n k i 0))), (0, .ref h0), (1, .int (nI (k ^ n))), (2, .int (nI i))]) hx hb dX1_reckon_109 hl (by decide) rfl (fun ls hl => ?_)
      refine lv_iconst (v := bI (rk_sm n k i 0)) hx hb dX1_reckon_111 (rfl) ?_
      refine lv_istore (lv' := [(6, .int (bI (rk_sm n k i 0))), (5, .int (bI (rk_fl n k i 0))), (4, .int (bI (rk_fs n k i 0))), (0, .ref h0), (1, .int (nI (k ^ n))), (2, .int (nI i))]) hx hb dX1_reckon_112 hl (by decide) rfl (fun ls hl => ?_)
      refine lv_iconst (v := bI (rk_mi n k i 0)) hx hb dX1_reckon_114 (rfl) ?_
      refine lv_istore (lv' := [(7, .int (bI (rk_mi n k i 0))), (6, .int (bI (rk_sm n k i 0))), (5, .int (bI (rk_fl n k i 0))), (4, .int (bI (rk_fs n k i 0))), (0, .ref h0), (1, .int (nI (k ^ n))), (2, .int (nI i))]) hx hb dX1_reckon_115 hl (by decide) rfl (fun ls hl => ?_)
      refine lv_iconst (v := nI 0) hx hb dX1_reckon_117 (by decide) ?_
      refine lv_istore (lv' := [(8, .int (nI 0)), (7, .int (bI (rk_mi n k i 0))), (6, .int (bI (rk_sm n k i 0))), (5, .int (bI (rk_fl n k i 0))), (4, .int (bI (rk_fs n k i 0))), (0, .ref h0), (1, .int (nI (k ^ n))), (2, .int (nI i))]) hx hb dX1_reckon_118 hl (by decide) rfl (fun ls hl => ?_)
      refine rk_z_loop hx hb hown hts hK hok hf hP (fun ls hl => ?_) (n + 1) 0 (Nat.zero_le n) (by omega) ls (lv_sub hl [5, 6, 7, 4, 3, 2, 1, 0] rfl)
      refine rk_tail hx hb hown hts hK hok H locs ls hP hD hS hl (fun H locs hP hD hS => ?_)
      refine lv_iinc (v := nI (i + 1)) (lv' := [(2, .int (nI (i + 1))), (0, .ref h0), (1, .int (nI (k ^ n))), (4, .int (bI (rk_fs n k i n))), (5, .int (bI (rk_fl n k i n))), (6, .int (bI (rk_sm n k i n))), (7, .int (bI (rk_mi n k i n)))]) hx hb dX1_reckon_377 hl (k := 2) rfl (nI_1 i) (by decide) rfl (fun ls hl => ?_)
      refine lv_goto (tgt := 60) hx hb dX1_reckon_380 (by decide) ?_
      exact ih (i + 1) c_62 (by omega) H locs ls f hP hD hS (lv_sub hl [1, 2, 0] rfl)
end
section
/-! BeadDeskModel: the contracts of its methods -/
set_option maxHeartbeats 4000000 in
set_option maxRecDepth 100000 in
/-- reckon(): all is reckoned behind it -/
theorem metX1_reckon (l : Launch) (dC : Nat → ClassId) (dI : Nat → Nat → Nat) (h0 h1 sz : Nat) (cA : ClassId) (n k : Nat) (kn : Int32) (v3 v4 v5 v6 : Int64) (f : Nat → Int32) (hok : bd_ok n k) (hrk : rk_ok n k kn v3 v4 v5 v6) : Met l yX1_reckon wsX1_reckon ({ frames := 0, cells := 0, slots := 0, locals := 0 }) (va_Pc [.ref h0] (fun U => U.heap.size = sz ∧ va_P (dC, dI) vwCl [(h0, .inr (1, [.int (nI n), .int (nI k), .int kn, .long v3, .long v4, .long v5, .long v6, .ref h1])), (h1, .inl (cA, 9, .inl f))] U.heap ∧ va_K (dC, dI) vwCl [(cA, .int)] U ∧ va_D (fun _ => True) [(h0, .inr (1, [.int (nI n), .int (nI k), .int kn, .long v3, .long v4, .long v5, .long v6, .ref h1])), (h1, .inl (cA, 9, .inl f))])) (va_Qv (fun _ : Nat → Int32 => True) (BX1 dC dI (va_A [(h0, .inr (1, [.int (nI n), .int (nI k), .int kn, .long v3, .long v4, .long v5, .long v6, .ref h1])), (h1, .inl (cA, 9, .inl f))] sz) h0 h1 cA n k (nI 1) (rk_T n k) (rk_O n k) (rk_P n k) (rk_M n k)) (va_A [(h0, .inr (1, [.int (nI n), .int (nI k), .int kn, .long v3, .long v4, .long v5, .long v6, .ref h1])), (h1, .inl (cA, 9, .inl f))] sz)) 0 0 (va_A [(h0, .inr (1, [.int (nI n), .int (nI k), .int kn, .long v3, .long v4, .long v5, .long v6, .ref h1])), (h1, .inl (cA, 9, .inl f))] sz) := by
  refine Met.ofW (cc := cX1_reckon) (maxL := 12) (ret := none) (by decide) rfl ?_
  intro p e s m args below meth c s₁ B hml hv
  obtain ⟨rfl, hsz, hP, hK, hD0⟩ := hv
  have hx := B.exec
  have hb := B.bytes
  have hr := B.returns
  have hts := atoms_spec (ws := wsX1_reckon) B.pre
  have hts : ∀ w ∈ lw_all, w.before _ s = true := fun w h => hts w (List.mem_cons_of_mem _ h)
  have hown : s.vm.findClass RX1 = some m.cls := findClass_of_methodNamed B.named
  have hlocks := B.notSynchronized
  subst hsz
  have hD := hD0.self (sz := s.heap.size)
  generalize hAe : va_A [(h0, .inr (1, [.int (nI n), .int (nI k), .int kn, .long v3, .long v4, .long v5, .long v6, .ref h1])), (h1, .inl (cA, 9, .inl f))] s.heap.size = A at hD ⊢
  have hA : ∀ q : Nat, s.heap.size ≤ q → A q := fun q h => by rw [← hAe]; exact Or.inr h
  have hS : va_S A s.heap s.heap [] := va_S.rf
  have hP : va_P (dC, dI) vwCl [(h0, .inr (1, [.int (nI n), .int (nI k), .int kn, .long v3, .long v4, .long v5, .long v6, .ref h1])), (h1, .inl (cA, 9, .inl f))] s.heap := hP
  have hl := lv_entry ([.ref h0]) (n := 12) (Nat.le_of_ble_eq_true rfl)
  rw [lg_entry_eq]
  generalize (lg_sl ([.ref h0]) ++ List.replicate (12 - (lg_sl ([.ref h0])).length) Slot.unset).toArray = ls at hl ⊢
  have hl : lv_has ls 12 [(0, .ref h0)] := hl
  refine lv_aload_n hx hb dX1_reckon_0 rfl (lv_at hl 0 rfl) ?_
  refine va_get (D := (dC, dI)) (ci := 1) (v := .int kn) (C := RX1) (T := TX1) (N := 8) hx hb hts in_X1 hown hK hP 0 rfl rfl 2 (by decide) (hts _ q80) (fun _ h9 => h9) rfl dX1_reckon_1 ?_
  refine lv_if_eq (tgt := 8) hx hb dX1_reckon_4 (by decide) (fun c_4 => ?_) (fun c_4 => ?_)
  · refine lv_aload_n hx hb dX1_reckon_8 rfl (lv_at hl 0 rfl) ?_
    refine lv_iconst (v := nI 1) hx hb dX1_reckon_9 (by decide) ?_
    refine va_put (D := (dC, dI)) (ci := 1) (v := .int (nI 1)) (ty := .boolean) (C := RX1) (T := TX1) (N := 8) hx hb hts in_X1 tyX1 tyX1_ok nmX1 hown hK hP hD hS 0 rfl rfl 2 (by decide) (hts _ q80) (fun _ h9 => h9) rfl (by decide +kernel) rfl rfl (Nat.le_of_ble_eq_true rfl) dX1_reckon_10 (fun H locs hP hD hS => ?_)
    have hP : va_P (dC, dI) vwCl [(h0, .inr (1, [.int (nI n), .int (nI k), .int (nI 1), .long v3, .long v4, .long v5, .long v6, .ref h1])), (h1, .inl (cA, 9, .inl f))] H := hP
    have hD : va_D A [(h0, .inr (1, [.int (nI n), .int (nI k), .int (nI 1), .long v3, .long v4, .long v5, .long v6, .ref h1])), (h1, .inl (cA, 9, .inl f))] := hD
    refine lv_aload_n hx hb dX1_reckon_13 rfl (lv_at hl 0 rfl) ?_
    refine lv_lconst (v := lN (rk_cnt (rk_pT n k) 0)) hx hb dX1_reckon_14 (rfl) ?_
    refine va_put (D := (dC, dI)) (ci := 1) (v := .long (lN (rk_cnt (rk_pT n k) 0))) (ty := .long) (C := RX1) (T := TX1) (N := 8) hx hb hts in_X1 tyX1 tyX1_ok nmX1 hown hK hP hD hS 0 rfl rfl 3 (by decide) (hts _ q81) (fun _ h9 => h9) rfl (by decide +kernel) rfl rfl (Nat.le_of_ble_eq_true rfl) dX1_reckon_15 (fun H locs hP hD hS => ?_)
    have hP : va_P (dC, dI) vwCl [(h0, .inr (1, [.int (nI n), .int (nI k), .int (nI 1), .long (lN (rk_cnt (rk_pT n k) 0)), .long v4, .long v5, .long v6, .ref h1])), (h1, .inl (cA, 9, .inl f))] H := hP
    have hD : va_D A [(h0, .inr (1, [.int (nI n), .int (nI k), .int (nI 1), .long (lN (rk_cnt (rk_pT n k) 0)), .long v4, .long v5, .long v6, .ref h1])), (h1, .inl (cA, 9, .inl f))] := hD
    refine lv_aload_n hx hb dX1_reckon_18 rfl (lv_at hl 0 rfl) ?_
    refine lv_lconst (v := lN (rk_cnt (rk_pO n k) 0)) hx hb dX1_reckon_19 (rfl) ?_
    refine va_put (D := (dC, dI)) (ci := 1) (v := .long (lN (rk_cnt (rk_pO n k) 0))) (ty := .long) (C := RX1) (T := TX1) (N := 8) hx hb hts in_X1 tyX1 tyX1_ok nmX1 hown hK hP hD hS 0 rfl rfl 4 (by decide) (hts _ q82) (fun _ h9 => h9) rfl (by decide +kernel) rfl rfl (Nat.le_of_ble_eq_true rfl) dX1_reckon_20 (fun H locs hP hD hS => ?_)
    have hP : va_P (dC, dI) vwCl [(h0, .inr (1, [.int (nI n), .int (nI k), .int (nI 1), .long (lN (rk_cnt (rk_pT n k) 0)), .long (lN (rk_cnt (rk_pO n k) 0)), .long v5, .long v6, .ref h1])), (h1, .inl (cA, 9, .inl f))] H := hP
    have hD : va_D A [(h0, .inr (1, [.int (nI n), .int (nI k), .int (nI 1), .long (lN (rk_cnt (rk_pT n k) 0)), .long (lN (rk_cnt (rk_pO n k) 0)), .long v5, .long v6, .ref h1])), (h1, .inl (cA, 9, .inl f))] := hD
    refine lv_aload_n hx hb dX1_reckon_23 rfl (lv_at hl 0 rfl) ?_
    refine lv_lconst (v := lN (rk_cnt (rk_pP n k) 0)) hx hb dX1_reckon_24 (rfl) ?_
    refine va_put (D := (dC, dI)) (ci := 1) (v := .long (lN (rk_cnt (rk_pP n k) 0))) (ty := .long) (C := RX1) (T := TX1) (N := 8) hx hb hts in_X1 tyX1 tyX1_ok nmX1 hown hK hP hD hS 0 rfl rfl 5 (by decide) (hts _ q83) (fun _ h9 => h9) rfl (by decide +kernel) rfl rfl (Nat.le_of_ble_eq_true rfl) dX1_reckon_25 (fun H locs hP hD hS => ?_)
    have hP : va_P (dC, dI) vwCl [(h0, .inr (1, [.int (nI n), .int (nI k), .int (nI 1), .long (lN (rk_cnt (rk_pT n k) 0)), .long (lN (rk_cnt (rk_pO n k) 0)), .long (lN (rk_cnt (rk_pP n k) 0)), .long v6, .ref h1])), (h1, .inl (cA, 9, .inl f))] H := hP
    have hD : va_D A [(h0, .inr (1, [.int (nI n), .int (nI k), .int (nI 1), .long (lN (rk_cnt (rk_pT n k) 0)), .long (lN (rk_cnt (rk_pO n k) 0)), .long (lN (rk_cnt (rk_pP n k) 0)), .long v6, .ref h1])), (h1, .inl (cA, 9, .inl f))] := hD
    refine lv_aload_n hx hb dX1_reckon_28 rfl (lv_at hl 0 rfl) ?_
    refine lv_lconst (v := lN (rk_cnt (rk_pM n k) 0)) hx hb dX1_reckon_29 (rfl) ?_
    refine va_put (D := (dC, dI)) (ci := 1) (v := .long (lN (rk_cnt (rk_pM n k) 0))) (ty := .long) (C := RX1) (T := TX1) (N := 8) hx hb hts in_X1 tyX1 tyX1_ok nmX1 hown hK hP hD hS 0 rfl rfl 6 (by decide) (hts _ q84) (fun _ h9 => h9) rfl (by decide +kernel) rfl rfl (Nat.le_of_ble_eq_true rfl) dX1_reckon_30 (fun H locs hP hD hS => ?_)
    have hP : va_P (dC, dI) vwCl [(h0, .inr (1, [.int (nI n), .int (nI k), .int (nI 1), .long (lN (rk_cnt (rk_pT n k) 0)), .long (lN (rk_cnt (rk_pO n k) 0)), .long (lN (rk_cnt (rk_pP n k) 0)), .long (lN (rk_cnt (rk_pM n k) 0)), .ref h1])), (h1, .inl (cA, 9, .inl f))] H := hP
    have hD : va_D A [(h0, .inr (1, [.int (nI n), .int (nI k), .int (nI 1), .long (lN (rk_cnt (rk_pT n k) 0)), .long (lN (rk_cnt (rk_pO n k) 0)), .long (lN (rk_cnt (rk_pP n k) 0)), .long (lN (rk_cnt (rk_pM n k) 0)), .ref h1])), (h1, .inl (cA, 9, .inl f))] := hD
    refine lv_iconst (v := nI (k ^ 0)) hx hb dX1_reckon_33 (rfl) ?_
    refine lv_istore_n (lv' := [(1, .int (nI (k ^ 0))), (0, .ref h0)]) hx hb dX1_reckon_34 rfl hl (by decide) rfl (fun ls hl => ?_)
    refine lv_iconst (v := nI 0) hx hb dX1_reckon_35 (by decide) ?_
    refine lv_istore_n (lv' := [(2, .int (nI 0)), (1, .int (nI (k ^ 0))), (0, .ref h0)]) hx hb dX1_reckon_36 rfl hl (by decide) rfl (fun ls hl => ?_)
    refine rk_all_loop hx hb hown hts hK hok hP (fun ls hl => ?_) (n + 1) 0 (Nat.zero_le n) (by omega) ls (lv_sub hl [2, 1, 0] rfl)
    refine lv_iconst (v := nI 0) hx hb dX1_reckon_58 (by decide) ?_
    refine lv_istore_n (lv' := [(2, .int (nI 0)), (0, .ref h0), (1, .int (nI (k ^ n)))]) hx hb dX1_reckon_59 rfl hl (by decide) rfl (fun ls hl => ?_)
    refine rk_w_loop hx hb hown hts hK hok (fun H locs ls f2 hP hD hS => ?_) (k ^ n + 1) 0 (Nat.zero_le _) (by omega) H locs ls f hP hD hS (lv_sub hl [1, 2, 0] rfl)
    have hP9 := hP.sub (ws' := [(h0, .inr (1, [.int (nI n), .int (nI k), .int (nI 1), .long (lN (rk_cnt (rk_pT n k) (k ^ n))), .long (lN (rk_cnt (rk_pO n k) (k ^ n))), .long (lN (rk_cnt (rk_pP n k) (k ^ n))), .long (lN (rk_cnt (rk_pM n k) (k ^ n))), .ref h1])), (h1, .inl (cA, 9, .inl f2))]) [0, 1] rfl
    have hD9 := hD.sub (ws' := [(h0, .inr (1, [.int (nI n), .int (nI k), .int (nI 1), .long (lN (rk_cnt (rk_pT n k) (k ^ n))), .long (lN (rk_cnt (rk_pO n k) (k ^ n))), .long (lN (rk_cnt (rk_pP n k) (k ^ n))), .long (lN (rk_cnt (rk_pM n k) (k ^ n))), .ref h1])), (h1, .inl (cA, 9, .inl f2))]) [0, 1] (by decide) rfl
    exact W.vret hx hb hr (fun t ht hW => ⟨⟨f2, rfl, trivial, by rw [ht]; exact hP9, va_K.moved hW.alike hK, hD9⟩, hS.F ht⟩) hS.2.2 dX1_reckon_383
  · rcases hrk with q | ⟨rfl, rfl, rfl, rfl, rfl⟩
    · exact absurd (by rw [q]; decide) c_4
    · have hP9 := hP.sub (ws' := [(h0, .inr (1, [.int (nI n), .int (nI k), .int (nI 1), .long (rk_T n k), .long (rk_O n k), .long (rk_P n k), .long (rk_M n k), .ref h1])), (h1, .inl (cA, 9, .inl f))]) [0, 1] rfl
      have hD9 := hD.sub (ws' := [(h0, .inr (1, [.int (nI n), .int (nI k), .int (nI 1), .long (rk_T n k), .long (rk_O n k), .long (rk_P n k), .long (rk_M n k), .ref h1])), (h1, .inl (cA, 9, .inl f))]) [0, 1] (by decide) rfl
      exact W.vret hx hb hr (fun t ht hW => ⟨⟨f, rfl, trivial, by rw [ht]; exact hP9, va_K.moved hW.alike hK, hD9⟩, hS.F ht⟩) hS.2.2 dX1_reckon_7
set_option maxHeartbeats 4000000 in
set_option maxRecDepth 100000 in
/-- turned() -/
theorem metX1_turned (l : Launch) (dC : Nat → ClassId) (dI : Nat → Nat → Nat) (h0 h1 sz : Nat) (cA : ClassId) (n k : Nat) (kn : Int32) (v3 v4 v5 v6 : Int64) (f : Nat → Int32) (hok : bd_ok n k) (hrk : rk_ok n k kn v3 v4 v5 v6) : Met l yX1_turned wsX1_turned ({ frames := 1, cells := 0, slots := 0, locals := 31 }) (va_Pc [.ref h0] (fun U => U.heap.size = sz ∧ va_P (dC, dI) vwCl [(h0, .inr (1, [.int (nI n), .int (nI k), .int kn, .long v3, .long v4, .long v5, .long v6, .ref h1])), (h1, .inl (cA, 9, .inl f))] U.heap ∧ va_K (dC, dI) vwCl [(cA, .int)] U ∧ va_D (fun _ => True) [(h0, .inr (1, [.int (nI n), .int (nI k), .int kn, .long v3, .long v4, .long v5, .long v6, .ref h1])), (h1, .inl (cA, 9, .inl f))])) (va_Ql (fun (r : Int64) (_ : Nat → Int32) => r = rk_T n k) (BX1 dC dI (va_A [(h0, .inr (1, [.int (nI n), .int (nI k), .int kn, .long v3, .long v4, .long v5, .long v6, .ref h1])), (h1, .inl (cA, 9, .inl f))] sz) h0 h1 cA n k (nI 1) (rk_T n k) (rk_O n k) (rk_P n k) (rk_M n k)) (va_A [(h0, .inr (1, [.int (nI n), .int (nI k), .int kn, .long v3, .long v4, .long v5, .long v6, .ref h1])), (h1, .inl (cA, 9, .inl f))] sz)) 0 0 (va_A [(h0, .inr (1, [.int (nI n), .int (nI k), .int kn, .long v3, .long v4, .long v5, .long v6, .ref h1])), (h1, .inl (cA, 9, .inl f))] sz) := by
  refine Met.ofW (cc := cX1_turned) (maxL := 1) (ret := (some .long)) (by decide) rfl ?_
  intro p e s m args below meth c s₁ B hml hv
  obtain ⟨rfl, hsz, hP, hK, hD0⟩ := hv
  have hx := B.exec
  have hb := B.bytes
  have hr := B.returns
  have hts := atoms_spec (ws := wsX1_turned) B.pre
  have hts : ∀ w ∈ lw_all, w.before _ s = true := fun w h => hts w (List.mem_cons_of_mem _ h)
  have hown : s.vm.findClass RX1 = some m.cls := findClass_of_methodNamed B.named
  have hlocks := B.notSynchronized
  subst hsz
  have hD := hD0.self (sz := s.heap.size)
  generalize hAe : va_A [(h0, .inr (1, [.int (nI n), .int (nI k), .int kn, .long v3, .long v4, .long v5, .long v6, .ref h1])), (h1, .inl (cA, 9, .inl f))] s.heap.size = A at hD ⊢
  have hA : ∀ q : Nat, s.heap.size ≤ q → A q := fun q h => by rw [← hAe]; exact Or.inr h
  have hS : va_S A s.heap s.heap [] := va_S.rf
  have hP : va_P (dC, dI) vwCl [(h0, .inr (1, [.int (nI n), .int (nI k), .int kn, .long v3, .long v4, .long v5, .long v6, .ref h1])), (h1, .inl (cA, 9, .inl f))] s.heap := hP
  have hl := lv_entry ([.ref h0]) (n := 1) (Nat.le_of_ble_eq_true rfl)
  rw [lg_entry_eq]
  generalize (lg_sl ([.ref h0]) ++ List.replicate (1 - (lg_sl ([.ref h0])).length) Slot.unset).toArray = ls at hl ⊢
  have hl : lv_has ls 1 [(0, .ref h0)] := hl
  refine lv_aload_n hx hb dX1_turned_0 rfl (lv_at hl 0 rfl) ?_
  have hPc := hP.sub (ws' := [(h0, .inr (1, [.int (nI n), .int (nI k), .int kn, .long v3, .long v4, .long v5, .long v6, .ref h1])), (h1, .inl (cA, 9, .inl f))]) [0, 1] rfl
  have hDc := hD.sub (ws' := [(h0, .inr (1, [.int (nI n), .int (nI k), .int kn, .long v3, .long v4, .long v5, .long v6, .ref h1])), (h1, .inl (cA, 9, .inl f))]) [0, 1] (by decide) rfl
  have hKc := hK.sub (tys' := [(cA, .int)]) [0] rfl
  have hFc := va_free (wc := [(h0, .inr (1, [.int (nI n), .int (nI k), .int kn, .long v3, .long v4, .long v5, .long v6, .ref h1])), (h1, .inl (cA, 9, .inl f))]) hD hS hA [0, 1] rfl
  refine va_callv (va_runV (As := []) (rest := []) ⟨hx, hb, hml, hown, hts⟩ (metX1_reckon l dC dI h0 h1 s.heap.size cA n k kn v3 v4 v5 v6 f hok hrk) (cwV 0 hts (lw_V q113 q115 qs5 q8 q116) rfl rfl rfl (by decide +kernel) ⟨Nat.le_of_ble_eq_true rfl, Nat.le_of_ble_eq_true rfl⟩) ⟨fun a U g mk q => by obtain ⟨q0, q1, qP, qK, qD⟩ := q; exact ⟨q0, q1, qP, va_K.moved (u := U) (U := U.calling g mk a) (Vm.Alike.refl U.vm) qK, qD⟩, va_recv hKc hPc (ci := 1) (q0 := 0) rfl rfl, fun U hU hW => ⟨rfl, by rw [hU], by rw [hU]; exact hPc, va_K.moved hW.alike hKc, hDc.weaken (fun _ _ _ _ => trivial)⟩⟩ rfl rfl hl.1 rfl (lv_room (Nat.le_of_ble_eq_true rfl)) dX1_turned_1 ⟨Nat.le_of_ble_eq_true rfl, Nat.le_of_ble_eq_true rfl⟩) hS (fun q _ h => hFc q h) hFc (fun f2 t H1 locs ht hvm hw hB hz1 hk1 hS => ?_)
  obtain ⟨hP1, hK1, hD1⟩ := hB
  rw [ht] at hP1
  obtain ⟨hP, hD⟩ := va_join (wr := []) (w1 := [(h0, .inr (1, [.int (nI n), .int (nI k), .int (nI 1), .long (rk_T n k), .long (rk_O n k), .long (rk_P n k), .long (rk_M n k), .ref h1])), (h1, .inl (cA, 9, .inl f2))]) hP hD [0, 1] [] rfl rfl (by decide) (by decide) hk1 hFc hP1 hD1
  generalize H1 = H at hP hS ⊢
  have hP : va_P (dC, dI) vwCl [(h0, .inr (1, [.int (nI n), .int (nI k), .int (nI 1), .long (rk_T n k), .long (rk_O n k), .long (rk_P n k), .long (rk_M n k), .ref h1])), (h1, .inl (cA, 9, .inl f2))] H := hP
  have hD : va_D A [(h0, .inr (1, [.int (nI n), .int (nI k), .int (nI 1), .long (rk_T n k), .long (rk_O n k), .long (rk_P n k), .long (rk_M n k), .ref h1])), (h1, .inl (cA, 9, .inl f2))] := hD
  refine lv_aload_n hx hb dX1_turned_4 rfl (lv_at hl 0 rfl) ?_
  refine va_get (D := (dC, dI)) (ci := 1) (v := .long (rk_T n k)) (C := RX1) (T := TX1) (N := 8) hx hb hts in_X1 hown hK hP 0 rfl rfl 3 (by decide) (hts _ q81) (fun _ h9 => h9) rfl dX1_turned_5 ?_
  have hP9 := hP.sub (ws' := [(h0, .inr (1, [.int (nI n), .int (nI k), .int (nI 1), .long (rk_T n k), .long (rk_O n k), .long (rk_P n k), .long (rk_M n k), .ref h1])), (h1, .inl (cA, 9, .inl f2))]) [0, 1] rfl
  have hD9 := hD.sub (ws' := [(h0, .inr (1, [.int (nI n), .int (nI k), .int (nI 1), .long (rk_T n k), .long (rk_O n k), .long (rk_P n k), .long (rk_M n k), .ref h1])), (h1, .inl (cA, 9, .inl f2))]) [0, 1] (by decide) rfl
  exact W.lret (v := rk_T n k) hx hb hr (fun t ht hW => ⟨⟨rk_T n k, f2, rfl, rfl, by rw [ht]; exact hP9, va_K.moved hW.alike hK, hD9⟩, hS.F ht⟩) hS.2.2 dX1_turned_8
set_option maxHeartbeats 4000000 in
set_option maxRecDepth 100000 in
/-- over() -/
theorem metX1_over (l : Launch) (dC : Nat → ClassId) (dI : Nat → Nat → Nat) (h0 h1 sz : Nat) (cA : ClassId) (n k : Nat) (kn : Int32) (v3 v4 v5 v6 : Int64) (f : Nat → Int32) (hok : bd_ok n k) (hrk : rk_ok n k kn v3 v4 v5 v6) : Met l yX1_over wsX1_over ({ frames := 1, cells := 0, slots := 0, locals := 31 }) (va_Pc [.ref h0] (fun U => U.heap.size = sz ∧ va_P (dC, dI) vwCl [(h0, .inr (1, [.int (nI n), .int (nI k), .int kn, .long v3, .long v4, .long v5, .long v6, .ref h1])), (h1, .inl (cA, 9, .inl f))] U.heap ∧ va_K (dC, dI) vwCl [(cA, .int)] U ∧ va_D (fun _ => True) [(h0, .inr (1, [.int (nI n), .int (nI k), .int kn, .long v3, .long v4, .long v5, .long v6, .ref h1])), (h1, .inl (cA, 9, .inl f))])) (va_Ql (fun (r : Int64) (_ : Nat → Int32) => r = rk_O n k) (BX1 dC dI (va_A [(h0, .inr (1, [.int (nI n), .int (nI k), .int kn, .long v3, .long v4, .long v5, .long v6, .ref h1])), (h1, .inl (cA, 9, .inl f))] sz) h0 h1 cA n k (nI 1) (rk_T n k) (rk_O n k) (rk_P n k) (rk_M n k)) (va_A [(h0, .inr (1, [.int (nI n), .int (nI k), .int kn, .long v3, .long v4, .long v5, .long v6, .ref h1])), (h1, .inl (cA, 9, .inl f))] sz)) 0 0 (va_A [(h0, .inr (1, [.int (nI n), .int (nI k), .int kn, .long v3, .long v4, .long v5, .long v6, .ref h1])), (h1, .inl (cA, 9, .inl f))] sz) := by
  refine Met.ofW (cc := cX1_over) (maxL := 1) (ret := (some .long)) (by decide) rfl ?_
  intro p e s m args below meth c s₁ B hml hv
  obtain ⟨rfl, hsz, hP, hK, hD0⟩ := hv
  have hx := B.exec
  have hb := B.bytes
  have hr := B.returns
  have hts := atoms_spec (ws := wsX1_over) B.pre
  have hts : ∀ w ∈ lw_all, w.before _ s = true := fun w h => hts w (List.mem_cons_of_mem _ h)
  have hown : s.vm.findClass RX1 = some m.cls := findClass_of_methodNamed B.named
  have hlocks := B.notSynchronized
  subst hsz
  have hD := hD0.self (sz := s.heap.size)
  generalize hAe : va_A [(h0, .inr (1, [.int (nI n), .int (nI k), .int kn, .long v3, .long v4, .long v5, .long v6, .ref h1])), (h1, .inl (cA, 9, .inl f))] s.heap.size = A at hD ⊢
  have hA : ∀ q : Nat, s.heap.size ≤ q → A q := fun q h => by rw [← hAe]; exact Or.inr h
  have hS : va_S A s.heap s.heap [] := va_S.rf
  have hP : va_P (dC, dI) vwCl [(h0, .inr (1, [.int (nI n), .int (nI k), .int kn, .long v3, .long v4, .long v5, .long v6, .ref h1])), (h1, .inl (cA, 9, .inl f))] s.heap := hP
  have hl := lv_entry ([.ref h0]) (n := 1) (Nat.le_of_ble_eq_true rfl)
  rw [lg_entry_eq]
  generalize (lg_sl ([.ref h0]) ++ List.replicate (1 - (lg_sl ([.ref h0])).length) Slot.unset).toArray = ls at hl ⊢
  have hl : lv_has ls 1 [(0, .ref h0)] := hl
  refine lv_aload_n hx hb dX1_over_0 rfl (lv_at hl 0 rfl) ?_
  have hPc := hP.sub (ws' := [(h0, .inr (1, [.int (nI n), .int (nI k), .int kn, .long v3, .long v4, .long v5, .long v6, .ref h1])), (h1, .inl (cA, 9, .inl f))]) [0, 1] rfl
  have hDc := hD.sub (ws' := [(h0, .inr (1, [.int (nI n), .int (nI k), .int kn, .long v3, .long v4, .long v5, .long v6, .ref h1])), (h1, .inl (cA, 9, .inl f))]) [0, 1] (by decide) rfl
  have hKc := hK.sub (tys' := [(cA, .int)]) [0] rfl
  have hFc := va_free (wc := [(h0, .inr (1, [.int (nI n), .int (nI k), .int kn, .long v3, .long v4, .long v5, .long v6, .ref h1])), (h1, .inl (cA, 9, .inl f))]) hD hS hA [0, 1] rfl
  refine va_callv (va_runV (As := []) (rest := []) ⟨hx, hb, hml, hown, hts⟩ (metX1_reckon l dC dI h0 h1 s.heap.size cA n k kn v3 v4 v5 v6 f hok hrk) (cwV 0 hts (lw_V q113 q115 qs5 q8 q116) rfl rfl rfl (by decide +kernel) ⟨Nat.le_of_ble_eq_true rfl, Nat.le_of_ble_eq_true rfl⟩) ⟨fun a U g mk q => by obtain ⟨q0, q1, qP, qK, qD⟩ := q; exact ⟨q0, q1, qP, va_K.moved (u := U) (U := U.calling g mk a) (Vm.Alike.refl U.vm) qK, qD⟩, va_recv hKc hPc (ci := 1) (q0 := 0) rfl rfl, fun U hU hW => ⟨rfl, by rw [hU], by rw [hU]; exact hPc, va_K.moved hW.alike hKc, hDc.weaken (fun _ _ _ _ => trivial)⟩⟩ rfl rfl hl.1 rfl (lv_room (Nat.le_of_ble_eq_true rfl)) dX1_over_1 ⟨Nat.le_of_ble_eq_true rfl, Nat.le_of_ble_eq_true rfl⟩) hS (fun q _ h => hFc q h) hFc (fun f2 t H1 locs ht hvm hw hB hz1 hk1 hS => ?_)
  obtain ⟨hP1, hK1, hD1⟩ := hB
  rw [ht] at hP1
  obtain ⟨hP, hD⟩ := va_join (wr := []) (w1 := [(h0, .inr (1, [.int (nI n), .int (nI k), .int (nI 1), .long (rk_T n k), .long (rk_O n k), .long (rk_P n k), .long (rk_M n k), .ref h1])), (h1, .inl (cA, 9, .inl f2))]) hP hD [0, 1] [] rfl rfl (by decide) (by decide) hk1 hFc hP1 hD1
  generalize H1 = H at hP hS ⊢
  have hP : va_P (dC, dI) vwCl [(h0, .inr (1, [.int (nI n), .int (nI k), .int (nI 1), .long (rk_T n k), .long (rk_O n k), .long (rk_P n k), .long (rk_M n k), .ref h1])), (h1, .inl (cA, 9, .inl f2))] H := hP
  have hD : va_D A [(h0, .inr (1, [.int (nI n), .int (nI k), .int (nI 1), .long (rk_T n k), .long (rk_O n k), .long (rk_P n k), .long (rk_M n k), .ref h1])), (h1, .inl (cA, 9, .inl f2))] := hD
  refine lv_aload_n hx hb dX1_over_4 rfl (lv_at hl 0 rfl) ?_
  refine va_get (D := (dC, dI)) (ci := 1) (v := .long (rk_O n k)) (C := RX1) (T := TX1) (N := 8) hx hb hts in_X1 hown hK hP 0 rfl rfl 4 (by decide) (hts _ q82) (fun _ h9 => h9) rfl dX1_over_5 ?_
  have hP9 := hP.sub (ws' := [(h0, .inr (1, [.int (nI n), .int (nI k), .int (nI 1), .long (rk_T n k), .long (rk_O n k), .long (rk_P n k), .long (rk_M n k), .ref h1])), (h1, .inl (cA, 9, .inl f2))]) [0, 1] rfl
  have hD9 := hD.sub (ws' := [(h0, .inr (1, [.int (nI n), .int (nI k), .int (nI 1), .long (rk_T n k), .long (rk_O n k), .long (rk_P n k), .long (rk_M n k), .ref h1])), (h1, .inl (cA, 9, .inl f2))]) [0, 1] (by decide) rfl
  exact W.lret (v := rk_O n k) hx hb hr (fun t ht hW => ⟨⟨rk_O n k, f2, rfl, rfl, by rw [ht]; exact hP9, va_K.moved hW.alike hK, hD9⟩, hS.F ht⟩) hS.2.2 dX1_over_8
set_option maxHeartbeats 4000000 in
set_option maxRecDepth 100000 in
/-- unlike() -/
theorem metX1_unlike (l : Launch) (dC : Nat → ClassId) (dI : Nat → Nat → Nat) (h0 h1 sz : Nat) (cA : ClassId) (n k : Nat) (kn : Int32) (v3 v4 v5 v6 : Int64) (f : Nat → Int32) (hok : bd_ok n k) (hrk : rk_ok n k kn v3 v4 v5 v6) : Met l yX1_unlike wsX1_unlike ({ frames := 1, cells := 0, slots := 0, locals := 31 }) (va_Pc [.ref h0] (fun U => U.heap.size = sz ∧ va_P (dC, dI) vwCl [(h0, .inr (1, [.int (nI n), .int (nI k), .int kn, .long v3, .long v4, .long v5, .long v6, .ref h1])), (h1, .inl (cA, 9, .inl f))] U.heap ∧ va_K (dC, dI) vwCl [(cA, .int)] U ∧ va_D (fun _ => True) [(h0, .inr (1, [.int (nI n), .int (nI k), .int kn, .long v3, .long v4, .long v5, .long v6, .ref h1])), (h1, .inl (cA, 9, .inl f))])) (va_Ql (fun (r : Int64) (_ : Nat → Int32) => r = rk_P n k) (BX1 dC dI (va_A [(h0, .inr (1, [.int (nI n), .int (nI k), .int kn, .long v3, .long v4, .long v5, .long v6, .ref h1])), (h1, .inl (cA, 9, .inl f))] sz) h0 h1 cA n k (nI 1) (rk_T n k) (rk_O n k) (rk_P n k) (rk_M n k)) (va_A [(h0, .inr (1, [.int (nI n), .int (nI k), .int kn, .long v3, .long v4, .long v5, .long v6, .ref h1])), (h1, .inl (cA, 9, .inl f))] sz)) 0 0 (va_A [(h0, .inr (1, [.int (nI n), .int (nI k), .int kn, .long v3, .long v4, .long v5, .long v6, .ref h1])), (h1, .inl (cA, 9, .inl f))] sz) := by
  refine Met.ofW (cc := cX1_unlike) (maxL := 1) (ret := (some .long)) (by decide) rfl ?_
  intro p e s m args below meth c s₁ B hml hv
  obtain ⟨rfl, hsz, hP, hK, hD0⟩ := hv
  have hx := B.exec
  have hb := B.bytes
  have hr := B.returns
  have hts := atoms_spec (ws := wsX1_unlike) B.pre
  have hts : ∀ w ∈ lw_all, w.before _ s = true := fun w h => hts w (List.mem_cons_of_mem _ h)
  have hown : s.vm.findClass RX1 = some m.cls := findClass_of_methodNamed B.named
  have hlocks := B.notSynchronized
  subst hsz
  have hD := hD0.self (sz := s.heap.size)
  generalize hAe : va_A [(h0, .inr (1, [.int (nI n), .int (nI k), .int kn, .long v3, .long v4, .long v5, .long v6, .ref h1])), (h1, .inl (cA, 9, .inl f))] s.heap.size = A at hD ⊢
  have hA : ∀ q : Nat, s.heap.size ≤ q → A q := fun q h => by rw [← hAe]; exact Or.inr h
  have hS : va_S A s.heap s.heap [] := va_S.rf
  have hP : va_P (dC, dI) vwCl [(h0, .inr (1, [.int (nI n), .int (nI k), .int kn, .long v3, .long v4, .long v5, .long v6, .ref h1])), (h1, .inl (cA, 9, .inl f))] s.heap := hP
  have hl := lv_entry ([.ref h0]) (n := 1) (Nat.le_of_ble_eq_true rfl)
  rw [lg_entry_eq]
  generalize (lg_sl ([.ref h0]) ++ List.replicate (1 - (lg_sl ([.ref h0])).length) Slot.unset).toArray = ls at hl ⊢
  have hl : lv_has ls 1 [(0, .ref h0)] := hl
  refine lv_aload_n hx hb dX1_unlike_0 rfl (lv_at hl 0 rfl) ?_
  have hPc := hP.sub (ws' := [(h0, .inr (1, [.int (nI n), .int (nI k), .int kn, .long v3, .long v4, .long v5, .long v6, .ref h1])), (h1, .inl (cA, 9, .inl f))]) [0, 1] rfl
  have hDc := hD.sub (ws' := [(h0, .inr (1, [.int (nI n), .int (nI k), .int kn, .long v3, .long v4, .long v5, .long v6, .ref h1])), (h1, .inl (cA, 9, .inl f))]) [0, 1] (by decide) rfl
  have hKc := hK.sub (tys' := [(cA, .int)]) [0] rfl
  have hFc := va_free (wc := [(h0, .inr (1, [.int (nI n), .int (nI k), .int kn, .long v3, .long v4, .long v5, .long v6, .ref h1])), (h1, .inl (cA, 9, .inl f))]) hD hS hA [0, 1] rfl
  refine va_callv (va_runV (As := []) (rest := []) ⟨hx, hb, hml, hown, hts⟩ (metX1_reckon l dC dI h0 h1 s.heap.size cA n k kn v3 v4 v5 v6 f hok hrk) (cwV 0 hts (lw_V q113 q115 qs5 q8 q116) rfl rfl rfl (by decide +kernel) ⟨Nat.le_of_ble_eq_true rfl, Nat.le_of_ble_eq_true rfl⟩) ⟨fun a U g mk q => by obtain ⟨q0, q1, qP, qK, qD⟩ := q; exact ⟨q0, q1, qP, va_K.moved (u := U) (U := U.calling g mk a) (Vm.Alike.refl U.vm) qK, qD⟩, va_recv hKc hPc (ci := 1) (q0 := 0) rfl rfl, fun U hU hW => ⟨rfl, by rw [hU], by rw [hU]; exact hPc, va_K.moved hW.alike hKc, hDc.weaken (fun _ _ _ _ => trivial)⟩⟩ rfl rfl hl.1 rfl (lv_room (Nat.le_of_ble_eq_true rfl)) dX1_unlike_1 ⟨Nat.le_of_ble_eq_true rfl, Nat.le_of_ble_eq_true rfl⟩) hS (fun q _ h => hFc q h) hFc (fun f2 t H1 locs ht hvm hw hB hz1 hk1 hS => ?_)
  obtain ⟨hP1, hK1, hD1⟩ := hB
  rw [ht] at hP1
  obtain ⟨hP, hD⟩ := va_join (wr := []) (w1 := [(h0, .inr (1, [.int (nI n), .int (nI k), .int (nI 1), .long (rk_T n k), .long (rk_O n k), .long (rk_P n k), .long (rk_M n k), .ref h1])), (h1, .inl (cA, 9, .inl f2))]) hP hD [0, 1] [] rfl rfl (by decide) (by decide) hk1 hFc hP1 hD1
  generalize H1 = H at hP hS ⊢
  have hP : va_P (dC, dI) vwCl [(h0, .inr (1, [.int (nI n), .int (nI k), .int (nI 1), .long (rk_T n k), .long (rk_O n k), .long (rk_P n k), .long (rk_M n k), .ref h1])), (h1, .inl (cA, 9, .inl f2))] H := hP
  have hD : va_D A [(h0, .inr (1, [.int (nI n), .int (nI k), .int (nI 1), .long (rk_T n k), .long (rk_O n k), .long (rk_P n k), .long (rk_M n k), .ref h1])), (h1, .inl (cA, 9, .inl f2))] := hD
  refine lv_aload_n hx hb dX1_unlike_4 rfl (lv_at hl 0 rfl) ?_
  refine va_get (D := (dC, dI)) (ci := 1) (v := .long (rk_P n k)) (C := RX1) (T := TX1) (N := 8) hx hb hts in_X1 hown hK hP 0 rfl rfl 5 (by decide) (hts _ q83) (fun _ h9 => h9) rfl dX1_unlike_5 ?_
  have hP9 := hP.sub (ws' := [(h0, .inr (1, [.int (nI n), .int (nI k), .int (nI 1), .long (rk_T n k), .long (rk_O n k), .long (rk_P n k), .long (rk_M n k), .ref h1])), (h1, .inl (cA, 9, .inl f2))]) [0, 1] rfl
  have hD9 := hD.sub (ws' := [(h0, .inr (1, [.int (nI n), .int (nI k), .int (nI 1), .long (rk_T n k), .long (rk_O n k), .long (rk_P n k), .long (rk_M n k), .ref h1])), (h1, .inl (cA, 9, .inl f2))]) [0, 1] (by decide) rfl
  exact W.lret (v := rk_P n k) hx hb hr (fun t ht hW => ⟨⟨rk_P n k, f2, rfl, rfl, by rw [ht]; exact hP9, va_K.moved hW.alike hK, hD9⟩, hS.F ht⟩) hS.2.2 dX1_unlike_8
set_option maxHeartbeats 4000000 in
set_option maxRecDepth 100000 in
/-- mirrors() -/
theorem metX1_mirrors (l : Launch) (dC : Nat → ClassId) (dI : Nat → Nat → Nat) (h0 h1 sz : Nat) (cA : ClassId) (n k : Nat) (kn : Int32) (v3 v4 v5 v6 : Int64) (f : Nat → Int32) (hok : bd_ok n k) (hrk : rk_ok n k kn v3 v4 v5 v6) : Met l yX1_mirrors wsX1_mirrors ({ frames := 1, cells := 0, slots := 0, locals := 31 }) (va_Pc [.ref h0] (fun U => U.heap.size = sz ∧ va_P (dC, dI) vwCl [(h0, .inr (1, [.int (nI n), .int (nI k), .int kn, .long v3, .long v4, .long v5, .long v6, .ref h1])), (h1, .inl (cA, 9, .inl f))] U.heap ∧ va_K (dC, dI) vwCl [(cA, .int)] U ∧ va_D (fun _ => True) [(h0, .inr (1, [.int (nI n), .int (nI k), .int kn, .long v3, .long v4, .long v5, .long v6, .ref h1])), (h1, .inl (cA, 9, .inl f))])) (va_Ql (fun (r : Int64) (_ : Nat → Int32) => r = rk_M n k) (BX1 dC dI (va_A [(h0, .inr (1, [.int (nI n), .int (nI k), .int kn, .long v3, .long v4, .long v5, .long v6, .ref h1])), (h1, .inl (cA, 9, .inl f))] sz) h0 h1 cA n k (nI 1) (rk_T n k) (rk_O n k) (rk_P n k) (rk_M n k)) (va_A [(h0, .inr (1, [.int (nI n), .int (nI k), .int kn, .long v3, .long v4, .long v5, .long v6, .ref h1])), (h1, .inl (cA, 9, .inl f))] sz)) 0 0 (va_A [(h0, .inr (1, [.int (nI n), .int (nI k), .int kn, .long v3, .long v4, .long v5, .long v6, .ref h1])), (h1, .inl (cA, 9, .inl f))] sz) := by
  refine Met.ofW (cc := cX1_mirrors) (maxL := 1) (ret := (some .long)) (by decide) rfl ?_
  intro p e s m args below meth c s₁ B hml hv
  obtain ⟨rfl, hsz, hP, hK, hD0⟩ := hv
  have hx := B.exec
  have hb := B.bytes
  have hr := B.returns
  have hts := atoms_spec (ws := wsX1_mirrors) B.pre
  have hts : ∀ w ∈ lw_all, w.before _ s = true := fun w h => hts w (List.mem_cons_of_mem _ h)
  have hown : s.vm.findClass RX1 = some m.cls := findClass_of_methodNamed B.named
  have hlocks := B.notSynchronized
  subst hsz
  have hD := hD0.self (sz := s.heap.size)
  generalize hAe : va_A [(h0, .inr (1, [.int (nI n), .int (nI k), .int kn, .long v3, .long v4, .long v5, .long v6, .ref h1])), (h1, .inl (cA, 9, .inl f))] s.heap.size = A at hD ⊢
  have hA : ∀ q : Nat, s.heap.size ≤ q → A q := fun q h => by rw [← hAe]; exact Or.inr h
  have hS : va_S A s.heap s.heap [] := va_S.rf
  have hP : va_P (dC, dI) vwCl [(h0, .inr (1, [.int (nI n), .int (nI k), .int kn, .long v3, .long v4, .long v5, .long v6, .ref h1])), (h1, .inl (cA, 9, .inl f))] s.heap := hP
  have hl := lv_entry ([.ref h0]) (n := 1) (Nat.le_of_ble_eq_true rfl)
  rw [lg_entry_eq]
  generalize (lg_sl ([.ref h0]) ++ List.replicate (1 - (lg_sl ([.ref h0])).length) Slot.unset).toArray = ls at hl ⊢
  have hl : lv_has ls 1 [(0, .ref h0)] := hl
  refine lv_aload_n hx hb dX1_mirrors_0 rfl (lv_at hl 0 rfl) ?_
  have hPc := hP.sub (ws' := [(h0, .inr (1, [.int (nI n), .int (nI k), .int kn, .long v3, .long v4, .long v5, .long v6, .ref h1])), (h1, .inl (cA, 9, .inl f))]) [0, 1] rfl
  have hDc := hD.sub (ws' := [(h0, .inr (1, [.int (nI n), .int (nI k), .int kn, .long v3, .long v4, .long v5, .long v6, .ref h1])), (h1, .inl (cA, 9, .inl f))]) [0, 1] (by decide) rfl
  have hKc := hK.sub (tys' := [(cA, .int)]) [0] rfl
  have hFc := va_free (wc := [(h0, .inr (1, [.int (nI n), .int (nI k), .int kn, .long v3, .long v4, .long v5, .long v6, .ref h1])), (h1, .inl (cA, 9, .inl f))]) hD hS hA [0, 1] rfl
  refine va_callv (va_runV (As := []) (rest := []) ⟨hx, hb, hml, hown, hts⟩ (metX1_reckon l dC dI h0 h1 s.heap.size cA n k kn v3 v4 v5 v6 f hok hrk) (cwV 0 hts (lw_V q113 q115 qs5 q8 q116) rfl rfl rfl (by decide +kernel) ⟨Nat.le_of_ble_eq_true rfl, Nat.le_of_ble_eq_true rfl⟩) ⟨fun a U g mk q => by obtain ⟨q0, q1, qP, qK, qD⟩ := q; exact ⟨q0, q1, qP, va_K.moved (u := U) (U := U.calling g mk a) (Vm.Alike.refl U.vm) qK, qD⟩, va_recv hKc hPc (ci := 1) (q0 := 0) rfl rfl, fun U hU hW => ⟨rfl, by rw [hU], by rw [hU]; exact hPc, va_K.moved hW.alike hKc, hDc.weaken (fun _ _ _ _ => trivial)⟩⟩ rfl rfl hl.1 rfl (lv_room (Nat.le_of_ble_eq_true rfl)) dX1_mirrors_1 ⟨Nat.le_of_ble_eq_true rfl, Nat.le_of_ble_eq_true rfl⟩) hS (fun q _ h => hFc q h) hFc (fun f2 t H1 locs ht hvm hw hB hz1 hk1 hS => ?_)
  obtain ⟨hP1, hK1, hD1⟩ := hB
  rw [ht] at hP1
  obtain ⟨hP, hD⟩ := va_join (wr := []) (w1 := [(h0, .inr (1, [.int (nI n), .int (nI k), .int (nI 1), .long (rk_T n k), .long (rk_O n k), .long (rk_P n k), .long (rk_M n k), .ref h1])), (h1, .inl (cA, 9, .inl f2))]) hP hD [0, 1] [] rfl rfl (by decide) (by decide) hk1 hFc hP1 hD1
  generalize H1 = H at hP hS ⊢
  have hP : va_P (dC, dI) vwCl [(h0, .inr (1, [.int (nI n), .int (nI k), .int (nI 1), .long (rk_T n k), .long (rk_O n k), .long (rk_P n k), .long (rk_M n k), .ref h1])), (h1, .inl (cA, 9, .inl f2))] H := hP
  have hD : va_D A [(h0, .inr (1, [.int (nI n), .int (nI k), .int (nI 1), .long (rk_T n k), .long (rk_O n k), .long (rk_P n k), .long (rk_M n k), .ref h1])), (h1, .inl (cA, 9, .inl f2))] := hD
  refine lv_aload_n hx hb dX1_mirrors_4 rfl (lv_at hl 0 rfl) ?_
  refine va_get (D := (dC, dI)) (ci := 1) (v := .long (rk_M n k)) (C := RX1) (T := TX1) (N := 8) hx hb hts in_X1 hown hK hP 0 rfl rfl 6 (by decide) (hts _ q84) (fun _ h9 => h9) rfl dX1_mirrors_5 ?_
  have hP9 := hP.sub (ws' := [(h0, .inr (1, [.int (nI n), .int (nI k), .int (nI 1), .long (rk_T n k), .long (rk_O n k), .long (rk_P n k), .long (rk_M n k), .ref h1])), (h1, .inl (cA, 9, .inl f2))]) [0, 1] rfl
  have hD9 := hD.sub (ws' := [(h0, .inr (1, [.int (nI n), .int (nI k), .int (nI 1), .long (rk_T n k), .long (rk_O n k), .long (rk_P n k), .long (rk_M n k), .ref h1])), (h1, .inl (cA, 9, .inl f2))]) [0, 1] (by decide) rfl
  exact W.lret (v := rk_M n k) hx hb hr (fun t ht hW => ⟨⟨rk_M n k, f2, rfl, rfl, by rw [ht]; exact hP9, va_K.moved hW.alike hK, hD9⟩, hS.F ht⟩) hS.2.2 dX1_mirrors_8
set_option maxHeartbeats 4000000 in
set_option maxRecDepth 100000 in
/-- ring(a, b) -/
theorem metX1_ring (l : Launch) (dC : Nat → ClassId) (dI : Nat → Nat → Nat) (h0 h1 sz : Nat) (cA : ClassId) (n k : Nat) (kn : Int32) (v3 v4 v5 v6 : Int64) (f : Nat → Int32) (a b : Int32) : Met l yX1_ring wsX1_ring ({ frames := 0, cells := 0, slots := 0, locals := 0 }) (va_Pc [.ref h0, .int a, .int b] (fun U => U.heap.size = sz ∧ va_P (dC, dI) vwCl [(h0, .inr (1, [.int (nI n), .int (nI k), .int kn, .long v3, .long v4, .long v5, .long v6, .ref h1])), (h1, .inl (cA, 9, .inl f))] U.heap ∧ va_K (dC, dI) vwCl [(cA, .int)] U ∧ va_D (fun _ => True) [(h0, .inr (1, [.int (nI n), .int (nI k), .int kn, .long v3, .long v4, .long v5, .long v6, .ref h1])), (h1, .inl (cA, 9, .inl f))])) (va_Qv (fun _ : Unit => True) (fun (_ : Unit) t => BX1 dC dI (va_A [(h0, .inr (1, [.int (nI n), .int (nI k), .int kn, .long v3, .long v4, .long v5, .long v6, .ref h1])), (h1, .inl (cA, 9, .inl f))] sz) h0 h1 cA (bd_n a) (bd_k b) (nI 0) v3 v4 v5 v6 f t) (va_A [(h0, .inr (1, [.int (nI n), .int (nI k), .int kn, .long v3, .long v4, .long v5, .long v6, .ref h1])), (h1, .inl (cA, 9, .inl f))] sz)) 0 0 (va_A [(h0, .inr (1, [.int (nI n), .int (nI k), .int kn, .long v3, .long v4, .long v5, .long v6, .ref h1])), (h1, .inl (cA, 9, .inl f))] sz) := by
  refine Met.ofW (cc := cX1_ring) (maxL := 3) (ret := none) (by decide) rfl ?_
  intro p e s m args below meth c s₁ B hml hv
  obtain ⟨rfl, hsz, hP, hK, hD0⟩ := hv
  have hx := B.exec
  have hb := B.bytes
  have hr := B.returns
  have hts := atoms_spec (ws := wsX1_ring) B.pre
  have hts : ∀ w ∈ lw_all, w.before _ s = true := fun w h => hts w (List.mem_cons_of_mem _ h)
  have hown : s.vm.findClass RX1 = some m.cls := findClass_of_methodNamed B.named
  have hlocks := B.notSynchronized
  subst hsz
  have hD := hD0.self (sz := s.heap.size)
  generalize hAe : va_A [(h0, .inr (1, [.int (nI n), .int (nI k), .int kn, .long v3, .long v4, .long v5, .long v6, .ref h1])), (h1, .inl (cA, 9, .inl f))] s.heap.size = A at hD ⊢
  have hA : ∀ q : Nat, s.heap.size ≤ q → A q := fun q h => by rw [← hAe]; exact Or.inr h
  have hS : va_S A s.heap s.heap [] := va_S.rf
  have hP : va_P (dC, dI) vwCl [(h0, .inr (1, [.int (nI n), .int (nI k), .int kn, .long v3, .long v4, .long v5, .long v6, .ref h1])), (h1, .inl (cA, 9, .inl f))] s.heap := hP
  have hl := lv_entry ([.ref h0, .int a, .int b]) (n := 3) (Nat.le_of_ble_eq_true rfl)
  rw [lg_entry_eq]
  generalize (lg_sl ([.ref h0, .int a, .int b]) ++ List.replicate (3 - (lg_sl ([.ref h0, .int a, .int b])).length) Slot.unset).toArray = ls at hl ⊢
  have hl : lv_has ls 3 [(0, .ref h0), (1, .int a), (2, .int b)] := hl
  refine lv_aload_n hx hb dX1_ring_0 rfl (lv_at hl 0 rfl) ?_
  refine lv_iconst (v := nI 1) hx hb dX1_ring_1 (by decide) ?_
  refine lv_iload_n hx hb dX1_ring_2 rfl (lv_at hl 1 rfl) ?_
  refine lv_ldc hx hb hown (hts _ q108) dX1_ring_3 ?_
  refine lv_iand hx hb dX1_ring_5 ?_
  refine bd_i (y := nI (a.toBitVec.toNat % 2 ^ 31)) (pk_and a 31 (by decide +kernel)) ?_
  refine lv_bipush (v := nI 8) hx hb dX1_ring_6 (by decide) ?_
  refine lv_irem hx hb dX1_ring_8 (by decide) ?_
  refine bd_i (y := nI ((a.toBitVec.toNat % 2 ^ 31) % 8)) (pk_rem (Nat.mod_lt _ (by decide)) (by decide) (by decide)) ?_
  refine lv_iadd hx hb dX1_ring_9 ?_
  refine bd_i (y := nI (bd_n a)) (nI_add 1 _) ?_
  refine va_put (D := (dC, dI)) (ci := 1) (v := .int (nI (bd_n a))) (ty := .int) (C := RX1) (T := TX1) (N := 8) hx hb hts in_X1 tyX1 tyX1_ok nmX1 hown hK hP hD hS 0 rfl rfl 0 (by decide) (hts _ q78) (fun _ h9 => h9) rfl (by decide +kernel) rfl rfl (Nat.le_of_ble_eq_true rfl) dX1_ring_10 (fun H locs hP hD hS => ?_)
  have hP : va_P (dC, dI) vwCl [(h0, .inr (1, [.int (nI (bd_n a)), .int (nI k), .int kn, .long v3, .long v4, .long v5, .long v6, .ref h1])), (h1, .inl (cA, 9, .inl f))] H := hP
  have hD : va_D A [(h0, .inr (1, [.int (nI (bd_n a)), .int (nI k), .int kn, .long v3, .long v4, .long v5, .long v6, .ref h1])), (h1, .inl (cA, 9, .inl f))] := hD
  refine lv_aload_n hx hb dX1_ring_13 rfl (lv_at hl 0 rfl) ?_
  refine lv_iconst (v := nI 1) hx hb dX1_ring_14 (by decide) ?_
  refine lv_iload_n hx hb dX1_ring_15 rfl (lv_at hl 2 rfl) ?_
  refine lv_ldc hx hb hown (hts _ q108) dX1_ring_16 ?_
  refine lv_iand hx hb dX1_ring_18 ?_
  refine bd_i (y := nI (b.toBitVec.toNat % 2 ^ 31)) (pk_and b 31 (by decide +kernel)) ?_
  refine lv_iconst (v := nI 3) hx hb dX1_ring_19 (by decide) ?_
  refine lv_irem hx hb dX1_ring_20 (by decide) ?_
  refine bd_i (y := nI ((b.toBitVec.toNat % 2 ^ 31) % 3)) (pk_rem (Nat.mod_lt _ (by decide)) (by decide) (by decide)) ?_
  refine lv_iadd hx hb dX1_ring_21 ?_
  refine bd_i (y := nI (bd_k b)) (nI_add 1 _) ?_
  refine va_put (D := (dC, dI)) (ci := 1) (v := .int (nI (bd_k b))) (ty := .int) (C := RX1) (T := TX1) (N := 8) hx hb hts in_X1 tyX1 tyX1_ok nmX1 hown hK hP hD hS 0 rfl rfl 1 (by decide) (hts _ q79) (fun _ h9 => h9) rfl (by decide +kernel) rfl rfl (Nat.le_of_ble_eq_true rfl) dX1_ring_22 (fun H locs hP hD hS => ?_)
  have hP : va_P (dC, dI) vwCl [(h0, .inr (1, [.int (nI (bd_n a)), .int (nI (bd_k b)), .int kn, .long v3, .long v4, .long v5, .long v6, .ref h1])), (h1, .inl (cA, 9, .inl f))] H := hP
  have hD : va_D A [(h0, .inr (1, [.int (nI (bd_n a)), .int (nI (bd_k b)), .int kn, .long v3, .long v4, .long v5, .long v6, .ref h1])), (h1, .inl (cA, 9, .inl f))] := hD
  refine lv_aload_n hx hb dX1_ring_25 rfl (lv_at hl 0 rfl) ?_
  refine lv_iconst (v := nI 0) hx hb dX1_ring_26 (by decide) ?_
  refine va_put (D := (dC, dI)) (ci := 1) (v := .int (nI 0)) (ty := .boolean) (C := RX1) (T := TX1) (N := 8) hx hb hts in_X1 tyX1 tyX1_ok nmX1 hown hK hP hD hS 0 rfl rfl 2 (by decide) (hts _ q80) (fun _ h9 => h9) rfl (by decide +kernel) rfl rfl (Nat.le_of_ble_eq_true rfl) dX1_ring_27 (fun H locs hP hD hS => ?_)
  have hP : va_P (dC, dI) vwCl [(h0, .inr (1, [.int (nI (bd_n a)), .int (nI (bd_k b)), .int (nI 0), .long v3, .long v4, .long v5, .long v6, .ref h1])), (h1, .inl (cA, 9, .inl f))] H := hP
  have hD : va_D A [(h0, .inr (1, [.int (nI (bd_n a)), .int (nI (bd_k b)), .int (nI 0), .long v3, .long v4, .long v5, .long v6, .ref h1])), (h1, .inl (cA, 9, .inl f))] := hD
  have hP9 := hP.sub (ws' := [(h0, .inr (1, [.int (nI (bd_n a)), .int (nI (bd_k b)), .int (nI 0), .long v3, .long v4, .long v5, .long v6, .ref h1])), (h1, .inl (cA, 9, .inl f))]) [0, 1] rfl
  have hD9 := hD.sub (ws' := [(h0, .inr (1, [.int (nI (bd_n a)), .int (nI (bd_k b)), .int (nI 0), .long v3, .long v4, .long v5, .long v6, .ref h1])), (h1, .inl (cA, 9, .inl f))]) [0, 1] (by decide) rfl
  exact W.vret hx hb hr (fun t ht hW => ⟨⟨(), rfl, trivial, by rw [ht]; exact hP9, va_K.moved hW.alike hK, hD9⟩, hS.F ht⟩) hS.2.2 dX1_ring_30
set_option maxHeartbeats 4000000 in
set_option maxRecDepth 100000 in
/-- rows' loop -/
theorem rk_rows_loop {p : Program} {l : Launch} {e : Env} {R : Room} {s : State} {m : MethodId} {args : Array Value} {below : List Frame} {meth : Method} {c : Code} {cells slots : Nat} {Q : State → Prop} {dC : Nat → ClassId} {dI : Nat → Nat → Nat} {h0 h1 n k : Nat} {cA : ClassId} {kn : Int32} {v3 v4 v5 v6 : Int64} {f : Nat → Int32} {H : Heap} {locs : List Loc} (hx : p.tables.exec = Jvm.exec) (hb : c.code = cX1_rows) (hown : s.vm.findClass RX1 = some m.cls) (hts : ∀ w ∈ lw_all, w.before args s = true) (hK : va_K (dC, dI) vwCl [(cA, .int)] s) (hok : bd_ok n k) (hP : va_P (dC, dI) vwCl [(h0, .inr (1, [.int (nI n), .int (nI k), .int kn, .long v3, .long v4, .long v5, .long v6, .ref h1])), (h1, .inl (cA, 9, .inl f))] H) (K : ∀ ls : Array Slot, lv_has ls 4 [(1, .long (lN (k ^ n)))] → W p l e R s m args below meth c H locs cells slots Q (F0 m 26 ls [])) :
    ∀ (j i : Nat), i ≤ n → n < i + j → ∀ ls : Array Slot, lv_has ls 4 [(0, .ref h0), (1, .long (lN (k ^ i))), (3, .int (nI i))] → W p l e R s m args below meth c H locs cells slots Q (F0 m 4 ls []) := by
  intro j
  induction j with
  | zero =>
    intro i h1q h2q
    exact absurd h2q (by omega)
  | succ j ih =>
    intro i h1q h2q ls hl
    obtain ⟨⟨hn1, hn8⟩, hk1, hk3⟩ := id hok
    refine lv_iload_n hx hb dX1_rows_4 rfl (lv_at hl 2 rfl) ?_
    refine lv_aload_n hx hb dX1_rows_5 rfl (lv_at hl 0 rfl) ?_
    refine va_get (D := (dC, dI)) (ci := 1) (v := .int (nI n)) (C := RX1) (T := TX1) (N := 8) hx hb hts in_X1 hown hK hP 0 rfl rfl 0 (by decide) (hts _ q78) (fun _ h9 => h9) rfl dX1_rows_6 ?_
    refine bd_ge (tgt := 26) hx hb dX1_rows_9 (by decide) (by omega) (by omega) (fun c_9 => ?_) (fun c_9 => ?_)
    · have e1 : i = n := Nat.le_antisymm h1q c_9
      subst e1
      exact K ls (lv_sub hl [1] rfl)
    · refine lv_lload_n hx hb dX1_rows_12 rfl (lv_at hl 1 rfl) ?_
      refine lv_aload_n hx hb dX1_rows_13 rfl (lv_at hl 0 rfl) ?_
      refine va_get (D := (dC, dI)) (ci := 1) (v := .int (nI k)) (C := RX1) (T := TX1) (N := 8) hx hb hts in_X1 hown hK hP 0 rfl rfl 1 (by decide) (hts _ q79) (fun _ h9 => h9) rfl dX1_rows_14 ?_
      refine lv_i2l (v := lN k) hx hb dX1_rows_17 (nI_l (by omega)) ?_
      refine lv_lmul hx hb dX1_rows_18 ?_
      refine bd_l (y := lN (k ^ (i + 1))) (lN_mul _ _) ?_
      refine lv_lstore_n (lv' := [(1, .long (lN (k ^ (i + 1)))), (0, .ref h0), (3, .int (nI i))]) hx hb dX1_rows_19 rfl hl (by decide) rfl (fun ls hl => ?_)
      refine lv_iinc (v := nI (i + 1)) (lv' := [(3, .int (nI (i + 1))), (1, .long (lN (k ^ (i + 1)))), (0, .ref h0)]) hx hb dX1_rows_20 hl (k := 2) rfl (nI_1 i) (by decide) rfl (fun ls hl => ?_)
      refine lv_goto (tgt := 4) hx hb dX1_rows_23 (by decide) ?_
      exact ih (i + 1) c_9 (by omega) ls (lv_sub hl [2, 1, 0] rfl)
set_option maxHeartbeats 4000000 in
set_option maxRecDepth 100000 in
/-- rows() -/
theorem metX1_rows (l : Launch) (dC : Nat → ClassId) (dI : Nat → Nat → Nat) (h0 h1 sz : Nat) (cA : ClassId) (n k : Nat) (kn : Int32) (v3 v4 v5 v6 : Int64) (f : Nat → Int32) (hok : bd_ok n k) : Met l yX1_rows wsX1_rows ({ frames := 0, cells := 0, slots := 0, locals := 0 }) (va_Pc [.ref h0] (fun U => U.heap.size = sz ∧ va_P (dC, dI) vwCl [(h0, .inr (1, [.int (nI n), .int (nI k), .int kn, .long v3, .long v4, .long v5, .long v6, .ref h1])), (h1, .inl (cA, 9, .inl f))] U.heap ∧ va_K (dC, dI) vwCl [(cA, .int)] U ∧ va_D (fun _ => True) [(h0, .inr (1, [.int (nI n), .int (nI k), .int kn, .long v3, .long v4, .long v5, .long v6, .ref h1])), (h1, .inl (cA, 9, .inl f))])) (va_Ql (fun (r : Int64) (_ : Unit) => r = lN (k ^ n)) (fun (_ : Unit) t => BX1 dC dI (va_A [(h0, .inr (1, [.int (nI n), .int (nI k), .int kn, .long v3, .long v4, .long v5, .long v6, .ref h1])), (h1, .inl (cA, 9, .inl f))] sz) h0 h1 cA n k kn v3 v4 v5 v6 f t) (va_A [(h0, .inr (1, [.int (nI n), .int (nI k), .int kn, .long v3, .long v4, .long v5, .long v6, .ref h1])), (h1, .inl (cA, 9, .inl f))] sz)) 0 0 (va_A [(h0, .inr (1, [.int (nI n), .int (nI k), .int kn, .long v3, .long v4, .long v5, .long v6, .ref h1])), (h1, .inl (cA, 9, .inl f))] sz) := by
  refine Met.ofW (cc := cX1_rows) (maxL := 4) (ret := (some .long)) (by decide) rfl ?_
  intro p e s m args below meth c s₁ B hml hv
  obtain ⟨rfl, hsz, hP, hK, hD0⟩ := hv
  have hx := B.exec
  have hb := B.bytes
  have hr := B.returns
  have hts := atoms_spec (ws := wsX1_rows) B.pre
  have hts : ∀ w ∈ lw_all, w.before _ s = true := fun w h => hts w (List.mem_cons_of_mem _ h)
  have hown : s.vm.findClass RX1 = some m.cls := findClass_of_methodNamed B.named
  have hlocks := B.notSynchronized
  subst hsz
  have hD := hD0.self (sz := s.heap.size)
  generalize hAe : va_A [(h0, .inr (1, [.int (nI n), .int (nI k), .int kn, .long v3, .long v4, .long v5, .long v6, .ref h1])), (h1, .inl (cA, 9, .inl f))] s.heap.size = A at hD ⊢
  have hA : ∀ q : Nat, s.heap.size ≤ q → A q := fun q h => by rw [← hAe]; exact Or.inr h
  have hS : va_S A s.heap s.heap [] := va_S.rf
  have hP : va_P (dC, dI) vwCl [(h0, .inr (1, [.int (nI n), .int (nI k), .int kn, .long v3, .long v4, .long v5, .long v6, .ref h1])), (h1, .inl (cA, 9, .inl f))] s.heap := hP
  have hl := lv_entry ([.ref h0]) (n := 4) (Nat.le_of_ble_eq_true rfl)
  rw [lg_entry_eq]
  generalize (lg_sl ([.ref h0]) ++ List.replicate (4 - (lg_sl ([.ref h0])).length) Slot.unset).toArray = ls at hl ⊢
  have hl : lv_has ls 4 [(0, .ref h0)] := hl
  refine lv_lconst (v := lN (k ^ 0)) hx hb dX1_rows_0 (rfl) ?_
  refine lv_lstore_n (lv' := [(1, .long (lN (k ^ 0))), (0, .ref h0)]) hx hb dX1_rows_1 rfl hl (by decide) rfl (fun ls hl => ?_)
  refine lv_iconst (v := nI 0) hx hb dX1_rows_2 (by decide) ?_
  refine lv_istore_n (lv' := [(3, .int (nI 0)), (1, .long (lN (k ^ 0))), (0, .ref h0)]) hx hb dX1_rows_3 rfl hl (by decide) rfl (fun ls hl => ?_)
  refine rk_rows_loop hx hb hown hts hK hok hP (fun ls hl => ?_) (n + 1) 0 (Nat.zero_le n) (by omega) ls (lv_sub hl [2, 1, 0] rfl)
  refine lv_lload_n hx hb dX1_rows_26 rfl (lv_at hl 0 rfl) ?_
  have hP9 := hP.sub (ws' := [(h0, .inr (1, [.int (nI n), .int (nI k), .int kn, .long v3, .long v4, .long v5, .long v6, .ref h1])), (h1, .inl (cA, 9, .inl f))]) [0, 1] rfl
  have hD9 := hD.sub (ws' := [(h0, .inr (1, [.int (nI n), .int (nI k), .int kn, .long v3, .long v4, .long v5, .long v6, .ref h1])), (h1, .inl (cA, 9, .inl f))]) [0, 1] (by decide) rfl
  exact W.lret (v := lN (k ^ n)) hx hb hr (fun t ht hW => ⟨⟨lN (k ^ n), (), rfl, rfl, by rw [ht]; exact hP9, va_K.moved hW.alike hK, hD9⟩, hS.F ht⟩) hS.2.2 dX1_rows_27
set_option maxHeartbeats 4000000 in
set_option maxRecDepth 100000 in
/-- BeadDeskModel(): 4, 2, nothing reckoned, a new array -/
theorem metX1_init (l : Launch) (dC : Nat → ClassId) (dI : Nat → Nat → Nat) (h0 sz : Nat) : Met l yX1_init wsX1_init ({ frames := 1, cells := 1, slots := 9, locals := 12 }) (va_Pc [.ref h0] (fun U => U.heap.size = sz ∧ va_P (dC, dI) vwCl [(h0, .inr (1, [.int 0, .int 0, .int 0, .long 0, .long 0, .long 0, .long 0, .null]))] U.heap ∧ va_K (dC, dI) vwCl [] U ∧ va_D (fun _ => True) [(h0, .inr (1, [.int 0, .int 0, .int 0, .long 0, .long 0, .long 0, .long 0, .null]))])) (va_Qv (fun _ : Unit => True) (fun (_ : Unit) t => ∃ (h1 : Nat) (cA : ClassId), BX1 dC dI (va_A [(h0, .inr (1, [.int 0, .int 0, .int 0, .long 0, .long 0, .long 0, .long 0, .null]))] sz) h0 h1 cA 4 2 0 0 0 0 0 (fun _ => 0) t) (va_A [(h0, .inr (1, [.int 0, .int 0, .int 0, .long 0, .long 0, .long 0, .long 0, .null]))] sz)) 1 9 (va_A [(h0, .inr (1, [.int 0, .int 0, .int 0, .long 0, .long 0, .long 0, .long 0, .null]))] sz) := by
  refine Met.ofW (cc := cX1_init) (maxL := 1) (ret := none) (by decide) rfl ?_
  intro p e s m args below meth c s₁ B hml hv
  obtain ⟨rfl, hsz, hP, hK, hD0⟩ := hv
  have hx := B.exec
  have hb := B.bytes
  have hr := B.returns
  have hts := atoms_spec (ws := wsX1_init) B.pre
  have hts : ∀ w ∈ lw_all, w.before _ s = true := fun w h => hts w (List.mem_cons_of_mem _ h)
  have hown : s.vm.findClass RX1 = some m.cls := findClass_of_methodNamed B.named
  have hlocks := B.notSynchronized
  have hin : meth.name = "<init>" := (name_of_methodNamed B.named B.method).1
  subst hsz
  have hD := hD0.self (sz := s.heap.size)
  generalize hAe : va_A [(h0, .inr (1, [.int 0, .int 0, .int 0, .long 0, .long 0, .long 0, .long 0, .null]))] s.heap.size = A at hD ⊢
  have hA : ∀ q : Nat, s.heap.size ≤ q → A q := fun q h => by rw [← hAe]; exact Or.inr h
  have hS : va_S A s.heap s.heap [] := va_S.rf
  have hP : va_P (dC, dI) vwCl [(h0, .inr (1, [.int 0, .int 0, .int 0, .long 0, .long 0, .long 0, .long 0, .null]))] s.heap := hP
  have hl := lv_entry ([.ref h0]) (n := 1) (Nat.le_of_ble_eq_true rfl)
  rw [lg_entry_eq]
  generalize (lg_sl ([.ref h0]) ++ List.replicate (1 - (lg_sl ([.ref h0])).length) Slot.unset).toArray = ls at hl ⊢
  have hl : lv_has ls 1 [(0, .ref h0)] := hl
  refine lv_aload_n hx hb dX1_init_0 rfl (lv_at hl 0 rfl) ?_
  refine W.objInit hx hb hown (hts _ q77) (hts _ q15) (hts _ q16) rfl (by rw [hml]; exact hl.1) rfl dX1_init_1 (Nat.le_of_ble_eq_true rfl) (Nat.le_of_ble_eq_true rfl) ?_
  refine W.eq (g2 := F0 m 4 ls []) rfl ?_
  refine lv_aload_n hx hb dX1_init_4 rfl (lv_at hl 0 rfl) ?_
  refine lv_iconst (v := nI 4) hx hb dX1_init_5 (by decide) ?_
  refine va_put (D := (dC, dI)) (ci := 1) (v := .int (nI 4)) (ty := .int) (C := RX1) (T := TX1) (N := 8) hx hb hts in_X1 tyX1 tyX1_ok nmX1 hown hK hP hD hS 0 rfl rfl 0 (by decide) (hts _ q78) (fun _ h9 => h9) rfl (by decide +kernel) rfl rfl (Nat.le_of_ble_eq_true rfl) dX1_init_6 (fun H locs hP hD hS => ?_)
  have hP : va_P (dC, dI) vwCl [(h0, .inr (1, [.int (nI 4), .int 0, .int 0, .long 0, .long 0, .long 0, .long 0, .null]))] H := hP
  have hD : va_D A [(h0, .inr (1, [.int (nI 4), .int 0, .int 0, .long 0, .long 0, .long 0, .long 0, .null]))] := hD
  refine lv_aload_n hx hb dX1_init_9 rfl (lv_at hl 0 rfl) ?_
  refine lv_iconst (v := nI 2) hx hb dX1_init_10 (by decide) ?_
  refine va_put (D := (dC, dI)) (ci := 1) (v := .int (nI 2)) (ty := .int) (C := RX1) (T := TX1) (N := 8) hx hb hts in_X1 tyX1 tyX1_ok nmX1 hown hK hP hD hS 0 rfl rfl 1 (by decide) (hts _ q79) (fun _ h9 => h9) rfl (by decide +kernel) rfl rfl (Nat.le_of_ble_eq_true rfl) dX1_init_11 (fun H locs hP hD hS => ?_)
  have hP : va_P (dC, dI) vwCl [(h0, .inr (1, [.int (nI 4), .int (nI 2), .int 0, .long 0, .long 0, .long 0, .long 0, .null]))] H := hP
  have hD : va_D A [(h0, .inr (1, [.int (nI 4), .int (nI 2), .int 0, .long 0, .long 0, .long 0, .long 0, .null]))] := hD
  refine lv_aload_n hx hb dX1_init_14 rfl (lv_at hl 0 rfl) ?_
  refine lv_bipush (v := nI 9) hx hb dX1_init_15 (by decide) ?_
  refine va_newa (atype := .int) (a0 := (9, .inl (fun _ => 0))) (N' := 9) (ty := .int) hx hb (hts _ q103) rfl hK hP hD hS hA (fun _ => rfl) (by decide) (by decide) (by decide) (Nat.le_of_ble_eq_true rfl) (Nat.le_of_ble_eq_true rfl) dX1_init_17 (fun h1 cA H hK hP hD hS => ?_)
  have hP : va_P (dC, dI) vwCl [(h0, .inr (1, [.int (nI 4), .int (nI 2), .int 0, .long 0, .long 0, .long 0, .long 0, .null])), (h1, .inl (cA, 9, .inl (fun _ => 0)))] H := hP
  have hD : va_D A [(h0, .inr (1, [.int (nI 4), .int (nI 2), .int 0, .long 0, .long 0, .long 0, .long 0, .null])), (h1, .inl (cA, 9, .inl (fun _ => 0)))] := hD
  have hK : va_K (dC, dI) vwCl [(cA, .int)] s := hK
  refine va_putF (D := (dC, dI)) (ci := 1) (v := .ref h1) (ty := .array .int) (C := RX1) (T := TX1) (N := 8) hx hb hts in_X1 tyX1 tyX1_ok nmX1 hown hK hP hD hS 0 rfl rfl 7 (by decide) (hts _ q85) (fun _ h9 => h9) rfl hin rfl (by decide +kernel) rfl rfl (Nat.le_of_ble_eq_true rfl) dX1_init_19 (fun H locs hP hD hS => ?_)
  have hP : va_P (dC, dI) vwCl [(h0, .inr (1, [.int (nI 4), .int (nI 2), .int 0, .long 0, .long 0, .long 0, .long 0, .ref h1])), (h1, .inl (cA, 9, .inl (fun _ => 0)))] H := hP
  have hD : va_D A [(h0, .inr (1, [.int (nI 4), .int (nI 2), .int 0, .long 0, .long 0, .long 0, .long 0, .ref h1])), (h1, .inl (cA, 9, .inl (fun _ => 0)))] := hD
  have hP9 := hP.sub (ws' := [(h0, .inr (1, [.int (nI 4), .int (nI 2), .int 0, .long 0, .long 0, .long 0, .long 0, .ref h1])), (h1, .inl (cA, 9, .inl (fun _ => 0)))]) [0, 1] rfl
  have hD9 := hD.sub (ws' := [(h0, .inr (1, [.int (nI 4), .int (nI 2), .int 0, .long 0, .long 0, .long 0, .long 0, .ref h1])), (h1, .inl (cA, 9, .inl (fun _ => 0)))]) [0, 1] (by decide) rfl
  exact W.vret hx hb hr (fun t ht hW => ⟨⟨(), rfl, trivial, h1, cA, by rw [ht]; exact hP9, va_K.moved hW.alike hK, hD9⟩, hS.F ht⟩) hS.2.2 dX1_init_22
end
section
/-! the plain law: what reckon counts, by a quick count that the kernel can run, is what BeadDesk reckons; no program in sight -/
/-- the digit i of w -/
def fk_g (k w i : Nat) : Nat := w / k ^ i % k
noncomputable def fk_ge (k w : Nat) (h : Nat → Nat) (r : Nat) : Nat → Bool :=
  Nat.rec (motive := fun _ => Nat → Bool) (fun _ => true) (fun _ ih i => bif Nat.beq (fk_g k w (h i)) (fk_g k w i) then ih (i + 1) else Nat.ble (fk_g k w i) (fk_g k w (h i))) r
noncomputable def fk_eq (k w : Nat) (h : Nat → Nat) (r : Nat) : Nat → Bool :=
  Nat.rec (motive := fun _ => Nat → Bool) (fun _ => true) (fun _ ih i => bif Nat.beq (fk_g k w (h i)) (fk_g k w i) then ih (i + 1) else false) r
noncomputable def fk_fs (n k w z : Nat) : Bool := Nat.rec (motive := fun _ => Bool) true (fun z ih => ih && fk_ge k w (rk_hD n z) n 0) z
noncomputable def fk_fl (n k w z : Nat) : Bool := Nat.rec (motive := fun _ => Bool) true (fun z ih => ih && fk_ge k w (rk_hE n z) n 0) z
noncomputable def fk_sm (n k w z : Nat) : Bool := Nat.rec (motive := fun _ => Bool) false (fun z ih => ih || (Nat.ble 1 z && fk_eq k w (rk_hD n z) n 0)) z
noncomputable def fk_mi (n k w z : Nat) : Bool := Nat.rec (motive := fun _ => Bool) false (fun z ih => ih || fk_eq k w (rk_hE n z) n 0) z
noncomputable def fk_pT (n k w : Nat) : Bool := fk_fs n k w n
noncomputable def fk_pO (n k w : Nat) : Bool := fk_fs n k w n && fk_fl n k w n
noncomputable def fk_pP (n k w : Nat) : Bool := fk_fs n k w n && !fk_sm n k w n
noncomputable def fk_pM (n k w : Nat) : Bool := fk_fs n k w n && fk_mi n k w n
/-- how many below N, of 2 ^ b from a on, have p -/
noncomputable def fk_cnt (p : Nat → Bool) (N b : Nat) : Nat → Nat :=
  Nat.rec (motive := fun _ => Nat → Nat) (fun a => bif Nat.ble N a then 0 else (bif p a then 1 else 0)) (fun b ih a => bif Nat.ble N a then 0 else ih a + ih (a + 2 ^ b)) b
theorem fk_x (k w : Nat) : ∀ i, rk_x k w i = w / k ^ i
  | 0 => by rw [Nat.pow_zero, Nat.div_one]; rfl
  | i + 1 => by
    show rk_x k w i / k = _
    rw [fk_x k w i, Nat.div_div_eq_div_mul, Nat.pow_succ]
theorem fk_g_eq (k w i : Nat) : rk_g k w i = fk_g k w i := by
  unfold rk_g fk_g
  rw [fk_x]
theorem fk_sub0 {a b : Nat} (ha : a < 2 ^ 30) (hb : b < 2 ^ 30) : nI a - nI b = 0 ↔ a = b := by
  have h := pk_sub_toInt ha hb
  constructor
  · intro q
    rw [q] at h
    have h0 : (0 : Int32).toInt = 0 := by decide
    omega
  · intro q
    subst q
    rw [pk_sub (Nat.le_refl a), Nat.sub_self]
    rfl
theorem fk_sublt {a b : Nat} (ha : a < 2 ^ 30) (hb : b < 2 ^ 30) : nI a - nI b < 0 ↔ a < b := by
  have h := pk_sub_toInt ha hb
  have h0 : (0 : Int32).toInt = 0 := by decide
  rw [Int32.lt_iff_toInt_lt, h, h0]
  omega
theorem fk_ge_ok {k : Nat} (hk : 1 ≤ k ∧ k ≤ 3) (w : Nat) (h : Nat → Nat) : ∀ (r i : Nat), (!decide (rk_d (rk_g k w) h r i < 0)) = fk_ge k w h r i
  | 0, i => by
    show (!decide (nI 0 < 0)) = true
    decide
  | r + 1, i => by
    have ha := rk_g_lt (show 0 < k by omega) w (h i)
    have hb := rk_g_lt (show 0 < k by omega) w i
    show (!decide ((if nI (rk_g k w (h i)) - nI (rk_g k w i) = 0 then rk_d (rk_g k w) h r (i + 1) else nI (rk_g k w (h i)) - nI (rk_g k w i)) < 0)) = (bif Nat.beq (fk_g k w (h i)) (fk_g k w i) then fk_ge k w h r (i + 1) else Nat.ble (fk_g k w i) (fk_g k w (h i)))
    rw [← fk_g_eq, ← fk_g_eq]
    by_cases q : rk_g k w (h i) = rk_g k w i
    · rw [if_pos ((fk_sub0 (by omega) (by omega)).mpr q), show Nat.beq (rk_g k w (h i)) (rk_g k w i) = true from Nat.beq_eq ▸ q, cond_true]
      exact fk_ge_ok hk w h r (i + 1)
    · rw [if_neg (fun z => q ((fk_sub0 (by omega) (by omega)).mp z)), show Nat.beq (rk_g k w (h i)) (rk_g k w i) = false from Bool.eq_false_iff.mpr (fun z => q (Nat.eq_of_beq_eq_true z)), cond_false]
      by_cases q2 : rk_g k w (h i) < rk_g k w i
      · rw [decide_eq_true ((fk_sublt (by omega) (by omega)).mpr q2)]
        exact (Bool.eq_false_iff.mpr (fun z => Nat.not_le.mpr q2 (Nat.le_of_ble_eq_true z))).symm
      · rw [decide_eq_false (fun z => q2 ((fk_sublt (by omega) (by omega)).mp z))]
        exact (Nat.ble_eq_true_of_le (Nat.le_of_not_lt q2)).symm
theorem fk_eq_ok {k : Nat} (hk : 1 ≤ k ∧ k ≤ 3) (w : Nat) (h : Nat → Nat) : ∀ (r i : Nat), decide (rk_d (rk_g k w) h r i = 0) = fk_eq k w h r i
  | 0, i => by
    show decide (nI 0 = 0) = true
    decide
  | r + 1, i => by
    have ha := rk_g_lt (show 0 < k by omega) w (h i)
    have hb := rk_g_lt (show 0 < k by omega) w i
    show decide ((if nI (rk_g k w (h i)) - nI (rk_g k w i) = 0 then rk_d (rk_g k w) h r (i + 1) else nI (rk_g k w (h i)) - nI (rk_g k w i)) = 0) = (bif Nat.beq (fk_g k w (h i)) (fk_g k w i) then fk_eq k w h r (i + 1) else false)
    rw [← fk_g_eq, ← fk_g_eq]
    by_cases q : rk_g k w (h i) = rk_g k w i
    · rw [if_pos ((fk_sub0 (by omega) (by omega)).mpr q), show Nat.beq (rk_g k w (h i)) (rk_g k w i) = true from Nat.beq_eq ▸ q, cond_true]
      exact fk_eq_ok hk w h r (i + 1)
    · rw [if_neg (fun z => q ((fk_sub0 (by omega) (by omega)).mp z)), show Nat.beq (rk_g k w (h i)) (rk_g k w i) = false from Bool.eq_false_iff.mpr (fun z => q (Nat.eq_of_beq_eq_true z)), cond_false]
      exact decide_eq_false (fun z => q ((fk_sub0 (by omega) (by omega)).mp z))
theorem fk_fs_ok {n k : Nat} (hk : 1 ≤ k ∧ k ≤ 3) (w : Nat) : ∀ z, rk_fs n k w z = fk_fs n k w z
  | 0 => rfl
  | z + 1 => by
    show (rk_fs n k w z && !decide (rk_D n k w z < 0)) = (fk_fs n k w z && fk_ge k w (rk_hD n z) n 0)
    rw [fk_fs_ok hk w z, ← fk_ge_ok hk]
    rfl
theorem fk_fl_ok {n k : Nat} (hk : 1 ≤ k ∧ k ≤ 3) (w : Nat) : ∀ z, rk_fl n k w z = fk_fl n k w z
  | 0 => rfl
  | z + 1 => by
    show (rk_fl n k w z && !decide (rk_E n k w z < 0)) = (fk_fl n k w z && fk_ge k w (rk_hE n z) n 0)
    rw [fk_fl_ok hk w z, ← fk_ge_ok hk]
    rfl
theorem fk_ble1 (z : Nat) : decide (0 < z) = Nat.ble 1 z := by
  cases z with
  | zero => rfl
  | succ z => exact (decide_eq_true (Nat.succ_pos z)).trans (Nat.ble_eq_true_of_le (Nat.succ_le_succ (Nat.zero_le z))).symm
theorem fk_sm_ok {n k : Nat} (hk : 1 ≤ k ∧ k ≤ 3) (w : Nat) : ∀ z, rk_sm n k w z = fk_sm n k w z
  | 0 => rfl
  | z + 1 => by
    show (rk_sm n k w z || (decide (0 < z) && decide (rk_D n k w z = 0))) = (fk_sm n k w z || (Nat.ble 1 z && fk_eq k w (rk_hD n z) n 0))
    rw [fk_sm_ok hk w z, ← fk_eq_ok hk, fk_ble1]
    rfl
theorem fk_mi_ok {n k : Nat} (hk : 1 ≤ k ∧ k ≤ 3) (w : Nat) : ∀ z, rk_mi n k w z = fk_mi n k w z
  | 0 => rfl
  | z + 1 => by
    show (rk_mi n k w z || decide (rk_E n k w z = 0)) = (fk_mi n k w z || fk_eq k w (rk_hE n z) n 0)
    rw [fk_mi_ok hk w z, ← fk_eq_ok hk]
    rfl
theorem fk_pT_ok {n k : Nat} (hk : 1 ≤ k ∧ k ≤ 3) : rk_pT n k = fk_pT n k := funext fun w => fk_fs_ok hk w n
theorem fk_pO_ok {n k : Nat} (hk : 1 ≤ k ∧ k ≤ 3) : rk_pO n k = fk_pO n k := funext fun w => by
  unfold rk_pO fk_pO
  rw [fk_fs_ok hk, fk_fl_ok hk]
theorem fk_pP_ok {n k : Nat} (hk : 1 ≤ k ∧ k ≤ 3) : rk_pP n k = fk_pP n k := funext fun w => by
  unfold rk_pP fk_pP
  rw [fk_fs_ok hk, fk_sm_ok hk]
theorem fk_pM_ok {n k : Nat} (hk : 1 ≤ k ∧ k ≤ 3) : rk_pM n k = fk_pM n k := funext fun w => by
  unfold rk_pM fk_pM
  rw [fk_fs_ok hk, fk_mi_ok hk]
theorem fk_cnt_ok (p : Nat → Bool) (N : Nat) : ∀ (b a : Nat), rk_cnt p (min N a) + fk_cnt p N b a = rk_cnt p (min N (a + 2 ^ b))
  | 0, a => by
    show rk_cnt p (min N a) + (bif Nat.ble N a then 0 else (bif p a then 1 else 0)) = _
    rw [Nat.pow_zero]
    by_cases q : N ≤ a
    · rw [Nat.ble_eq_true_of_le q, cond_true, Nat.min_eq_left q, Nat.min_eq_left (Nat.le_succ_of_le q)]
      rfl
    · rw [show Nat.ble N a = false from Bool.eq_false_iff.mpr (fun z => q (Nat.le_of_ble_eq_true z)), cond_false, Nat.min_eq_right (Nat.le_of_not_le q), Nat.min_eq_right (Nat.lt_of_not_le q)]
      rfl
  | b + 1, a => by
    show rk_cnt p (min N a) + (bif Nat.ble N a then 0 else fk_cnt p N b a + fk_cnt p N b (a + 2 ^ b)) = _
    by_cases q : N ≤ a
    · rw [Nat.ble_eq_true_of_le q, cond_true, Nat.min_eq_left q, Nat.min_eq_left (Nat.le_trans q (Nat.le_add_right _ _))]
      rfl
    · rw [show Nat.ble N a = false from Bool.eq_false_iff.mpr (fun z => q (Nat.le_of_ble_eq_true z)), cond_false, ← Nat.add_assoc, fk_cnt_ok p N b a, fk_cnt_ok p N b (a + 2 ^ b)]
      rw [show a + 2 ^ b + 2 ^ b = a + 2 ^ (b + 1) by rw [Nat.pow_succ]; omega]
theorem fk_cnt_all (p : Nat → Bool) {N : Nat} (h : N ≤ 6561) : rk_cnt p N = fk_cnt p N 13 0 := by
  have q := fk_cnt_ok p N 13 0
  rw [Nat.min_eq_left (show N ≤ 0 + 2 ^ 13 by omega), Nat.min_eq_right (Nat.zero_le N)] at q
  rw [← q]
  exact Nat.zero_add _
/-- what BeadDesk answers for n, k is what the quick count finds -/
def fk_law (n k : Nat) : Prop := bd_ts n k n / lN n = lN (fk_cnt (fk_pT n k) (k ^ n) 13 0) ∧ (bd_ts n k n + bd_ls n k n) / lN (2 * n) = lN (fk_cnt (fk_pO n k) (k ^ n) 13 0) ∧ bd_ow n k (n - 1) / lN n = lN (fk_cnt (fk_pP n k) (k ^ n) 13 0) ∧ bd_ls n k n / lN n = lN (fk_cnt (fk_pM n k) (k ^ n) 13 0)
set_option maxRecDepth 100000
theorem fk_1_1 : fk_law 1 1 := by unfold fk_law; decide +kernel
theorem fk_1_2 : fk_law 1 2 := by unfold fk_law; decide +kernel
theorem fk_1_3 : fk_law 1 3 := by unfold fk_law; decide +kernel
theorem fk_2_1 : fk_law 2 1 := by unfold fk_law; decide +kernel
theorem fk_2_2 : fk_law 2 2 := by unfold fk_law; decide +kernel
theorem fk_2_3 : fk_law 2 3 := by unfold fk_law; decide +kernel
theorem fk_3_1 : fk_law 3 1 := by unfold fk_law; decide +kernel
theorem fk_3_2 : fk_law 3 2 := by unfold fk_law; decide +kernel
theorem fk_3_3 : fk_law 3 3 := by unfold fk_law; decide +kernel
theorem fk_4_1 : fk_law 4 1 := by unfold fk_law; decide +kernel
theorem fk_4_2 : fk_law 4 2 := by unfold fk_law; decide +kernel
theorem fk_4_3 : fk_law 4 3 := by unfold fk_law; decide +kernel
theorem fk_5_1 : fk_law 5 1 := by unfold fk_law; decide +kernel
theorem fk_5_2 : fk_law 5 2 := by unfold fk_law; decide +kernel
theorem fk_5_3 : fk_law 5 3 := by unfold fk_law; decide +kernel
theorem fk_6_1 : fk_law 6 1 := by unfold fk_law; decide +kernel
theorem fk_6_2 : fk_law 6 2 := by unfold fk_law; decide +kernel
theorem fk_6_3 : fk_law 6 3 := by unfold fk_law; decide +kernel
theorem fk_7_1 : fk_law 7 1 := by unfold fk_law; decide +kernel
theorem fk_7_2 : fk_law 7 2 := by unfold fk_law; decide +kernel
theorem fk_7_3 : fk_law 7 3 := by unfold fk_law; decide +kernel
theorem fk_8_1 : fk_law 8 1 := by unfold fk_law; decide +kernel
theorem fk_8_2 : fk_law 8 2 := by unfold fk_law; decide +kernel
theorem fk_8_3 : fk_law 8 3 := by unfold fk_law; decide +kernel
theorem fk_law_all {n k : Nat} (h : bd_ok n k) : fk_law n k := by
  obtain ⟨⟨h1, h2⟩, h3, h4⟩ := h
  rcases (show k = 1 ∨ k = 2 ∨ k = 3 by omega) with rfl | rfl | rfl <;> rcases (show n = 1 ∨ n = 2 ∨ n = 3 ∨ n = 4 ∨ n = 5 ∨ n = 6 ∨ n = 7 ∨ n = 8 by omega) with rfl | rfl | rfl | rfl | rfl | rfl | rfl | rfl
  · exact fk_1_1
  · exact fk_2_1
  · exact fk_3_1
  · exact fk_4_1
  · exact fk_5_1
  · exact fk_6_1
  · exact fk_7_1
  · exact fk_8_1
  · exact fk_1_2
  · exact fk_2_2
  · exact fk_3_2
  · exact fk_4_2
  · exact fk_5_2
  · exact fk_6_2
  · exact fk_7_2
  · exact fk_8_2
  · exact fk_1_3
  · exact fk_2_3
  · exact fk_3_3
  · exact fk_4_3
  · exact fk_5_3
  · exact fk_6_3
  · exact fk_7_3
  · exact fk_8_3
/-- THE PLAIN LAW: BeadDesk's answers are the model's -/
theorem bd_law {n k : Nat} (h : bd_ok n k) : bd_ts n k n / lN n = rk_T n k ∧ (bd_ts n k n + bd_ls n k n) / lN (2 * n) = rk_O n k ∧ bd_ow n k (n - 1) / lN n = rk_P n k ∧ bd_ls n k n / lN n = rk_M n k := by
  have hp := bd_pow_le h
  have q := fk_law_all h
  unfold fk_law at q
  unfold rk_T rk_O rk_P rk_M
  rw [fk_pT_ok h.2, fk_pO_ok h.2, fk_pP_ok h.2, fk_pM_ok h.2, fk_cnt_all _ hp, fk_cnt_all _ hp, fk_cnt_all _ hp, fk_cnt_all _ hp]
  exact q
end
section
/-! THE CLAIM OUT OF ONE WALK OF THE LAW'S BODY. Your part is whole_start (and what it stands on); all else here is the same for every law, but numbers. -/
def R_law : String := "BeadDeskLaw"
def lw_P (b : Addr) (xs : List Int32) (args : Array Value) (s : State) : Prop := args = #[.ref b] ∧ s.IntsAt b xs ∧ xs.length ≤ 192 ∧ (Jvm.Cond.and given_1 narrow_1).before args s = true
def lw_Q (_ : Array Value) (s : State) (o : Outcome) (t : State) : Prop := o = .returned (some (.int 1)) ∧ Framed s o t [] 600000 7290000
def lw_Z (below : List Frame) (a : Array Value) (s : State) : State → Prop := fun t => ∃ o, t.status = .running ∧ Ended t below o ∧ lw_Q a s o t
/-- the law's own end, with 1 on the stack, nothing written that was there before, its room as the claim has it -/
theorem lw_ret {p : Program} {l : Launch} {e : Env} {s : State} {m : MethodId} {below : List Frame} {meth : Method} {c : Code} {b : Nat} (hx : p.tables.exec = Jvm.exec) (hb : c.code = code) (hr : meth.sig.returnType = ret) (hlocks : meth.locks = false) {pc : Nat} {H : Heap} {ls : Array Slot} (hdg : decode code pc = .ok (.ireturn, 1)) : W p l e room_1 s m #[Value.ref b] below meth c H [] 600000 7290000 (lw_Z below #[Value.ref b] s) (F0 m pc ls [.int 1]) := by
  intro T hT X
  obtain ⟨fs, hret, hrun, hended, hW, hframe⟩ := X.leave (v := some (.int 1)) (hlocks := hlocks) (fun h => by rw [hr] at h; cases h)
  have hmeth' : T.vm.method? m = some meth := X.method'
  refine ⟨T.setFrames fs, ?_, .returned (some (.int 1)), hrun, hended, rfl, ⟨_, rfl⟩, hW, hframe⟩
  jvm_step X.here [X.here.top, hx, hb, hdg, hmeth', hr, ret, narrow_b1]
  (try refine ⟨rfl, ?_⟩); (try refine ⟨rfl, ?_⟩)
  first | (intro acts; rw [hret _ acts rfl rfl rfl]) | rw [hret _ _ rfl rfl rfl]
  exact Steps.refl _
/-- what holds at the law's entry: the machine, the code, the tables' words (any of lw_tbl by 'hts w (by decide +kernel)'), the script of L ints xs at the cell b, what the Statement gives of the start (any of its parts by flat_of_before) -/
def lw_At (p : Program) (s : State) (m : MethodId) (meth : Method) (c : Code) (b L : Nat) (xs : Nat → Int32) : Prop :=
  p.tables.exec = Jvm.exec ∧ c.code = code ∧ meth.sig.returnType = ret ∧ c.maxLocals = 4 ∧ s.vm.findClass R_law = some m.cls ∧ (∀ w ∈ lw_tbl, w.before #[Value.ref b] s = true) ∧ va_X b L xs s s.heap ∧ b < s.heap.size ∧ meth.locks = false ∧ (Jvm.Cond.and given_1 narrow_1).before #[Value.ref b] s = true
set_option maxHeartbeats 4000000 in
set_option maxRecDepth 100000 in
/-- THE LAW'S LOOP: both hold the same n, k; the model has reckoned nothing, or all, of them -/
theorem law_loop {p : Program} {l : Launch} {e : Env} {s : State} {m : MethodId} {below : List Frame} {meth : Method} {c : Code} {dC : Nat → ClassId} {dI : Nat → Nat → Nat} {b L : Nat} {xs : Nat → Int32} {cA : ClassId} {q0 q1 q2 : Nat} (hL : L ≤ 192) (C0 : lw_At p s m meth c b L xs) (hK : va_K (dC, dI) vwCl [(cA, .int)] s) :
    ∀ (j i : Nat), i ≤ L + 2 → L + 3 ≤ i + j → ∀ (n k : Nat) (kn : Int32) (v3 v4 v5 v6 : Int64) (f : Nat → Int32), bd_ok n k → rk_ok n k kn v3 v4 v5 v6 → ∀ (H : Heap) (locs : List Loc), va_P (dC, dI) vwCl [(q0, .inr (0, [.int (nI n), .int (nI k)])), (q1, .inr (1, [.int (nI n), .int (nI k), .int kn, .long v3, .long v4, .long v5, .long v6, .ref q2])), (q2, .inl (cA, 9, .inl f))] H → va_D (fun q : Nat => s.heap.size ≤ q) [(q0, .inr (0, [.int (nI n), .int (nI k)])), (q1, .inr (1, [.int (nI n), .int (nI k), .int kn, .long v3, .long v4, .long v5, .long v6, .ref q2])), (q2, .inl (cA, 9, .inl f))] → va_S (fun q : Nat => s.heap.size ≤ q) s.heap H locs → ∀ ls : Array Slot, lv_has ls 4 [(0, .ref b), (1, .ref q0), (2, .ref q1), (3, .int (nI i))] → W p l e room_1 s m #[Value.ref b] below meth c H locs 3 19 (lw_Z below #[Value.ref b] s) (F0 m 18 ls []) := by
  obtain ⟨hx, hb, hr, hml, hown, hts0, hX, hbl, hlocks, hgv⟩ := C0
  have hts : ∀ w ∈ lw_all, w.before #[Value.ref b] s = true := fun w h => hts0 w (lw_all_tbl h)
  have hA : ∀ q : Nat, s.heap.size ≤ q → (fun q : Nat => s.heap.size ≤ q) q := fun _ h => h
  have hbA : ¬ (fun q : Nat => s.heap.size ≤ q) b := Nat.not_le.mpr hbl
  intro j
  induction j with
  | zero =>
    intro i h1q h2q
    exact absurd h2q (by omega)
  | succ j ih =>
    intro i h1q h2q n k kn v3 v4 v5 v6 f hok hrk H locs hP hD hS ls hl
    refine lv_iload_n hx hb dL_law_18 rfl (lv_at hl 3 rfl) ?_
    refine lv_aload_n hx hb dL_law_19 rfl (lv_at hl 0 rfl) ?_
    refine va_slen hx hb hX hbl hbA hS dL_law_20 ?_
    refine bd_i (y := nI L) rfl ?_
    refine lv_iconst (v := nI 3) hx hb dL_law_21 (by decide) ?_
    refine lv_isub hx hb dL_law_22 ?_
    refine lv_icmp_gt (tgt := 179) hx hb dL_law_23 (by decide) (fun c_23 => ?_) (fun c_23 => ?_)
    · refine lv_iconst (v := 1) hx hb dL_law_179 (by decide) ?_
      refine va_forget (fun q hq => hS.2.2 q hq) ?_
      refine W.widen (k := 600000) (n := 7290000) (Nat.le_of_ble_eq_true rfl) (Nat.le_of_ble_eq_true rfl) ?_
      exact lw_ret hx hb hr hlocks dL_law_180
    · have hi3 : i + 3 ≤ L := by
        have h3 := pk_sub_toInt (a := L) (b := 3) (by omega) (by omega)
        have h4 := nI_toInt (n := i) (by omega)
        rw [Int32.lt_iff_toInt_lt, h3, h4] at c_23
        omega
      have hkb : k < 2 ^ 31 := by have h := hok.2; omega
      have next : ∀ (n k : Nat) (kn : Int32) (v3 v4 v5 v6 : Int64) (f : Nat → Int32), bd_ok n k → rk_ok n k kn v3 v4 v5 v6 → ∀ (H : Heap) (locs : List Loc), va_P (dC, dI) vwCl [(q0, .inr (0, [.int (nI n), .int (nI k)])), (q1, .inr (1, [.int (nI n), .int (nI k), .int kn, .long v3, .long v4, .long v5, .long v6, .ref q2])), (q2, .inl (cA, 9, .inl f))] H → va_D (fun q : Nat => s.heap.size ≤ q) [(q0, .inr (0, [.int (nI n), .int (nI k)])), (q1, .inr (1, [.int (nI n), .int (nI k), .int kn, .long v3, .long v4, .long v5, .long v6, .ref q2])), (q2, .inl (cA, 9, .inl f))] → va_S (fun q : Nat => s.heap.size ≤ q) s.heap H locs → ∀ ls : Array Slot, lv_has ls 4 [(0, .ref b), (1, .ref q0), (2, .ref q1), (3, .int (nI i))] → W p l e room_1 s m #[Value.ref b] below meth c H locs 3 19 (lw_Z below #[Value.ref b] s) (F0 m 173 ls []) := by
        intro n k kn v3 v4 v5 v6 f hok hrk H locs hP hD hS ls hl
        refine lv_iinc (v := nI (i + 3)) (lv' := [(3, .int (nI (i + 3))), (0, .ref b), (1, .ref q0), (2, .ref q1)]) hx hb dL_law_173 hl (k := 3) rfl ((show nI i + Int32.ofInt 3 = nI i + nI 3 from rfl).trans (nI_add i 3)) (by decide) rfl (fun ls hl => ?_)
        refine lv_goto (tgt := 18) hx hb dL_law_176 (by decide) ?_
        exact ih (i + 3) (by omega) (by omega) n k kn v3 v4 v5 v6 f hok hrk H locs hP hD hS ls (lv_sub hl [1, 2, 3, 0] rfl)
      refine lv_aload_n hx hb dL_law_26 rfl (lv_at hl 0 rfl) ?_
      refine lv_iload_n hx hb dL_law_27 rfl (lv_at hl 3 rfl) ?_
      refine va_sld hx hb hX hbl hbA hS (vp_in_nI (by omega) (by omega)) dL_law_28 ?_
      refine lv_bipush (v := nI 7) hx hb dL_law_29 (by decide) ?_
      refine lv_iand hx hb dL_law_31 ?_
      refine bd_i (y := nI ((xs (nI i).toNatClampNeg).toBitVec.toNat % 2 ^ 3)) (pk_and _ 3 (by decide)) ?_
      have hv8 : (xs (nI i).toNatClampNeg).toBitVec.toNat % 2 ^ 3 < 8 := Nat.mod_lt _ (by decide)
      generalize (xs (nI i).toNatClampNeg).toBitVec.toNat % 2 ^ 3 = v at hv8 ⊢
      rcases (show v = 0 ∨ v = 1 ∨ v = 2 ∨ v = 3 ∨ v = 4 ∨ v = 5 ∨ v = 6 ∨ v = 7 by omega) with rfl | rfl | rfl | rfl | rfl | rfl | rfl | rfl
      · refine lv_tableIn (off := 40) (tgt := 72) hx hb dL_law_32 (by decide) (by decide) rfl (by decide) ?_
        refine lv_aload_n hx hb dL_law_72 rfl (lv_at hl 1 rfl) ?_
        refine lv_aload_n hx hb dL_law_73 rfl (lv_at hl 0 rfl) ?_
        refine lv_iload_n hx hb dL_law_74 rfl (lv_at hl 3 rfl) ?_
        refine lv_iconst (v := nI 1) hx hb dL_law_75 (by decide) ?_
        refine lv_iadd hx hb dL_law_76 ?_
        refine bd_i (y := nI (i + 1)) (nI_add i 1) ?_
        refine va_sld hx hb hX hbl hbA hS (vp_in_nI (by omega) (by omega)) dL_law_77 ?_
        refine lv_aload_n hx hb dL_law_78 rfl (lv_at hl 0 rfl) ?_
        refine lv_iload_n hx hb dL_law_79 rfl (lv_at hl 3 rfl) ?_
        refine lv_iconst (v := nI 2) hx hb dL_law_80 (by decide) ?_
        refine lv_iadd hx hb dL_law_81 ?_
        refine bd_i (y := nI (i + 2)) (nI_add i 2) ?_
        refine va_sld hx hb hX hbl hbA hS (vp_in_nI (by omega) (by omega)) dL_law_82 ?_
        have hPc := hP.sub (ws' := [(q0, .inr (0, [.int (nI n), .int (nI k)]))]) [0] rfl
        have hDc := hD.sub (ws' := [(q0, .inr (0, [.int (nI n), .int (nI k)]))]) [0] (by decide) rfl
        have hKc := hK.sub (tys' := []) [] rfl
        have hFc := va_free (wc := [(q0, .inr (0, [.int (nI n), .int (nI k)]))]) hD hS hA [0] rfl
        refine va_callv (va_runV (As := [.int (xs (nI (i + 1)).toNatClampNeg), .int (xs (nI (i + 2)).toNatClampNeg)]) (rest := []) ⟨hx, hb, hml, hown, hts⟩ (metX0_ring l dC dI q0 H.size n k (xs (nI (i + 1)).toNatClampNeg) (xs (nI (i + 2)).toNatClampNeg)) (cwV 2 hts (lw_V q24 q25 q26 q7 q27) rfl rfl rfl (by decide +kernel) ⟨Nat.le_of_ble_eq_true rfl, Nat.le_of_ble_eq_true rfl⟩) ⟨fun a U g mk q => by obtain ⟨q0, q1, qP, qK, qD⟩ := q; exact ⟨q0, q1, qP, va_K.moved (u := U) (U := U.calling g mk a) (Vm.Alike.refl U.vm) qK, qD⟩, va_recv hKc hPc (ci := 0) (q0 := 0) rfl rfl, fun U hU hW => ⟨rfl, by rw [hU], by rw [hU]; exact hPc, va_K.moved hW.alike hKc, hDc.weaken (fun _ _ _ _ => trivial)⟩⟩ rfl rfl hl.1 rfl (lv_room (Nat.le_of_ble_eq_true rfl)) dL_law_83 ⟨Nat.le_of_ble_eq_true rfl, Nat.le_of_ble_eq_true rfl⟩) hS (fun q _ h => hFc q h) hFc (fun u t H1 locs ht hvm hw hB hz1 hk1 hS => ?_)
        obtain ⟨hP1, hK1, hD1⟩ := hB
        rw [ht] at hP1
        obtain ⟨hP, hD⟩ := va_join (wr := [(q1, .inr (1, [.int (nI n), .int (nI k), .int kn, .long v3, .long v4, .long v5, .long v6, .ref q2])), (q2, .inl (cA, 9, .inl f))]) (w1 := [(q0, .inr (0, [.int (nI (bd_n (xs (nI (i + 1)).toNatClampNeg))), .int (nI (bd_k (xs (nI (i + 2)).toNatClampNeg)))]))]) hP hD [0] [1, 2] rfl rfl (by decide) (by decide) hk1 hFc hP1 hD1
        generalize H1 = H at hP hS ⊢
        have hP : va_P (dC, dI) vwCl [(q1, .inr (1, [.int (nI n), .int (nI k), .int kn, .long v3, .long v4, .long v5, .long v6, .ref q2])), (q2, .inl (cA, 9, .inl f)), (q0, .inr (0, [.int (nI (bd_n (xs (nI (i + 1)).toNatClampNeg))), .int (nI (bd_k (xs (nI (i + 2)).toNatClampNeg)))]))] H := hP
        have hD : va_D (fun q : Nat => s.heap.size ≤ q) [(q1, .inr (1, [.int (nI n), .int (nI k), .int kn, .long v3, .long v4, .long v5, .long v6, .ref q2])), (q2, .inl (cA, 9, .inl f)), (q0, .inr (0, [.int (nI (bd_n (xs (nI (i + 1)).toNatClampNeg))), .int (nI (bd_k (xs (nI (i + 2)).toNatClampNeg)))]))] := hD
        refine lv_aload_n hx hb dL_law_86 rfl (lv_at hl 2 rfl) ?_
        refine lv_aload_n hx hb dL_law_87 rfl (lv_at hl 0 rfl) ?_
        refine lv_iload_n hx hb dL_law_88 rfl (lv_at hl 3 rfl) ?_
        refine lv_iconst (v := nI 1) hx hb dL_law_89 (by decide) ?_
        refine lv_iadd hx hb dL_law_90 ?_
        refine bd_i (y := nI (i + 1)) (nI_add i 1) ?_
        refine va_sld hx hb hX hbl hbA hS (vp_in_nI (by omega) (by omega)) dL_law_91 ?_
        refine lv_aload_n hx hb dL_law_92 rfl (lv_at hl 0 rfl) ?_
        refine lv_iload_n hx hb dL_law_93 rfl (lv_at hl 3 rfl) ?_
        refine lv_iconst (v := nI 2) hx hb dL_law_94 (by decide) ?_
        refine lv_iadd hx hb dL_law_95 ?_
        refine bd_i (y := nI (i + 2)) (nI_add i 2) ?_
        refine va_sld hx hb hX hbl hbA hS (vp_in_nI (by omega) (by omega)) dL_law_96 ?_
        have hPc := hP.sub (ws' := [(q1, .inr (1, [.int (nI n), .int (nI k), .int kn, .long v3, .long v4, .long v5, .long v6, .ref q2])), (q2, .inl (cA, 9, .inl f))]) [0, 1] rfl
        have hDc := hD.sub (ws' := [(q1, .inr (1, [.int (nI n), .int (nI k), .int kn, .long v3, .long v4, .long v5, .long v6, .ref q2])), (q2, .inl (cA, 9, .inl f))]) [0, 1] (by decide) rfl
        have hKc := hK.sub (tys' := [(cA, .int)]) [0] rfl
        have hFc := va_free (wc := [(q1, .inr (1, [.int (nI n), .int (nI k), .int kn, .long v3, .long v4, .long v5, .long v6, .ref q2])), (q2, .inl (cA, 9, .inl f))]) hD hS hA [0, 1] rfl
        refine va_callv (va_runV (As := [.int (xs (nI (i + 1)).toNatClampNeg), .int (xs (nI (i + 2)).toNatClampNeg)]) (rest := []) ⟨hx, hb, hml, hown, hts⟩ (metX1_ring l dC dI q1 q2 H.size cA n k kn v3 v4 v5 v6 f (xs (nI (i + 1)).toNatClampNeg) (xs (nI (i + 2)).toNatClampNeg)) (cwV 2 hts (lw_V q104 q105 q106 q8 q107) rfl rfl rfl (by decide +kernel) ⟨Nat.le_of_ble_eq_true rfl, Nat.le_of_ble_eq_true rfl⟩) ⟨fun a U g mk q => by obtain ⟨q0, q1, qP, qK, qD⟩ := q; exact ⟨q0, q1, qP, va_K.moved (u := U) (U := U.calling g mk a) (Vm.Alike.refl U.vm) qK, qD⟩, va_recv hKc hPc (ci := 1) (q0 := 0) rfl rfl, fun U hU hW => ⟨rfl, by rw [hU], by rw [hU]; exact hPc, va_K.moved hW.alike hKc, hDc.weaken (fun _ _ _ _ => trivial)⟩⟩ rfl rfl hl.1 rfl (lv_room (Nat.le_of_ble_eq_true rfl)) dL_law_97 ⟨Nat.le_of_ble_eq_true rfl, Nat.le_of_ble_eq_true rfl⟩) hS (fun q _ h => hFc q h) hFc (fun u t H1 locs ht hvm hw hB hz1 hk1 hS => ?_)
        obtain ⟨hP1, hK1, hD1⟩ := hB
        rw [ht] at hP1
        obtain ⟨hP, hD⟩ := va_join (wr := [(q0, .inr (0, [.int (nI (bd_n (xs (nI (i + 1)).toNatClampNeg))), .int (nI (bd_k (xs (nI (i + 2)).toNatClampNeg)))]))]) (w1 := [(q1, .inr (1, [.int (nI (bd_n (xs (nI (i + 1)).toNatClampNeg))), .int (nI (bd_k (xs (nI (i + 2)).toNatClampNeg))), .int (nI 0), .long v3, .long v4, .long v5, .long v6, .ref q2])), (q2, .inl (cA, 9, .inl f))]) hP hD [0, 1] [2] rfl rfl (by decide) (by decide) hk1 hFc hP1 hD1
        generalize H1 = H at hP hS ⊢
        have hP : va_P (dC, dI) vwCl [(q0, .inr (0, [.int (nI (bd_n (xs (nI (i + 1)).toNatClampNeg))), .int (nI (bd_k (xs (nI (i + 2)).toNatClampNeg)))])), (q1, .inr (1, [.int (nI (bd_n (xs (nI (i + 1)).toNatClampNeg))), .int (nI (bd_k (xs (nI (i + 2)).toNatClampNeg))), .int (nI 0), .long v3, .long v4, .long v5, .long v6, .ref q2])), (q2, .inl (cA, 9, .inl f))] H := hP
        have hD : va_D (fun q : Nat => s.heap.size ≤ q) [(q0, .inr (0, [.int (nI (bd_n (xs (nI (i + 1)).toNatClampNeg))), .int (nI (bd_k (xs (nI (i + 2)).toNatClampNeg)))])), (q1, .inr (1, [.int (nI (bd_n (xs (nI (i + 1)).toNatClampNeg))), .int (nI (bd_k (xs (nI (i + 2)).toNatClampNeg))), .int (nI 0), .long v3, .long v4, .long v5, .long v6, .ref q2])), (q2, .inl (cA, 9, .inl f))] := hD
        refine lv_goto (tgt := 173) hx hb dL_law_100 (by decide) ?_
        exact next (bd_n (xs (nI (i + 1)).toNatClampNeg)) (bd_k (xs (nI (i + 2)).toNatClampNeg)) (nI 0) v3 v4 v5 v6 f (bd_ok_ring _ _) (Or.inl rfl) H _ hP hD hS ls hl
      · refine lv_tableIn (off := 71) (tgt := 103) hx hb dL_law_32 (by decide) (by decide) rfl (by decide) ?_
        refine lv_aload_n hx hb dL_law_103 rfl (lv_at hl 1 rfl) ?_
        have hPc := hP.sub (ws' := [(q0, .inr (0, [.int (nI n), .int (nI k)]))]) [0] rfl
        have hDc := hD.sub (ws' := [(q0, .inr (0, [.int (nI n), .int (nI k)]))]) [0] (by decide) rfl
        have hKc := hK.sub (tys' := []) [] rfl
        have hFc := va_free (wc := [(q0, .inr (0, [.int (nI n), .int (nI k)]))]) hD hS hA [0] rfl
        refine va_calll (va_runV (As := []) (rest := []) ⟨hx, hb, hml, hown, hts⟩ (metX0_turned l dC dI q0 H.size n k hok.1 hkb) (cwV 0 hts (lw_V q29 q30 q31 q7 q32) rfl rfl rfl (by decide +kernel) ⟨Nat.le_of_ble_eq_true rfl, Nat.le_of_ble_eq_true rfl⟩) ⟨fun a U g mk q => by obtain ⟨q0, q1, qP, qK, qD⟩ := q; exact ⟨q0, q1, qP, va_K.moved (u := U) (U := U.calling g mk a) (Vm.Alike.refl U.vm) qK, qD⟩, va_recv hKc hPc (ci := 0) (q0 := 0) rfl rfl, fun U hU hW => ⟨rfl, by rw [hU], by rw [hU]; exact hPc, va_K.moved hW.alike hKc, hDc.weaken (fun _ _ _ _ => trivial)⟩⟩ rfl rfl hl.1 rfl (lv_room (Nat.le_of_ble_eq_true rfl)) dL_law_104 ⟨Nat.le_of_ble_eq_true rfl, Nat.le_of_ble_eq_true rfl⟩) hS (fun q _ h => hFc q h) hFc (fun r_104 u t H1 locs ht hvm hw hB hz1 hk1 hS => ?_)
        obtain ⟨hP1, hK1, hD1⟩ := hB
        rw [ht] at hP1
        obtain ⟨hP, hD⟩ := va_join (wr := [(q1, .inr (1, [.int (nI n), .int (nI k), .int kn, .long v3, .long v4, .long v5, .long v6, .ref q2])), (q2, .inl (cA, 9, .inl f))]) (w1 := [(q0, .inr (0, [.int (nI n), .int (nI k)]))]) hP hD [0] [1, 2] rfl rfl (by decide) (by decide) hk1 hFc hP1 hD1
        generalize H1 = H at hP hS ⊢
        have hP : va_P (dC, dI) vwCl [(q1, .inr (1, [.int (nI n), .int (nI k), .int kn, .long v3, .long v4, .long v5, .long v6, .ref q2])), (q2, .inl (cA, 9, .inl f)), (q0, .inr (0, [.int (nI n), .int (nI k)]))] H := hP
        have hD : va_D (fun q : Nat => s.heap.size ≤ q) [(q1, .inr (1, [.int (nI n), .int (nI k), .int kn, .long v3, .long v4, .long v5, .long v6, .ref q2])), (q2, .inl (cA, 9, .inl f)), (q0, .inr (0, [.int (nI n), .int (nI k)]))] := hD
        have ha : r_104 = bd_ts n k n / lN n := hw
        refine lv_aload_n hx hb dL_law_107 rfl (lv_at hl 2 rfl) ?_
        have hPc := hP.sub (ws' := [(q1, .inr (1, [.int (nI n), .int (nI k), .int kn, .long v3, .long v4, .long v5, .long v6, .ref q2])), (q2, .inl (cA, 9, .inl f))]) [0, 1] rfl
        have hDc := hD.sub (ws' := [(q1, .inr (1, [.int (nI n), .int (nI k), .int kn, .long v3, .long v4, .long v5, .long v6, .ref q2])), (q2, .inl (cA, 9, .inl f))]) [0, 1] (by decide) rfl
        have hKc := hK.sub (tys' := [(cA, .int)]) [0] rfl
        have hFc := va_free (wc := [(q1, .inr (1, [.int (nI n), .int (nI k), .int kn, .long v3, .long v4, .long v5, .long v6, .ref q2])), (q2, .inl (cA, 9, .inl f))]) hD hS hA [0, 1] rfl
        refine va_calll (va_runV (As := []) (rest := [.long r_104]) ⟨hx, hb, hml, hown, hts⟩ (metX1_turned l dC dI q1 q2 H.size cA n k kn v3 v4 v5 v6 f hok hrk) (cwV 0 hts (lw_V q109 q110 q111 q8 q112) rfl rfl rfl (by decide +kernel) ⟨Nat.le_of_ble_eq_true rfl, Nat.le_of_ble_eq_true rfl⟩) ⟨fun a U g mk q => by obtain ⟨q0, q1, qP, qK, qD⟩ := q; exact ⟨q0, q1, qP, va_K.moved (u := U) (U := U.calling g mk a) (Vm.Alike.refl U.vm) qK, qD⟩, va_recv hKc hPc (ci := 1) (q0 := 0) rfl rfl, fun U hU hW => ⟨rfl, by rw [hU], by rw [hU]; exact hPc, va_K.moved hW.alike hKc, hDc.weaken (fun _ _ _ _ => trivial)⟩⟩ rfl rfl hl.1 rfl (lv_room (Nat.le_of_ble_eq_true rfl)) dL_law_108 ⟨Nat.le_of_ble_eq_true rfl, Nat.le_of_ble_eq_true rfl⟩) hS (fun q _ h => hFc q h) hFc (fun r_108 f2 t H1 locs ht hvm hw hB hz1 hk1 hS => ?_)
        obtain ⟨hP1, hK1, hD1⟩ := hB
        rw [ht] at hP1
        obtain ⟨hP, hD⟩ := va_join (wr := [(q0, .inr (0, [.int (nI n), .int (nI k)]))]) (w1 := [(q1, .inr (1, [.int (nI n), .int (nI k), .int (nI 1), .long (rk_T n k), .long (rk_O n k), .long (rk_P n k), .long (rk_M n k), .ref q2])), (q2, .inl (cA, 9, .inl f2))]) hP hD [0, 1] [2] rfl rfl (by decide) (by decide) hk1 hFc hP1 hD1
        generalize H1 = H at hP hS ⊢
        have hP : va_P (dC, dI) vwCl [(q0, .inr (0, [.int (nI n), .int (nI k)])), (q1, .inr (1, [.int (nI n), .int (nI k), .int (nI 1), .long (rk_T n k), .long (rk_O n k), .long (rk_P n k), .long (rk_M n k), .ref q2])), (q2, .inl (cA, 9, .inl f2))] H := hP
        have hD : va_D (fun q : Nat => s.heap.size ≤ q) [(q0, .inr (0, [.int (nI n), .int (nI k)])), (q1, .inr (1, [.int (nI n), .int (nI k), .int (nI 1), .long (rk_T n k), .long (rk_O n k), .long (rk_P n k), .long (rk_M n k), .ref q2])), (q2, .inl (cA, 9, .inl f2))] := hD
        have hb9 : r_108 = rk_T n k := hw
        refine W.lcmp hx hb dL_law_111 ?_
        refine lv_if_eq (tgt := 173) hx hb dL_law_112 (by decide) (fun c_9 => ?_) (fun c_9 => ?_)
        · exact next n k (nI 1) (rk_T n k) (rk_O n k) (rk_P n k) (rk_M n k) f2 hok (Or.inr ⟨rfl, rfl, rfl, rfl, rfl⟩) H _ hP hD hS ls hl
        · exact absurd ((lg_cmp_eq _ _).mpr (ha.trans (((bd_law hok).1).trans hb9.symm))) c_9
      · refine lv_tableIn (off := 85) (tgt := 117) hx hb dL_law_32 (by decide) (by decide) rfl (by decide) ?_
        refine lv_aload_n hx hb dL_law_117 rfl (lv_at hl 1 rfl) ?_
        have hPc := hP.sub (ws' := [(q0, .inr (0, [.int (nI n), .int (nI k)]))]) [0] rfl
        have hDc := hD.sub (ws' := [(q0, .inr (0, [.int (nI n), .int (nI k)]))]) [0] (by decide) rfl
        have hKc := hK.sub (tys' := []) [] rfl
        have hFc := va_free (wc := [(q0, .inr (0, [.int (nI n), .int (nI k)]))]) hD hS hA [0] rfl
        refine va_calll (va_runV (As := []) (rest := []) ⟨hx, hb, hml, hown, hts⟩ (metX0_over l dC dI q0 H.size n k hok.1 hkb) (cwV 0 hts (lw_V q44 q45 q46 q7 q47) rfl rfl rfl (by decide +kernel) ⟨Nat.le_of_ble_eq_true rfl, Nat.le_of_ble_eq_true rfl⟩) ⟨fun a U g mk q => by obtain ⟨q0, q1, qP, qK, qD⟩ := q; exact ⟨q0, q1, qP, va_K.moved (u := U) (U := U.calling g mk a) (Vm.Alike.refl U.vm) qK, qD⟩, va_recv hKc hPc (ci := 0) (q0 := 0) rfl rfl, fun U hU hW => ⟨rfl, by rw [hU], by rw [hU]; exact hPc, va_K.moved hW.alike hKc, hDc.weaken (fun _ _ _ _ => trivial)⟩⟩ rfl rfl hl.1 rfl (lv_room (Nat.le_of_ble_eq_true rfl)) dL_law_118 ⟨Nat.le_of_ble_eq_true rfl, Nat.le_of_ble_eq_true rfl⟩) hS (fun q _ h => hFc q h) hFc (fun r_118 u t H1 locs ht hvm hw hB hz1 hk1 hS => ?_)
        obtain ⟨hP1, hK1, hD1⟩ := hB
        rw [ht] at hP1
        obtain ⟨hP, hD⟩ := va_join (wr := [(q1, .inr (1, [.int (nI n), .int (nI k), .int kn, .long v3, .long v4, .long v5, .long v6, .ref q2])), (q2, .inl (cA, 9, .inl f))]) (w1 := [(q0, .inr (0, [.int (nI n), .int (nI k)]))]) hP hD [0] [1, 2] rfl rfl (by decide) (by decide) hk1 hFc hP1 hD1
        generalize H1 = H at hP hS ⊢
        have hP : va_P (dC, dI) vwCl [(q1, .inr (1, [.int (nI n), .int (nI k), .int kn, .long v3, .long v4, .long v5, .long v6, .ref q2])), (q2, .inl (cA, 9, .inl f)), (q0, .inr (0, [.int (nI n), .int (nI k)]))] H := hP
        have hD : va_D (fun q : Nat => s.heap.size ≤ q) [(q1, .inr (1, [.int (nI n), .int (nI k), .int kn, .long v3, .long v4, .long v5, .long v6, .ref q2])), (q2, .inl (cA, 9, .inl f)), (q0, .inr (0, [.int (nI n), .int (nI k)]))] := hD
        have ha : r_118 = (bd_ts n k n + bd_ls n k n) / lN (2 * n) := hw
        refine lv_aload_n hx hb dL_law_121 rfl (lv_at hl 2 rfl) ?_
        have hPc := hP.sub (ws' := [(q1, .inr (1, [.int (nI n), .int (nI k), .int kn, .long v3, .long v4, .long v5, .long v6, .ref q2])), (q2, .inl (cA, 9, .inl f))]) [0, 1] rfl
        have hDc := hD.sub (ws' := [(q1, .inr (1, [.int (nI n), .int (nI k), .int kn, .long v3, .long v4, .long v5, .long v6, .ref q2])), (q2, .inl (cA, 9, .inl f))]) [0, 1] (by decide) rfl
        have hKc := hK.sub (tys' := [(cA, .int)]) [0] rfl
        have hFc := va_free (wc := [(q1, .inr (1, [.int (nI n), .int (nI k), .int kn, .long v3, .long v4, .long v5, .long v6, .ref q2])), (q2, .inl (cA, 9, .inl f))]) hD hS hA [0, 1] rfl
        refine va_calll (va_runV (As := []) (rest := [.long r_118]) ⟨hx, hb, hml, hown, hts⟩ (metX1_over l dC dI q1 q2 H.size cA n k kn v3 v4 v5 v6 f hok hrk) (cwV 0 hts (lw_V q117 q118 q119 q8 q120) rfl rfl rfl (by decide +kernel) ⟨Nat.le_of_ble_eq_true rfl, Nat.le_of_ble_eq_true rfl⟩) ⟨fun a U g mk q => by obtain ⟨q0, q1, qP, qK, qD⟩ := q; exact ⟨q0, q1, qP, va_K.moved (u := U) (U := U.calling g mk a) (Vm.Alike.refl U.vm) qK, qD⟩, va_recv hKc hPc (ci := 1) (q0 := 0) rfl rfl, fun U hU hW => ⟨rfl, by rw [hU], by rw [hU]; exact hPc, va_K.moved hW.alike hKc, hDc.weaken (fun _ _ _ _ => trivial)⟩⟩ rfl rfl hl.1 rfl (lv_room (Nat.le_of_ble_eq_true rfl)) dL_law_122 ⟨Nat.le_of_ble_eq_true rfl, Nat.le_of_ble_eq_true rfl⟩) hS (fun q _ h => hFc q h) hFc (fun r_122 f2 t H1 locs ht hvm hw hB hz1 hk1 hS => ?_)
        obtain ⟨hP1, hK1, hD1⟩ := hB
        rw [ht] at hP1
        obtain ⟨hP, hD⟩ := va_join (wr := [(q0, .inr (0, [.int (nI n), .int (nI k)]))]) (w1 := [(q1, .inr (1, [.int (nI n), .int (nI k), .int (nI 1), .long (rk_T n k), .long (rk_O n k), .long (rk_P n k), .long (rk_M n k), .ref q2])), (q2, .inl (cA, 9, .inl f2))]) hP hD [0, 1] [2] rfl rfl (by decide) (by decide) hk1 hFc hP1 hD1
        generalize H1 = H at hP hS ⊢
        have hP : va_P (dC, dI) vwCl [(q0, .inr (0, [.int (nI n), .int (nI k)])), (q1, .inr (1, [.int (nI n), .int (nI k), .int (nI 1), .long (rk_T n k), .long (rk_O n k), .long (rk_P n k), .long (rk_M n k), .ref q2])), (q2, .inl (cA, 9, .inl f2))] H := hP
        have hD : va_D (fun q : Nat => s.heap.size ≤ q) [(q0, .inr (0, [.int (nI n), .int (nI k)])), (q1, .inr (1, [.int (nI n), .int (nI k), .int (nI 1), .long (rk_T n k), .long (rk_O n k), .long (rk_P n k), .long (rk_M n k), .ref q2])), (q2, .inl (cA, 9, .inl f2))] := hD
        have hb9 : r_122 = rk_O n k := hw
        refine W.lcmp hx hb dL_law_125 ?_
        refine lv_if_eq (tgt := 173) hx hb dL_law_126 (by decide) (fun c_9 => ?_) (fun c_9 => ?_)
        · exact next n k (nI 1) (rk_T n k) (rk_O n k) (rk_P n k) (rk_M n k) f2 hok (Or.inr ⟨rfl, rfl, rfl, rfl, rfl⟩) H _ hP hD hS ls hl
        · exact absurd ((lg_cmp_eq _ _).mpr (ha.trans (((bd_law hok).2.1).trans hb9.symm))) c_9
      · refine lv_tableIn (off := 99) (tgt := 131) hx hb dL_law_32 (by decide) (by decide) rfl (by decide) ?_
        refine lv_aload_n hx hb dL_law_131 rfl (lv_at hl 1 rfl) ?_
        have hPc := hP.sub (ws' := [(q0, .inr (0, [.int (nI n), .int (nI k)]))]) [0] rfl
        have hDc := hD.sub (ws' := [(q0, .inr (0, [.int (nI n), .int (nI k)]))]) [0] (by decide) rfl
        have hKc := hK.sub (tys' := []) [] rfl
        have hFc := va_free (wc := [(q0, .inr (0, [.int (nI n), .int (nI k)]))]) hD hS hA [0] rfl
        refine va_calll (va_runV (As := []) (rest := []) ⟨hx, hb, hml, hown, hts⟩ (metX0_unlike l dC dI q0 H.size n k hok.1 hkb) (cwV 0 hts (lw_V q52 q53 q54 q7 q55) rfl rfl rfl (by decide +kernel) ⟨Nat.le_of_ble_eq_true rfl, Nat.le_of_ble_eq_true rfl⟩) ⟨fun a U g mk q => by obtain ⟨q0, q1, qP, qK, qD⟩ := q; exact ⟨q0, q1, qP, va_K.moved (u := U) (U := U.calling g mk a) (Vm.Alike.refl U.vm) qK, qD⟩, va_recv hKc hPc (ci := 0) (q0 := 0) rfl rfl, fun U hU hW => ⟨rfl, by rw [hU], by rw [hU]; exact hPc, va_K.moved hW.alike hKc, hDc.weaken (fun _ _ _ _ => trivial)⟩⟩ rfl rfl hl.1 rfl (lv_room (Nat.le_of_ble_eq_true rfl)) dL_law_132 ⟨Nat.le_of_ble_eq_true rfl, Nat.le_of_ble_eq_true rfl⟩) hS (fun q _ h => hFc q h) hFc (fun r_132 u t H1 locs ht hvm hw hB hz1 hk1 hS => ?_)
        obtain ⟨hP1, hK1, hD1⟩ := hB
        rw [ht] at hP1
        obtain ⟨hP, hD⟩ := va_join (wr := [(q1, .inr (1, [.int (nI n), .int (nI k), .int kn, .long v3, .long v4, .long v5, .long v6, .ref q2])), (q2, .inl (cA, 9, .inl f))]) (w1 := [(q0, .inr (0, [.int (nI n), .int (nI k)]))]) hP hD [0] [1, 2] rfl rfl (by decide) (by decide) hk1 hFc hP1 hD1
        generalize H1 = H at hP hS ⊢
        have hP : va_P (dC, dI) vwCl [(q1, .inr (1, [.int (nI n), .int (nI k), .int kn, .long v3, .long v4, .long v5, .long v6, .ref q2])), (q2, .inl (cA, 9, .inl f)), (q0, .inr (0, [.int (nI n), .int (nI k)]))] H := hP
        have hD : va_D (fun q : Nat => s.heap.size ≤ q) [(q1, .inr (1, [.int (nI n), .int (nI k), .int kn, .long v3, .long v4, .long v5, .long v6, .ref q2])), (q2, .inl (cA, 9, .inl f)), (q0, .inr (0, [.int (nI n), .int (nI k)]))] := hD
        have ha : r_132 = bd_ow n k (n - 1) / lN n := hw
        refine lv_aload_n hx hb dL_law_135 rfl (lv_at hl 2 rfl) ?_
        have hPc := hP.sub (ws' := [(q1, .inr (1, [.int (nI n), .int (nI k), .int kn, .long v3, .long v4, .long v5, .long v6, .ref q2])), (q2, .inl (cA, 9, .inl f))]) [0, 1] rfl
        have hDc := hD.sub (ws' := [(q1, .inr (1, [.int (nI n), .int (nI k), .int kn, .long v3, .long v4, .long v5, .long v6, .ref q2])), (q2, .inl (cA, 9, .inl f))]) [0, 1] (by decide) rfl
        have hKc := hK.sub (tys' := [(cA, .int)]) [0] rfl
        have hFc := va_free (wc := [(q1, .inr (1, [.int (nI n), .int (nI k), .int kn, .long v3, .long v4, .long v5, .long v6, .ref q2])), (q2, .inl (cA, 9, .inl f))]) hD hS hA [0, 1] rfl
        refine va_calll (va_runV (As := []) (rest := [.long r_132]) ⟨hx, hb, hml, hown, hts⟩ (metX1_unlike l dC dI q1 q2 H.size cA n k kn v3 v4 v5 v6 f hok hrk) (cwV 0 hts (lw_V q121 q122 q123 q8 q124) rfl rfl rfl (by decide +kernel) ⟨Nat.le_of_ble_eq_true rfl, Nat.le_of_ble_eq_true rfl⟩) ⟨fun a U g mk q => by obtain ⟨q0, q1, qP, qK, qD⟩ := q; exact ⟨q0, q1, qP, va_K.moved (u := U) (U := U.calling g mk a) (Vm.Alike.refl U.vm) qK, qD⟩, va_recv hKc hPc (ci := 1) (q0 := 0) rfl rfl, fun U hU hW => ⟨rfl, by rw [hU], by rw [hU]; exact hPc, va_K.moved hW.alike hKc, hDc.weaken (fun _ _ _ _ => trivial)⟩⟩ rfl rfl hl.1 rfl (lv_room (Nat.le_of_ble_eq_true rfl)) dL_law_136 ⟨Nat.le_of_ble_eq_true rfl, Nat.le_of_ble_eq_true rfl⟩) hS (fun q _ h => hFc q h) hFc (fun r_136 f2 t H1 locs ht hvm hw hB hz1 hk1 hS => ?_)
        obtain ⟨hP1, hK1, hD1⟩ := hB
        rw [ht] at hP1
        obtain ⟨hP, hD⟩ := va_join (wr := [(q0, .inr (0, [.int (nI n), .int (nI k)]))]) (w1 := [(q1, .inr (1, [.int (nI n), .int (nI k), .int (nI 1), .long (rk_T n k), .long (rk_O n k), .long (rk_P n k), .long (rk_M n k), .ref q2])), (q2, .inl (cA, 9, .inl f2))]) hP hD [0, 1] [2] rfl rfl (by decide) (by decide) hk1 hFc hP1 hD1
        generalize H1 = H at hP hS ⊢
        have hP : va_P (dC, dI) vwCl [(q0, .inr (0, [.int (nI n), .int (nI k)])), (q1, .inr (1, [.int (nI n), .int (nI k), .int (nI 1), .long (rk_T n k), .long (rk_O n k), .long (rk_P n k), .long (rk_M n k), .ref q2])), (q2, .inl (cA, 9, .inl f2))] H := hP
        have hD : va_D (fun q : Nat => s.heap.size ≤ q) [(q0, .inr (0, [.int (nI n), .int (nI k)])), (q1, .inr (1, [.int (nI n), .int (nI k), .int (nI 1), .long (rk_T n k), .long (rk_O n k), .long (rk_P n k), .long (rk_M n k), .ref q2])), (q2, .inl (cA, 9, .inl f2))] := hD
        have hb9 : r_136 = rk_P n k := hw
        refine W.lcmp hx hb dL_law_139 ?_
        refine lv_if_eq (tgt := 173) hx hb dL_law_140 (by decide) (fun c_9 => ?_) (fun c_9 => ?_)
        · exact next n k (nI 1) (rk_T n k) (rk_O n k) (rk_P n k) (rk_M n k) f2 hok (Or.inr ⟨rfl, rfl, rfl, rfl, rfl⟩) H _ hP hD hS ls hl
        · exact absurd ((lg_cmp_eq _ _).mpr (ha.trans (((bd_law hok).2.2.1).trans hb9.symm))) c_9
      · refine lv_tableIn (off := 113) (tgt := 145) hx hb dL_law_32 (by decide) (by decide) rfl (by decide) ?_
        refine lv_aload_n hx hb dL_law_145 rfl (lv_at hl 1 rfl) ?_
        have hPc := hP.sub (ws' := [(q0, .inr (0, [.int (nI n), .int (nI k)]))]) [0] rfl
        have hDc := hD.sub (ws' := [(q0, .inr (0, [.int (nI n), .int (nI k)]))]) [0] (by decide) rfl
        have hKc := hK.sub (tys' := []) [] rfl
        have hFc := va_free (wc := [(q0, .inr (0, [.int (nI n), .int (nI k)]))]) hD hS hA [0] rfl
        refine va_calll (va_runV (As := []) (rest := []) ⟨hx, hb, hml, hown, hts⟩ (metX0_mirrors l dC dI q0 H.size n k hok.1 hkb) (cwV 0 hts (lw_V q64 q65 q66 q7 q67) rfl rfl rfl (by decide +kernel) ⟨Nat.le_of_ble_eq_true rfl, Nat.le_of_ble_eq_true rfl⟩) ⟨fun a U g mk q => by obtain ⟨q0, q1, qP, qK, qD⟩ := q; exact ⟨q0, q1, qP, va_K.moved (u := U) (U := U.calling g mk a) (Vm.Alike.refl U.vm) qK, qD⟩, va_recv hKc hPc (ci := 0) (q0 := 0) rfl rfl, fun U hU hW => ⟨rfl, by rw [hU], by rw [hU]; exact hPc, va_K.moved hW.alike hKc, hDc.weaken (fun _ _ _ _ => trivial)⟩⟩ rfl rfl hl.1 rfl (lv_room (Nat.le_of_ble_eq_true rfl)) dL_law_146 ⟨Nat.le_of_ble_eq_true rfl, Nat.le_of_ble_eq_true rfl⟩) hS (fun q _ h => hFc q h) hFc (fun r_146 u t H1 locs ht hvm hw hB hz1 hk1 hS => ?_)
        obtain ⟨hP1, hK1, hD1⟩ := hB
        rw [ht] at hP1
        obtain ⟨hP, hD⟩ := va_join (wr := [(q1, .inr (1, [.int (nI n), .int (nI k), .int kn, .long v3, .long v4, .long v5, .long v6, .ref q2])), (q2, .inl (cA, 9, .inl f))]) (w1 := [(q0, .inr (0, [.int (nI n), .int (nI k)]))]) hP hD [0] [1, 2] rfl rfl (by decide) (by decide) hk1 hFc hP1 hD1
        generalize H1 = H at hP hS ⊢
        have hP : va_P (dC, dI) vwCl [(q1, .inr (1, [.int (nI n), .int (nI k), .int kn, .long v3, .long v4, .long v5, .long v6, .ref q2])), (q2, .inl (cA, 9, .inl f)), (q0, .inr (0, [.int (nI n), .int (nI k)]))] H := hP
        have hD : va_D (fun q : Nat => s.heap.size ≤ q) [(q1, .inr (1, [.int (nI n), .int (nI k), .int kn, .long v3, .long v4, .long v5, .long v6, .ref q2])), (q2, .inl (cA, 9, .inl f)), (q0, .inr (0, [.int (nI n), .int (nI k)]))] := hD
        have ha : r_146 = bd_ls n k n / lN n := hw
        refine lv_aload_n hx hb dL_law_149 rfl (lv_at hl 2 rfl) ?_
        have hPc := hP.sub (ws' := [(q1, .inr (1, [.int (nI n), .int (nI k), .int kn, .long v3, .long v4, .long v5, .long v6, .ref q2])), (q2, .inl (cA, 9, .inl f))]) [0, 1] rfl
        have hDc := hD.sub (ws' := [(q1, .inr (1, [.int (nI n), .int (nI k), .int kn, .long v3, .long v4, .long v5, .long v6, .ref q2])), (q2, .inl (cA, 9, .inl f))]) [0, 1] (by decide) rfl
        have hKc := hK.sub (tys' := [(cA, .int)]) [0] rfl
        have hFc := va_free (wc := [(q1, .inr (1, [.int (nI n), .int (nI k), .int kn, .long v3, .long v4, .long v5, .long v6, .ref q2])), (q2, .inl (cA, 9, .inl f))]) hD hS hA [0, 1] rfl
        refine va_calll (va_runV (As := []) (rest := [.long r_146]) ⟨hx, hb, hml, hown, hts⟩ (metX1_mirrors l dC dI q1 q2 H.size cA n k kn v3 v4 v5 v6 f hok hrk) (cwV 0 hts (lw_V q125 q126 q127 q8 q128) rfl rfl rfl (by decide +kernel) ⟨Nat.le_of_ble_eq_true rfl, Nat.le_of_ble_eq_true rfl⟩) ⟨fun a U g mk q => by obtain ⟨q0, q1, qP, qK, qD⟩ := q; exact ⟨q0, q1, qP, va_K.moved (u := U) (U := U.calling g mk a) (Vm.Alike.refl U.vm) qK, qD⟩, va_recv hKc hPc (ci := 1) (q0 := 0) rfl rfl, fun U hU hW => ⟨rfl, by rw [hU], by rw [hU]; exact hPc, va_K.moved hW.alike hKc, hDc.weaken (fun _ _ _ _ => trivial)⟩⟩ rfl rfl hl.1 rfl (lv_room (Nat.le_of_ble_eq_true rfl)) dL_law_150 ⟨Nat.le_of_ble_eq_true rfl, Nat.le_of_ble_eq_true rfl⟩) hS (fun q _ h => hFc q h) hFc (fun r_150 f2 t H1 locs ht hvm hw hB hz1 hk1 hS => ?_)
        obtain ⟨hP1, hK1, hD1⟩ := hB
        rw [ht] at hP1
        obtain ⟨hP, hD⟩ := va_join (wr := [(q0, .inr (0, [.int (nI n), .int (nI k)]))]) (w1 := [(q1, .inr (1, [.int (nI n), .int (nI k), .int (nI 1), .long (rk_T n k), .long (rk_O n k), .long (rk_P n k), .long (rk_M n k), .ref q2])), (q2, .inl (cA, 9, .inl f2))]) hP hD [0, 1] [2] rfl rfl (by decide) (by decide) hk1 hFc hP1 hD1
        generalize H1 = H at hP hS ⊢
        have hP : va_P (dC, dI) vwCl [(q0, .inr (0, [.int (nI n), .int (nI k)])), (q1, .inr (1, [.int (nI n), .int (nI k), .int (nI 1), .long (rk_T n k), .long (rk_O n k), .long (rk_P n k), .long (rk_M n k), .ref q2])), (q2, .inl (cA, 9, .inl f2))] H := hP
        have hD : va_D (fun q : Nat => s.heap.size ≤ q) [(q0, .inr (0, [.int (nI n), .int (nI k)])), (q1, .inr (1, [.int (nI n), .int (nI k), .int (nI 1), .long (rk_T n k), .long (rk_O n k), .long (rk_P n k), .long (rk_M n k), .ref q2])), (q2, .inl (cA, 9, .inl f2))] := hD
        have hb9 : r_150 = rk_M n k := hw
        refine W.lcmp hx hb dL_law_153 ?_
        refine lv_if_eq (tgt := 173) hx hb dL_law_154 (by decide) (fun c_9 => ?_) (fun c_9 => ?_)
        · exact next n k (nI 1) (rk_T n k) (rk_O n k) (rk_P n k) (rk_M n k) f2 hok (Or.inr ⟨rfl, rfl, rfl, rfl, rfl⟩) H _ hP hD hS ls hl
        · exact absurd ((lg_cmp_eq _ _).mpr (ha.trans (((bd_law hok).2.2.2).trans hb9.symm))) c_9
      · refine lv_tableIn (off := 127) (tgt := 159) hx hb dL_law_32 (by decide) (by decide) rfl (by decide) ?_
        refine lv_aload_n hx hb dL_law_159 rfl (lv_at hl 1 rfl) ?_
        have hPc := hP.sub (ws' := [(q0, .inr (0, [.int (nI n), .int (nI k)]))]) [0] rfl
        have hDc := hD.sub (ws' := [(q0, .inr (0, [.int (nI n), .int (nI k)]))]) [0] (by decide) rfl
        have hKc := hK.sub (tys' := []) [] rfl
        have hFc := va_free (wc := [(q0, .inr (0, [.int (nI n), .int (nI k)]))]) hD hS hA [0] rfl
        refine va_calll (va_runV (As := []) (rest := []) ⟨hx, hb, hml, hown, hts⟩ (metX0_rows l dC dI q0 H.size n k hok.1 hkb) (cwV 0 hts (lw_V q68 q69 q70 q7 q71) rfl rfl rfl (by decide +kernel) ⟨Nat.le_of_ble_eq_true rfl, Nat.le_of_ble_eq_true rfl⟩) ⟨fun a U g mk q => by obtain ⟨q0, q1, qP, qK, qD⟩ := q; exact ⟨q0, q1, qP, va_K.moved (u := U) (U := U.calling g mk a) (Vm.Alike.refl U.vm) qK, qD⟩, va_recv hKc hPc (ci := 0) (q0 := 0) rfl rfl, fun U hU hW => ⟨rfl, by rw [hU], by rw [hU]; exact hPc, va_K.moved hW.alike hKc, hDc.weaken (fun _ _ _ _ => trivial)⟩⟩ rfl rfl hl.1 rfl (lv_room (Nat.le_of_ble_eq_true rfl)) dL_law_160 ⟨Nat.le_of_ble_eq_true rfl, Nat.le_of_ble_eq_true rfl⟩) hS (fun q _ h => hFc q h) hFc (fun r_160 u t H1 locs ht hvm hw hB hz1 hk1 hS => ?_)
        obtain ⟨hP1, hK1, hD1⟩ := hB
        rw [ht] at hP1
        obtain ⟨hP, hD⟩ := va_join (wr := [(q1, .inr (1, [.int (nI n), .int (nI k), .int kn, .long v3, .long v4, .long v5, .long v6, .ref q2])), (q2, .inl (cA, 9, .inl f))]) (w1 := [(q0, .inr (0, [.int (nI n), .int (nI k)]))]) hP hD [0] [1, 2] rfl rfl (by decide) (by decide) hk1 hFc hP1 hD1
        generalize H1 = H at hP hS ⊢
        have hP : va_P (dC, dI) vwCl [(q1, .inr (1, [.int (nI n), .int (nI k), .int kn, .long v3, .long v4, .long v5, .long v6, .ref q2])), (q2, .inl (cA, 9, .inl f)), (q0, .inr (0, [.int (nI n), .int (nI k)]))] H := hP
        have hD : va_D (fun q : Nat => s.heap.size ≤ q) [(q1, .inr (1, [.int (nI n), .int (nI k), .int kn, .long v3, .long v4, .long v5, .long v6, .ref q2])), (q2, .inl (cA, 9, .inl f)), (q0, .inr (0, [.int (nI n), .int (nI k)]))] := hD
        have ha : r_160 = lN (k ^ n) := hw
        refine lv_aload_n hx hb dL_law_163 rfl (lv_at hl 2 rfl) ?_
        have hPc := hP.sub (ws' := [(q1, .inr (1, [.int (nI n), .int (nI k), .int kn, .long v3, .long v4, .long v5, .long v6, .ref q2])), (q2, .inl (cA, 9, .inl f))]) [0, 1] rfl
        have hDc := hD.sub (ws' := [(q1, .inr (1, [.int (nI n), .int (nI k), .int kn, .long v3, .long v4, .long v5, .long v6, .ref q2])), (q2, .inl (cA, 9, .inl f))]) [0, 1] (by decide) rfl
        have hKc := hK.sub (tys' := [(cA, .int)]) [0] rfl
        have hFc := va_free (wc := [(q1, .inr (1, [.int (nI n), .int (nI k), .int kn, .long v3, .long v4, .long v5, .long v6, .ref q2])), (q2, .inl (cA, 9, .inl f))]) hD hS hA [0, 1] rfl
        refine va_calll (va_runV (As := []) (rest := [.long r_160]) ⟨hx, hb, hml, hown, hts⟩ (metX1_rows l dC dI q1 q2 H.size cA n k kn v3 v4 v5 v6 f hok) (cwV 0 hts (lw_V q129 q130 q131 q8 q132) rfl rfl rfl (by decide +kernel) ⟨Nat.le_of_ble_eq_true rfl, Nat.le_of_ble_eq_true rfl⟩) ⟨fun a U g mk q => by obtain ⟨q0, q1, qP, qK, qD⟩ := q; exact ⟨q0, q1, qP, va_K.moved (u := U) (U := U.calling g mk a) (Vm.Alike.refl U.vm) qK, qD⟩, va_recv hKc hPc (ci := 1) (q0 := 0) rfl rfl, fun U hU hW => ⟨rfl, by rw [hU], by rw [hU]; exact hPc, va_K.moved hW.alike hKc, hDc.weaken (fun _ _ _ _ => trivial)⟩⟩ rfl rfl hl.1 rfl (lv_room (Nat.le_of_ble_eq_true rfl)) dL_law_164 ⟨Nat.le_of_ble_eq_true rfl, Nat.le_of_ble_eq_true rfl⟩) hS (fun q _ h => hFc q h) hFc (fun r_164 u t H1 locs ht hvm hw hB hz1 hk1 hS => ?_)
        obtain ⟨hP1, hK1, hD1⟩ := hB
        rw [ht] at hP1
        obtain ⟨hP, hD⟩ := va_join (wr := [(q0, .inr (0, [.int (nI n), .int (nI k)]))]) (w1 := [(q1, .inr (1, [.int (nI n), .int (nI k), .int kn, .long v3, .long v4, .long v5, .long v6, .ref q2])), (q2, .inl (cA, 9, .inl f))]) hP hD [0, 1] [2] rfl rfl (by decide) (by decide) hk1 hFc hP1 hD1
        generalize H1 = H at hP hS ⊢
        have hP : va_P (dC, dI) vwCl [(q0, .inr (0, [.int (nI n), .int (nI k)])), (q1, .inr (1, [.int (nI n), .int (nI k), .int kn, .long v3, .long v4, .long v5, .long v6, .ref q2])), (q2, .inl (cA, 9, .inl f))] H := hP
        have hD : va_D (fun q : Nat => s.heap.size ≤ q) [(q0, .inr (0, [.int (nI n), .int (nI k)])), (q1, .inr (1, [.int (nI n), .int (nI k), .int kn, .long v3, .long v4, .long v5, .long v6, .ref q2])), (q2, .inl (cA, 9, .inl f))] := hD
        have hb9 : r_164 = lN (k ^ n) := hw
        refine W.lcmp hx hb dL_law_167 ?_
        refine lv_if_eq (tgt := 173) hx hb dL_law_168 (by decide) (fun c_9 => ?_) (fun c_9 => ?_)
        · exact next n k kn v3 v4 v5 v6 f hok hrk H _ hP hD hS ls hl
        · exact absurd ((lg_cmp_eq _ _).mpr (ha.trans ((rfl).trans hb9.symm))) c_9
      · refine lv_tableOut (tgt := 173) hx hb dL_law_32 (Or.inr (by decide)) (by decide) ?_
        exact next n k kn v3 v4 v5 v6 f hok hrk H locs hP hD hS ls hl
      · refine lv_tableOut (tgt := 173) hx hb dL_law_32 (Or.inr (by decide)) (by decide) ?_
        exact next n k kn v3 v4 v5 v6 f hok hrk H locs hP hD hS ls hl
end
section
set_option maxHeartbeats 4000000 in
set_option maxRecDepth 100000 in
/-- THE LAW, from its entry -/
theorem whole_start {p : Program} {e : Env} {s : State} {m : MethodId} {below : List Frame} {meth : Method} {c : Code} (l : Launch) {b L : Nat} {xs : Nat → Int32} (hL : L ≤ 192) (C0 : lw_At p s m meth c b L xs) : W p l e room_1 s m #[Value.ref b] below meth c s.heap [] 0 0 (lw_Z below #[Value.ref b] s) (entryFrame m ([Value.ref b] : List Value).toArray 4) := by
  obtain ⟨hx, hb, hr, hml, hown, hts0, hX, hbl, hlocks, hgv⟩ := id C0
  have hts : ∀ w ∈ lw_all, w.before #[Value.ref b] s = true := fun w h => hts0 w (lw_all_tbl h)
  have hA : ∀ q : Nat, s.heap.size ≤ q → (fun q : Nat => s.heap.size ≤ q) q := fun _ h => h
  have hbA : ¬ (fun q : Nat => s.heap.size ≤ q) b := Nat.not_le.mpr hbl
  obtain ⟨c0_, iS0, hKn0⟩ := u_known (C := RX0) (T := TX0) (N := 2) (n := 2) hts0 (fun w h => lw_all_tbl (in_X0 w h)) (hts0 _ (lw_all_tbl q10))
  obtain ⟨c1_, iS1, hKn1⟩ := u_known (C := RX1) (T := TX1) (N := 8) (n := 8) hts0 (fun w h => lw_all_tbl (in_X1 w h)) (hts0 _ (lw_all_tbl q73))
  obtain ⟨dC, dI, hKc⟩ : ∃ (dC : Nat → ClassId) (dI : Nat → Nat → Nat), ∀ (k : Nat) (q : vw_C), vwCl[k]? = some q → u_Kn s q.1 q.2.1 q.2.2 (dC k) (dI k) := by
    refine ⟨fun k => if k = 0 then c0_ else c1_, fun k => if k = 0 then iS0 else iS1, ?_⟩
    intro k q hq
    match k, hq with
    | 0, hq => cases hq; exact hKn0
    | 1, hq => cases hq; exact hKn1
    | k + 2, hq => simp [vwCl] at hq
  have hS : va_S (fun q : Nat => s.heap.size ≤ q) s.heap s.heap [] := va_S.rf
  have hK : va_K (dC, dI) vwCl [] s := ⟨hKc, fun k q h => by simp at h⟩
  have hP : va_P (dC, dI) vwCl [] s.heap := fun k q h => by simp at h
  have hD : va_D (fun q : Nat => s.heap.size ≤ q) [] := ⟨fun i j p q h => by simp at h, fun k q h => by simp at h⟩
  have hl := lv_entry ([.ref b]) (n := 4) (Nat.le_of_ble_eq_true rfl)
  rw [lg_entry_eq]
  generalize (lg_sl ([.ref b]) ++ List.replicate (4 - (lg_sl ([.ref b])).length) Slot.unset).toArray = ls at hl ⊢
  have hl : lv_has ls 4 [(0, .ref b)] := hl
  refine va_new (ci := 0) (fs := [.int 0, .int 0]) (C := RX0) (T := TX0) (N := 2) hx hb hts in_X0 tyX0 tyX0_ok hown (hts _ q9) (hts _ q10) (hts _ q7) hK hP hD hS hA rfl (fun j hj => by rcases (show j = 0 ∨ j = 1 by omega) with rfl | rfl <;> rfl) (Nat.le_of_ble_eq_true rfl) (Nat.le_of_ble_eq_true rfl) dL_law_0 (fun q0 H hP hD hS => ?_)
  have hP : va_P (dC, dI) vwCl [(q0, .inr (0, [.int 0, .int 0]))] H := hP
  have hD : va_D (fun q : Nat => s.heap.size ≤ q) [(q0, .inr (0, [.int 0, .int 0]))] := hD
  refine W.widen (k := 1) (n := 2) (Nat.le_of_ble_eq_true rfl) (Nat.le_of_ble_eq_true rfl) ?_
  refine lv_dup hx hb dL_law_3 rfl ?_
  have hPc := hP.sub (ws' := [(q0, .inr (0, [.int 0, .int 0]))]) [0] rfl
  have hDc := hD.sub (ws' := [(q0, .inr (0, [.int 0, .int 0]))]) [0] (by decide) rfl
  have hKc := hK.sub (tys' := []) [] rfl
  have hFc := va_free (wc := [(q0, .inr (0, [.int 0, .int 0]))]) hD hS hA [0] rfl
  refine va_callv (va_runI (As := []) (rest := [.ref q0]) ⟨hx, hb, hml, hown, hts⟩ (metX0_init l dC dI q0 H.size) (cwI 0 hts (lw_meth q13) rfl rfl rfl (hts _ q7) (hts _ q11) (hts _ q12) rfl (by decide +kernel) ⟨Nat.le_of_ble_eq_true rfl, Nat.le_of_ble_eq_true rfl⟩) ⟨fun a U g mk q => by obtain ⟨q0, q1, qP, qK, qD⟩ := q; exact ⟨q0, q1, qP, va_K.moved (u := U) (U := U.calling g mk a) (Vm.Alike.refl U.vm) qK, qD⟩, fun U hU hW => ⟨rfl, by rw [hU], by rw [hU]; exact hPc, va_K.moved hW.alike hKc, hDc.weaken (fun _ _ _ _ => trivial)⟩⟩ rfl rfl hl.1 rfl (lv_room (Nat.le_of_ble_eq_true rfl)) dL_law_4 ⟨Nat.le_of_ble_eq_true rfl, Nat.le_of_ble_eq_true rfl⟩) hS (fun q _ h => hFc q h) hFc (fun u t H1 locs ht hvm hw hB hz1 hk1 hS => ?_)
  obtain ⟨hP1, hK1, hD1⟩ := hB
  rw [ht] at hP1
  obtain ⟨hP, hD⟩ := va_join (wr := []) (w1 := [(q0, .inr (0, [.int (nI 4), .int (nI 2)]))]) hP hD [0] [] rfl rfl (by decide) (by decide) hk1 hFc hP1 hD1
  generalize H1 = H at hP hS ⊢
  have hP : va_P (dC, dI) vwCl [(q0, .inr (0, [.int (nI 4), .int (nI 2)]))] H := hP
  have hD : va_D (fun q : Nat => s.heap.size ≤ q) [(q0, .inr (0, [.int (nI 4), .int (nI 2)]))] := hD
  refine lv_astore_n (lv' := [(1, .ref q0), (0, .ref b)]) hx hb dL_law_7 rfl hl (by decide) rfl (fun ls hl => ?_)
  refine va_new (ci := 1) (fs := [.int 0, .int 0, .int 0, .long 0, .long 0, .long 0, .long 0, .null]) (C := RX1) (T := TX1) (N := 8) hx hb hts in_X1 tyX1 tyX1_ok hown (hts _ q72) (hts _ q73) (hts _ q8) hK hP hD hS hA rfl (fun j hj => by rcases (show j = 0 ∨ j = 1 ∨ j = 2 ∨ j = 3 ∨ j = 4 ∨ j = 5 ∨ j = 6 ∨ j = 7 by omega) with rfl | rfl | rfl | rfl | rfl | rfl | rfl | rfl <;> rfl) (Nat.le_of_ble_eq_true rfl) (Nat.le_of_ble_eq_true rfl) dL_law_8 (fun q1 H hP hD hS => ?_)
  have hP : va_P (dC, dI) vwCl [(q0, .inr (0, [.int (nI 4), .int (nI 2)])), (q1, .inr (1, [.int 0, .int 0, .int 0, .long 0, .long 0, .long 0, .long 0, .null]))] H := hP
  have hD : va_D (fun q : Nat => s.heap.size ≤ q) [(q0, .inr (0, [.int (nI 4), .int (nI 2)])), (q1, .inr (1, [.int 0, .int 0, .int 0, .long 0, .long 0, .long 0, .long 0, .null]))] := hD
  refine W.widen (k := 2) (n := 10) (Nat.le_of_ble_eq_true rfl) (Nat.le_of_ble_eq_true rfl) ?_
  refine lv_dup hx hb dL_law_11 rfl ?_
  have hPc := hP.sub (ws' := [(q1, .inr (1, [.int 0, .int 0, .int 0, .long 0, .long 0, .long 0, .long 0, .null]))]) [1] rfl
  have hDc := hD.sub (ws' := [(q1, .inr (1, [.int 0, .int 0, .int 0, .long 0, .long 0, .long 0, .long 0, .null]))]) [1] (by decide) rfl
  have hKc := hK.sub (tys' := []) [] rfl
  have hFc := va_free (wc := [(q1, .inr (1, [.int 0, .int 0, .int 0, .long 0, .long 0, .long 0, .long 0, .null]))]) hD hS hA [1] rfl
  refine va_callv (va_runI (As := []) (rest := [.ref q1]) ⟨hx, hb, hml, hown, hts⟩ (metX1_init l dC dI q1 H.size) (cwI 0 hts (lw_meth q76) rfl rfl rfl (hts _ q8) (hts _ q74) (hts _ q75) rfl (by decide +kernel) ⟨Nat.le_of_ble_eq_true rfl, Nat.le_of_ble_eq_true rfl⟩) ⟨fun a U g mk q => by obtain ⟨q0, q1, qP, qK, qD⟩ := q; exact ⟨q0, q1, qP, va_K.moved (u := U) (U := U.calling g mk a) (Vm.Alike.refl U.vm) qK, qD⟩, fun U hU hW => ⟨rfl, by rw [hU], by rw [hU]; exact hPc, va_K.moved hW.alike hKc, hDc.weaken (fun _ _ _ _ => trivial)⟩⟩ rfl rfl hl.1 rfl (lv_room (Nat.le_of_ble_eq_true rfl)) dL_law_12 ⟨Nat.le_of_ble_eq_true rfl, Nat.le_of_ble_eq_true rfl⟩) hS (fun q _ h => hFc q h) hFc (fun u t H1 locs ht hvm hw hB hz1 hk1 hS => ?_)
  obtain ⟨q2, cA, hB⟩ := hB
  obtain ⟨hP1, hK1, hD1⟩ := hB
  rw [ht] at hP1
  obtain ⟨hP, hD⟩ := va_join (wr := [(q0, .inr (0, [.int (nI 4), .int (nI 2)]))]) (w1 := [(q1, .inr (1, [.int (nI 4), .int (nI 2), .int 0, .long 0, .long 0, .long 0, .long 0, .ref q2])), (q2, .inl (cA, 9, .inl (fun _ => 0)))]) hP hD [1] [0] rfl rfl (by decide) (by decide) hk1 hFc hP1 hD1
  generalize H1 = H at hP hS ⊢
  have hP : va_P (dC, dI) vwCl [(q0, .inr (0, [.int (nI 4), .int (nI 2)])), (q1, .inr (1, [.int (nI 4), .int (nI 2), .int 0, .long 0, .long 0, .long 0, .long 0, .ref q2])), (q2, .inl (cA, 9, .inl (fun _ => 0)))] H := hP
  have hD : va_D (fun q : Nat => s.heap.size ≤ q) [(q0, .inr (0, [.int (nI 4), .int (nI 2)])), (q1, .inr (1, [.int (nI 4), .int (nI 2), .int 0, .long 0, .long 0, .long 0, .long 0, .ref q2])), (q2, .inl (cA, 9, .inl (fun _ => 0)))] := hD
  have hK : va_K (dC, dI) vwCl [(cA, .int)] s := va_K.moved hvm.symm hK1
  refine W.widen (k := 3) (n := 19) (Nat.le_of_ble_eq_true rfl) (Nat.le_of_ble_eq_true rfl) ?_
  refine lv_astore_n (lv' := [(2, .ref q1), (1, .ref q0), (0, .ref b)]) hx hb dL_law_15 rfl hl (by decide) rfl (fun ls hl => ?_)
  refine lv_iconst (v := nI 0) hx hb dL_law_16 (by decide) ?_
  refine lv_istore_n (lv' := [(3, .int (nI 0)), (2, .ref q1), (1, .ref q0), (0, .ref b)]) hx hb dL_law_17 rfl hl (by decide) rfl (fun ls hl => ?_)
  exact law_loop hL C0 hK (L + 3) 0 (Nat.zero_le _) (by omega) 4 2 0 0 0 0 0 (fun _ => 0) ⟨⟨by decide, by decide⟩, by decide, by decide⟩ (Or.inl rfl) _ _ hP hD hS ls (lv_sub hl [3, 2, 1, 0] rfl)
end
section
set_option maxHeartbeats 4000000 in
theorem lw_walk (l : Launch) (b : Addr) (xs : List Int32) : MetFree l x (headSpec (Jvm.Cond.code x code maxLocals ret :: tables_1) room_1) (lw_P b xs) (fun _ _ _ _ _ => True) lw_Q := by
  refine MetFree.of_bodyS (code := code) (maxLocals := maxLocals) (ret := ret) (by decide) ?_ ?_
  · intro args s m h hn
    obtain ⟨meth, c, h1, h2, h3, h4, h5, h6, -, -⟩ := Cond.code_spec hn (atoms_spec (ws := Jvm.Cond.code x code maxLocals ret :: tables_1) h _ List.mem_cons_self)
    exact ⟨meth, c, h1, h2, h3, h4, h5, h6⟩
  · intro p e s m args below meth c s₁ B hml0 hP _
    obtain ⟨rfl, hx, hbd, hgv⟩ := hP
    obtain ⟨scr, harrAt, hlist, hof, hsmall⟩ := hx
    obtain ⟨hcb, hkn, -, -⟩ := State.arrayAt?_spec harrAt
    have hown : s.vm.findClass R_law = some m.cls := findClass_of_methodNamed B.named
    have hts0 : ∀ c ∈ (Jvm.Cond.code x code maxLocals ret :: tables_1), c.before #[Value.ref b] s = true := atoms_spec (ws := Jvm.Cond.code x code maxLocals ret :: tables_1) B.pre
    have hts : ∀ w ∈ lw_tbl, w.before #[Value.ref b] s = true := k2_hts_sels lw_privs (fun w hw => hts0 w (List.mem_cons_of_mem _ hw)) lw_privs_ok
    have hml : c.maxLocals = 4 := B.maxLocals_eq (hts0 _ List.mem_cons_self)
    have X₀ : Stand p l e room_1 s m #[Value.ref b] below meth c s₁ [] 0 0 := Stand.of_body B
    have hh0 : s₁.heap = s.heap := by rw [B.state]; rfl
    have hsz : scr.slots.size = xs.length := by rw [← Array.length_toList, hlist, List.length_map]
    have hval : ∀ j : Nat, j < xs.length → scr.slots[j]? = some (.int (xs.getD j 0)) := fun j hj => by
      rw [← Array.getElem?_toList, hlist]
      simp [hj]
    have hbl : b < s.heap.size := (Array.getElem?_eq_some_iff.mp hcb).1
    have hX : va_X b xs.length (fun j => xs.getD j 0) s s.heap := ⟨scr, hcb, hof, hkn, hsz, hval⟩
    have K : W p l e room_1 s m #[Value.ref b] below meth c s₁.heap [] 0 0 (lw_Z below #[Value.ref b] s) (entryFrame m ([Value.ref b] : List Value).toArray 4) := by
      rw [hh0]
      exact whole_start l hbd ⟨B.exec, B.bytes, B.returns, hml, hown, hts, hX, hbl, B.notSynchronized, hgv⟩
    obtain ⟨t, a1, o, b1, b2, b3⟩ := K s₁ rfl X₀
    exact ⟨t, o, a1, b1, b2, b3⟩
theorem lw_pre_spec {args : Array Value} {s : State} (h : (Jvm.Cond.and given_1 narrow_1).before args s = true) (hr : rest_1_c.before args s = true) : ∃ (b : Addr) (xs : List Int32), lw_P b xs args s := by
  have hs := flat_of_before _ h
  have hq := flat_of_before _ hr
  have hc : (Cond.count 1).before args s = true := hs _ (by decide +kernel)
  have harr : (Cond.arrayOf (.arg 0) .int).before args s = true := hs _ (by decide +kernel)
  have hle : (Cond.le (.length (.arg 0)) (.int 192)).before args s = true := hs _ (by decide +kernel)
  have hlen : (Cond.isInt (.length (.arg 0))).before args s = true := hq _ (by decide +kernel)
  have hall : (Cond.all (.arg 0) (.isInt (.elem (.arg 0) (.index 0)))).before args s = true := hq _ (by decide +kernel)
  obtain ⟨b, xs, hb, hx⟩ := State.ints_of_pre rfl harr hlen hall
  have hsm : xs.length < 2 ^ 31 := hx.choose_spec.2.2.2
  have hev : (Term.length (.arg 0)).eval args s none [] s = some (.int xs.length.toInt32) := hx.length_eval hb
  have hv := Cond.le_ints hev (show (Term.int 192).eval args s none [] s = some (.int 192) from rfl)
  have hd : xs.length.toInt32 ≤ 192 := by
    simpa [Cond.before, Cond.holds, hv] using hle
  have hN : xs.length ≤ 192 := (Int32.ofNat_le_ofNat hsm (by decide)).mp (show Int32.ofNat xs.length ≤ Int32.ofNat 192 from hd)
  exact ⟨b, xs, Cond.one_arg hc (show args[0]? = some (.ref b) from hb), hx, hN, h⟩
theorem lw_comes (l : Launch) : Comes l x (Jvm.Cond.code x code maxLocals ret :: tables_1) room_1 (fun tb e args s => Calls_1 tb e args s ∧ rest_1 tb e args s ∧ Pre_1 tb e args s)
    (fun _ _ args s o t => lw_Q args s o t) := by
  intro p e ha hc hk s m args below hf hfit hheap happ hpre
  obtain ⟨b, xs, hP⟩ := lw_pre_spec hpre.2.2 hpre.2.1
  obtain ⟨k, o, h1, h2, h3, hQ⟩ := lw_walk l b xs p e ha hc hk s m args below hf ((Spec.applies_iff_loose hf).mp happ).1 hP trivial
  exact ⟨k, o, h1, h2, h3, hQ⟩
theorem lw_frame {s t : State} {o : Outcome} {args : Array Value} (h : Framed s o t [] 600000 7290000) :
    Framed s o t (fieldLocs frame_1_writes args s ++ arrayLocs frame_1_arrays args s ++ staticLocs frame_1_statics s) 600000 7290000 := h
theorem lw_limb (L : Cond) (hL : ∀ (args : Array Value) (s t : State), L.after args s (.returned (some (.int 1))) t = true) :
    ArmFor flags0 classFile x code maxLocals ret World_1 tables_1 room_1 Calls_1 rest_1 Pre_1
      (fun tb e a s o t => postC L tb e a s o t ∧ Framed s o t (fieldLocs frame_1_writes a s ++ arrayLocs frame_1_arrays a s ++ staticLocs frame_1_statics s) 600000 7290000) := by
  intro l _ _ _ p e ha hc hk s m args below hf hfit hheap happ hpre
  obtain ⟨k, o, h1, h2, h3, rfl, hF⟩ := lw_comes l p e ha hc hk s m args below hf hfit hheap happ hpre
  exact ⟨k, _, h1, h2, h3, hL args s _, lw_frame hF⟩
theorem i_vc : Claimed_1_1 ∧ Claimed_1_2 := ⟨lw_limb limb_1_1 (fun args s t => by simp [limb_1_1, Cond.after, Cond.holds, Cond.value]), lw_limb limb_1_2 (fun args s t => Cond.after_iff.mpr (by
  first | (rw [show limb_1_2 = Cond.eq .result (.int 1) from rfl, Cond.eq_ints (x := 1) (y := 1) rfl rfl]; simp; done) | (simp [limb_1_2, Cond.value, Term.eval]; done)))⟩
end
