section
-- ===== PART A: goes FIRST, ahead of the names: the tables' words, and 'selects' of the private methods out of them =====
/-- a private method of a class that the tables say can be made, by its rows of tables_1 -/
def lw_okq (q : MethodName × Nat) : Prop := (q.1.cls ≠ "java/lang/invoke/MethodHandle" ∧ q.1.cls ≠ "java/lang/invoke/VarHandle") ∧ Cond.instantiable q.1.cls q.2 ∈ tables_1 ∧ Cond.privateMethod q.1 ∈ tables_1 ∧ Cond.instanceMethod q.1 ∈ tables_1
set_option maxRecDepth 100000
theorem lw_p0 : lw_okq (⟨"RouteTable", "has", "(II)Z"⟩, 5) := ⟨⟨by decide +kernel, by decide +kernel⟩, List.mem_of_getElem? (i := 4) rfl, List.mem_of_getElem? (i := 40) rfl, List.mem_of_getElem? (i := 41) rfl⟩
theorem lw_p1 : lw_okq (⟨"RouteTable", "goalOf", "(II)I"⟩, 5) := ⟨⟨by decide +kernel, by decide +kernel⟩, List.mem_of_getElem? (i := 4) rfl, List.mem_of_getElem? (i := 63) rfl, List.mem_of_getElem? (i := 64) rfl⟩
theorem lw_p2 : lw_okq (⟨"RouteTable", "goalBelow", "(II)I"⟩, 5) := ⟨⟨by decide +kernel, by decide +kernel⟩, List.mem_of_getElem? (i := 4) rfl, List.mem_of_getElem? (i := 71) rfl, List.mem_of_getElem? (i := 72) rfl⟩
theorem lw_p3 : lw_okq (⟨"RouteTable", "bitsBelow", "(II)I"⟩, 5) := ⟨⟨by decide +kernel, by decide +kernel⟩, List.mem_of_getElem? (i := 4) rfl, List.mem_of_getElem? (i := 75) rfl, List.mem_of_getElem? (i := 76) rfl⟩
theorem lw_p4 : lw_okq (⟨"RouteTable", "startsSpan", "(I)Z"⟩, 5) := ⟨⟨by decide +kernel, by decide +kernel⟩, List.mem_of_getElem? (i := 4) rfl, List.mem_of_getElem? (i := 123) rfl, List.mem_of_getElem? (i := 124) rfl⟩
theorem lw_p5 : lw_okq (⟨"RouteTableModel", "beginning", "(II)Z"⟩, 2) := ⟨⟨by decide +kernel, by decide +kernel⟩, List.mem_of_getElem? (i := 131) rfl, List.mem_of_getElem? (i := 152) rfl, List.mem_of_getElem? (i := 153) rfl⟩
theorem lw_p6 : lw_okq (⟨"RouteTableModel", "cell", "(II)I"⟩, 2) := ⟨⟨by decide +kernel, by decide +kernel⟩, List.mem_of_getElem? (i := 131) rfl, List.mem_of_getElem? (i := 156) rfl, List.mem_of_getElem? (i := 157) rfl⟩
theorem lw_p7 : lw_okq (⟨"RouteTableModel", "is", "(II)Z"⟩, 2) := ⟨⟨by decide +kernel, by decide +kernel⟩, List.mem_of_getElem? (i := 131) rfl, List.mem_of_getElem? (i := 164) rfl, List.mem_of_getElem? (i := 165) rfl⟩
theorem lw_p8 : lw_okq (⟨"RouteTableModel", "address", "(I)Z"⟩, 2) := ⟨⟨by decide +kernel, by decide +kernel⟩, List.mem_of_getElem? (i := 131) rfl, List.mem_of_getElem? (i := 185) rfl, List.mem_of_getElem? (i := 186) rfl⟩
theorem lw_p9 : lw_okq (⟨"RouteTableModel", "begins", "(I)Z"⟩, 2) := ⟨⟨by decide +kernel, by decide +kernel⟩, List.mem_of_getElem? (i := 131) rfl, List.mem_of_getElem? (i := 218) rfl, List.mem_of_getElem? (i := 219) rfl⟩
def lw_privs_1 : List (MethodName × Nat) := [(⟨"RouteTable", "has", "(II)Z"⟩, 5), (⟨"RouteTable", "goalOf", "(II)I"⟩, 5), (⟨"RouteTable", "goalBelow", "(II)I"⟩, 5), (⟨"RouteTable", "bitsBelow", "(II)I"⟩, 5), (⟨"RouteTable", "startsSpan", "(I)Z"⟩, 5), (⟨"RouteTableModel", "beginning", "(II)Z"⟩, 2), (⟨"RouteTableModel", "cell", "(II)I"⟩, 2), (⟨"RouteTableModel", "is", "(II)Z"⟩, 2), (⟨"RouteTableModel", "address", "(I)Z"⟩, 2), (⟨"RouteTableModel", "begins", "(I)Z"⟩, 2)]
theorem lw_r1 : ∀ q ∈ lw_privs_1, lw_okq q := List.forall_mem_cons.mpr ⟨lw_p0, List.forall_mem_cons.mpr ⟨lw_p1, List.forall_mem_cons.mpr ⟨lw_p2, List.forall_mem_cons.mpr ⟨lw_p3, List.forall_mem_cons.mpr ⟨lw_p4, List.forall_mem_cons.mpr ⟨lw_p5, List.forall_mem_cons.mpr ⟨lw_p6, List.forall_mem_cons.mpr ⟨lw_p7, List.forall_mem_cons.mpr ⟨lw_p8, List.forall_mem_cons.mpr ⟨lw_p9, fun _ h => absurd h List.not_mem_nil⟩⟩⟩⟩⟩⟩⟩⟩⟩⟩
def lw_privs : List (MethodName × Nat) := lw_privs_1
def lw_tbl : List Cond := k2_sels lw_privs ++ tables_1
theorem lw_privs_ok : ∀ q ∈ lw_privs, lw_okq q := lw_r1
-- ===== ONE list of words for every method: the tables' words that hold all through a run =====
def lw_all : List Cond := lw_tbl.filter goodWord
/-- a word of the tables by its place: claim/WORDS.tsv -/
theorem lw_w {w : Cond} (i : Nat) (h : lw_tbl[i]? = some w) (g : goodWord w = true) : w ∈ lw_all := List.mem_filter.mpr ⟨List.mem_of_getElem? h, g⟩
theorem lw_all_tbl {w : Cond} (h : w ∈ lw_all) : w ∈ lw_tbl := (List.mem_filter.mp h).1
theorem lw_self : GoodIn lw_all lw_all := fun w h => ⟨h, good_of_word (List.mem_filter.mp h).2⟩
/-- a class's field words, by their places -/
theorem lw_in (ws : List Cond) (ps : List Nat) (hp : ws = ps.filterMap (fun i => lw_tbl[i]?)) (hg : ws.all goodWord = true) : ∀ w ∈ ws, w ∈ lw_all := by
  intro w h
  have h1 := List.all_eq_true.mp hg w h
  rw [hp] at h
  obtain ⟨i, -, hi⟩ := List.mem_filterMap.mp h
  exact lw_w i hi h1
/-- the words of a contract for the method y with code b, L locals, answer r -/
abbrev ws_ (y : MethodName) (b : ByteArray) (L : Nat) (r : Option FieldType) : List Cond := Cond.code y b L r :: lw_all
theorem lw_meth {y : MethodName} {b : ByteArray} {L : Nat} {r : Option FieldType} (h : Cond.code y b L r ∈ lw_all) : GoodIn lw_all (ws_ y b L r) := by
  intro w hw
  rcases List.mem_cons.mp hw with e | e
  · rw [e]
    exact lw_self _ h
  · exact lw_self _ e
theorem lw_app {a c : List Cond} (ha : ∀ w ∈ a, w ∈ lw_all) (hc : GoodIn lw_all c) : GoodIn lw_all (a ++ c) := by
  intro w hw
  rcases List.mem_append.mp hw with e | e
  · exact lw_self w (ha w e)
  · exact hc w e
/-- what a call through an object asks: cwV n hts (lw_V ..) -/
theorem lw_V {own : String} {idx : Nat} {C : String} {y : MethodName} {b : ByteArray} {L : Nat} {r : Option FieldType} (h1 : Cond.methodLink own idx y ∈ lw_all) (h2 : Cond.instanceMethod y ∈ lw_all) (h3 : Cond.selects C y y ∈ lw_all) (h4 : Cond.initialized C ∈ lw_all) (h5 : Cond.code y b L r ∈ lw_all) : GoodIn lw_all (wsV own idx C y (ws_ y b L r)) := by
  refine lw_app ?_ (lw_meth h5)
  intro w hw
  simp only [List.mem_cons, List.not_mem_nil, or_false] at hw
  rcases hw with e | e | e | e
  · rw [e]; exact h1
  · rw [e]; exact h2
  · rw [e]; exact h3
  · rw [e]; exact h4
/-- what a static call asks: va_cwS n hts (lw_S ..) -/
theorem lw_S {own : String} {idx : Nat} {y : MethodName} {b : ByteArray} {L : Nat} {r : Option FieldType} (h1 : Cond.methodLink own idx y ∈ lw_all) (h2 : Cond.static y ∈ lw_all) (h3 : Cond.initialized y.cls ∈ lw_all) (h4 : Cond.code y b L r ∈ lw_all) : GoodIn lw_all (va_wsS own idx y (ws_ y b L r)) := by
  refine lw_app ?_ (lw_meth h4)
  intro w hw
  simp only [List.mem_cons, List.not_mem_nil, or_false] at hw
  rcases hw with e | e | e
  · rw [e]; exact h1
  · rw [e]; exact h2
  · rw [e]; exact h3
/-- the words of a contract for a method WITH HANDLERS (hh: its table) -/
abbrev wsW_ (y : MethodName) (b : ByteArray) (L : Nat) (r : Option FieldType) (hh : List (Nat × Nat × Nat × Nat)) : List Cond := Cond.codeWith y b L r hh :: lw_all
theorem lw_methW {y : MethodName} {b : ByteArray} {L : Nat} {r : Option FieldType} {hh : List (Nat × Nat × Nat × Nat)} (h : Cond.codeWith y b L r hh ∈ lw_all) : GoodIn lw_all (wsW_ y b L r hh) := by
  intro w hw
  rcases List.mem_cons.mp hw with e | e
  · rw [e]
    exact lw_self _ h
  · exact lw_self _ e
/-- any list of words by their places (lw_in), good -/
theorem lw_good {ws : List Cond} (h : ∀ w ∈ ws, w ∈ lw_all) : GoodIn lw_all ws := fun w hw => lw_self w (h w hw)
/-- what a call of a method with handlers asks: vx_cwVW n hts (lw_VW ..), vx_cwSW n hts (lw_SW ..) -/
theorem lw_VW {own : String} {idx : Nat} {C : String} {y : MethodName} {b : ByteArray} {L : Nat} {r : Option FieldType} {hh : List (Nat × Nat × Nat × Nat)} (h1 : Cond.methodLink own idx y ∈ lw_all) (h2 : Cond.instanceMethod y ∈ lw_all) (h3 : Cond.selects C y y ∈ lw_all) (h4 : Cond.initialized C ∈ lw_all) (h5 : Cond.codeWith y b L r hh ∈ lw_all) : GoodIn lw_all (wsV own idx C y (wsW_ y b L r hh)) := by
  refine lw_app ?_ (lw_methW h5)
  intro w hw
  simp only [List.mem_cons, List.not_mem_nil, or_false] at hw
  rcases hw with e | e | e | e
  · rw [e]; exact h1
  · rw [e]; exact h2
  · rw [e]; exact h3
  · rw [e]; exact h4
theorem lw_SW {own : String} {idx : Nat} {y : MethodName} {b : ByteArray} {L : Nat} {r : Option FieldType} {hh : List (Nat × Nat × Nat × Nat)} (h1 : Cond.methodLink own idx y ∈ lw_all) (h2 : Cond.static y ∈ lw_all) (h3 : Cond.initialized y.cls ∈ lw_all) (h4 : Cond.codeWith y b L r hh ∈ lw_all) : GoodIn lw_all (va_wsS own idx y (wsW_ y b L r hh)) := by
  refine lw_app ?_ (lw_methW h4)
  intro w hw
  simp only [List.mem_cons, List.not_mem_nil, or_false] at hw
  rcases hw with e | e | e
  · rw [e]; exact h1
  · rw [e]; exact h2
  · rw [e]; exact h3
/-- a word by its place in its run of the tables -/
theorem lw_at {r : List Cond} (hr : ∀ w ∈ r, w ∈ lw_tbl) {w : Cond} (i : Nat) (h : r[i]? = some w) : w ∈ lw_tbl := hr w (List.mem_of_getElem? h)
theorem lw_g {w : Cond} (h : w ∈ lw_tbl) (g : goodWord w = true) : w ∈ lw_all := List.mem_filter.mpr ⟨h, g⟩
theorem lw_ms : ∀ w ∈ k2_sels lw_privs, w ∈ lw_tbl := fun w h => show w ∈ k2_sels lw_privs ++ tables_1 from List.mem_append_left _ h
theorem lw_m0 : ∀ w ∈ tables_1, w ∈ lw_tbl := fun w h => show w ∈ k2_sels lw_privs ++ tables_1 from List.mem_append_right (k2_sels lw_privs) h
theorem qs0 : (Cond.selects "RouteTable" ⟨"RouteTable", "has", "(II)Z"⟩ ⟨"RouteTable", "has", "(II)Z"⟩) ∈ lw_all := lw_g (lw_at lw_ms 0 rfl) rfl
theorem qs1 : (Cond.selects "RouteTable" ⟨"RouteTable", "goalOf", "(II)I"⟩ ⟨"RouteTable", "goalOf", "(II)I"⟩) ∈ lw_all := lw_g (lw_at lw_ms 1 rfl) rfl
theorem qs2 : (Cond.selects "RouteTable" ⟨"RouteTable", "goalBelow", "(II)I"⟩ ⟨"RouteTable", "goalBelow", "(II)I"⟩) ∈ lw_all := lw_g (lw_at lw_ms 2 rfl) rfl
theorem qs3 : (Cond.selects "RouteTable" ⟨"RouteTable", "bitsBelow", "(II)I"⟩ ⟨"RouteTable", "bitsBelow", "(II)I"⟩) ∈ lw_all := lw_g (lw_at lw_ms 3 rfl) rfl
theorem qs4 : (Cond.selects "RouteTable" ⟨"RouteTable", "startsSpan", "(I)Z"⟩ ⟨"RouteTable", "startsSpan", "(I)Z"⟩) ∈ lw_all := lw_g (lw_at lw_ms 4 rfl) rfl
theorem qs5 : (Cond.selects "RouteTableModel" ⟨"RouteTableModel", "beginning", "(II)Z"⟩ ⟨"RouteTableModel", "beginning", "(II)Z"⟩) ∈ lw_all := lw_g (lw_at lw_ms 5 rfl) rfl
theorem qs6 : (Cond.selects "RouteTableModel" ⟨"RouteTableModel", "cell", "(II)I"⟩ ⟨"RouteTableModel", "cell", "(II)I"⟩) ∈ lw_all := lw_g (lw_at lw_ms 6 rfl) rfl
theorem qs7 : (Cond.selects "RouteTableModel" ⟨"RouteTableModel", "is", "(II)Z"⟩ ⟨"RouteTableModel", "is", "(II)Z"⟩) ∈ lw_all := lw_g (lw_at lw_ms 7 rfl) rfl
theorem qs8 : (Cond.selects "RouteTableModel" ⟨"RouteTableModel", "address", "(I)Z"⟩ ⟨"RouteTableModel", "address", "(I)Z"⟩) ∈ lw_all := lw_g (lw_at lw_ms 8 rfl) rfl
theorem qs9 : (Cond.selects "RouteTableModel" ⟨"RouteTableModel", "begins", "(I)Z"⟩ ⟨"RouteTableModel", "begins", "(I)Z"⟩) ∈ lw_all := lw_g (lw_at lw_ms 9 rfl) rfl
end
section
set_option maxRecDepth 100000
/-! RouteTable -/
def RX0 : String := "RouteTable"
def TX0 : u_T := fun k => match k with
  | 0 => ("RouteTable", "topBits", "I", false)
  | 1 => ("RouteTable", "topGoals", "[B", true)
  | 2 => ("RouteTable", "lowBits", "[I", true)
  | 3 => ("RouteTable", "lowGoals", "[B", true)
  | _ => ("RouteTable", "count", "I", false)
def tyX0 : Nat → FieldType := fun k => match k with
  | 0 => .int
  | 1 => .array .byte
  | 2 => .array .int
  | 3 => .array .byte
  | _ => .int
abbrev wsX00 : List Cond := u_ws RX0 TX0 5
theorem nmX0 : ∀ a, a < 5 → ∀ b, b < 5 → a ≠ b → (TX0 a).2.1 ≠ (TX0 b).2.1 := by decide +kernel
theorem tyX0_ok : ∀ k, k < 5 → parseFieldDescriptor (TX0 k).2.2.1 = some (tyX0 k) := by decide +kernel
abbrev cX0_init : ByteArray := prog_1_method_1_code
def yX0_init : MethodName := ⟨RX0, "<init>", "()V"⟩
theorem dX0_init_0 : decode cX0_init 0 = .ok (.aload_n 0, 1) := by decide +kernel
theorem dX0_init_1 : decode cX0_init 1 = .ok (.invokespecial 1, 3) := by decide +kernel
theorem dX0_init_4 : decode cX0_init 4 = .ok (.aload_n 0, 1) := by decide +kernel
theorem dX0_init_5 : decode cX0_init 5 = .ok (.bipush 15, 2) := by decide +kernel
theorem dX0_init_7 : decode cX0_init 7 = .ok (.newarray .byte, 2) := by decide +kernel
theorem dX0_init_9 : decode cX0_init 9 = .ok (.putfield 7, 3) := by decide +kernel
theorem dX0_init_12 : decode cX0_init 12 = .ok (.aload_n 0, 1) := by decide +kernel
theorem dX0_init_13 : decode cX0_init 13 = .ok (.bipush 16, 2) := by decide +kernel
theorem dX0_init_15 : decode cX0_init 15 = .ok (.newarray .int, 2) := by decide +kernel
theorem dX0_init_17 : decode cX0_init 17 = .ok (.putfield 13, 3) := by decide +kernel
theorem dX0_init_20 : decode cX0_init 20 = .ok (.aload_n 0, 1) := by decide +kernel
theorem dX0_init_21 : decode cX0_init 21 = .ok (.sipush 496, 3) := by decide +kernel
theorem dX0_init_24 : decode cX0_init 24 = .ok (.newarray .byte, 2) := by decide +kernel
theorem dX0_init_26 : decode cX0_init 26 = .ok (.putfield 17, 3) := by decide +kernel
theorem dX0_init_29 : decode cX0_init 29 = .ok (.return_, 1) := by decide +kernel
abbrev cX0_put : ByteArray := prog_1_method_7_code
def yX0_put : MethodName := ⟨RX0, "put", "(III)Z"⟩
theorem dX0_put_0 : decode cX0_put 0 = .ok (.iload_n 1, 1) := by decide +kernel
theorem dX0_put_1 : decode cX0_put 1 = .ok (.iload_n 2, 1) := by decide +kernel
theorem dX0_put_2 : decode cX0_put 2 = .ok (.invokestatic 32, 3) := by decide +kernel
theorem dX0_put_5 : decode cX0_put 5 = .ok (.ifCond .eq 13, 3) := by decide +kernel
theorem dX0_put_8 : decode cX0_put 8 = .ok (.iload_n 3, 1) := by decide +kernel
theorem dX0_put_9 : decode cX0_put 9 = .ok (.ifCond .lt 9, 3) := by decide +kernel
theorem dX0_put_12 : decode cX0_put 12 = .ok (.iload_n 3, 1) := by decide +kernel
theorem dX0_put_13 : decode cX0_put 13 = .ok (.bipush 99, 2) := by decide +kernel
theorem dX0_put_15 : decode cX0_put 15 = .ok (.if_icmp .le 5, 3) := by decide +kernel
theorem dX0_put_18 : decode cX0_put 18 = .ok (.iconst 0, 1) := by decide +kernel
theorem dX0_put_19 : decode cX0_put 19 = .ok (.ireturn, 1) := by decide +kernel
theorem dX0_put_20 : decode cX0_put 20 = .ok (.aload_n 0, 1) := by decide +kernel
theorem dX0_put_21 : decode cX0_put 21 = .ok (.dup, 1) := by decide +kernel
theorem dX0_put_22 : decode cX0_put 22 = .ok (.getfield 36, 3) := by decide +kernel
theorem dX0_put_25 : decode cX0_put 25 = .ok (.aload_n 0, 1) := by decide +kernel
theorem dX0_put_26 : decode cX0_put 26 = .ok (.iload_n 1, 1) := by decide +kernel
theorem dX0_put_27 : decode cX0_put 27 = .ok (.iload_n 2, 1) := by decide +kernel
theorem dX0_put_28 : decode cX0_put 28 = .ok (.invokevirtual 39, 3) := by decide +kernel
theorem dX0_put_31 : decode cX0_put 31 = .ok (.ifCond .eq 7, 3) := by decide +kernel
theorem dX0_put_34 : decode cX0_put 34 = .ok (.iconst 0, 1) := by decide +kernel
theorem dX0_put_35 : decode cX0_put 35 = .ok (.goto 4, 3) := by decide +kernel
theorem dX0_put_38 : decode cX0_put 38 = .ok (.iconst 1, 1) := by decide +kernel
theorem dX0_put_39 : decode cX0_put 39 = .ok (.iadd, 1) := by decide +kernel
theorem dX0_put_40 : decode cX0_put 40 = .ok (.putfield 36, 3) := by decide +kernel
theorem dX0_put_43 : decode cX0_put 43 = .ok (.iload_n 1, 1) := by decide +kernel
theorem dX0_put_44 : decode cX0_put 44 = .ok (.iload_n 2, 1) := by decide +kernel
theorem dX0_put_45 : decode cX0_put 45 = .ok (.invokestatic 24, 3) := by decide +kernel
theorem dX0_put_48 : decode cX0_put 48 = .ok (.istore 4, 2) := by decide +kernel
theorem dX0_put_50 : decode cX0_put 50 = .ok (.iload_n 2, 1) := by decide +kernel
theorem dX0_put_51 : decode cX0_put 51 = .ok (.iconst 4, 1) := by decide +kernel
theorem dX0_put_52 : decode cX0_put 52 = .ok (.if_icmp .ge 28, 3) := by decide +kernel
theorem dX0_put_55 : decode cX0_put 55 = .ok (.aload_n 0, 1) := by decide +kernel
theorem dX0_put_56 : decode cX0_put 56 = .ok (.dup, 1) := by decide +kernel
theorem dX0_put_57 : decode cX0_put 57 = .ok (.getfield 28, 3) := by decide +kernel
theorem dX0_put_60 : decode cX0_put 60 = .ok (.iconst 1, 1) := by decide +kernel
theorem dX0_put_61 : decode cX0_put 61 = .ok (.iload 4, 2) := by decide +kernel
theorem dX0_put_63 : decode cX0_put 63 = .ok (.ishl, 1) := by decide +kernel
theorem dX0_put_64 : decode cX0_put 64 = .ok (.ior, 1) := by decide +kernel
theorem dX0_put_65 : decode cX0_put 65 = .ok (.putfield 28, 3) := by decide +kernel
theorem dX0_put_68 : decode cX0_put 68 = .ok (.aload_n 0, 1) := by decide +kernel
theorem dX0_put_69 : decode cX0_put 69 = .ok (.getfield 7, 3) := by decide +kernel
theorem dX0_put_72 : decode cX0_put 72 = .ok (.iload 4, 2) := by decide +kernel
theorem dX0_put_74 : decode cX0_put 74 = .ok (.iload_n 3, 1) := by decide +kernel
theorem dX0_put_75 : decode cX0_put 75 = .ok (.i2b, 1) := by decide +kernel
theorem dX0_put_76 : decode cX0_put 76 = .ok (.bastore, 1) := by decide +kernel
theorem dX0_put_77 : decode cX0_put 77 = .ok (.goto 37, 3) := by decide +kernel
theorem dX0_put_80 : decode cX0_put 80 = .ok (.iload_n 1, 1) := by decide +kernel
theorem dX0_put_81 : decode cX0_put 81 = .ok (.iconst 4, 1) := by decide +kernel
theorem dX0_put_82 : decode cX0_put 82 = .ok (.ishr, 1) := by decide +kernel
theorem dX0_put_83 : decode cX0_put 83 = .ok (.istore 5, 2) := by decide +kernel
theorem dX0_put_85 : decode cX0_put 85 = .ok (.aload_n 0, 1) := by decide +kernel
theorem dX0_put_86 : decode cX0_put 86 = .ok (.getfield 13, 3) := by decide +kernel
theorem dX0_put_89 : decode cX0_put 89 = .ok (.iload 5, 2) := by decide +kernel
theorem dX0_put_91 : decode cX0_put 91 = .ok (.dup2, 1) := by decide +kernel
theorem dX0_put_92 : decode cX0_put 92 = .ok (.iaload, 1) := by decide +kernel
theorem dX0_put_93 : decode cX0_put 93 = .ok (.iconst 1, 1) := by decide +kernel
theorem dX0_put_94 : decode cX0_put 94 = .ok (.iload 4, 2) := by decide +kernel
theorem dX0_put_96 : decode cX0_put 96 = .ok (.ishl, 1) := by decide +kernel
theorem dX0_put_97 : decode cX0_put 97 = .ok (.ior, 1) := by decide +kernel
theorem dX0_put_98 : decode cX0_put 98 = .ok (.iastore, 1) := by decide +kernel
theorem dX0_put_99 : decode cX0_put 99 = .ok (.aload_n 0, 1) := by decide +kernel
theorem dX0_put_100 : decode cX0_put 100 = .ok (.getfield 17, 3) := by decide +kernel
theorem dX0_put_103 : decode cX0_put 103 = .ok (.iload 5, 2) := by decide +kernel
theorem dX0_put_105 : decode cX0_put 105 = .ok (.bipush 31, 2) := by decide +kernel
theorem dX0_put_107 : decode cX0_put 107 = .ok (.imul, 1) := by decide +kernel
theorem dX0_put_108 : decode cX0_put 108 = .ok (.iload 4, 2) := by decide +kernel
theorem dX0_put_110 : decode cX0_put 110 = .ok (.iadd, 1) := by decide +kernel
theorem dX0_put_111 : decode cX0_put 111 = .ok (.iload_n 3, 1) := by decide +kernel
theorem dX0_put_112 : decode cX0_put 112 = .ok (.i2b, 1) := by decide +kernel
theorem dX0_put_113 : decode cX0_put 113 = .ok (.bastore, 1) := by decide +kernel
theorem dX0_put_114 : decode cX0_put 114 = .ok (.iconst 1, 1) := by decide +kernel
theorem dX0_put_115 : decode cX0_put 115 = .ok (.ireturn, 1) := by decide +kernel
abbrev cX0_isBeginning : ByteArray := prog_1_method_3_code
def yX0_isBeginning : MethodName := ⟨RX0, "isBeginning", "(II)Z"⟩
theorem dX0_isBeginning_0 : decode cX0_isBeginning 0 = .ok (.iload_n 1, 1) := by decide +kernel
theorem dX0_isBeginning_1 : decode cX0_isBeginning 1 = .ok (.ifCond .lt 30, 3) := by decide +kernel
theorem dX0_isBeginning_4 : decode cX0_isBeginning 4 = .ok (.iload_n 1, 1) := by decide +kernel
theorem dX0_isBeginning_5 : decode cX0_isBeginning 5 = .ok (.bipush 8, 2) := by decide +kernel
theorem dX0_isBeginning_7 : decode cX0_isBeginning 7 = .ok (.if_icmp .gt 24, 3) := by decide +kernel
theorem dX0_isBeginning_10 : decode cX0_isBeginning 10 = .ok (.iload_n 0, 1) := by decide +kernel
theorem dX0_isBeginning_11 : decode cX0_isBeginning 11 = .ok (.invokestatic 20, 3) := by decide +kernel
theorem dX0_isBeginning_14 : decode cX0_isBeginning 14 = .ok (.ifCond .eq 17, 3) := by decide +kernel
theorem dX0_isBeginning_17 : decode cX0_isBeginning 17 = .ok (.iload_n 0, 1) := by decide +kernel
theorem dX0_isBeginning_18 : decode cX0_isBeginning 18 = .ok (.sipush 255, 3) := by decide +kernel
theorem dX0_isBeginning_21 : decode cX0_isBeginning 21 = .ok (.iload_n 1, 1) := by decide +kernel
theorem dX0_isBeginning_22 : decode cX0_isBeginning 22 = .ok (.ishr, 1) := by decide +kernel
theorem dX0_isBeginning_23 : decode cX0_isBeginning 23 = .ok (.iand, 1) := by decide +kernel
theorem dX0_isBeginning_24 : decode cX0_isBeginning 24 = .ok (.ifCond .ne 7, 3) := by decide +kernel
theorem dX0_isBeginning_27 : decode cX0_isBeginning 27 = .ok (.iconst 1, 1) := by decide +kernel
theorem dX0_isBeginning_28 : decode cX0_isBeginning 28 = .ok (.goto 4, 3) := by decide +kernel
theorem dX0_isBeginning_31 : decode cX0_isBeginning 31 = .ok (.iconst 0, 1) := by decide +kernel
theorem dX0_isBeginning_32 : decode cX0_isBeginning 32 = .ok (.ireturn, 1) := by decide +kernel
abbrev cX0_isAddress : ByteArray := prog_1_method_2_code
def yX0_isAddress : MethodName := ⟨RX0, "isAddress", "(I)Z"⟩
theorem dX0_isAddress_0 : decode cX0_isAddress 0 = .ok (.iload_n 0, 1) := by decide +kernel
theorem dX0_isAddress_1 : decode cX0_isAddress 1 = .ok (.ifCond .lt 14, 3) := by decide +kernel
theorem dX0_isAddress_4 : decode cX0_isAddress 4 = .ok (.iload_n 0, 1) := by decide +kernel
theorem dX0_isAddress_5 : decode cX0_isAddress 5 = .ok (.sipush 256, 3) := by decide +kernel
theorem dX0_isAddress_8 : decode cX0_isAddress 8 = .ok (.if_icmp .ge 7, 3) := by decide +kernel
theorem dX0_isAddress_11 : decode cX0_isAddress 11 = .ok (.iconst 1, 1) := by decide +kernel
theorem dX0_isAddress_12 : decode cX0_isAddress 12 = .ok (.goto 4, 3) := by decide +kernel
theorem dX0_isAddress_15 : decode cX0_isAddress 15 = .ok (.iconst 0, 1) := by decide +kernel
theorem dX0_isAddress_16 : decode cX0_isAddress 16 = .ok (.ireturn, 1) := by decide +kernel
abbrev cX0_has : ByteArray := prog_1_method_5_code
def yX0_has : MethodName := ⟨RX0, "has", "(II)Z"⟩
theorem dX0_has_0 : decode cX0_has 0 = .ok (.iload_n 1, 1) := by decide +kernel
theorem dX0_has_1 : decode cX0_has 1 = .ok (.iload_n 2, 1) := by decide +kernel
theorem dX0_has_2 : decode cX0_has 2 = .ok (.invokestatic 24, 3) := by decide +kernel
theorem dX0_has_5 : decode cX0_has 5 = .ok (.istore_n 3, 1) := by decide +kernel
theorem dX0_has_6 : decode cX0_has 6 = .ok (.iload_n 2, 1) := by decide +kernel
theorem dX0_has_7 : decode cX0_has 7 = .ok (.iconst 4, 1) := by decide +kernel
theorem dX0_has_8 : decode cX0_has 8 = .ok (.if_icmp .ge 10, 3) := by decide +kernel
theorem dX0_has_11 : decode cX0_has 11 = .ok (.aload_n 0, 1) := by decide +kernel
theorem dX0_has_12 : decode cX0_has 12 = .ok (.getfield 28, 3) := by decide +kernel
theorem dX0_has_15 : decode cX0_has 15 = .ok (.goto 11, 3) := by decide +kernel
theorem dX0_has_18 : decode cX0_has 18 = .ok (.aload_n 0, 1) := by decide +kernel
theorem dX0_has_19 : decode cX0_has 19 = .ok (.getfield 13, 3) := by decide +kernel
theorem dX0_has_22 : decode cX0_has 22 = .ok (.iload_n 1, 1) := by decide +kernel
theorem dX0_has_23 : decode cX0_has 23 = .ok (.iconst 4, 1) := by decide +kernel
theorem dX0_has_24 : decode cX0_has 24 = .ok (.ishr, 1) := by decide +kernel
theorem dX0_has_25 : decode cX0_has 25 = .ok (.iaload, 1) := by decide +kernel
theorem dX0_has_26 : decode cX0_has 26 = .ok (.istore 4, 2) := by decide +kernel
theorem dX0_has_28 : decode cX0_has 28 = .ok (.iload 4, 2) := by decide +kernel
theorem dX0_has_30 : decode cX0_has 30 = .ok (.iload_n 3, 1) := by decide +kernel
theorem dX0_has_31 : decode cX0_has 31 = .ok (.ishr, 1) := by decide +kernel
theorem dX0_has_32 : decode cX0_has 32 = .ok (.iconst 1, 1) := by decide +kernel
theorem dX0_has_33 : decode cX0_has 33 = .ok (.iand, 1) := by decide +kernel
theorem dX0_has_34 : decode cX0_has 34 = .ok (.ifCond .eq 7, 3) := by decide +kernel
theorem dX0_has_37 : decode cX0_has 37 = .ok (.iconst 1, 1) := by decide +kernel
theorem dX0_has_38 : decode cX0_has 38 = .ok (.goto 4, 3) := by decide +kernel
theorem dX0_has_41 : decode cX0_has 41 = .ok (.iconst 0, 1) := by decide +kernel
theorem dX0_has_42 : decode cX0_has 42 = .ok (.ireturn, 1) := by decide +kernel
abbrev cX0_place : ByteArray := prog_1_method_4_code
def yX0_place : MethodName := ⟨RX0, "place", "(II)I"⟩
theorem dX0_place_0 : decode cX0_place 0 = .ok (.iload_n 1, 1) := by decide +kernel
theorem dX0_place_1 : decode cX0_place 1 = .ok (.iconst 4, 1) := by decide +kernel
theorem dX0_place_2 : decode cX0_place 2 = .ok (.if_icmp .ge 16, 3) := by decide +kernel
theorem dX0_place_5 : decode cX0_place 5 = .ok (.iconst 1, 1) := by decide +kernel
theorem dX0_place_6 : decode cX0_place 6 = .ok (.iload_n 1, 1) := by decide +kernel
theorem dX0_place_7 : decode cX0_place 7 = .ok (.ishl, 1) := by decide +kernel
theorem dX0_place_8 : decode cX0_place 8 = .ok (.iconst 1, 1) := by decide +kernel
theorem dX0_place_9 : decode cX0_place 9 = .ok (.isub, 1) := by decide +kernel
theorem dX0_place_10 : decode cX0_place 10 = .ok (.iload_n 0, 1) := by decide +kernel
theorem dX0_place_11 : decode cX0_place 11 = .ok (.bipush 8, 2) := by decide +kernel
theorem dX0_place_13 : decode cX0_place 13 = .ok (.iload_n 1, 1) := by decide +kernel
theorem dX0_place_14 : decode cX0_place 14 = .ok (.isub, 1) := by decide +kernel
theorem dX0_place_15 : decode cX0_place 15 = .ok (.ishr, 1) := by decide +kernel
theorem dX0_place_16 : decode cX0_place 16 = .ok (.iadd, 1) := by decide +kernel
theorem dX0_place_17 : decode cX0_place 17 = .ok (.ireturn, 1) := by decide +kernel
theorem dX0_place_18 : decode cX0_place 18 = .ok (.iload_n 1, 1) := by decide +kernel
theorem dX0_place_19 : decode cX0_place 19 = .ok (.iconst 4, 1) := by decide +kernel
theorem dX0_place_20 : decode cX0_place 20 = .ok (.isub, 1) := by decide +kernel
theorem dX0_place_21 : decode cX0_place 21 = .ok (.istore_n 2, 1) := by decide +kernel
theorem dX0_place_22 : decode cX0_place 22 = .ok (.iconst 1, 1) := by decide +kernel
theorem dX0_place_23 : decode cX0_place 23 = .ok (.iload_n 2, 1) := by decide +kernel
theorem dX0_place_24 : decode cX0_place 24 = .ok (.ishl, 1) := by decide +kernel
theorem dX0_place_25 : decode cX0_place 25 = .ok (.iconst 1, 1) := by decide +kernel
theorem dX0_place_26 : decode cX0_place 26 = .ok (.isub, 1) := by decide +kernel
theorem dX0_place_27 : decode cX0_place 27 = .ok (.iload_n 0, 1) := by decide +kernel
theorem dX0_place_28 : decode cX0_place 28 = .ok (.bipush 15, 2) := by decide +kernel
theorem dX0_place_30 : decode cX0_place 30 = .ok (.iand, 1) := by decide +kernel
theorem dX0_place_31 : decode cX0_place 31 = .ok (.iconst 4, 1) := by decide +kernel
theorem dX0_place_32 : decode cX0_place 32 = .ok (.iload_n 2, 1) := by decide +kernel
theorem dX0_place_33 : decode cX0_place 33 = .ok (.isub, 1) := by decide +kernel
theorem dX0_place_34 : decode cX0_place 34 = .ok (.ishr, 1) := by decide +kernel
theorem dX0_place_35 : decode cX0_place 35 = .ok (.iadd, 1) := by decide +kernel
theorem dX0_place_36 : decode cX0_place 36 = .ok (.ireturn, 1) := by decide +kernel
abbrev cX0_drop : ByteArray := prog_1_method_8_code
def yX0_drop : MethodName := ⟨RX0, "drop", "(II)Z"⟩
theorem dX0_drop_0 : decode cX0_drop 0 = .ok (.iload_n 1, 1) := by decide +kernel
theorem dX0_drop_1 : decode cX0_drop 1 = .ok (.iload_n 2, 1) := by decide +kernel
theorem dX0_drop_2 : decode cX0_drop 2 = .ok (.invokestatic 32, 3) := by decide +kernel
theorem dX0_drop_5 : decode cX0_drop 5 = .ok (.ifCond .eq 12, 3) := by decide +kernel
theorem dX0_drop_8 : decode cX0_drop 8 = .ok (.aload_n 0, 1) := by decide +kernel
theorem dX0_drop_9 : decode cX0_drop 9 = .ok (.iload_n 1, 1) := by decide +kernel
theorem dX0_drop_10 : decode cX0_drop 10 = .ok (.iload_n 2, 1) := by decide +kernel
theorem dX0_drop_11 : decode cX0_drop 11 = .ok (.invokevirtual 39, 3) := by decide +kernel
theorem dX0_drop_14 : decode cX0_drop 14 = .ok (.ifCond .ne 5, 3) := by decide +kernel
theorem dX0_drop_17 : decode cX0_drop 17 = .ok (.iconst 0, 1) := by decide +kernel
theorem dX0_drop_18 : decode cX0_drop 18 = .ok (.ireturn, 1) := by decide +kernel
theorem dX0_drop_19 : decode cX0_drop 19 = .ok (.iload_n 1, 1) := by decide +kernel
theorem dX0_drop_20 : decode cX0_drop 20 = .ok (.iload_n 2, 1) := by decide +kernel
theorem dX0_drop_21 : decode cX0_drop 21 = .ok (.invokestatic 24, 3) := by decide +kernel
theorem dX0_drop_24 : decode cX0_drop 24 = .ok (.istore_n 3, 1) := by decide +kernel
theorem dX0_drop_25 : decode cX0_drop 25 = .ok (.iload_n 2, 1) := by decide +kernel
theorem dX0_drop_26 : decode cX0_drop 26 = .ok (.iconst 4, 1) := by decide +kernel
theorem dX0_drop_27 : decode cX0_drop 27 = .ok (.if_icmp .ge 20, 3) := by decide +kernel
theorem dX0_drop_30 : decode cX0_drop 30 = .ok (.aload_n 0, 1) := by decide +kernel
theorem dX0_drop_31 : decode cX0_drop 31 = .ok (.dup, 1) := by decide +kernel
theorem dX0_drop_32 : decode cX0_drop 32 = .ok (.getfield 28, 3) := by decide +kernel
theorem dX0_drop_35 : decode cX0_drop 35 = .ok (.iconst 1, 1) := by decide +kernel
theorem dX0_drop_36 : decode cX0_drop 36 = .ok (.iload_n 3, 1) := by decide +kernel
theorem dX0_drop_37 : decode cX0_drop 37 = .ok (.ishl, 1) := by decide +kernel
theorem dX0_drop_38 : decode cX0_drop 38 = .ok (.iconst (-1), 1) := by decide +kernel
theorem dX0_drop_39 : decode cX0_drop 39 = .ok (.ixor, 1) := by decide +kernel
theorem dX0_drop_40 : decode cX0_drop 40 = .ok (.iand, 1) := by decide +kernel
theorem dX0_drop_41 : decode cX0_drop 41 = .ok (.putfield 28, 3) := by decide +kernel
theorem dX0_drop_44 : decode cX0_drop 44 = .ok (.goto 19, 3) := by decide +kernel
theorem dX0_drop_47 : decode cX0_drop 47 = .ok (.aload_n 0, 1) := by decide +kernel
theorem dX0_drop_48 : decode cX0_drop 48 = .ok (.getfield 13, 3) := by decide +kernel
theorem dX0_drop_51 : decode cX0_drop 51 = .ok (.iload_n 1, 1) := by decide +kernel
theorem dX0_drop_52 : decode cX0_drop 52 = .ok (.iconst 4, 1) := by decide +kernel
theorem dX0_drop_53 : decode cX0_drop 53 = .ok (.ishr, 1) := by decide +kernel
theorem dX0_drop_54 : decode cX0_drop 54 = .ok (.dup2, 1) := by decide +kernel
theorem dX0_drop_55 : decode cX0_drop 55 = .ok (.iaload, 1) := by decide +kernel
theorem dX0_drop_56 : decode cX0_drop 56 = .ok (.iconst 1, 1) := by decide +kernel
theorem dX0_drop_57 : decode cX0_drop 57 = .ok (.iload_n 3, 1) := by decide +kernel
theorem dX0_drop_58 : decode cX0_drop 58 = .ok (.ishl, 1) := by decide +kernel
theorem dX0_drop_59 : decode cX0_drop 59 = .ok (.iconst (-1), 1) := by decide +kernel
theorem dX0_drop_60 : decode cX0_drop 60 = .ok (.ixor, 1) := by decide +kernel
theorem dX0_drop_61 : decode cX0_drop 61 = .ok (.iand, 1) := by decide +kernel
theorem dX0_drop_62 : decode cX0_drop 62 = .ok (.iastore, 1) := by decide +kernel
theorem dX0_drop_63 : decode cX0_drop 63 = .ok (.aload_n 0, 1) := by decide +kernel
theorem dX0_drop_64 : decode cX0_drop 64 = .ok (.dup, 1) := by decide +kernel
theorem dX0_drop_65 : decode cX0_drop 65 = .ok (.getfield 36, 3) := by decide +kernel
theorem dX0_drop_68 : decode cX0_drop 68 = .ok (.iconst 1, 1) := by decide +kernel
theorem dX0_drop_69 : decode cX0_drop 69 = .ok (.isub, 1) := by decide +kernel
theorem dX0_drop_70 : decode cX0_drop 70 = .ok (.putfield 36, 3) := by decide +kernel
theorem dX0_drop_73 : decode cX0_drop 73 = .ok (.iconst 1, 1) := by decide +kernel
theorem dX0_drop_74 : decode cX0_drop 74 = .ok (.ireturn, 1) := by decide +kernel
abbrev cX0_clear : ByteArray := prog_1_method_9_code
def yX0_clear : MethodName := ⟨RX0, "clear", "()V"⟩
theorem dX0_clear_0 : decode cX0_clear 0 = .ok (.aload_n 0, 1) := by decide +kernel
theorem dX0_clear_1 : decode cX0_clear 1 = .ok (.iconst 0, 1) := by decide +kernel
theorem dX0_clear_2 : decode cX0_clear 2 = .ok (.putfield 28, 3) := by decide +kernel
theorem dX0_clear_5 : decode cX0_clear 5 = .ok (.iconst 0, 1) := by decide +kernel
theorem dX0_clear_6 : decode cX0_clear 6 = .ok (.istore_n 1, 1) := by decide +kernel
theorem dX0_clear_7 : decode cX0_clear 7 = .ok (.iload_n 1, 1) := by decide +kernel
theorem dX0_clear_8 : decode cX0_clear 8 = .ok (.bipush 16, 2) := by decide +kernel
theorem dX0_clear_10 : decode cX0_clear 10 = .ok (.if_icmp .ge 16, 3) := by decide +kernel
theorem dX0_clear_13 : decode cX0_clear 13 = .ok (.aload_n 0, 1) := by decide +kernel
theorem dX0_clear_14 : decode cX0_clear 14 = .ok (.getfield 13, 3) := by decide +kernel
theorem dX0_clear_17 : decode cX0_clear 17 = .ok (.iload_n 1, 1) := by decide +kernel
theorem dX0_clear_18 : decode cX0_clear 18 = .ok (.iconst 0, 1) := by decide +kernel
theorem dX0_clear_19 : decode cX0_clear 19 = .ok (.iastore, 1) := by decide +kernel
theorem dX0_clear_20 : decode cX0_clear 20 = .ok (.iinc 1 1, 3) := by decide +kernel
theorem dX0_clear_23 : decode cX0_clear 23 = .ok (.goto (-16), 3) := by decide +kernel
theorem dX0_clear_26 : decode cX0_clear 26 = .ok (.aload_n 0, 1) := by decide +kernel
theorem dX0_clear_27 : decode cX0_clear 27 = .ok (.iconst 0, 1) := by decide +kernel
theorem dX0_clear_28 : decode cX0_clear 28 = .ok (.putfield 36, 3) := by decide +kernel
theorem dX0_clear_31 : decode cX0_clear 31 = .ok (.return_, 1) := by decide +kernel
abbrev cX0_routes : ByteArray := prog_1_method_10_code
def yX0_routes : MethodName := ⟨RX0, "routes", "()I"⟩
theorem dX0_routes_0 : decode cX0_routes 0 = .ok (.aload_n 0, 1) := by decide +kernel
theorem dX0_routes_1 : decode cX0_routes 1 = .ok (.getfield 36, 3) := by decide +kernel
theorem dX0_routes_4 : decode cX0_routes 4 = .ok (.ireturn, 1) := by decide +kernel
abbrev cX0_exact : ByteArray := prog_1_method_11_code
def yX0_exact : MethodName := ⟨RX0, "exact", "(II)I"⟩
theorem dX0_exact_0 : decode cX0_exact 0 = .ok (.iload_n 1, 1) := by decide +kernel
theorem dX0_exact_1 : decode cX0_exact 1 = .ok (.iload_n 2, 1) := by decide +kernel
theorem dX0_exact_2 : decode cX0_exact 2 = .ok (.invokestatic 32, 3) := by decide +kernel
theorem dX0_exact_5 : decode cX0_exact 5 = .ok (.ifCond .eq 21, 3) := by decide +kernel
theorem dX0_exact_8 : decode cX0_exact 8 = .ok (.aload_n 0, 1) := by decide +kernel
theorem dX0_exact_9 : decode cX0_exact 9 = .ok (.iload_n 1, 1) := by decide +kernel
theorem dX0_exact_10 : decode cX0_exact 10 = .ok (.iload_n 2, 1) := by decide +kernel
theorem dX0_exact_11 : decode cX0_exact 11 = .ok (.invokevirtual 39, 3) := by decide +kernel
theorem dX0_exact_14 : decode cX0_exact 14 = .ok (.ifCond .eq 12, 3) := by decide +kernel
theorem dX0_exact_17 : decode cX0_exact 17 = .ok (.aload_n 0, 1) := by decide +kernel
theorem dX0_exact_18 : decode cX0_exact 18 = .ok (.iload_n 1, 1) := by decide +kernel
theorem dX0_exact_19 : decode cX0_exact 19 = .ok (.iload_n 2, 1) := by decide +kernel
theorem dX0_exact_20 : decode cX0_exact 20 = .ok (.invokevirtual 42, 3) := by decide +kernel
theorem dX0_exact_23 : decode cX0_exact 23 = .ok (.goto 4, 3) := by decide +kernel
theorem dX0_exact_26 : decode cX0_exact 26 = .ok (.iconst (-1), 1) := by decide +kernel
theorem dX0_exact_27 : decode cX0_exact 27 = .ok (.ireturn, 1) := by decide +kernel
abbrev cX0_goalOf : ByteArray := prog_1_method_6_code
def yX0_goalOf : MethodName := ⟨RX0, "goalOf", "(II)I"⟩
theorem dX0_goalOf_0 : decode cX0_goalOf 0 = .ok (.iload_n 1, 1) := by decide +kernel
theorem dX0_goalOf_1 : decode cX0_goalOf 1 = .ok (.iload_n 2, 1) := by decide +kernel
theorem dX0_goalOf_2 : decode cX0_goalOf 2 = .ok (.invokestatic 24, 3) := by decide +kernel
theorem dX0_goalOf_5 : decode cX0_goalOf 5 = .ok (.istore_n 3, 1) := by decide +kernel
theorem dX0_goalOf_6 : decode cX0_goalOf 6 = .ok (.iload_n 2, 1) := by decide +kernel
theorem dX0_goalOf_7 : decode cX0_goalOf 7 = .ok (.iconst 4, 1) := by decide +kernel
theorem dX0_goalOf_8 : decode cX0_goalOf 8 = .ok (.if_icmp .ge 12, 3) := by decide +kernel
theorem dX0_goalOf_11 : decode cX0_goalOf 11 = .ok (.aload_n 0, 1) := by decide +kernel
theorem dX0_goalOf_12 : decode cX0_goalOf 12 = .ok (.getfield 7, 3) := by decide +kernel
theorem dX0_goalOf_15 : decode cX0_goalOf 15 = .ok (.iload_n 3, 1) := by decide +kernel
theorem dX0_goalOf_16 : decode cX0_goalOf 16 = .ok (.baload, 1) := by decide +kernel
theorem dX0_goalOf_17 : decode cX0_goalOf 17 = .ok (.goto 16, 3) := by decide +kernel
theorem dX0_goalOf_20 : decode cX0_goalOf 20 = .ok (.aload_n 0, 1) := by decide +kernel
theorem dX0_goalOf_21 : decode cX0_goalOf 21 = .ok (.getfield 17, 3) := by decide +kernel
theorem dX0_goalOf_24 : decode cX0_goalOf 24 = .ok (.iload_n 1, 1) := by decide +kernel
theorem dX0_goalOf_25 : decode cX0_goalOf 25 = .ok (.iconst 4, 1) := by decide +kernel
theorem dX0_goalOf_26 : decode cX0_goalOf 26 = .ok (.ishr, 1) := by decide +kernel
theorem dX0_goalOf_27 : decode cX0_goalOf 27 = .ok (.bipush 31, 2) := by decide +kernel
theorem dX0_goalOf_29 : decode cX0_goalOf 29 = .ok (.imul, 1) := by decide +kernel
theorem dX0_goalOf_30 : decode cX0_goalOf 30 = .ok (.iload_n 3, 1) := by decide +kernel
theorem dX0_goalOf_31 : decode cX0_goalOf 31 = .ok (.iadd, 1) := by decide +kernel
theorem dX0_goalOf_32 : decode cX0_goalOf 32 = .ok (.baload, 1) := by decide +kernel
theorem dX0_goalOf_33 : decode cX0_goalOf 33 = .ok (.ireturn, 1) := by decide +kernel
abbrev cX0_goal : ByteArray := prog_1_method_18_code
def yX0_goal : MethodName := ⟨RX0, "goal", "(I)I"⟩
theorem dX0_goal_0 : decode cX0_goal 0 = .ok (.iload_n 1, 1) := by decide +kernel
theorem dX0_goal_1 : decode cX0_goal 1 = .ok (.invokestatic 20, 3) := by decide +kernel
theorem dX0_goal_4 : decode cX0_goal 4 = .ok (.ifCond .eq 13, 3) := by decide +kernel
theorem dX0_goal_7 : decode cX0_goal 7 = .ok (.aload_n 0, 1) := by decide +kernel
theorem dX0_goal_8 : decode cX0_goal 8 = .ok (.iload_n 1, 1) := by decide +kernel
theorem dX0_goal_9 : decode cX0_goal 9 = .ok (.bipush 9, 2) := by decide +kernel
theorem dX0_goal_11 : decode cX0_goal 11 = .ok (.invokevirtual 61, 3) := by decide +kernel
theorem dX0_goal_14 : decode cX0_goal 14 = .ok (.goto 4, 3) := by decide +kernel
theorem dX0_goal_17 : decode cX0_goal 17 = .ok (.iconst (-1), 1) := by decide +kernel
theorem dX0_goal_18 : decode cX0_goal 18 = .ok (.ireturn, 1) := by decide +kernel
abbrev cX0_goalBelow : ByteArray := prog_1_method_15_code
def yX0_goalBelow : MethodName := ⟨RX0, "goalBelow", "(II)I"⟩
theorem dX0_goalBelow_0 : decode cX0_goalBelow 0 = .ok (.aload_n 0, 1) := by decide +kernel
theorem dX0_goalBelow_1 : decode cX0_goalBelow 1 = .ok (.iload_n 1, 1) := by decide +kernel
theorem dX0_goalBelow_2 : decode cX0_goalBelow 2 = .ok (.iload_n 2, 1) := by decide +kernel
theorem dX0_goalBelow_3 : decode cX0_goalBelow 3 = .ok (.invokevirtual 45, 3) := by decide +kernel
theorem dX0_goalBelow_6 : decode cX0_goalBelow 6 = .ok (.istore_n 3, 1) := by decide +kernel
theorem dX0_goalBelow_7 : decode cX0_goalBelow 7 = .ok (.iload_n 3, 1) := by decide +kernel
theorem dX0_goalBelow_8 : decode cX0_goalBelow 8 = .ok (.ifCond .ge 7, 3) := by decide +kernel
theorem dX0_goalBelow_11 : decode cX0_goalBelow 11 = .ok (.iconst (-1), 1) := by decide +kernel
theorem dX0_goalBelow_12 : decode cX0_goalBelow 12 = .ok (.goto 9, 3) := by decide +kernel
theorem dX0_goalBelow_15 : decode cX0_goalBelow 15 = .ok (.aload_n 0, 1) := by decide +kernel
theorem dX0_goalBelow_16 : decode cX0_goalBelow 16 = .ok (.iload_n 1, 1) := by decide +kernel
theorem dX0_goalBelow_17 : decode cX0_goalBelow 17 = .ok (.iload_n 3, 1) := by decide +kernel
theorem dX0_goalBelow_18 : decode cX0_goalBelow 18 = .ok (.invokevirtual 42, 3) := by decide +kernel
theorem dX0_goalBelow_21 : decode cX0_goalBelow 21 = .ok (.ireturn, 1) := by decide +kernel
abbrev cX0_bitsBelow : ByteArray := prog_1_method_16_code
def yX0_bitsBelow : MethodName := ⟨RX0, "bitsBelow", "(II)I"⟩
theorem dX0_bitsBelow_0 : decode cX0_bitsBelow 0 = .ok (.iload_n 2, 1) := by decide +kernel
theorem dX0_bitsBelow_1 : decode cX0_bitsBelow 1 = .ok (.iconst 4, 1) := by decide +kernel
theorem dX0_bitsBelow_2 : decode cX0_bitsBelow 2 = .ok (.if_icmp .le 31, 3) := by decide +kernel
theorem dX0_bitsBelow_5 : decode cX0_bitsBelow 5 = .ok (.aload_n 0, 1) := by decide +kernel
theorem dX0_bitsBelow_6 : decode cX0_bitsBelow 6 = .ok (.getfield 13, 3) := by decide +kernel
theorem dX0_bitsBelow_9 : decode cX0_bitsBelow 9 = .ok (.iload_n 1, 1) := by decide +kernel
theorem dX0_bitsBelow_10 : decode cX0_bitsBelow 10 = .ok (.iconst 4, 1) := by decide +kernel
theorem dX0_bitsBelow_11 : decode cX0_bitsBelow 11 = .ok (.ishr, 1) := by decide +kernel
theorem dX0_bitsBelow_12 : decode cX0_bitsBelow 12 = .ok (.iaload, 1) := by decide +kernel
theorem dX0_bitsBelow_13 : decode cX0_bitsBelow 13 = .ok (.iload_n 1, 1) := by decide +kernel
theorem dX0_bitsBelow_14 : decode cX0_bitsBelow 14 = .ok (.invokestatic 48, 3) := by decide +kernel
theorem dX0_bitsBelow_17 : decode cX0_bitsBelow 17 = .ok (.iand, 1) := by decide +kernel
theorem dX0_bitsBelow_18 : decode cX0_bitsBelow 18 = .ok (.iconst 1, 1) := by decide +kernel
theorem dX0_bitsBelow_19 : decode cX0_bitsBelow 19 = .ok (.iconst 1, 1) := by decide +kernel
theorem dX0_bitsBelow_20 : decode cX0_bitsBelow 20 = .ok (.iload_n 2, 1) := by decide +kernel
theorem dX0_bitsBelow_21 : decode cX0_bitsBelow 21 = .ok (.iconst 4, 1) := by decide +kernel
theorem dX0_bitsBelow_22 : decode cX0_bitsBelow 22 = .ok (.isub, 1) := by decide +kernel
theorem dX0_bitsBelow_23 : decode cX0_bitsBelow 23 = .ok (.ishl, 1) := by decide +kernel
theorem dX0_bitsBelow_24 : decode cX0_bitsBelow 24 = .ok (.iconst 1, 1) := by decide +kernel
theorem dX0_bitsBelow_25 : decode cX0_bitsBelow 25 = .ok (.isub, 1) := by decide +kernel
theorem dX0_bitsBelow_26 : decode cX0_bitsBelow 26 = .ok (.ishl, 1) := by decide +kernel
theorem dX0_bitsBelow_27 : decode cX0_bitsBelow 27 = .ok (.iconst 1, 1) := by decide +kernel
theorem dX0_bitsBelow_28 : decode cX0_bitsBelow 28 = .ok (.isub, 1) := by decide +kernel
theorem dX0_bitsBelow_29 : decode cX0_bitsBelow 29 = .ok (.iand, 1) := by decide +kernel
theorem dX0_bitsBelow_30 : decode cX0_bitsBelow 30 = .ok (.goto 4, 3) := by decide +kernel
theorem dX0_bitsBelow_33 : decode cX0_bitsBelow 33 = .ok (.iconst 0, 1) := by decide +kernel
theorem dX0_bitsBelow_34 : decode cX0_bitsBelow 34 = .ok (.istore_n 3, 1) := by decide +kernel
theorem dX0_bitsBelow_35 : decode cX0_bitsBelow 35 = .ok (.iload_n 3, 1) := by decide +kernel
theorem dX0_bitsBelow_36 : decode cX0_bitsBelow 36 = .ok (.ifCond .eq 17, 3) := by decide +kernel
theorem dX0_bitsBelow_39 : decode cX0_bitsBelow 39 = .ok (.iload_n 3, 1) := by decide +kernel
theorem dX0_bitsBelow_40 : decode cX0_bitsBelow 40 = .ok (.invokestatic 52, 3) := by decide +kernel
theorem dX0_bitsBelow_43 : decode cX0_bitsBelow 43 = .ok (.istore 4, 2) := by decide +kernel
theorem dX0_bitsBelow_45 : decode cX0_bitsBelow 45 = .ok (.iconst 4, 1) := by decide +kernel
theorem dX0_bitsBelow_46 : decode cX0_bitsBelow 46 = .ok (.iload 4, 2) := by decide +kernel
theorem dX0_bitsBelow_48 : decode cX0_bitsBelow 48 = .ok (.invokestatic 55, 3) := by decide +kernel
theorem dX0_bitsBelow_51 : decode cX0_bitsBelow 51 = .ok (.iadd, 1) := by decide +kernel
theorem dX0_bitsBelow_52 : decode cX0_bitsBelow 52 = .ok (.ireturn, 1) := by decide +kernel
theorem dX0_bitsBelow_53 : decode cX0_bitsBelow 53 = .ok (.aload_n 0, 1) := by decide +kernel
theorem dX0_bitsBelow_54 : decode cX0_bitsBelow 54 = .ok (.getfield 28, 3) := by decide +kernel
theorem dX0_bitsBelow_57 : decode cX0_bitsBelow 57 = .ok (.iload_n 1, 1) := by decide +kernel
theorem dX0_bitsBelow_58 : decode cX0_bitsBelow 58 = .ok (.invokestatic 58, 3) := by decide +kernel
theorem dX0_bitsBelow_61 : decode cX0_bitsBelow 61 = .ok (.iand, 1) := by decide +kernel
theorem dX0_bitsBelow_62 : decode cX0_bitsBelow 62 = .ok (.istore 4, 2) := by decide +kernel
theorem dX0_bitsBelow_64 : decode cX0_bitsBelow 64 = .ok (.iload 4, 2) := by decide +kernel
theorem dX0_bitsBelow_66 : decode cX0_bitsBelow 66 = .ok (.iload_n 2, 1) := by decide +kernel
theorem dX0_bitsBelow_67 : decode cX0_bitsBelow 67 = .ok (.iconst 4, 1) := by decide +kernel
theorem dX0_bitsBelow_68 : decode cX0_bitsBelow 68 = .ok (.if_icmp .ge 15, 3) := by decide +kernel
theorem dX0_bitsBelow_71 : decode cX0_bitsBelow 71 = .ok (.iconst 1, 1) := by decide +kernel
theorem dX0_bitsBelow_72 : decode cX0_bitsBelow 72 = .ok (.iconst 1, 1) := by decide +kernel
theorem dX0_bitsBelow_73 : decode cX0_bitsBelow 73 = .ok (.iload_n 2, 1) := by decide +kernel
theorem dX0_bitsBelow_74 : decode cX0_bitsBelow 74 = .ok (.ishl, 1) := by decide +kernel
theorem dX0_bitsBelow_75 : decode cX0_bitsBelow 75 = .ok (.iconst 1, 1) := by decide +kernel
theorem dX0_bitsBelow_76 : decode cX0_bitsBelow 76 = .ok (.isub, 1) := by decide +kernel
theorem dX0_bitsBelow_77 : decode cX0_bitsBelow 77 = .ok (.ishl, 1) := by decide +kernel
theorem dX0_bitsBelow_78 : decode cX0_bitsBelow 78 = .ok (.iconst 1, 1) := by decide +kernel
theorem dX0_bitsBelow_79 : decode cX0_bitsBelow 79 = .ok (.isub, 1) := by decide +kernel
theorem dX0_bitsBelow_80 : decode cX0_bitsBelow 80 = .ok (.goto 6, 3) := by decide +kernel
theorem dX0_bitsBelow_83 : decode cX0_bitsBelow 83 = .ok (.sipush 32767, 3) := by decide +kernel
theorem dX0_bitsBelow_86 : decode cX0_bitsBelow 86 = .ok (.iand, 1) := by decide +kernel
theorem dX0_bitsBelow_87 : decode cX0_bitsBelow 87 = .ok (.istore 4, 2) := by decide +kernel
theorem dX0_bitsBelow_89 : decode cX0_bitsBelow 89 = .ok (.iload 4, 2) := by decide +kernel
theorem dX0_bitsBelow_91 : decode cX0_bitsBelow 91 = .ok (.ifCond .ne 5, 3) := by decide +kernel
theorem dX0_bitsBelow_94 : decode cX0_bitsBelow 94 = .ok (.iconst (-1), 1) := by decide +kernel
theorem dX0_bitsBelow_95 : decode cX0_bitsBelow 95 = .ok (.ireturn, 1) := by decide +kernel
theorem dX0_bitsBelow_96 : decode cX0_bitsBelow 96 = .ok (.iload 4, 2) := by decide +kernel
theorem dX0_bitsBelow_98 : decode cX0_bitsBelow 98 = .ok (.invokestatic 52, 3) := by decide +kernel
theorem dX0_bitsBelow_101 : decode cX0_bitsBelow 101 = .ok (.istore 5, 2) := by decide +kernel
theorem dX0_bitsBelow_103 : decode cX0_bitsBelow 103 = .ok (.iload 5, 2) := by decide +kernel
theorem dX0_bitsBelow_105 : decode cX0_bitsBelow 105 = .ok (.invokestatic 55, 3) := by decide +kernel
theorem dX0_bitsBelow_108 : decode cX0_bitsBelow 108 = .ok (.ireturn, 1) := by decide +kernel
abbrev cX0_lowPlaces : ByteArray := prog_1_method_13_code
def yX0_lowPlaces : MethodName := ⟨RX0, "lowPlaces", "(I)I"⟩
theorem dX0_lowPlaces_0 : decode cX0_lowPlaces 0 = .ok (.iload_n 0, 1) := by decide +kernel
theorem dX0_lowPlaces_1 : decode cX0_lowPlaces 1 = .ok (.bipush 15, 2) := by decide +kernel
theorem dX0_lowPlaces_3 : decode cX0_lowPlaces 3 = .ok (.iand, 1) := by decide +kernel
theorem dX0_lowPlaces_4 : decode cX0_lowPlaces 4 = .ok (.istore_n 1, 1) := by decide +kernel
theorem dX0_lowPlaces_5 : decode cX0_lowPlaces 5 = .ok (.iconst 1, 1) := by decide +kernel
theorem dX0_lowPlaces_6 : decode cX0_lowPlaces 6 = .ok (.iconst 2, 1) := by decide +kernel
theorem dX0_lowPlaces_7 : decode cX0_lowPlaces 7 = .ok (.iload_n 1, 1) := by decide +kernel
theorem dX0_lowPlaces_8 : decode cX0_lowPlaces 8 = .ok (.iconst 3, 1) := by decide +kernel
theorem dX0_lowPlaces_9 : decode cX0_lowPlaces 9 = .ok (.ishr, 1) := by decide +kernel
theorem dX0_lowPlaces_10 : decode cX0_lowPlaces 10 = .ok (.ishl, 1) := by decide +kernel
theorem dX0_lowPlaces_11 : decode cX0_lowPlaces 11 = .ok (.ior, 1) := by decide +kernel
theorem dX0_lowPlaces_12 : decode cX0_lowPlaces 12 = .ok (.bipush 8, 2) := by decide +kernel
theorem dX0_lowPlaces_14 : decode cX0_lowPlaces 14 = .ok (.iload_n 1, 1) := by decide +kernel
theorem dX0_lowPlaces_15 : decode cX0_lowPlaces 15 = .ok (.iconst 2, 1) := by decide +kernel
theorem dX0_lowPlaces_16 : decode cX0_lowPlaces 16 = .ok (.ishr, 1) := by decide +kernel
theorem dX0_lowPlaces_17 : decode cX0_lowPlaces 17 = .ok (.ishl, 1) := by decide +kernel
theorem dX0_lowPlaces_18 : decode cX0_lowPlaces 18 = .ok (.ior, 1) := by decide +kernel
theorem dX0_lowPlaces_19 : decode cX0_lowPlaces 19 = .ok (.sipush 128, 3) := by decide +kernel
theorem dX0_lowPlaces_22 : decode cX0_lowPlaces 22 = .ok (.iload_n 1, 1) := by decide +kernel
theorem dX0_lowPlaces_23 : decode cX0_lowPlaces 23 = .ok (.iconst 1, 1) := by decide +kernel
theorem dX0_lowPlaces_24 : decode cX0_lowPlaces 24 = .ok (.ishr, 1) := by decide +kernel
theorem dX0_lowPlaces_25 : decode cX0_lowPlaces 25 = .ok (.ishl, 1) := by decide +kernel
theorem dX0_lowPlaces_26 : decode cX0_lowPlaces 26 = .ok (.ior, 1) := by decide +kernel
theorem dX0_lowPlaces_27 : decode cX0_lowPlaces 27 = .ok (.iconst 1, 1) := by decide +kernel
theorem dX0_lowPlaces_28 : decode cX0_lowPlaces 28 = .ok (.bipush 15, 2) := by decide +kernel
theorem dX0_lowPlaces_30 : decode cX0_lowPlaces 30 = .ok (.iload_n 1, 1) := by decide +kernel
theorem dX0_lowPlaces_31 : decode cX0_lowPlaces 31 = .ok (.iadd, 1) := by decide +kernel
theorem dX0_lowPlaces_32 : decode cX0_lowPlaces 32 = .ok (.ishl, 1) := by decide +kernel
theorem dX0_lowPlaces_33 : decode cX0_lowPlaces 33 = .ok (.ior, 1) := by decide +kernel
theorem dX0_lowPlaces_34 : decode cX0_lowPlaces 34 = .ok (.ireturn, 1) := by decide +kernel
abbrev cX0_highest : ByteArray := prog_1_method_14_code
def yX0_highest : MethodName := ⟨RX0, "highest", "(I)I"⟩
theorem dX0_highest_0 : decode cX0_highest 0 = .ok (.bipush 30, 2) := by decide +kernel
theorem dX0_highest_2 : decode cX0_highest 2 = .ok (.istore_n 1, 1) := by decide +kernel
theorem dX0_highest_3 : decode cX0_highest 3 = .ok (.iload_n 1, 1) := by decide +kernel
theorem dX0_highest_4 : decode cX0_highest 4 = .ok (.ifCond .le 17, 3) := by decide +kernel
theorem dX0_highest_7 : decode cX0_highest 7 = .ok (.iload_n 0, 1) := by decide +kernel
theorem dX0_highest_8 : decode cX0_highest 8 = .ok (.iload_n 1, 1) := by decide +kernel
theorem dX0_highest_9 : decode cX0_highest 9 = .ok (.ishr, 1) := by decide +kernel
theorem dX0_highest_10 : decode cX0_highest 10 = .ok (.iconst 1, 1) := by decide +kernel
theorem dX0_highest_11 : decode cX0_highest 11 = .ok (.iand, 1) := by decide +kernel
theorem dX0_highest_12 : decode cX0_highest 12 = .ok (.ifCond .ne 9, 3) := by decide +kernel
theorem dX0_highest_15 : decode cX0_highest 15 = .ok (.iinc 1 (-1), 3) := by decide +kernel
theorem dX0_highest_18 : decode cX0_highest 18 = .ok (.goto (-15), 3) := by decide +kernel
theorem dX0_highest_21 : decode cX0_highest 21 = .ok (.iload_n 1, 1) := by decide +kernel
theorem dX0_highest_22 : decode cX0_highest 22 = .ok (.ireturn, 1) := by decide +kernel
abbrev cX0_bitsAt : ByteArray := prog_1_method_17_code
def yX0_bitsAt : MethodName := ⟨RX0, "bitsAt", "(I)I"⟩
theorem dX0_bitsAt_0 : decode cX0_bitsAt 0 = .ok (.iconst 0, 1) := by decide +kernel
theorem dX0_bitsAt_1 : decode cX0_bitsAt 1 = .ok (.istore_n 1, 1) := by decide +kernel
theorem dX0_bitsAt_2 : decode cX0_bitsAt 2 = .ok (.iconst 1, 1) := by decide +kernel
theorem dX0_bitsAt_3 : decode cX0_bitsAt 3 = .ok (.iload_n 1, 1) := by decide +kernel
theorem dX0_bitsAt_4 : decode cX0_bitsAt 4 = .ok (.iconst 1, 1) := by decide +kernel
theorem dX0_bitsAt_5 : decode cX0_bitsAt 5 = .ok (.iadd, 1) := by decide +kernel
theorem dX0_bitsAt_6 : decode cX0_bitsAt 6 = .ok (.ishl, 1) := by decide +kernel
theorem dX0_bitsAt_7 : decode cX0_bitsAt 7 = .ok (.iconst 1, 1) := by decide +kernel
theorem dX0_bitsAt_8 : decode cX0_bitsAt 8 = .ok (.isub, 1) := by decide +kernel
theorem dX0_bitsAt_9 : decode cX0_bitsAt 9 = .ok (.iload_n 0, 1) := by decide +kernel
theorem dX0_bitsAt_10 : decode cX0_bitsAt 10 = .ok (.if_icmp .gt 9, 3) := by decide +kernel
theorem dX0_bitsAt_13 : decode cX0_bitsAt 13 = .ok (.iinc 1 1, 3) := by decide +kernel
theorem dX0_bitsAt_16 : decode cX0_bitsAt 16 = .ok (.goto (-14), 3) := by decide +kernel
theorem dX0_bitsAt_19 : decode cX0_bitsAt 19 = .ok (.iload_n 1, 1) := by decide +kernel
theorem dX0_bitsAt_20 : decode cX0_bitsAt 20 = .ok (.ireturn, 1) := by decide +kernel
abbrev cX0_topPlaces : ByteArray := prog_1_method_12_code
def yX0_topPlaces : MethodName := ⟨RX0, "topPlaces", "(I)I"⟩
theorem dX0_topPlaces_0 : decode cX0_topPlaces 0 = .ok (.iconst 1, 1) := by decide +kernel
theorem dX0_topPlaces_1 : decode cX0_topPlaces 1 = .ok (.iconst 2, 1) := by decide +kernel
theorem dX0_topPlaces_2 : decode cX0_topPlaces 2 = .ok (.iload_n 0, 1) := by decide +kernel
theorem dX0_topPlaces_3 : decode cX0_topPlaces 3 = .ok (.bipush 7, 2) := by decide +kernel
theorem dX0_topPlaces_5 : decode cX0_topPlaces 5 = .ok (.ishr, 1) := by decide +kernel
theorem dX0_topPlaces_6 : decode cX0_topPlaces 6 = .ok (.ishl, 1) := by decide +kernel
theorem dX0_topPlaces_7 : decode cX0_topPlaces 7 = .ok (.ior, 1) := by decide +kernel
theorem dX0_topPlaces_8 : decode cX0_topPlaces 8 = .ok (.bipush 8, 2) := by decide +kernel
theorem dX0_topPlaces_10 : decode cX0_topPlaces 10 = .ok (.iload_n 0, 1) := by decide +kernel
theorem dX0_topPlaces_11 : decode cX0_topPlaces 11 = .ok (.bipush 6, 2) := by decide +kernel
theorem dX0_topPlaces_13 : decode cX0_topPlaces 13 = .ok (.ishr, 1) := by decide +kernel
theorem dX0_topPlaces_14 : decode cX0_topPlaces 14 = .ok (.ishl, 1) := by decide +kernel
theorem dX0_topPlaces_15 : decode cX0_topPlaces 15 = .ok (.ior, 1) := by decide +kernel
theorem dX0_topPlaces_16 : decode cX0_topPlaces 16 = .ok (.sipush 128, 3) := by decide +kernel
theorem dX0_topPlaces_19 : decode cX0_topPlaces 19 = .ok (.iload_n 0, 1) := by decide +kernel
theorem dX0_topPlaces_20 : decode cX0_topPlaces 20 = .ok (.iconst 5, 1) := by decide +kernel
theorem dX0_topPlaces_21 : decode cX0_topPlaces 21 = .ok (.ishr, 1) := by decide +kernel
theorem dX0_topPlaces_22 : decode cX0_topPlaces 22 = .ok (.ishl, 1) := by decide +kernel
theorem dX0_topPlaces_23 : decode cX0_topPlaces 23 = .ok (.ior, 1) := by decide +kernel
theorem dX0_topPlaces_24 : decode cX0_topPlaces 24 = .ok (.ireturn, 1) := by decide +kernel
abbrev cX0_bits : ByteArray := prog_1_method_19_code
def yX0_bits : MethodName := ⟨RX0, "bits", "(I)I"⟩
theorem dX0_bits_0 : decode cX0_bits 0 = .ok (.iload_n 1, 1) := by decide +kernel
theorem dX0_bits_1 : decode cX0_bits 1 = .ok (.invokestatic 20, 3) := by decide +kernel
theorem dX0_bits_4 : decode cX0_bits 4 = .ok (.ifCond .eq 13, 3) := by decide +kernel
theorem dX0_bits_7 : decode cX0_bits 7 = .ok (.aload_n 0, 1) := by decide +kernel
theorem dX0_bits_8 : decode cX0_bits 8 = .ok (.iload_n 1, 1) := by decide +kernel
theorem dX0_bits_9 : decode cX0_bits 9 = .ok (.bipush 9, 2) := by decide +kernel
theorem dX0_bits_11 : decode cX0_bits 11 = .ok (.invokevirtual 45, 3) := by decide +kernel
theorem dX0_bits_14 : decode cX0_bits 14 = .ok (.goto 4, 3) := by decide +kernel
theorem dX0_bits_17 : decode cX0_bits 17 = .ok (.iconst (-1), 1) := by decide +kernel
theorem dX0_bits_18 : decode cX0_bits 18 = .ok (.ireturn, 1) := by decide +kernel
abbrev cX0_matching : ByteArray := prog_1_method_21_code
def yX0_matching : MethodName := ⟨RX0, "matching", "(I)I"⟩
theorem dX0_matching_0 : decode cX0_matching 0 = .ok (.iload_n 1, 1) := by decide +kernel
theorem dX0_matching_1 : decode cX0_matching 1 = .ok (.invokestatic 20, 3) := by decide +kernel
theorem dX0_matching_4 : decode cX0_matching 4 = .ok (.ifCond .ne 5, 3) := by decide +kernel
theorem dX0_matching_7 : decode cX0_matching 7 = .ok (.iconst 0, 1) := by decide +kernel
theorem dX0_matching_8 : decode cX0_matching 8 = .ok (.ireturn, 1) := by decide +kernel
theorem dX0_matching_9 : decode cX0_matching 9 = .ok (.aload_n 0, 1) := by decide +kernel
theorem dX0_matching_10 : decode cX0_matching 10 = .ok (.getfield 28, 3) := by decide +kernel
theorem dX0_matching_13 : decode cX0_matching 13 = .ok (.iload_n 1, 1) := by decide +kernel
theorem dX0_matching_14 : decode cX0_matching 14 = .ok (.invokestatic 58, 3) := by decide +kernel
theorem dX0_matching_17 : decode cX0_matching 17 = .ok (.iand, 1) := by decide +kernel
theorem dX0_matching_18 : decode cX0_matching 18 = .ok (.istore_n 2, 1) := by decide +kernel
theorem dX0_matching_19 : decode cX0_matching 19 = .ok (.aload_n 0, 1) := by decide +kernel
theorem dX0_matching_20 : decode cX0_matching 20 = .ok (.getfield 13, 3) := by decide +kernel
theorem dX0_matching_23 : decode cX0_matching 23 = .ok (.iload_n 1, 1) := by decide +kernel
theorem dX0_matching_24 : decode cX0_matching 24 = .ok (.iconst 4, 1) := by decide +kernel
theorem dX0_matching_25 : decode cX0_matching 25 = .ok (.ishr, 1) := by decide +kernel
theorem dX0_matching_26 : decode cX0_matching 26 = .ok (.iaload, 1) := by decide +kernel
theorem dX0_matching_27 : decode cX0_matching 27 = .ok (.iload_n 1, 1) := by decide +kernel
theorem dX0_matching_28 : decode cX0_matching 28 = .ok (.invokestatic 48, 3) := by decide +kernel
theorem dX0_matching_31 : decode cX0_matching 31 = .ok (.iand, 1) := by decide +kernel
theorem dX0_matching_32 : decode cX0_matching 32 = .ok (.istore_n 3, 1) := by decide +kernel
theorem dX0_matching_33 : decode cX0_matching 33 = .ok (.iload_n 2, 1) := by decide +kernel
theorem dX0_matching_34 : decode cX0_matching 34 = .ok (.invokestatic 64, 3) := by decide +kernel
theorem dX0_matching_37 : decode cX0_matching 37 = .ok (.iload_n 3, 1) := by decide +kernel
theorem dX0_matching_38 : decode cX0_matching 38 = .ok (.invokestatic 64, 3) := by decide +kernel
theorem dX0_matching_41 : decode cX0_matching 41 = .ok (.iadd, 1) := by decide +kernel
theorem dX0_matching_42 : decode cX0_matching 42 = .ok (.ireturn, 1) := by decide +kernel
abbrev cX0_ones : ByteArray := prog_1_method_20_code
def yX0_ones : MethodName := ⟨RX0, "ones", "(I)I"⟩
theorem dX0_ones_0 : decode cX0_ones 0 = .ok (.iconst 0, 1) := by decide +kernel
theorem dX0_ones_1 : decode cX0_ones 1 = .ok (.istore_n 1, 1) := by decide +kernel
theorem dX0_ones_2 : decode cX0_ones 2 = .ok (.iconst 0, 1) := by decide +kernel
theorem dX0_ones_3 : decode cX0_ones 3 = .ok (.istore_n 2, 1) := by decide +kernel
theorem dX0_ones_4 : decode cX0_ones 4 = .ok (.iload_n 2, 1) := by decide +kernel
theorem dX0_ones_5 : decode cX0_ones 5 = .ok (.bipush 31, 2) := by decide +kernel
theorem dX0_ones_7 : decode cX0_ones 7 = .ok (.if_icmp .ge 17, 3) := by decide +kernel
theorem dX0_ones_10 : decode cX0_ones 10 = .ok (.iload_n 1, 1) := by decide +kernel
theorem dX0_ones_11 : decode cX0_ones 11 = .ok (.iload_n 0, 1) := by decide +kernel
theorem dX0_ones_12 : decode cX0_ones 12 = .ok (.iload_n 2, 1) := by decide +kernel
theorem dX0_ones_13 : decode cX0_ones 13 = .ok (.ishr, 1) := by decide +kernel
theorem dX0_ones_14 : decode cX0_ones 14 = .ok (.iconst 1, 1) := by decide +kernel
theorem dX0_ones_15 : decode cX0_ones 15 = .ok (.iand, 1) := by decide +kernel
theorem dX0_ones_16 : decode cX0_ones 16 = .ok (.iadd, 1) := by decide +kernel
theorem dX0_ones_17 : decode cX0_ones 17 = .ok (.istore_n 1, 1) := by decide +kernel
theorem dX0_ones_18 : decode cX0_ones 18 = .ok (.iinc 2 1, 3) := by decide +kernel
theorem dX0_ones_21 : decode cX0_ones 21 = .ok (.goto (-17), 3) := by decide +kernel
theorem dX0_ones_24 : decode cX0_ones 24 = .ok (.iload_n 1, 1) := by decide +kernel
theorem dX0_ones_25 : decode cX0_ones 25 = .ok (.ireturn, 1) := by decide +kernel
abbrev cX0_next : ByteArray := prog_1_method_22_code
def yX0_next : MethodName := ⟨RX0, "next", "(II)I"⟩
theorem dX0_next_0 : decode cX0_next 0 = .ok (.iload_n 1, 1) := by decide +kernel
theorem dX0_next_1 : decode cX0_next 1 = .ok (.ifCond .ge 7, 3) := by decide +kernel
theorem dX0_next_4 : decode cX0_next 4 = .ok (.iconst 0, 1) := by decide +kernel
theorem dX0_next_5 : decode cX0_next 5 = .ok (.goto 4, 3) := by decide +kernel
theorem dX0_next_8 : decode cX0_next 8 = .ok (.iload_n 1, 1) := by decide +kernel
theorem dX0_next_9 : decode cX0_next 9 = .ok (.istore_n 3, 1) := by decide +kernel
theorem dX0_next_10 : decode cX0_next 10 = .ok (.iload_n 3, 1) := by decide +kernel
theorem dX0_next_11 : decode cX0_next 11 = .ok (.sipush 256, 3) := by decide +kernel
theorem dX0_next_14 : decode cX0_next 14 = .ok (.if_icmp .ge 26, 3) := by decide +kernel
theorem dX0_next_17 : decode cX0_next 17 = .ok (.iload_n 2, 1) := by decide +kernel
theorem dX0_next_18 : decode cX0_next 18 = .ok (.ifCond .lt 16, 3) := by decide +kernel
theorem dX0_next_21 : decode cX0_next 21 = .ok (.aload_n 0, 1) := by decide +kernel
theorem dX0_next_22 : decode cX0_next 22 = .ok (.iload_n 3, 1) := by decide +kernel
theorem dX0_next_23 : decode cX0_next 23 = .ok (.bipush 9, 2) := by decide +kernel
theorem dX0_next_25 : decode cX0_next 25 = .ok (.invokevirtual 61, 3) := by decide +kernel
theorem dX0_next_28 : decode cX0_next 28 = .ok (.iload_n 2, 1) := by decide +kernel
theorem dX0_next_29 : decode cX0_next 29 = .ok (.if_icmp .ne 5, 3) := by decide +kernel
theorem dX0_next_32 : decode cX0_next 32 = .ok (.iload_n 3, 1) := by decide +kernel
theorem dX0_next_33 : decode cX0_next 33 = .ok (.ireturn, 1) := by decide +kernel
theorem dX0_next_34 : decode cX0_next 34 = .ok (.iinc 3 1, 3) := by decide +kernel
theorem dX0_next_37 : decode cX0_next 37 = .ok (.goto (-27), 3) := by decide +kernel
theorem dX0_next_40 : decode cX0_next 40 = .ok (.iconst (-1), 1) := by decide +kernel
theorem dX0_next_41 : decode cX0_next 41 = .ok (.ireturn, 1) := by decide +kernel
abbrev cX0_load : ByteArray := prog_1_method_23_code
def yX0_load : MethodName := ⟨RX0, "load", "(II)I"⟩
theorem dX0_load_0 : decode cX0_load 0 = .ok (.iload_n 1, 1) := by decide +kernel
theorem dX0_load_1 : decode cX0_load 1 = .ok (.iload_n 2, 1) := by decide +kernel
theorem dX0_load_2 : decode cX0_load 2 = .ok (.invokestatic 32, 3) := by decide +kernel
theorem dX0_load_5 : decode cX0_load 5 = .ok (.ifCond .eq 12, 3) := by decide +kernel
theorem dX0_load_8 : decode cX0_load 8 = .ok (.aload_n 0, 1) := by decide +kernel
theorem dX0_load_9 : decode cX0_load 9 = .ok (.iload_n 1, 1) := by decide +kernel
theorem dX0_load_10 : decode cX0_load 10 = .ok (.iload_n 2, 1) := by decide +kernel
theorem dX0_load_11 : decode cX0_load 11 = .ok (.invokevirtual 39, 3) := by decide +kernel
theorem dX0_load_14 : decode cX0_load 14 = .ok (.ifCond .ne 5, 3) := by decide +kernel
theorem dX0_load_17 : decode cX0_load 17 = .ok (.iconst (-1), 1) := by decide +kernel
theorem dX0_load_18 : decode cX0_load 18 = .ok (.ireturn, 1) := by decide +kernel
theorem dX0_load_19 : decode cX0_load 19 = .ok (.iload_n 1, 1) := by decide +kernel
theorem dX0_load_20 : decode cX0_load 20 = .ok (.sipush 255, 3) := by decide +kernel
theorem dX0_load_23 : decode cX0_load 23 = .ok (.iload_n 2, 1) := by decide +kernel
theorem dX0_load_24 : decode cX0_load 24 = .ok (.ishr, 1) := by decide +kernel
theorem dX0_load_25 : decode cX0_load 25 = .ok (.ior, 1) := by decide +kernel
theorem dX0_load_26 : decode cX0_load 26 = .ok (.istore_n 3, 1) := by decide +kernel
theorem dX0_load_27 : decode cX0_load 27 = .ok (.iconst 0, 1) := by decide +kernel
theorem dX0_load_28 : decode cX0_load 28 = .ok (.istore 4, 2) := by decide +kernel
theorem dX0_load_30 : decode cX0_load 30 = .ok (.iload_n 1, 1) := by decide +kernel
theorem dX0_load_31 : decode cX0_load 31 = .ok (.istore 5, 2) := by decide +kernel
theorem dX0_load_33 : decode cX0_load 33 = .ok (.iload 5, 2) := by decide +kernel
theorem dX0_load_35 : decode cX0_load 35 = .ok (.iload_n 3, 1) := by decide +kernel
theorem dX0_load_36 : decode cX0_load 36 = .ok (.if_icmp .gt 31, 3) := by decide +kernel
theorem dX0_load_39 : decode cX0_load 39 = .ok (.iload 4, 2) := by decide +kernel
theorem dX0_load_41 : decode cX0_load 41 = .ok (.aload_n 0, 1) := by decide +kernel
theorem dX0_load_42 : decode cX0_load 42 = .ok (.iload 5, 2) := by decide +kernel
theorem dX0_load_44 : decode cX0_load 44 = .ok (.bipush 9, 2) := by decide +kernel
theorem dX0_load_46 : decode cX0_load 46 = .ok (.invokevirtual 45, 3) := by decide +kernel
theorem dX0_load_49 : decode cX0_load 49 = .ok (.iload_n 2, 1) := by decide +kernel
theorem dX0_load_50 : decode cX0_load 50 = .ok (.if_icmp .ne 7, 3) := by decide +kernel
theorem dX0_load_53 : decode cX0_load 53 = .ok (.iconst 1, 1) := by decide +kernel
theorem dX0_load_54 : decode cX0_load 54 = .ok (.goto 4, 3) := by decide +kernel
theorem dX0_load_57 : decode cX0_load 57 = .ok (.iconst 0, 1) := by decide +kernel
theorem dX0_load_58 : decode cX0_load 58 = .ok (.iadd, 1) := by decide +kernel
theorem dX0_load_59 : decode cX0_load 59 = .ok (.istore 4, 2) := by decide +kernel
theorem dX0_load_61 : decode cX0_load 61 = .ok (.iinc 5 1, 3) := by decide +kernel
theorem dX0_load_64 : decode cX0_load 64 = .ok (.goto (-31), 3) := by decide +kernel
theorem dX0_load_67 : decode cX0_load 67 = .ok (.iload 4, 2) := by decide +kernel
theorem dX0_load_69 : decode cX0_load 69 = .ok (.ireturn, 1) := by decide +kernel
abbrev cX0_sent : ByteArray := prog_1_method_24_code
def yX0_sent : MethodName := ⟨RX0, "sent", "(I)I"⟩
theorem dX0_sent_0 : decode cX0_sent 0 = .ok (.iconst 0, 1) := by decide +kernel
theorem dX0_sent_1 : decode cX0_sent 1 = .ok (.istore_n 2, 1) := by decide +kernel
theorem dX0_sent_2 : decode cX0_sent 2 = .ok (.iconst 0, 1) := by decide +kernel
theorem dX0_sent_3 : decode cX0_sent 3 = .ok (.istore_n 3, 1) := by decide +kernel
theorem dX0_sent_4 : decode cX0_sent 4 = .ok (.iload_n 3, 1) := by decide +kernel
theorem dX0_sent_5 : decode cX0_sent 5 = .ok (.sipush 256, 3) := by decide +kernel
theorem dX0_sent_8 : decode cX0_sent 8 = .ok (.if_icmp .ge 28, 3) := by decide +kernel
theorem dX0_sent_11 : decode cX0_sent 11 = .ok (.iload_n 2, 1) := by decide +kernel
theorem dX0_sent_12 : decode cX0_sent 12 = .ok (.aload_n 0, 1) := by decide +kernel
theorem dX0_sent_13 : decode cX0_sent 13 = .ok (.iload_n 3, 1) := by decide +kernel
theorem dX0_sent_14 : decode cX0_sent 14 = .ok (.bipush 9, 2) := by decide +kernel
theorem dX0_sent_16 : decode cX0_sent 16 = .ok (.invokevirtual 61, 3) := by decide +kernel
theorem dX0_sent_19 : decode cX0_sent 19 = .ok (.iload_n 1, 1) := by decide +kernel
theorem dX0_sent_20 : decode cX0_sent 20 = .ok (.if_icmp .ne 7, 3) := by decide +kernel
theorem dX0_sent_23 : decode cX0_sent 23 = .ok (.iconst 1, 1) := by decide +kernel
theorem dX0_sent_24 : decode cX0_sent 24 = .ok (.goto 4, 3) := by decide +kernel
theorem dX0_sent_27 : decode cX0_sent 27 = .ok (.iconst 0, 1) := by decide +kernel
theorem dX0_sent_28 : decode cX0_sent 28 = .ok (.iadd, 1) := by decide +kernel
theorem dX0_sent_29 : decode cX0_sent 29 = .ok (.istore_n 2, 1) := by decide +kernel
theorem dX0_sent_30 : decode cX0_sent 30 = .ok (.iinc 3 1, 3) := by decide +kernel
theorem dX0_sent_33 : decode cX0_sent 33 = .ok (.goto (-29), 3) := by decide +kernel
theorem dX0_sent_36 : decode cX0_sent 36 = .ok (.iload_n 2, 1) := by decide +kernel
theorem dX0_sent_37 : decode cX0_sent 37 = .ok (.ireturn, 1) := by decide +kernel
abbrev cX0_idle : ByteArray := prog_1_method_25_code
def yX0_idle : MethodName := ⟨RX0, "idle", "(II)Z"⟩
theorem dX0_idle_0 : decode cX0_idle 0 = .ok (.iload_n 1, 1) := by decide +kernel
theorem dX0_idle_1 : decode cX0_idle 1 = .ok (.iload_n 2, 1) := by decide +kernel
theorem dX0_idle_2 : decode cX0_idle 2 = .ok (.invokestatic 32, 3) := by decide +kernel
theorem dX0_idle_5 : decode cX0_idle 5 = .ok (.ifCond .eq 12, 3) := by decide +kernel
theorem dX0_idle_8 : decode cX0_idle 8 = .ok (.aload_n 0, 1) := by decide +kernel
theorem dX0_idle_9 : decode cX0_idle 9 = .ok (.iload_n 1, 1) := by decide +kernel
theorem dX0_idle_10 : decode cX0_idle 10 = .ok (.iload_n 2, 1) := by decide +kernel
theorem dX0_idle_11 : decode cX0_idle 11 = .ok (.invokevirtual 39, 3) := by decide +kernel
theorem dX0_idle_14 : decode cX0_idle 14 = .ok (.ifCond .ne 5, 3) := by decide +kernel
theorem dX0_idle_17 : decode cX0_idle 17 = .ok (.iconst 0, 1) := by decide +kernel
theorem dX0_idle_18 : decode cX0_idle 18 = .ok (.ireturn, 1) := by decide +kernel
theorem dX0_idle_19 : decode cX0_idle 19 = .ok (.aload_n 0, 1) := by decide +kernel
theorem dX0_idle_20 : decode cX0_idle 20 = .ok (.iload_n 1, 1) := by decide +kernel
theorem dX0_idle_21 : decode cX0_idle 21 = .ok (.iload_n 2, 1) := by decide +kernel
theorem dX0_idle_22 : decode cX0_idle 22 = .ok (.invokevirtual 61, 3) := by decide +kernel
theorem dX0_idle_25 : decode cX0_idle 25 = .ok (.istore_n 3, 1) := by decide +kernel
theorem dX0_idle_26 : decode cX0_idle 26 = .ok (.iload_n 3, 1) := by decide +kernel
theorem dX0_idle_27 : decode cX0_idle 27 = .ok (.aload_n 0, 1) := by decide +kernel
theorem dX0_idle_28 : decode cX0_idle 28 = .ok (.iload_n 1, 1) := by decide +kernel
theorem dX0_idle_29 : decode cX0_idle 29 = .ok (.iload_n 2, 1) := by decide +kernel
theorem dX0_idle_30 : decode cX0_idle 30 = .ok (.invokevirtual 42, 3) := by decide +kernel
theorem dX0_idle_33 : decode cX0_idle 33 = .ok (.if_icmp .eq 12, 3) := by decide +kernel
theorem dX0_idle_36 : decode cX0_idle 36 = .ok (.aload_n 0, 1) := by decide +kernel
theorem dX0_idle_37 : decode cX0_idle 37 = .ok (.iload_n 1, 1) := by decide +kernel
theorem dX0_idle_38 : decode cX0_idle 38 = .ok (.iload_n 2, 1) := by decide +kernel
theorem dX0_idle_39 : decode cX0_idle 39 = .ok (.invokevirtual 67, 3) := by decide +kernel
theorem dX0_idle_42 : decode cX0_idle 42 = .ok (.ifCond .ne 7, 3) := by decide +kernel
theorem dX0_idle_45 : decode cX0_idle 45 = .ok (.iconst 1, 1) := by decide +kernel
theorem dX0_idle_46 : decode cX0_idle 46 = .ok (.goto 4, 3) := by decide +kernel
theorem dX0_idle_49 : decode cX0_idle 49 = .ok (.iconst 0, 1) := by decide +kernel
theorem dX0_idle_50 : decode cX0_idle 50 = .ok (.ireturn, 1) := by decide +kernel
abbrev cX0_spans : ByteArray := prog_1_method_27_code
def yX0_spans : MethodName := ⟨RX0, "spans", "()I"⟩
theorem dX0_spans_0 : decode cX0_spans 0 = .ok (.iconst 0, 1) := by decide +kernel
theorem dX0_spans_1 : decode cX0_spans 1 = .ok (.istore_n 1, 1) := by decide +kernel
theorem dX0_spans_2 : decode cX0_spans 2 = .ok (.iconst 0, 1) := by decide +kernel
theorem dX0_spans_3 : decode cX0_spans 3 = .ok (.istore_n 2, 1) := by decide +kernel
theorem dX0_spans_4 : decode cX0_spans 4 = .ok (.iload_n 2, 1) := by decide +kernel
theorem dX0_spans_5 : decode cX0_spans 5 = .ok (.sipush 256, 3) := by decide +kernel
theorem dX0_spans_8 : decode cX0_spans 8 = .ok (.if_icmp .ge 25, 3) := by decide +kernel
theorem dX0_spans_11 : decode cX0_spans 11 = .ok (.iload_n 1, 1) := by decide +kernel
theorem dX0_spans_12 : decode cX0_spans 12 = .ok (.aload_n 0, 1) := by decide +kernel
theorem dX0_spans_13 : decode cX0_spans 13 = .ok (.iload_n 2, 1) := by decide +kernel
theorem dX0_spans_14 : decode cX0_spans 14 = .ok (.invokevirtual 70, 3) := by decide +kernel
theorem dX0_spans_17 : decode cX0_spans 17 = .ok (.ifCond .eq 7, 3) := by decide +kernel
theorem dX0_spans_20 : decode cX0_spans 20 = .ok (.iconst 1, 1) := by decide +kernel
theorem dX0_spans_21 : decode cX0_spans 21 = .ok (.goto 4, 3) := by decide +kernel
theorem dX0_spans_24 : decode cX0_spans 24 = .ok (.iconst 0, 1) := by decide +kernel
theorem dX0_spans_25 : decode cX0_spans 25 = .ok (.iadd, 1) := by decide +kernel
theorem dX0_spans_26 : decode cX0_spans 26 = .ok (.istore_n 1, 1) := by decide +kernel
theorem dX0_spans_27 : decode cX0_spans 27 = .ok (.iinc 2 1, 3) := by decide +kernel
theorem dX0_spans_30 : decode cX0_spans 30 = .ok (.goto (-26), 3) := by decide +kernel
theorem dX0_spans_33 : decode cX0_spans 33 = .ok (.iload_n 1, 1) := by decide +kernel
theorem dX0_spans_34 : decode cX0_spans 34 = .ok (.ireturn, 1) := by decide +kernel
abbrev cX0_startsSpan : ByteArray := prog_1_method_26_code
def yX0_startsSpan : MethodName := ⟨RX0, "startsSpan", "(I)Z"⟩
theorem dX0_startsSpan_0 : decode cX0_startsSpan 0 = .ok (.iload_n 1, 1) := by decide +kernel
theorem dX0_startsSpan_1 : decode cX0_startsSpan 1 = .ok (.ifCond .ne 5, 3) := by decide +kernel
theorem dX0_startsSpan_4 : decode cX0_startsSpan 4 = .ok (.iconst 1, 1) := by decide +kernel
theorem dX0_startsSpan_5 : decode cX0_startsSpan 5 = .ok (.ireturn, 1) := by decide +kernel
theorem dX0_startsSpan_6 : decode cX0_startsSpan 6 = .ok (.aload_n 0, 1) := by decide +kernel
theorem dX0_startsSpan_7 : decode cX0_startsSpan 7 = .ok (.iload_n 1, 1) := by decide +kernel
theorem dX0_startsSpan_8 : decode cX0_startsSpan 8 = .ok (.bipush 9, 2) := by decide +kernel
theorem dX0_startsSpan_10 : decode cX0_startsSpan 10 = .ok (.invokevirtual 61, 3) := by decide +kernel
theorem dX0_startsSpan_13 : decode cX0_startsSpan 13 = .ok (.istore_n 2, 1) := by decide +kernel
theorem dX0_startsSpan_14 : decode cX0_startsSpan 14 = .ok (.iload_n 2, 1) := by decide +kernel
theorem dX0_startsSpan_15 : decode cX0_startsSpan 15 = .ok (.aload_n 0, 1) := by decide +kernel
theorem dX0_startsSpan_16 : decode cX0_startsSpan 16 = .ok (.iload_n 1, 1) := by decide +kernel
theorem dX0_startsSpan_17 : decode cX0_startsSpan 17 = .ok (.iconst 1, 1) := by decide +kernel
theorem dX0_startsSpan_18 : decode cX0_startsSpan 18 = .ok (.isub, 1) := by decide +kernel
theorem dX0_startsSpan_19 : decode cX0_startsSpan 19 = .ok (.bipush 9, 2) := by decide +kernel
theorem dX0_startsSpan_21 : decode cX0_startsSpan 21 = .ok (.invokevirtual 61, 3) := by decide +kernel
theorem dX0_startsSpan_24 : decode cX0_startsSpan 24 = .ok (.if_icmp .eq 7, 3) := by decide +kernel
theorem dX0_startsSpan_27 : decode cX0_startsSpan 27 = .ok (.iconst 1, 1) := by decide +kernel
theorem dX0_startsSpan_28 : decode cX0_startsSpan 28 = .ok (.goto 4, 3) := by decide +kernel
theorem dX0_startsSpan_31 : decode cX0_startsSpan 31 = .ok (.iconst 0, 1) := by decide +kernel
theorem dX0_startsSpan_32 : decode cX0_startsSpan 32 = .ok (.ireturn, 1) := by decide +kernel
abbrev cX0_spanStart : ByteArray := prog_1_method_28_code
def yX0_spanStart : MethodName := ⟨RX0, "spanStart", "(I)I"⟩
theorem dX0_spanStart_0 : decode cX0_spanStart 0 = .ok (.iconst 0, 1) := by decide +kernel
theorem dX0_spanStart_1 : decode cX0_spanStart 1 = .ok (.istore_n 2, 1) := by decide +kernel
theorem dX0_spanStart_2 : decode cX0_spanStart 2 = .ok (.iconst 0, 1) := by decide +kernel
theorem dX0_spanStart_3 : decode cX0_spanStart 3 = .ok (.istore_n 3, 1) := by decide +kernel
theorem dX0_spanStart_4 : decode cX0_spanStart 4 = .ok (.iload_n 3, 1) := by decide +kernel
theorem dX0_spanStart_5 : decode cX0_spanStart 5 = .ok (.sipush 256, 3) := by decide +kernel
theorem dX0_spanStart_8 : decode cX0_spanStart 8 = .ok (.if_icmp .ge 27, 3) := by decide +kernel
theorem dX0_spanStart_11 : decode cX0_spanStart 11 = .ok (.aload_n 0, 1) := by decide +kernel
theorem dX0_spanStart_12 : decode cX0_spanStart 12 = .ok (.iload_n 3, 1) := by decide +kernel
theorem dX0_spanStart_13 : decode cX0_spanStart 13 = .ok (.invokevirtual 70, 3) := by decide +kernel
theorem dX0_spanStart_16 : decode cX0_spanStart 16 = .ok (.ifCond .eq 13, 3) := by decide +kernel
theorem dX0_spanStart_19 : decode cX0_spanStart 19 = .ok (.iload_n 2, 1) := by decide +kernel
theorem dX0_spanStart_20 : decode cX0_spanStart 20 = .ok (.iload_n 1, 1) := by decide +kernel
theorem dX0_spanStart_21 : decode cX0_spanStart 21 = .ok (.if_icmp .ne 5, 3) := by decide +kernel
theorem dX0_spanStart_24 : decode cX0_spanStart 24 = .ok (.iload_n 3, 1) := by decide +kernel
theorem dX0_spanStart_25 : decode cX0_spanStart 25 = .ok (.ireturn, 1) := by decide +kernel
theorem dX0_spanStart_26 : decode cX0_spanStart 26 = .ok (.iinc 2 1, 3) := by decide +kernel
theorem dX0_spanStart_29 : decode cX0_spanStart 29 = .ok (.iinc 3 1, 3) := by decide +kernel
theorem dX0_spanStart_32 : decode cX0_spanStart 32 = .ok (.goto (-28), 3) := by decide +kernel
theorem dX0_spanStart_35 : decode cX0_spanStart 35 = .ok (.iconst (-1), 1) := by decide +kernel
theorem dX0_spanStart_36 : decode cX0_spanStart 36 = .ok (.ireturn, 1) := by decide +kernel
theorem q11 : (Jvm.Cond.initialized "RouteTable") ∈ lw_all := lw_g (lw_at lw_m0 1 rfl) rfl
theorem q14 : (Jvm.Cond.instantiable "RouteTable" (5 : Nat)) ∈ lw_all := lw_g (lw_at lw_m0 4 rfl) rfl
theorem q16 : (Jvm.Cond.instanceMethod ({ cls := "RouteTable", name := "<init>", desc := "()V" } : Jvm.MethodName)) ∈ lw_all := lw_g (lw_at lw_m0 6 rfl) rfl
theorem q17 : (Jvm.Cond.code ({ cls := "RouteTable", name := "<init>", desc := "()V" } : Jvm.MethodName) prog_1_method_1_code (1 : Nat) (Option.none : Option Jvm.ClassFile.FieldType)) ∈ lw_all := lw_g (lw_at lw_m0 7 rfl) rfl
theorem q18 : (Jvm.Cond.methodLink "RouteTable" (1 : Nat) ({ cls := "java/lang/Object", name := "<init>", desc := "()V" } : Jvm.MethodName)) ∈ lw_all := lw_g (lw_at lw_m0 8 rfl) rfl
theorem q21 : (Jvm.Cond.fieldLink "RouteTable" (28 : Nat) "RouteTable" "topBits" "I") ∈ lw_all := lw_g (lw_at lw_m0 11 rfl) rfl
theorem q22 : (Jvm.Cond.fieldLink "RouteTable" (7 : Nat) "RouteTable" "topGoals" "[B") ∈ lw_all := lw_g (lw_at lw_m0 12 rfl) rfl
theorem q23 : (Jvm.Cond.fieldLink "RouteTable" (13 : Nat) "RouteTable" "lowBits" "[I") ∈ lw_all := lw_g (lw_at lw_m0 13 rfl) rfl
theorem q24 : (Jvm.Cond.fieldLink "RouteTable" (17 : Nat) "RouteTable" "lowGoals" "[B") ∈ lw_all := lw_g (lw_at lw_m0 14 rfl) rfl
theorem q25 : (Jvm.Cond.fieldLink "RouteTable" (36 : Nat) "RouteTable" "count" "I") ∈ lw_all := lw_g (lw_at lw_m0 15 rfl) rfl
theorem q26 : (Jvm.Cond.lays "RouteTable" "RouteTable" "topBits" "I") ∈ lw_all := lw_g (lw_at lw_m0 16 rfl) rfl
theorem q27 : (Jvm.Cond.soleField "RouteTable" "topBits") ∈ lw_all := lw_g (lw_at lw_m0 17 rfl) rfl
theorem q28 : (Jvm.Cond.laysFinal "RouteTable" "RouteTable" "topGoals" "[B") ∈ lw_all := lw_g (lw_at lw_m0 18 rfl) rfl
theorem q29 : (Jvm.Cond.soleField "RouteTable" "topGoals") ∈ lw_all := lw_g (lw_at lw_m0 19 rfl) rfl
theorem q30 : (Jvm.Cond.laysFinal "RouteTable" "RouteTable" "lowBits" "[I") ∈ lw_all := lw_g (lw_at lw_m0 20 rfl) rfl
theorem q31 : (Jvm.Cond.soleField "RouteTable" "lowBits") ∈ lw_all := lw_g (lw_at lw_m0 21 rfl) rfl
theorem q32 : (Jvm.Cond.laysFinal "RouteTable" "RouteTable" "lowGoals" "[B") ∈ lw_all := lw_g (lw_at lw_m0 22 rfl) rfl
theorem q33 : (Jvm.Cond.soleField "RouteTable" "lowGoals") ∈ lw_all := lw_g (lw_at lw_m0 23 rfl) rfl
theorem q34 : (Jvm.Cond.lays "RouteTable" "RouteTable" "count" "I") ∈ lw_all := lw_g (lw_at lw_m0 24 rfl) rfl
theorem q35 : (Jvm.Cond.soleField "RouteTable" "count") ∈ lw_all := lw_g (lw_at lw_m0 25 rfl) rfl
theorem q36 : (Jvm.Cond.superclass "RouteTable" "java/lang/Object") ∈ lw_all := lw_g (lw_at lw_m0 26 rfl) rfl
theorem q40 : (Jvm.Cond.instanceMethod ({ cls := "RouteTable", name := "put", desc := "(III)Z" } : Jvm.MethodName)) ∈ lw_all := lw_g (lw_at lw_m0 30 rfl) rfl
theorem q41 : (Jvm.Cond.selects "RouteTable" ({ cls := "RouteTable", name := "put", desc := "(III)Z" } : Jvm.MethodName) ({ cls := "RouteTable", name := "put", desc := "(III)Z" } : Jvm.MethodName)) ∈ lw_all := lw_g (lw_at lw_m0 31 rfl) rfl
theorem q42 : (Jvm.Cond.code ({ cls := "RouteTable", name := "put", desc := "(III)Z" } : Jvm.MethodName) prog_1_method_7_code (6 : Nat) (Option.some Jvm.ClassFile.FieldType.boolean)) ∈ lw_all := lw_g (lw_at lw_m0 32 rfl) rfl
theorem q43 : (Jvm.Cond.methodLink "RouteTable" (32 : Nat) ({ cls := "RouteTable", name := "isBeginning", desc := "(II)Z" } : Jvm.MethodName)) ∈ lw_all := lw_g (lw_at lw_m0 33 rfl) rfl
theorem q44 : (Jvm.Cond.static ({ cls := "RouteTable", name := "isBeginning", desc := "(II)Z" } : Jvm.MethodName)) ∈ lw_all := lw_g (lw_at lw_m0 34 rfl) rfl
theorem q45 : (Jvm.Cond.code ({ cls := "RouteTable", name := "isBeginning", desc := "(II)Z" } : Jvm.MethodName) prog_1_method_3_code (2 : Nat) (Option.some Jvm.ClassFile.FieldType.boolean)) ∈ lw_all := lw_g (lw_at lw_m0 35 rfl) rfl
theorem q46 : (Jvm.Cond.methodLink "RouteTable" (20 : Nat) ({ cls := "RouteTable", name := "isAddress", desc := "(I)Z" } : Jvm.MethodName)) ∈ lw_all := lw_g (lw_at lw_m0 36 rfl) rfl
theorem q47 : (Jvm.Cond.static ({ cls := "RouteTable", name := "isAddress", desc := "(I)Z" } : Jvm.MethodName)) ∈ lw_all := lw_g (lw_at lw_m0 37 rfl) rfl
theorem q48 : (Jvm.Cond.code ({ cls := "RouteTable", name := "isAddress", desc := "(I)Z" } : Jvm.MethodName) prog_1_method_2_code (1 : Nat) (Option.some Jvm.ClassFile.FieldType.boolean)) ∈ lw_all := lw_g (lw_at lw_m0 38 rfl) rfl
theorem q49 : (Jvm.Cond.methodLink "RouteTable" (39 : Nat) ({ cls := "RouteTable", name := "has", desc := "(II)Z" } : Jvm.MethodName)) ∈ lw_all := lw_g (lw_at lw_m0 39 rfl) rfl
theorem q50 : (Jvm.Cond.privateMethod ({ cls := "RouteTable", name := "has", desc := "(II)Z" } : Jvm.MethodName)) ∈ lw_tbl := lw_at lw_m0 40 rfl
theorem q51 : (Jvm.Cond.instanceMethod ({ cls := "RouteTable", name := "has", desc := "(II)Z" } : Jvm.MethodName)) ∈ lw_all := lw_g (lw_at lw_m0 41 rfl) rfl
theorem q52 : (Jvm.Cond.code ({ cls := "RouteTable", name := "has", desc := "(II)Z" } : Jvm.MethodName) prog_1_method_5_code (5 : Nat) (Option.some Jvm.ClassFile.FieldType.boolean)) ∈ lw_all := lw_g (lw_at lw_m0 42 rfl) rfl
theorem q53 : (Jvm.Cond.methodLink "RouteTable" (24 : Nat) ({ cls := "RouteTable", name := "place", desc := "(II)I" } : Jvm.MethodName)) ∈ lw_all := lw_g (lw_at lw_m0 43 rfl) rfl
theorem q54 : (Jvm.Cond.static ({ cls := "RouteTable", name := "place", desc := "(II)I" } : Jvm.MethodName)) ∈ lw_all := lw_g (lw_at lw_m0 44 rfl) rfl
theorem q55 : (Jvm.Cond.code ({ cls := "RouteTable", name := "place", desc := "(II)I" } : Jvm.MethodName) prog_1_method_4_code (3 : Nat) (Option.some Jvm.ClassFile.FieldType.int)) ∈ lw_all := lw_g (lw_at lw_m0 45 rfl) rfl
theorem q57 : (Jvm.Cond.instanceMethod ({ cls := "RouteTable", name := "drop", desc := "(II)Z" } : Jvm.MethodName)) ∈ lw_all := lw_g (lw_at lw_m0 47 rfl) rfl
theorem q58 : (Jvm.Cond.selects "RouteTable" ({ cls := "RouteTable", name := "drop", desc := "(II)Z" } : Jvm.MethodName) ({ cls := "RouteTable", name := "drop", desc := "(II)Z" } : Jvm.MethodName)) ∈ lw_all := lw_g (lw_at lw_m0 48 rfl) rfl
theorem q59 : (Jvm.Cond.code ({ cls := "RouteTable", name := "drop", desc := "(II)Z" } : Jvm.MethodName) prog_1_method_8_code (4 : Nat) (Option.some Jvm.ClassFile.FieldType.boolean)) ∈ lw_all := lw_g (lw_at lw_m0 49 rfl) rfl
theorem q61 : (Jvm.Cond.instanceMethod ({ cls := "RouteTable", name := "clear", desc := "()V" } : Jvm.MethodName)) ∈ lw_all := lw_g (lw_at lw_m0 51 rfl) rfl
theorem q62 : (Jvm.Cond.selects "RouteTable" ({ cls := "RouteTable", name := "clear", desc := "()V" } : Jvm.MethodName) ({ cls := "RouteTable", name := "clear", desc := "()V" } : Jvm.MethodName)) ∈ lw_all := lw_g (lw_at lw_m0 52 rfl) rfl
theorem q63 : (Jvm.Cond.code ({ cls := "RouteTable", name := "clear", desc := "()V" } : Jvm.MethodName) prog_1_method_9_code (2 : Nat) (Option.none : Option Jvm.ClassFile.FieldType)) ∈ lw_all := lw_g (lw_at lw_m0 53 rfl) rfl
theorem q65 : (Jvm.Cond.instanceMethod ({ cls := "RouteTable", name := "routes", desc := "()I" } : Jvm.MethodName)) ∈ lw_all := lw_g (lw_at lw_m0 55 rfl) rfl
theorem q66 : (Jvm.Cond.selects "RouteTable" ({ cls := "RouteTable", name := "routes", desc := "()I" } : Jvm.MethodName) ({ cls := "RouteTable", name := "routes", desc := "()I" } : Jvm.MethodName)) ∈ lw_all := lw_g (lw_at lw_m0 56 rfl) rfl
theorem q67 : (Jvm.Cond.code ({ cls := "RouteTable", name := "routes", desc := "()I" } : Jvm.MethodName) prog_1_method_10_code (1 : Nat) (Option.some Jvm.ClassFile.FieldType.int)) ∈ lw_all := lw_g (lw_at lw_m0 57 rfl) rfl
theorem q69 : (Jvm.Cond.instanceMethod ({ cls := "RouteTable", name := "exact", desc := "(II)I" } : Jvm.MethodName)) ∈ lw_all := lw_g (lw_at lw_m0 59 rfl) rfl
theorem q70 : (Jvm.Cond.selects "RouteTable" ({ cls := "RouteTable", name := "exact", desc := "(II)I" } : Jvm.MethodName) ({ cls := "RouteTable", name := "exact", desc := "(II)I" } : Jvm.MethodName)) ∈ lw_all := lw_g (lw_at lw_m0 60 rfl) rfl
theorem q71 : (Jvm.Cond.code ({ cls := "RouteTable", name := "exact", desc := "(II)I" } : Jvm.MethodName) prog_1_method_11_code (3 : Nat) (Option.some Jvm.ClassFile.FieldType.int)) ∈ lw_all := lw_g (lw_at lw_m0 61 rfl) rfl
theorem q72 : (Jvm.Cond.methodLink "RouteTable" (42 : Nat) ({ cls := "RouteTable", name := "goalOf", desc := "(II)I" } : Jvm.MethodName)) ∈ lw_all := lw_g (lw_at lw_m0 62 rfl) rfl
theorem q73 : (Jvm.Cond.privateMethod ({ cls := "RouteTable", name := "goalOf", desc := "(II)I" } : Jvm.MethodName)) ∈ lw_tbl := lw_at lw_m0 63 rfl
theorem q74 : (Jvm.Cond.instanceMethod ({ cls := "RouteTable", name := "goalOf", desc := "(II)I" } : Jvm.MethodName)) ∈ lw_all := lw_g (lw_at lw_m0 64 rfl) rfl
theorem q75 : (Jvm.Cond.code ({ cls := "RouteTable", name := "goalOf", desc := "(II)I" } : Jvm.MethodName) prog_1_method_6_code (4 : Nat) (Option.some Jvm.ClassFile.FieldType.int)) ∈ lw_all := lw_g (lw_at lw_m0 65 rfl) rfl
theorem q77 : (Jvm.Cond.instanceMethod ({ cls := "RouteTable", name := "goal", desc := "(I)I" } : Jvm.MethodName)) ∈ lw_all := lw_g (lw_at lw_m0 67 rfl) rfl
theorem q78 : (Jvm.Cond.selects "RouteTable" ({ cls := "RouteTable", name := "goal", desc := "(I)I" } : Jvm.MethodName) ({ cls := "RouteTable", name := "goal", desc := "(I)I" } : Jvm.MethodName)) ∈ lw_all := lw_g (lw_at lw_m0 68 rfl) rfl
theorem q79 : (Jvm.Cond.code ({ cls := "RouteTable", name := "goal", desc := "(I)I" } : Jvm.MethodName) prog_1_method_18_code (2 : Nat) (Option.some Jvm.ClassFile.FieldType.int)) ∈ lw_all := lw_g (lw_at lw_m0 69 rfl) rfl
theorem q80 : (Jvm.Cond.methodLink "RouteTable" (61 : Nat) ({ cls := "RouteTable", name := "goalBelow", desc := "(II)I" } : Jvm.MethodName)) ∈ lw_all := lw_g (lw_at lw_m0 70 rfl) rfl
theorem q81 : (Jvm.Cond.privateMethod ({ cls := "RouteTable", name := "goalBelow", desc := "(II)I" } : Jvm.MethodName)) ∈ lw_tbl := lw_at lw_m0 71 rfl
theorem q82 : (Jvm.Cond.instanceMethod ({ cls := "RouteTable", name := "goalBelow", desc := "(II)I" } : Jvm.MethodName)) ∈ lw_all := lw_g (lw_at lw_m0 72 rfl) rfl
theorem q83 : (Jvm.Cond.code ({ cls := "RouteTable", name := "goalBelow", desc := "(II)I" } : Jvm.MethodName) prog_1_method_15_code (4 : Nat) (Option.some Jvm.ClassFile.FieldType.int)) ∈ lw_all := lw_g (lw_at lw_m0 73 rfl) rfl
theorem q84 : (Jvm.Cond.methodLink "RouteTable" (45 : Nat) ({ cls := "RouteTable", name := "bitsBelow", desc := "(II)I" } : Jvm.MethodName)) ∈ lw_all := lw_g (lw_at lw_m0 74 rfl) rfl
theorem q85 : (Jvm.Cond.privateMethod ({ cls := "RouteTable", name := "bitsBelow", desc := "(II)I" } : Jvm.MethodName)) ∈ lw_tbl := lw_at lw_m0 75 rfl
theorem q86 : (Jvm.Cond.instanceMethod ({ cls := "RouteTable", name := "bitsBelow", desc := "(II)I" } : Jvm.MethodName)) ∈ lw_all := lw_g (lw_at lw_m0 76 rfl) rfl
theorem q87 : (Jvm.Cond.code ({ cls := "RouteTable", name := "bitsBelow", desc := "(II)I" } : Jvm.MethodName) prog_1_method_16_code (6 : Nat) (Option.some Jvm.ClassFile.FieldType.int)) ∈ lw_all := lw_g (lw_at lw_m0 77 rfl) rfl
theorem q88 : (Jvm.Cond.methodLink "RouteTable" (48 : Nat) ({ cls := "RouteTable", name := "lowPlaces", desc := "(I)I" } : Jvm.MethodName)) ∈ lw_all := lw_g (lw_at lw_m0 78 rfl) rfl
theorem q89 : (Jvm.Cond.static ({ cls := "RouteTable", name := "lowPlaces", desc := "(I)I" } : Jvm.MethodName)) ∈ lw_all := lw_g (lw_at lw_m0 79 rfl) rfl
theorem q90 : (Jvm.Cond.code ({ cls := "RouteTable", name := "lowPlaces", desc := "(I)I" } : Jvm.MethodName) prog_1_method_13_code (2 : Nat) (Option.some Jvm.ClassFile.FieldType.int)) ∈ lw_all := lw_g (lw_at lw_m0 80 rfl) rfl
theorem q91 : (Jvm.Cond.methodLink "RouteTable" (52 : Nat) ({ cls := "RouteTable", name := "highest", desc := "(I)I" } : Jvm.MethodName)) ∈ lw_all := lw_g (lw_at lw_m0 81 rfl) rfl
theorem q92 : (Jvm.Cond.static ({ cls := "RouteTable", name := "highest", desc := "(I)I" } : Jvm.MethodName)) ∈ lw_all := lw_g (lw_at lw_m0 82 rfl) rfl
theorem q93 : (Jvm.Cond.code ({ cls := "RouteTable", name := "highest", desc := "(I)I" } : Jvm.MethodName) prog_1_method_14_code (2 : Nat) (Option.some Jvm.ClassFile.FieldType.int)) ∈ lw_all := lw_g (lw_at lw_m0 83 rfl) rfl
theorem q94 : (Jvm.Cond.methodLink "RouteTable" (55 : Nat) ({ cls := "RouteTable", name := "bitsAt", desc := "(I)I" } : Jvm.MethodName)) ∈ lw_all := lw_g (lw_at lw_m0 84 rfl) rfl
theorem q95 : (Jvm.Cond.static ({ cls := "RouteTable", name := "bitsAt", desc := "(I)I" } : Jvm.MethodName)) ∈ lw_all := lw_g (lw_at lw_m0 85 rfl) rfl
theorem q96 : (Jvm.Cond.code ({ cls := "RouteTable", name := "bitsAt", desc := "(I)I" } : Jvm.MethodName) prog_1_method_17_code (2 : Nat) (Option.some Jvm.ClassFile.FieldType.int)) ∈ lw_all := lw_g (lw_at lw_m0 86 rfl) rfl
theorem q97 : (Jvm.Cond.methodLink "RouteTable" (58 : Nat) ({ cls := "RouteTable", name := "topPlaces", desc := "(I)I" } : Jvm.MethodName)) ∈ lw_all := lw_g (lw_at lw_m0 87 rfl) rfl
theorem q98 : (Jvm.Cond.static ({ cls := "RouteTable", name := "topPlaces", desc := "(I)I" } : Jvm.MethodName)) ∈ lw_all := lw_g (lw_at lw_m0 88 rfl) rfl
theorem q99 : (Jvm.Cond.code ({ cls := "RouteTable", name := "topPlaces", desc := "(I)I" } : Jvm.MethodName) prog_1_method_12_code (1 : Nat) (Option.some Jvm.ClassFile.FieldType.int)) ∈ lw_all := lw_g (lw_at lw_m0 89 rfl) rfl
theorem q101 : (Jvm.Cond.instanceMethod ({ cls := "RouteTable", name := "bits", desc := "(I)I" } : Jvm.MethodName)) ∈ lw_all := lw_g (lw_at lw_m0 91 rfl) rfl
theorem q102 : (Jvm.Cond.selects "RouteTable" ({ cls := "RouteTable", name := "bits", desc := "(I)I" } : Jvm.MethodName) ({ cls := "RouteTable", name := "bits", desc := "(I)I" } : Jvm.MethodName)) ∈ lw_all := lw_g (lw_at lw_m0 92 rfl) rfl
theorem q103 : (Jvm.Cond.code ({ cls := "RouteTable", name := "bits", desc := "(I)I" } : Jvm.MethodName) prog_1_method_19_code (2 : Nat) (Option.some Jvm.ClassFile.FieldType.int)) ∈ lw_all := lw_g (lw_at lw_m0 93 rfl) rfl
theorem q105 : (Jvm.Cond.instanceMethod ({ cls := "RouteTable", name := "matching", desc := "(I)I" } : Jvm.MethodName)) ∈ lw_all := lw_g (lw_at lw_m0 95 rfl) rfl
theorem q106 : (Jvm.Cond.selects "RouteTable" ({ cls := "RouteTable", name := "matching", desc := "(I)I" } : Jvm.MethodName) ({ cls := "RouteTable", name := "matching", desc := "(I)I" } : Jvm.MethodName)) ∈ lw_all := lw_g (lw_at lw_m0 96 rfl) rfl
theorem q107 : (Jvm.Cond.code ({ cls := "RouteTable", name := "matching", desc := "(I)I" } : Jvm.MethodName) prog_1_method_21_code (4 : Nat) (Option.some Jvm.ClassFile.FieldType.int)) ∈ lw_all := lw_g (lw_at lw_m0 97 rfl) rfl
theorem q108 : (Jvm.Cond.methodLink "RouteTable" (64 : Nat) ({ cls := "RouteTable", name := "ones", desc := "(I)I" } : Jvm.MethodName)) ∈ lw_all := lw_g (lw_at lw_m0 98 rfl) rfl
theorem q109 : (Jvm.Cond.static ({ cls := "RouteTable", name := "ones", desc := "(I)I" } : Jvm.MethodName)) ∈ lw_all := lw_g (lw_at lw_m0 99 rfl) rfl
theorem q110 : (Jvm.Cond.code ({ cls := "RouteTable", name := "ones", desc := "(I)I" } : Jvm.MethodName) prog_1_method_20_code (3 : Nat) (Option.some Jvm.ClassFile.FieldType.int)) ∈ lw_all := lw_g (lw_at lw_m0 100 rfl) rfl
theorem q112 : (Jvm.Cond.instanceMethod ({ cls := "RouteTable", name := "next", desc := "(II)I" } : Jvm.MethodName)) ∈ lw_all := lw_g (lw_at lw_m0 102 rfl) rfl
theorem q113 : (Jvm.Cond.selects "RouteTable" ({ cls := "RouteTable", name := "next", desc := "(II)I" } : Jvm.MethodName) ({ cls := "RouteTable", name := "next", desc := "(II)I" } : Jvm.MethodName)) ∈ lw_all := lw_g (lw_at lw_m0 103 rfl) rfl
theorem q114 : (Jvm.Cond.code ({ cls := "RouteTable", name := "next", desc := "(II)I" } : Jvm.MethodName) prog_1_method_22_code (4 : Nat) (Option.some Jvm.ClassFile.FieldType.int)) ∈ lw_all := lw_g (lw_at lw_m0 104 rfl) rfl
theorem q116 : (Jvm.Cond.instanceMethod ({ cls := "RouteTable", name := "load", desc := "(II)I" } : Jvm.MethodName)) ∈ lw_all := lw_g (lw_at lw_m0 106 rfl) rfl
theorem q117 : (Jvm.Cond.selects "RouteTable" ({ cls := "RouteTable", name := "load", desc := "(II)I" } : Jvm.MethodName) ({ cls := "RouteTable", name := "load", desc := "(II)I" } : Jvm.MethodName)) ∈ lw_all := lw_g (lw_at lw_m0 107 rfl) rfl
theorem q118 : (Jvm.Cond.code ({ cls := "RouteTable", name := "load", desc := "(II)I" } : Jvm.MethodName) prog_1_method_23_code (6 : Nat) (Option.some Jvm.ClassFile.FieldType.int)) ∈ lw_all := lw_g (lw_at lw_m0 108 rfl) rfl
theorem q120 : (Jvm.Cond.instanceMethod ({ cls := "RouteTable", name := "sent", desc := "(I)I" } : Jvm.MethodName)) ∈ lw_all := lw_g (lw_at lw_m0 110 rfl) rfl
theorem q121 : (Jvm.Cond.selects "RouteTable" ({ cls := "RouteTable", name := "sent", desc := "(I)I" } : Jvm.MethodName) ({ cls := "RouteTable", name := "sent", desc := "(I)I" } : Jvm.MethodName)) ∈ lw_all := lw_g (lw_at lw_m0 111 rfl) rfl
theorem q122 : (Jvm.Cond.code ({ cls := "RouteTable", name := "sent", desc := "(I)I" } : Jvm.MethodName) prog_1_method_24_code (4 : Nat) (Option.some Jvm.ClassFile.FieldType.int)) ∈ lw_all := lw_g (lw_at lw_m0 112 rfl) rfl
theorem q124 : (Jvm.Cond.instanceMethod ({ cls := "RouteTable", name := "idle", desc := "(II)Z" } : Jvm.MethodName)) ∈ lw_all := lw_g (lw_at lw_m0 114 rfl) rfl
theorem q125 : (Jvm.Cond.selects "RouteTable" ({ cls := "RouteTable", name := "idle", desc := "(II)Z" } : Jvm.MethodName) ({ cls := "RouteTable", name := "idle", desc := "(II)Z" } : Jvm.MethodName)) ∈ lw_all := lw_g (lw_at lw_m0 115 rfl) rfl
theorem q126 : (Jvm.Cond.code ({ cls := "RouteTable", name := "idle", desc := "(II)Z" } : Jvm.MethodName) prog_1_method_25_code (4 : Nat) (Option.some Jvm.ClassFile.FieldType.boolean)) ∈ lw_all := lw_g (lw_at lw_m0 116 rfl) rfl
theorem q127 : (Jvm.Cond.methodLink "RouteTable" (67 : Nat) ({ cls := "RouteTable", name := "load", desc := "(II)I" } : Jvm.MethodName)) ∈ lw_all := lw_g (lw_at lw_m0 117 rfl) rfl
theorem q129 : (Jvm.Cond.instanceMethod ({ cls := "RouteTable", name := "spans", desc := "()I" } : Jvm.MethodName)) ∈ lw_all := lw_g (lw_at lw_m0 119 rfl) rfl
theorem q130 : (Jvm.Cond.selects "RouteTable" ({ cls := "RouteTable", name := "spans", desc := "()I" } : Jvm.MethodName) ({ cls := "RouteTable", name := "spans", desc := "()I" } : Jvm.MethodName)) ∈ lw_all := lw_g (lw_at lw_m0 120 rfl) rfl
theorem q131 : (Jvm.Cond.code ({ cls := "RouteTable", name := "spans", desc := "()I" } : Jvm.MethodName) prog_1_method_27_code (3 : Nat) (Option.some Jvm.ClassFile.FieldType.int)) ∈ lw_all := lw_g (lw_at lw_m0 121 rfl) rfl
theorem q132 : (Jvm.Cond.methodLink "RouteTable" (70 : Nat) ({ cls := "RouteTable", name := "startsSpan", desc := "(I)Z" } : Jvm.MethodName)) ∈ lw_all := lw_g (lw_at lw_m0 122 rfl) rfl
theorem q133 : (Jvm.Cond.privateMethod ({ cls := "RouteTable", name := "startsSpan", desc := "(I)Z" } : Jvm.MethodName)) ∈ lw_tbl := lw_at lw_m0 123 rfl
theorem q134 : (Jvm.Cond.instanceMethod ({ cls := "RouteTable", name := "startsSpan", desc := "(I)Z" } : Jvm.MethodName)) ∈ lw_all := lw_g (lw_at lw_m0 124 rfl) rfl
theorem q135 : (Jvm.Cond.code ({ cls := "RouteTable", name := "startsSpan", desc := "(I)Z" } : Jvm.MethodName) prog_1_method_26_code (3 : Nat) (Option.some Jvm.ClassFile.FieldType.boolean)) ∈ lw_all := lw_g (lw_at lw_m0 125 rfl) rfl
theorem q137 : (Jvm.Cond.instanceMethod ({ cls := "RouteTable", name := "spanStart", desc := "(I)I" } : Jvm.MethodName)) ∈ lw_all := lw_g (lw_at lw_m0 127 rfl) rfl
theorem q138 : (Jvm.Cond.selects "RouteTable" ({ cls := "RouteTable", name := "spanStart", desc := "(I)I" } : Jvm.MethodName) ({ cls := "RouteTable", name := "spanStart", desc := "(I)I" } : Jvm.MethodName)) ∈ lw_all := lw_g (lw_at lw_m0 128 rfl) rfl
theorem q139 : (Jvm.Cond.code ({ cls := "RouteTable", name := "spanStart", desc := "(I)I" } : Jvm.MethodName) prog_1_method_28_code (4 : Nat) (Option.some Jvm.ClassFile.FieldType.int)) ∈ lw_all := lw_g (lw_at lw_m0 129 rfl) rfl
theorem in_X0 : ∀ w ∈ wsX00, w ∈ lw_all := lw_in wsX00 [26, 28, 30, 32, 34] (by decide +kernel) (by decide +kernel)

/-! java/lang/Object -/
def RJ0 : String := "java/lang/Object"
abbrev cJ0_init : ByteArray := object_method_1_code
def yJ0_init : MethodName := ⟨RJ0, "<init>", "()V"⟩
theorem dJ0_init_0 : decode cJ0_init 0 = .ok (.return_, 1) := by decide +kernel
theorem q19 : (Jvm.Cond.instanceMethod ({ cls := "java/lang/Object", name := "<init>", desc := "()V" } : Jvm.MethodName)) ∈ lw_all := lw_g (lw_at lw_m0 9 rfl) rfl
theorem q20 : (Jvm.Cond.code ({ cls := "java/lang/Object", name := "<init>", desc := "()V" } : Jvm.MethodName) object_method_1_code (1 : Nat) (Option.none : Option Jvm.ClassFile.FieldType)) ∈ lw_all := lw_g (lw_at lw_m0 10 rfl) rfl

theorem q37 : (Jvm.Cond.arrayClass Jvm.ClassFile.FieldType.byte) ∈ lw_all := lw_g (lw_at lw_m0 27 rfl) rfl
theorem q38 : (Jvm.Cond.arrayClass Jvm.ClassFile.FieldType.int) ∈ lw_all := lw_g (lw_at lw_m0 28 rfl) rfl
end
section
set_option maxRecDepth 100000
/-! RouteTableModel -/
def RX1 : String := "RouteTableModel"
def TX1 : u_T := fun k => match k with
  | 0 => ("RouteTableModel", "goals", "[I", false)
  | _ => ("RouteTableModel", "before", "[I", false)
def tyX1 : Nat → FieldType := fun k => match k with
  | 0 => .array .int
  | _ => .array .int
abbrev wsX10 : List Cond := u_ws RX1 TX1 2
theorem nmX1 : ∀ a, a < 2 → ∀ b, b < 2 → a ≠ b → (TX1 a).2.1 ≠ (TX1 b).2.1 := by decide +kernel
theorem tyX1_ok : ∀ k, k < 2 → parseFieldDescriptor (TX1 k).2.2.1 = some (tyX1 k) := by decide +kernel
abbrev cX1_init : ByteArray := prog_3_method_1_code
def yX1_init : MethodName := ⟨RX1, "<init>", "()V"⟩
theorem dX1_init_0 : decode cX1_init 0 = .ok (.aload_n 0, 1) := by decide +kernel
theorem dX1_init_1 : decode cX1_init 1 = .ok (.invokespecial 1, 3) := by decide +kernel
theorem dX1_init_4 : decode cX1_init 4 = .ok (.aload_n 0, 1) := by decide +kernel
theorem dX1_init_5 : decode cX1_init 5 = .ok (.sipush 511, 3) := by decide +kernel
theorem dX1_init_8 : decode cX1_init 8 = .ok (.newarray .int, 2) := by decide +kernel
theorem dX1_init_10 : decode cX1_init 10 = .ok (.putfield 7, 3) := by decide +kernel
theorem dX1_init_13 : decode cX1_init 13 = .ok (.aload_n 0, 1) := by decide +kernel
theorem dX1_init_14 : decode cX1_init 14 = .ok (.sipush 256, 3) := by decide +kernel
theorem dX1_init_17 : decode cX1_init 17 = .ok (.newarray .int, 2) := by decide +kernel
theorem dX1_init_19 : decode cX1_init 19 = .ok (.putfield 13, 3) := by decide +kernel
theorem dX1_init_22 : decode cX1_init 22 = .ok (.aload_n 0, 1) := by decide +kernel
theorem dX1_init_23 : decode cX1_init 23 = .ok (.invokevirtual 16, 3) := by decide +kernel
theorem dX1_init_26 : decode cX1_init 26 = .ok (.return_, 1) := by decide +kernel
abbrev cX1_clear : ByteArray := prog_3_method_7_code
def yX1_clear : MethodName := ⟨RX1, "clear", "()V"⟩
theorem dX1_clear_0 : decode cX1_clear 0 = .ok (.iconst 0, 1) := by decide +kernel
theorem dX1_clear_1 : decode cX1_clear 1 = .ok (.istore_n 1, 1) := by decide +kernel
theorem dX1_clear_2 : decode cX1_clear 2 = .ok (.iload_n 1, 1) := by decide +kernel
theorem dX1_clear_3 : decode cX1_clear 3 = .ok (.sipush 511, 3) := by decide +kernel
theorem dX1_clear_6 : decode cX1_clear 6 = .ok (.if_icmp .ge 16, 3) := by decide +kernel
theorem dX1_clear_9 : decode cX1_clear 9 = .ok (.aload_n 0, 1) := by decide +kernel
theorem dX1_clear_10 : decode cX1_clear 10 = .ok (.getfield 7, 3) := by decide +kernel
theorem dX1_clear_13 : decode cX1_clear 13 = .ok (.iload_n 1, 1) := by decide +kernel
theorem dX1_clear_14 : decode cX1_clear 14 = .ok (.iconst (-1), 1) := by decide +kernel
theorem dX1_clear_15 : decode cX1_clear 15 = .ok (.iastore, 1) := by decide +kernel
theorem dX1_clear_16 : decode cX1_clear 16 = .ok (.iinc 1 1, 3) := by decide +kernel
theorem dX1_clear_19 : decode cX1_clear 19 = .ok (.goto (-17), 3) := by decide +kernel
theorem dX1_clear_22 : decode cX1_clear 22 = .ok (.return_, 1) := by decide +kernel
abbrev cX1_put : ByteArray := prog_3_method_4_code
def yX1_put : MethodName := ⟨RX1, "put", "(III)Z"⟩
theorem dX1_put_0 : decode cX1_put 0 = .ok (.aload_n 0, 1) := by decide +kernel
theorem dX1_put_1 : decode cX1_put 1 = .ok (.iload_n 1, 1) := by decide +kernel
theorem dX1_put_2 : decode cX1_put 2 = .ok (.iload_n 2, 1) := by decide +kernel
theorem dX1_put_3 : decode cX1_put 3 = .ok (.invokevirtual 19, 3) := by decide +kernel
theorem dX1_put_6 : decode cX1_put 6 = .ok (.ifCond .eq 13, 3) := by decide +kernel
theorem dX1_put_9 : decode cX1_put 9 = .ok (.iload_n 3, 1) := by decide +kernel
theorem dX1_put_10 : decode cX1_put 10 = .ok (.ifCond .lt 9, 3) := by decide +kernel
theorem dX1_put_13 : decode cX1_put 13 = .ok (.iload_n 3, 1) := by decide +kernel
theorem dX1_put_14 : decode cX1_put 14 = .ok (.bipush 99, 2) := by decide +kernel
theorem dX1_put_16 : decode cX1_put 16 = .ok (.if_icmp .le 5, 3) := by decide +kernel
theorem dX1_put_19 : decode cX1_put 19 = .ok (.iconst 0, 1) := by decide +kernel
theorem dX1_put_20 : decode cX1_put 20 = .ok (.ireturn, 1) := by decide +kernel
theorem dX1_put_21 : decode cX1_put 21 = .ok (.aload_n 0, 1) := by decide +kernel
theorem dX1_put_22 : decode cX1_put 22 = .ok (.iload_n 1, 1) := by decide +kernel
theorem dX1_put_23 : decode cX1_put 23 = .ok (.iload_n 2, 1) := by decide +kernel
theorem dX1_put_24 : decode cX1_put 24 = .ok (.invokevirtual 23, 3) := by decide +kernel
theorem dX1_put_27 : decode cX1_put 27 = .ok (.istore 4, 2) := by decide +kernel
theorem dX1_put_29 : decode cX1_put 29 = .ok (.aload_n 0, 1) := by decide +kernel
theorem dX1_put_30 : decode cX1_put 30 = .ok (.getfield 7, 3) := by decide +kernel
theorem dX1_put_33 : decode cX1_put 33 = .ok (.iload 4, 2) := by decide +kernel
theorem dX1_put_35 : decode cX1_put 35 = .ok (.iload_n 3, 1) := by decide +kernel
theorem dX1_put_36 : decode cX1_put 36 = .ok (.iastore, 1) := by decide +kernel
theorem dX1_put_37 : decode cX1_put 37 = .ok (.iconst 1, 1) := by decide +kernel
theorem dX1_put_38 : decode cX1_put 38 = .ok (.ireturn, 1) := by decide +kernel
abbrev cX1_beginning : ByteArray := prog_3_method_2_code
def yX1_beginning : MethodName := ⟨RX1, "beginning", "(II)Z"⟩
theorem dX1_beginning_0 : decode cX1_beginning 0 = .ok (.iload_n 2, 1) := by decide +kernel
theorem dX1_beginning_1 : decode cX1_beginning 1 = .ok (.ifCond .lt 37, 3) := by decide +kernel
theorem dX1_beginning_4 : decode cX1_beginning 4 = .ok (.iload_n 2, 1) := by decide +kernel
theorem dX1_beginning_5 : decode cX1_beginning 5 = .ok (.bipush 8, 2) := by decide +kernel
theorem dX1_beginning_7 : decode cX1_beginning 7 = .ok (.if_icmp .gt 31, 3) := by decide +kernel
theorem dX1_beginning_10 : decode cX1_beginning 10 = .ok (.iload_n 1, 1) := by decide +kernel
theorem dX1_beginning_11 : decode cX1_beginning 11 = .ok (.ifCond .lt 27, 3) := by decide +kernel
theorem dX1_beginning_14 : decode cX1_beginning 14 = .ok (.iload_n 1, 1) := by decide +kernel
theorem dX1_beginning_15 : decode cX1_beginning 15 = .ok (.sipush 255, 3) := by decide +kernel
theorem dX1_beginning_18 : decode cX1_beginning 18 = .ok (.if_icmp .gt 20, 3) := by decide +kernel
theorem dX1_beginning_21 : decode cX1_beginning 21 = .ok (.iload_n 1, 1) := by decide +kernel
theorem dX1_beginning_22 : decode cX1_beginning 22 = .ok (.iconst 1, 1) := by decide +kernel
theorem dX1_beginning_23 : decode cX1_beginning 23 = .ok (.bipush 8, 2) := by decide +kernel
theorem dX1_beginning_25 : decode cX1_beginning 25 = .ok (.iload_n 2, 1) := by decide +kernel
theorem dX1_beginning_26 : decode cX1_beginning 26 = .ok (.isub, 1) := by decide +kernel
theorem dX1_beginning_27 : decode cX1_beginning 27 = .ok (.ishl, 1) := by decide +kernel
theorem dX1_beginning_28 : decode cX1_beginning 28 = .ok (.iconst 1, 1) := by decide +kernel
theorem dX1_beginning_29 : decode cX1_beginning 29 = .ok (.isub, 1) := by decide +kernel
theorem dX1_beginning_30 : decode cX1_beginning 30 = .ok (.iand, 1) := by decide +kernel
theorem dX1_beginning_31 : decode cX1_beginning 31 = .ok (.ifCond .ne 7, 3) := by decide +kernel
theorem dX1_beginning_34 : decode cX1_beginning 34 = .ok (.iconst 1, 1) := by decide +kernel
theorem dX1_beginning_35 : decode cX1_beginning 35 = .ok (.goto 4, 3) := by decide +kernel
theorem dX1_beginning_38 : decode cX1_beginning 38 = .ok (.iconst 0, 1) := by decide +kernel
theorem dX1_beginning_39 : decode cX1_beginning 39 = .ok (.ireturn, 1) := by decide +kernel
abbrev cX1_cell : ByteArray := prog_3_method_3_code
def yX1_cell : MethodName := ⟨RX1, "cell", "(II)I"⟩
theorem dX1_cell_0 : decode cX1_cell 0 = .ok (.iconst 1, 1) := by decide +kernel
theorem dX1_cell_1 : decode cX1_cell 1 = .ok (.iload_n 2, 1) := by decide +kernel
theorem dX1_cell_2 : decode cX1_cell 2 = .ok (.ishl, 1) := by decide +kernel
theorem dX1_cell_3 : decode cX1_cell 3 = .ok (.iconst 1, 1) := by decide +kernel
theorem dX1_cell_4 : decode cX1_cell 4 = .ok (.isub, 1) := by decide +kernel
theorem dX1_cell_5 : decode cX1_cell 5 = .ok (.iload_n 1, 1) := by decide +kernel
theorem dX1_cell_6 : decode cX1_cell 6 = .ok (.bipush 8, 2) := by decide +kernel
theorem dX1_cell_8 : decode cX1_cell 8 = .ok (.iload_n 2, 1) := by decide +kernel
theorem dX1_cell_9 : decode cX1_cell 9 = .ok (.isub, 1) := by decide +kernel
theorem dX1_cell_10 : decode cX1_cell 10 = .ok (.ishr, 1) := by decide +kernel
theorem dX1_cell_11 : decode cX1_cell 11 = .ok (.iadd, 1) := by decide +kernel
theorem dX1_cell_12 : decode cX1_cell 12 = .ok (.ireturn, 1) := by decide +kernel
abbrev cX1_drop : ByteArray := prog_3_method_6_code
def yX1_drop : MethodName := ⟨RX1, "drop", "(II)Z"⟩
theorem dX1_drop_0 : decode cX1_drop 0 = .ok (.aload_n 0, 1) := by decide +kernel
theorem dX1_drop_1 : decode cX1_drop 1 = .ok (.iload_n 1, 1) := by decide +kernel
theorem dX1_drop_2 : decode cX1_drop 2 = .ok (.iload_n 2, 1) := by decide +kernel
theorem dX1_drop_3 : decode cX1_drop 3 = .ok (.invokevirtual 27, 3) := by decide +kernel
theorem dX1_drop_6 : decode cX1_drop 6 = .ok (.ifCond .ne 5, 3) := by decide +kernel
theorem dX1_drop_9 : decode cX1_drop 9 = .ok (.iconst 0, 1) := by decide +kernel
theorem dX1_drop_10 : decode cX1_drop 10 = .ok (.ireturn, 1) := by decide +kernel
theorem dX1_drop_11 : decode cX1_drop 11 = .ok (.aload_n 0, 1) := by decide +kernel
theorem dX1_drop_12 : decode cX1_drop 12 = .ok (.iload_n 1, 1) := by decide +kernel
theorem dX1_drop_13 : decode cX1_drop 13 = .ok (.iload_n 2, 1) := by decide +kernel
theorem dX1_drop_14 : decode cX1_drop 14 = .ok (.invokevirtual 23, 3) := by decide +kernel
theorem dX1_drop_17 : decode cX1_drop 17 = .ok (.istore_n 3, 1) := by decide +kernel
theorem dX1_drop_18 : decode cX1_drop 18 = .ok (.aload_n 0, 1) := by decide +kernel
theorem dX1_drop_19 : decode cX1_drop 19 = .ok (.getfield 7, 3) := by decide +kernel
theorem dX1_drop_22 : decode cX1_drop 22 = .ok (.iload_n 3, 1) := by decide +kernel
theorem dX1_drop_23 : decode cX1_drop 23 = .ok (.iconst (-1), 1) := by decide +kernel
theorem dX1_drop_24 : decode cX1_drop 24 = .ok (.iastore, 1) := by decide +kernel
theorem dX1_drop_25 : decode cX1_drop 25 = .ok (.iconst 1, 1) := by decide +kernel
theorem dX1_drop_26 : decode cX1_drop 26 = .ok (.ireturn, 1) := by decide +kernel
abbrev cX1_is : ByteArray := prog_3_method_5_code
def yX1_is : MethodName := ⟨RX1, "is", "(II)Z"⟩
theorem dX1_is_0 : decode cX1_is 0 = .ok (.aload_n 0, 1) := by decide +kernel
theorem dX1_is_1 : decode cX1_is 1 = .ok (.iload_n 1, 1) := by decide +kernel
theorem dX1_is_2 : decode cX1_is 2 = .ok (.iload_n 2, 1) := by decide +kernel
theorem dX1_is_3 : decode cX1_is 3 = .ok (.invokevirtual 19, 3) := by decide +kernel
theorem dX1_is_6 : decode cX1_is 6 = .ok (.ifCond .eq 21, 3) := by decide +kernel
theorem dX1_is_9 : decode cX1_is 9 = .ok (.aload_n 0, 1) := by decide +kernel
theorem dX1_is_10 : decode cX1_is 10 = .ok (.getfield 7, 3) := by decide +kernel
theorem dX1_is_13 : decode cX1_is 13 = .ok (.aload_n 0, 1) := by decide +kernel
theorem dX1_is_14 : decode cX1_is 14 = .ok (.iload_n 1, 1) := by decide +kernel
theorem dX1_is_15 : decode cX1_is 15 = .ok (.iload_n 2, 1) := by decide +kernel
theorem dX1_is_16 : decode cX1_is 16 = .ok (.invokevirtual 23, 3) := by decide +kernel
theorem dX1_is_19 : decode cX1_is 19 = .ok (.iaload, 1) := by decide +kernel
theorem dX1_is_20 : decode cX1_is 20 = .ok (.ifCond .lt 7, 3) := by decide +kernel
theorem dX1_is_23 : decode cX1_is 23 = .ok (.iconst 1, 1) := by decide +kernel
theorem dX1_is_24 : decode cX1_is 24 = .ok (.goto 4, 3) := by decide +kernel
theorem dX1_is_27 : decode cX1_is 27 = .ok (.iconst 0, 1) := by decide +kernel
theorem dX1_is_28 : decode cX1_is 28 = .ok (.ireturn, 1) := by decide +kernel
abbrev cX1_routes : ByteArray := prog_3_method_8_code
def yX1_routes : MethodName := ⟨RX1, "routes", "()I"⟩
theorem dX1_routes_0 : decode cX1_routes 0 = .ok (.iconst 0, 1) := by decide +kernel
theorem dX1_routes_1 : decode cX1_routes 1 = .ok (.istore_n 1, 1) := by decide +kernel
theorem dX1_routes_2 : decode cX1_routes 2 = .ok (.iconst 0, 1) := by decide +kernel
theorem dX1_routes_3 : decode cX1_routes 3 = .ok (.istore_n 2, 1) := by decide +kernel
theorem dX1_routes_4 : decode cX1_routes 4 = .ok (.iload_n 2, 1) := by decide +kernel
theorem dX1_routes_5 : decode cX1_routes 5 = .ok (.sipush 511, 3) := by decide +kernel
theorem dX1_routes_8 : decode cX1_routes 8 = .ok (.if_icmp .ge 26, 3) := by decide +kernel
theorem dX1_routes_11 : decode cX1_routes 11 = .ok (.aload_n 0, 1) := by decide +kernel
theorem dX1_routes_12 : decode cX1_routes 12 = .ok (.getfield 7, 3) := by decide +kernel
theorem dX1_routes_15 : decode cX1_routes 15 = .ok (.iload_n 2, 1) := by decide +kernel
theorem dX1_routes_16 : decode cX1_routes 16 = .ok (.iaload, 1) := by decide +kernel
theorem dX1_routes_17 : decode cX1_routes 17 = .ok (.ifCond .lt 9, 3) := by decide +kernel
theorem dX1_routes_20 : decode cX1_routes 20 = .ok (.iload_n 1, 1) := by decide +kernel
theorem dX1_routes_21 : decode cX1_routes 21 = .ok (.iconst 1, 1) := by decide +kernel
theorem dX1_routes_22 : decode cX1_routes 22 = .ok (.iadd, 1) := by decide +kernel
theorem dX1_routes_23 : decode cX1_routes 23 = .ok (.goto 4, 3) := by decide +kernel
theorem dX1_routes_26 : decode cX1_routes 26 = .ok (.iload_n 1, 1) := by decide +kernel
theorem dX1_routes_27 : decode cX1_routes 27 = .ok (.istore_n 1, 1) := by decide +kernel
theorem dX1_routes_28 : decode cX1_routes 28 = .ok (.iinc 2 1, 3) := by decide +kernel
theorem dX1_routes_31 : decode cX1_routes 31 = .ok (.goto (-27), 3) := by decide +kernel
theorem dX1_routes_34 : decode cX1_routes 34 = .ok (.iload_n 1, 1) := by decide +kernel
theorem dX1_routes_35 : decode cX1_routes 35 = .ok (.ireturn, 1) := by decide +kernel
abbrev cX1_exact : ByteArray := prog_3_method_9_code
def yX1_exact : MethodName := ⟨RX1, "exact", "(II)I"⟩
theorem dX1_exact_0 : decode cX1_exact 0 = .ok (.aload_n 0, 1) := by decide +kernel
theorem dX1_exact_1 : decode cX1_exact 1 = .ok (.iload_n 1, 1) := by decide +kernel
theorem dX1_exact_2 : decode cX1_exact 2 = .ok (.iload_n 2, 1) := by decide +kernel
theorem dX1_exact_3 : decode cX1_exact 3 = .ok (.invokevirtual 27, 3) := by decide +kernel
theorem dX1_exact_6 : decode cX1_exact 6 = .ok (.ifCond .eq 17, 3) := by decide +kernel
theorem dX1_exact_9 : decode cX1_exact 9 = .ok (.aload_n 0, 1) := by decide +kernel
theorem dX1_exact_10 : decode cX1_exact 10 = .ok (.getfield 7, 3) := by decide +kernel
theorem dX1_exact_13 : decode cX1_exact 13 = .ok (.aload_n 0, 1) := by decide +kernel
theorem dX1_exact_14 : decode cX1_exact 14 = .ok (.iload_n 1, 1) := by decide +kernel
theorem dX1_exact_15 : decode cX1_exact 15 = .ok (.iload_n 2, 1) := by decide +kernel
theorem dX1_exact_16 : decode cX1_exact 16 = .ok (.invokevirtual 23, 3) := by decide +kernel
theorem dX1_exact_19 : decode cX1_exact 19 = .ok (.iaload, 1) := by decide +kernel
theorem dX1_exact_20 : decode cX1_exact 20 = .ok (.goto 4, 3) := by decide +kernel
theorem dX1_exact_23 : decode cX1_exact 23 = .ok (.iconst (-1), 1) := by decide +kernel
theorem dX1_exact_24 : decode cX1_exact 24 = .ok (.ireturn, 1) := by decide +kernel
abbrev cX1_goal : ByteArray := prog_3_method_11_code
def yX1_goal : MethodName := ⟨RX1, "goal", "(I)I"⟩
theorem dX1_goal_0 : decode cX1_goal 0 = .ok (.aload_n 0, 1) := by decide +kernel
theorem dX1_goal_1 : decode cX1_goal 1 = .ok (.iload_n 1, 1) := by decide +kernel
theorem dX1_goal_2 : decode cX1_goal 2 = .ok (.invokevirtual 30, 3) := by decide +kernel
theorem dX1_goal_5 : decode cX1_goal 5 = .ok (.istore_n 2, 1) := by decide +kernel
theorem dX1_goal_6 : decode cX1_goal 6 = .ok (.iload_n 2, 1) := by decide +kernel
theorem dX1_goal_7 : decode cX1_goal 7 = .ok (.ifCond .ge 7, 3) := by decide +kernel
theorem dX1_goal_10 : decode cX1_goal 10 = .ok (.iconst (-1), 1) := by decide +kernel
theorem dX1_goal_11 : decode cX1_goal 11 = .ok (.goto 14, 3) := by decide +kernel
theorem dX1_goal_14 : decode cX1_goal 14 = .ok (.aload_n 0, 1) := by decide +kernel
theorem dX1_goal_15 : decode cX1_goal 15 = .ok (.getfield 7, 3) := by decide +kernel
theorem dX1_goal_18 : decode cX1_goal 18 = .ok (.aload_n 0, 1) := by decide +kernel
theorem dX1_goal_19 : decode cX1_goal 19 = .ok (.iload_n 1, 1) := by decide +kernel
theorem dX1_goal_20 : decode cX1_goal 20 = .ok (.iload_n 2, 1) := by decide +kernel
theorem dX1_goal_21 : decode cX1_goal 21 = .ok (.invokevirtual 23, 3) := by decide +kernel
theorem dX1_goal_24 : decode cX1_goal 24 = .ok (.iaload, 1) := by decide +kernel
theorem dX1_goal_25 : decode cX1_goal 25 = .ok (.ireturn, 1) := by decide +kernel
abbrev cX1_bits : ByteArray := prog_3_method_12_code
def yX1_bits : MethodName := ⟨RX1, "bits", "(I)I"⟩
theorem dX1_bits_0 : decode cX1_bits 0 = .ok (.bipush 8, 2) := by decide +kernel
theorem dX1_bits_2 : decode cX1_bits 2 = .ok (.istore_n 2, 1) := by decide +kernel
theorem dX1_bits_3 : decode cX1_bits 3 = .ok (.iload_n 2, 1) := by decide +kernel
theorem dX1_bits_4 : decode cX1_bits 4 = .ok (.ifCond .lt 33, 3) := by decide +kernel
theorem dX1_bits_7 : decode cX1_bits 7 = .ok (.aload_n 0, 1) := by decide +kernel
theorem dX1_bits_8 : decode cX1_bits 8 = .ok (.iload_n 1, 1) := by decide +kernel
theorem dX1_bits_9 : decode cX1_bits 9 = .ok (.invokevirtual 34, 3) := by decide +kernel
theorem dX1_bits_12 : decode cX1_bits 12 = .ok (.ifCond .eq 25, 3) := by decide +kernel
theorem dX1_bits_15 : decode cX1_bits 15 = .ok (.aload_n 0, 1) := by decide +kernel
theorem dX1_bits_16 : decode cX1_bits 16 = .ok (.getfield 7, 3) := by decide +kernel
theorem dX1_bits_19 : decode cX1_bits 19 = .ok (.aload_n 0, 1) := by decide +kernel
theorem dX1_bits_20 : decode cX1_bits 20 = .ok (.iload_n 1, 1) := by decide +kernel
theorem dX1_bits_21 : decode cX1_bits 21 = .ok (.iload_n 2, 1) := by decide +kernel
theorem dX1_bits_22 : decode cX1_bits 22 = .ok (.invokevirtual 23, 3) := by decide +kernel
theorem dX1_bits_25 : decode cX1_bits 25 = .ok (.iaload, 1) := by decide +kernel
theorem dX1_bits_26 : decode cX1_bits 26 = .ok (.ifCond .lt 5, 3) := by decide +kernel
theorem dX1_bits_29 : decode cX1_bits 29 = .ok (.iload_n 2, 1) := by decide +kernel
theorem dX1_bits_30 : decode cX1_bits 30 = .ok (.ireturn, 1) := by decide +kernel
theorem dX1_bits_31 : decode cX1_bits 31 = .ok (.iinc 2 (-1), 3) := by decide +kernel
theorem dX1_bits_34 : decode cX1_bits 34 = .ok (.goto (-31), 3) := by decide +kernel
theorem dX1_bits_37 : decode cX1_bits 37 = .ok (.iconst (-1), 1) := by decide +kernel
theorem dX1_bits_38 : decode cX1_bits 38 = .ok (.ireturn, 1) := by decide +kernel
abbrev cX1_address : ByteArray := prog_3_method_10_code
def yX1_address : MethodName := ⟨RX1, "address", "(I)Z"⟩
theorem dX1_address_0 : decode cX1_address 0 = .ok (.iload_n 1, 1) := by decide +kernel
theorem dX1_address_1 : decode cX1_address 1 = .ok (.ifCond .lt 14, 3) := by decide +kernel
theorem dX1_address_4 : decode cX1_address 4 = .ok (.iload_n 1, 1) := by decide +kernel
theorem dX1_address_5 : decode cX1_address 5 = .ok (.sipush 255, 3) := by decide +kernel
theorem dX1_address_8 : decode cX1_address 8 = .ok (.if_icmp .gt 7, 3) := by decide +kernel
theorem dX1_address_11 : decode cX1_address 11 = .ok (.iconst 1, 1) := by decide +kernel
theorem dX1_address_12 : decode cX1_address 12 = .ok (.goto 4, 3) := by decide +kernel
theorem dX1_address_15 : decode cX1_address 15 = .ok (.iconst 0, 1) := by decide +kernel
theorem dX1_address_16 : decode cX1_address 16 = .ok (.ireturn, 1) := by decide +kernel
abbrev cX1_matching : ByteArray := prog_3_method_13_code
def yX1_matching : MethodName := ⟨RX1, "matching", "(I)I"⟩
theorem dX1_matching_0 : decode cX1_matching 0 = .ok (.iconst 0, 1) := by decide +kernel
theorem dX1_matching_1 : decode cX1_matching 1 = .ok (.istore_n 2, 1) := by decide +kernel
theorem dX1_matching_2 : decode cX1_matching 2 = .ok (.iconst 0, 1) := by decide +kernel
theorem dX1_matching_3 : decode cX1_matching 3 = .ok (.istore_n 3, 1) := by decide +kernel
theorem dX1_matching_4 : decode cX1_matching 4 = .ok (.iload_n 3, 1) := by decide +kernel
theorem dX1_matching_5 : decode cX1_matching 5 = .ok (.bipush 8, 2) := by decide +kernel
theorem dX1_matching_7 : decode cX1_matching 7 = .ok (.if_icmp .gt 39, 3) := by decide +kernel
theorem dX1_matching_10 : decode cX1_matching 10 = .ok (.aload_n 0, 1) := by decide +kernel
theorem dX1_matching_11 : decode cX1_matching 11 = .ok (.iload_n 1, 1) := by decide +kernel
theorem dX1_matching_12 : decode cX1_matching 12 = .ok (.invokevirtual 34, 3) := by decide +kernel
theorem dX1_matching_15 : decode cX1_matching 15 = .ok (.ifCond .eq 31, 3) := by decide +kernel
theorem dX1_matching_18 : decode cX1_matching 18 = .ok (.aload_n 0, 1) := by decide +kernel
theorem dX1_matching_19 : decode cX1_matching 19 = .ok (.getfield 7, 3) := by decide +kernel
theorem dX1_matching_22 : decode cX1_matching 22 = .ok (.aload_n 0, 1) := by decide +kernel
theorem dX1_matching_23 : decode cX1_matching 23 = .ok (.iload_n 1, 1) := by decide +kernel
theorem dX1_matching_24 : decode cX1_matching 24 = .ok (.iload_n 3, 1) := by decide +kernel
theorem dX1_matching_25 : decode cX1_matching 25 = .ok (.invokevirtual 23, 3) := by decide +kernel
theorem dX1_matching_28 : decode cX1_matching 28 = .ok (.iaload, 1) := by decide +kernel
theorem dX1_matching_29 : decode cX1_matching 29 = .ok (.ifCond .lt 9, 3) := by decide +kernel
theorem dX1_matching_32 : decode cX1_matching 32 = .ok (.iload_n 2, 1) := by decide +kernel
theorem dX1_matching_33 : decode cX1_matching 33 = .ok (.iconst 1, 1) := by decide +kernel
theorem dX1_matching_34 : decode cX1_matching 34 = .ok (.iadd, 1) := by decide +kernel
theorem dX1_matching_35 : decode cX1_matching 35 = .ok (.goto 4, 3) := by decide +kernel
theorem dX1_matching_38 : decode cX1_matching 38 = .ok (.iload_n 2, 1) := by decide +kernel
theorem dX1_matching_39 : decode cX1_matching 39 = .ok (.istore_n 2, 1) := by decide +kernel
theorem dX1_matching_40 : decode cX1_matching 40 = .ok (.iinc 3 1, 3) := by decide +kernel
theorem dX1_matching_43 : decode cX1_matching 43 = .ok (.goto (-39), 3) := by decide +kernel
theorem dX1_matching_46 : decode cX1_matching 46 = .ok (.iload_n 2, 1) := by decide +kernel
theorem dX1_matching_47 : decode cX1_matching 47 = .ok (.ireturn, 1) := by decide +kernel
abbrev cX1_next : ByteArray := prog_3_method_14_code
def yX1_next : MethodName := ⟨RX1, "next", "(II)I"⟩
theorem dX1_next_0 : decode cX1_next 0 = .ok (.iconst 0, 1) := by decide +kernel
theorem dX1_next_1 : decode cX1_next 1 = .ok (.istore_n 3, 1) := by decide +kernel
theorem dX1_next_2 : decode cX1_next 2 = .ok (.iload_n 3, 1) := by decide +kernel
theorem dX1_next_3 : decode cX1_next 3 = .ok (.sipush 256, 3) := by decide +kernel
theorem dX1_next_6 : decode cX1_next 6 = .ok (.if_icmp .ge 29, 3) := by decide +kernel
theorem dX1_next_9 : decode cX1_next 9 = .ok (.iload_n 3, 1) := by decide +kernel
theorem dX1_next_10 : decode cX1_next 10 = .ok (.iload_n 1, 1) := by decide +kernel
theorem dX1_next_11 : decode cX1_next 11 = .ok (.if_icmp .lt 18, 3) := by decide +kernel
theorem dX1_next_14 : decode cX1_next 14 = .ok (.iload_n 2, 1) := by decide +kernel
theorem dX1_next_15 : decode cX1_next 15 = .ok (.ifCond .lt 14, 3) := by decide +kernel
theorem dX1_next_18 : decode cX1_next 18 = .ok (.aload_n 0, 1) := by decide +kernel
theorem dX1_next_19 : decode cX1_next 19 = .ok (.iload_n 3, 1) := by decide +kernel
theorem dX1_next_20 : decode cX1_next 20 = .ok (.invokevirtual 38, 3) := by decide +kernel
theorem dX1_next_23 : decode cX1_next 23 = .ok (.iload_n 2, 1) := by decide +kernel
theorem dX1_next_24 : decode cX1_next 24 = .ok (.if_icmp .ne 5, 3) := by decide +kernel
theorem dX1_next_27 : decode cX1_next 27 = .ok (.iload_n 3, 1) := by decide +kernel
theorem dX1_next_28 : decode cX1_next 28 = .ok (.ireturn, 1) := by decide +kernel
theorem dX1_next_29 : decode cX1_next 29 = .ok (.iinc 3 1, 3) := by decide +kernel
theorem dX1_next_32 : decode cX1_next 32 = .ok (.goto (-30), 3) := by decide +kernel
theorem dX1_next_35 : decode cX1_next 35 = .ok (.iconst (-1), 1) := by decide +kernel
theorem dX1_next_36 : decode cX1_next 36 = .ok (.ireturn, 1) := by decide +kernel
abbrev cX1_load : ByteArray := prog_3_method_15_code
def yX1_load : MethodName := ⟨RX1, "load", "(II)I"⟩
theorem dX1_load_0 : decode cX1_load 0 = .ok (.aload_n 0, 1) := by decide +kernel
theorem dX1_load_1 : decode cX1_load 1 = .ok (.iload_n 1, 1) := by decide +kernel
theorem dX1_load_2 : decode cX1_load 2 = .ok (.iload_n 2, 1) := by decide +kernel
theorem dX1_load_3 : decode cX1_load 3 = .ok (.invokevirtual 27, 3) := by decide +kernel
theorem dX1_load_6 : decode cX1_load 6 = .ok (.ifCond .ne 5, 3) := by decide +kernel
theorem dX1_load_9 : decode cX1_load 9 = .ok (.iconst (-1), 1) := by decide +kernel
theorem dX1_load_10 : decode cX1_load 10 = .ok (.ireturn, 1) := by decide +kernel
theorem dX1_load_11 : decode cX1_load 11 = .ok (.iconst 0, 1) := by decide +kernel
theorem dX1_load_12 : decode cX1_load 12 = .ok (.istore_n 3, 1) := by decide +kernel
theorem dX1_load_13 : decode cX1_load 13 = .ok (.iconst 0, 1) := by decide +kernel
theorem dX1_load_14 : decode cX1_load 14 = .ok (.istore 4, 2) := by decide +kernel
theorem dX1_load_16 : decode cX1_load 16 = .ok (.iload 4, 2) := by decide +kernel
theorem dX1_load_18 : decode cX1_load 18 = .ok (.sipush 256, 3) := by decide +kernel
theorem dX1_load_21 : decode cX1_load 21 = .ok (.if_icmp .ge 55, 3) := by decide +kernel
theorem dX1_load_24 : decode cX1_load 24 = .ok (.iload 4, 2) := by decide +kernel
theorem dX1_load_26 : decode cX1_load 26 = .ok (.bipush 8, 2) := by decide +kernel
theorem dX1_load_28 : decode cX1_load 28 = .ok (.iload_n 2, 1) := by decide +kernel
theorem dX1_load_29 : decode cX1_load 29 = .ok (.isub, 1) := by decide +kernel
theorem dX1_load_30 : decode cX1_load 30 = .ok (.ishr, 1) := by decide +kernel
theorem dX1_load_31 : decode cX1_load 31 = .ok (.iload_n 1, 1) := by decide +kernel
theorem dX1_load_32 : decode cX1_load 32 = .ok (.bipush 8, 2) := by decide +kernel
theorem dX1_load_34 : decode cX1_load 34 = .ok (.iload_n 2, 1) := by decide +kernel
theorem dX1_load_35 : decode cX1_load 35 = .ok (.isub, 1) := by decide +kernel
theorem dX1_load_36 : decode cX1_load 36 = .ok (.ishr, 1) := by decide +kernel
theorem dX1_load_37 : decode cX1_load 37 = .ok (.if_icmp .ne 7, 3) := by decide +kernel
theorem dX1_load_40 : decode cX1_load 40 = .ok (.iconst 1, 1) := by decide +kernel
theorem dX1_load_41 : decode cX1_load 41 = .ok (.goto 4, 3) := by decide +kernel
theorem dX1_load_44 : decode cX1_load 44 = .ok (.iconst 0, 1) := by decide +kernel
theorem dX1_load_45 : decode cX1_load 45 = .ok (.istore 5, 2) := by decide +kernel
theorem dX1_load_47 : decode cX1_load 47 = .ok (.iload 5, 2) := by decide +kernel
theorem dX1_load_49 : decode cX1_load 49 = .ok (.ifCond .eq 19, 3) := by decide +kernel
theorem dX1_load_52 : decode cX1_load 52 = .ok (.aload_n 0, 1) := by decide +kernel
theorem dX1_load_53 : decode cX1_load 53 = .ok (.iload 4, 2) := by decide +kernel
theorem dX1_load_55 : decode cX1_load 55 = .ok (.invokevirtual 30, 3) := by decide +kernel
theorem dX1_load_58 : decode cX1_load 58 = .ok (.iload_n 2, 1) := by decide +kernel
theorem dX1_load_59 : decode cX1_load 59 = .ok (.if_icmp .ne 9, 3) := by decide +kernel
theorem dX1_load_62 : decode cX1_load 62 = .ok (.iload_n 3, 1) := by decide +kernel
theorem dX1_load_63 : decode cX1_load 63 = .ok (.iconst 1, 1) := by decide +kernel
theorem dX1_load_64 : decode cX1_load 64 = .ok (.iadd, 1) := by decide +kernel
theorem dX1_load_65 : decode cX1_load 65 = .ok (.goto 4, 3) := by decide +kernel
theorem dX1_load_68 : decode cX1_load 68 = .ok (.iload_n 3, 1) := by decide +kernel
theorem dX1_load_69 : decode cX1_load 69 = .ok (.istore_n 3, 1) := by decide +kernel
theorem dX1_load_70 : decode cX1_load 70 = .ok (.iinc 4 1, 3) := by decide +kernel
theorem dX1_load_73 : decode cX1_load 73 = .ok (.goto (-57), 3) := by decide +kernel
theorem dX1_load_76 : decode cX1_load 76 = .ok (.iload_n 3, 1) := by decide +kernel
theorem dX1_load_77 : decode cX1_load 77 = .ok (.ireturn, 1) := by decide +kernel
abbrev cX1_sent : ByteArray := prog_3_method_16_code
def yX1_sent : MethodName := ⟨RX1, "sent", "(I)I"⟩
theorem dX1_sent_0 : decode cX1_sent 0 = .ok (.iconst 0, 1) := by decide +kernel
theorem dX1_sent_1 : decode cX1_sent 1 = .ok (.istore_n 2, 1) := by decide +kernel
theorem dX1_sent_2 : decode cX1_sent 2 = .ok (.iconst 0, 1) := by decide +kernel
theorem dX1_sent_3 : decode cX1_sent 3 = .ok (.istore_n 3, 1) := by decide +kernel
theorem dX1_sent_4 : decode cX1_sent 4 = .ok (.iload_n 3, 1) := by decide +kernel
theorem dX1_sent_5 : decode cX1_sent 5 = .ok (.sipush 256, 3) := by decide +kernel
theorem dX1_sent_8 : decode cX1_sent 8 = .ok (.if_icmp .ge 26, 3) := by decide +kernel
theorem dX1_sent_11 : decode cX1_sent 11 = .ok (.aload_n 0, 1) := by decide +kernel
theorem dX1_sent_12 : decode cX1_sent 12 = .ok (.iload_n 3, 1) := by decide +kernel
theorem dX1_sent_13 : decode cX1_sent 13 = .ok (.invokevirtual 38, 3) := by decide +kernel
theorem dX1_sent_16 : decode cX1_sent 16 = .ok (.iload_n 1, 1) := by decide +kernel
theorem dX1_sent_17 : decode cX1_sent 17 = .ok (.if_icmp .ne 9, 3) := by decide +kernel
theorem dX1_sent_20 : decode cX1_sent 20 = .ok (.iload_n 2, 1) := by decide +kernel
theorem dX1_sent_21 : decode cX1_sent 21 = .ok (.iconst 1, 1) := by decide +kernel
theorem dX1_sent_22 : decode cX1_sent 22 = .ok (.iadd, 1) := by decide +kernel
theorem dX1_sent_23 : decode cX1_sent 23 = .ok (.goto 4, 3) := by decide +kernel
theorem dX1_sent_26 : decode cX1_sent 26 = .ok (.iload_n 2, 1) := by decide +kernel
theorem dX1_sent_27 : decode cX1_sent 27 = .ok (.istore_n 2, 1) := by decide +kernel
theorem dX1_sent_28 : decode cX1_sent 28 = .ok (.iinc 3 1, 3) := by decide +kernel
theorem dX1_sent_31 : decode cX1_sent 31 = .ok (.goto (-27), 3) := by decide +kernel
theorem dX1_sent_34 : decode cX1_sent 34 = .ok (.iload_n 2, 1) := by decide +kernel
theorem dX1_sent_35 : decode cX1_sent 35 = .ok (.ireturn, 1) := by decide +kernel
abbrev cX1_idle : ByteArray := prog_3_method_17_code
def yX1_idle : MethodName := ⟨RX1, "idle", "(II)Z"⟩
theorem dX1_idle_0 : decode cX1_idle 0 = .ok (.aload_n 0, 1) := by decide +kernel
theorem dX1_idle_1 : decode cX1_idle 1 = .ok (.iload_n 1, 1) := by decide +kernel
theorem dX1_idle_2 : decode cX1_idle 2 = .ok (.iload_n 2, 1) := by decide +kernel
theorem dX1_idle_3 : decode cX1_idle 3 = .ok (.invokevirtual 27, 3) := by decide +kernel
theorem dX1_idle_6 : decode cX1_idle 6 = .ok (.ifCond .ne 5, 3) := by decide +kernel
theorem dX1_idle_9 : decode cX1_idle 9 = .ok (.iconst 0, 1) := by decide +kernel
theorem dX1_idle_10 : decode cX1_idle 10 = .ok (.ireturn, 1) := by decide +kernel
theorem dX1_idle_11 : decode cX1_idle 11 = .ok (.iconst 0, 1) := by decide +kernel
theorem dX1_idle_12 : decode cX1_idle 12 = .ok (.istore_n 3, 1) := by decide +kernel
theorem dX1_idle_13 : decode cX1_idle 13 = .ok (.iload_n 3, 1) := by decide +kernel
theorem dX1_idle_14 : decode cX1_idle 14 = .ok (.sipush 256, 3) := by decide +kernel
theorem dX1_idle_17 : decode cX1_idle 17 = .ok (.if_icmp .ge 20, 3) := by decide +kernel
theorem dX1_idle_20 : decode cX1_idle 20 = .ok (.aload_n 0, 1) := by decide +kernel
theorem dX1_idle_21 : decode cX1_idle 21 = .ok (.getfield 13, 3) := by decide +kernel
theorem dX1_idle_24 : decode cX1_idle 24 = .ok (.iload_n 3, 1) := by decide +kernel
theorem dX1_idle_25 : decode cX1_idle 25 = .ok (.aload_n 0, 1) := by decide +kernel
theorem dX1_idle_26 : decode cX1_idle 26 = .ok (.iload_n 3, 1) := by decide +kernel
theorem dX1_idle_27 : decode cX1_idle 27 = .ok (.invokevirtual 38, 3) := by decide +kernel
theorem dX1_idle_30 : decode cX1_idle 30 = .ok (.iastore, 1) := by decide +kernel
theorem dX1_idle_31 : decode cX1_idle 31 = .ok (.iinc 3 1, 3) := by decide +kernel
theorem dX1_idle_34 : decode cX1_idle 34 = .ok (.goto (-21), 3) := by decide +kernel
theorem dX1_idle_37 : decode cX1_idle 37 = .ok (.aload_n 0, 1) := by decide +kernel
theorem dX1_idle_38 : decode cX1_idle 38 = .ok (.iload_n 1, 1) := by decide +kernel
theorem dX1_idle_39 : decode cX1_idle 39 = .ok (.iload_n 2, 1) := by decide +kernel
theorem dX1_idle_40 : decode cX1_idle 40 = .ok (.invokevirtual 41, 3) := by decide +kernel
theorem dX1_idle_43 : decode cX1_idle 43 = .ok (.istore_n 3, 1) := by decide +kernel
theorem dX1_idle_44 : decode cX1_idle 44 = .ok (.aload_n 0, 1) := by decide +kernel
theorem dX1_idle_45 : decode cX1_idle 45 = .ok (.iload_n 1, 1) := by decide +kernel
theorem dX1_idle_46 : decode cX1_idle 46 = .ok (.iload_n 2, 1) := by decide +kernel
theorem dX1_idle_47 : decode cX1_idle 47 = .ok (.invokevirtual 44, 3) := by decide +kernel
theorem dX1_idle_50 : decode cX1_idle 50 = .ok (.pop, 1) := by decide +kernel
theorem dX1_idle_51 : decode cX1_idle 51 = .ok (.iconst 1, 1) := by decide +kernel
theorem dX1_idle_52 : decode cX1_idle 52 = .ok (.istore 4, 2) := by decide +kernel
theorem dX1_idle_54 : decode cX1_idle 54 = .ok (.iconst 0, 1) := by decide +kernel
theorem dX1_idle_55 : decode cX1_idle 55 = .ok (.istore 5, 2) := by decide +kernel
theorem dX1_idle_57 : decode cX1_idle 57 = .ok (.iload 5, 2) := by decide +kernel
theorem dX1_idle_59 : decode cX1_idle 59 = .ok (.sipush 256, 3) := by decide +kernel
theorem dX1_idle_62 : decode cX1_idle 62 = .ok (.if_icmp .ge 37, 3) := by decide +kernel
theorem dX1_idle_65 : decode cX1_idle 65 = .ok (.iload 4, 2) := by decide +kernel
theorem dX1_idle_67 : decode cX1_idle 67 = .ok (.ifCond .eq 23, 3) := by decide +kernel
theorem dX1_idle_70 : decode cX1_idle 70 = .ok (.aload_n 0, 1) := by decide +kernel
theorem dX1_idle_71 : decode cX1_idle 71 = .ok (.iload 5, 2) := by decide +kernel
theorem dX1_idle_73 : decode cX1_idle 73 = .ok (.invokevirtual 38, 3) := by decide +kernel
theorem dX1_idle_76 : decode cX1_idle 76 = .ok (.aload_n 0, 1) := by decide +kernel
theorem dX1_idle_77 : decode cX1_idle 77 = .ok (.getfield 13, 3) := by decide +kernel
theorem dX1_idle_80 : decode cX1_idle 80 = .ok (.iload 5, 2) := by decide +kernel
theorem dX1_idle_82 : decode cX1_idle 82 = .ok (.iaload, 1) := by decide +kernel
theorem dX1_idle_83 : decode cX1_idle 83 = .ok (.if_icmp .ne 7, 3) := by decide +kernel
theorem dX1_idle_86 : decode cX1_idle 86 = .ok (.iconst 1, 1) := by decide +kernel
theorem dX1_idle_87 : decode cX1_idle 87 = .ok (.goto 4, 3) := by decide +kernel
theorem dX1_idle_90 : decode cX1_idle 90 = .ok (.iconst 0, 1) := by decide +kernel
theorem dX1_idle_91 : decode cX1_idle 91 = .ok (.istore 4, 2) := by decide +kernel
theorem dX1_idle_93 : decode cX1_idle 93 = .ok (.iinc 5 1, 3) := by decide +kernel
theorem dX1_idle_96 : decode cX1_idle 96 = .ok (.goto (-39), 3) := by decide +kernel
theorem dX1_idle_99 : decode cX1_idle 99 = .ok (.aload_n 0, 1) := by decide +kernel
theorem dX1_idle_100 : decode cX1_idle 100 = .ok (.iload_n 1, 1) := by decide +kernel
theorem dX1_idle_101 : decode cX1_idle 101 = .ok (.iload_n 2, 1) := by decide +kernel
theorem dX1_idle_102 : decode cX1_idle 102 = .ok (.iload_n 3, 1) := by decide +kernel
theorem dX1_idle_103 : decode cX1_idle 103 = .ok (.invokevirtual 47, 3) := by decide +kernel
theorem dX1_idle_106 : decode cX1_idle 106 = .ok (.pop, 1) := by decide +kernel
theorem dX1_idle_107 : decode cX1_idle 107 = .ok (.iload 4, 2) := by decide +kernel
theorem dX1_idle_109 : decode cX1_idle 109 = .ok (.ireturn, 1) := by decide +kernel
abbrev cX1_spans : ByteArray := prog_3_method_19_code
def yX1_spans : MethodName := ⟨RX1, "spans", "()I"⟩
theorem dX1_spans_0 : decode cX1_spans 0 = .ok (.iconst 0, 1) := by decide +kernel
theorem dX1_spans_1 : decode cX1_spans 1 = .ok (.istore_n 1, 1) := by decide +kernel
theorem dX1_spans_2 : decode cX1_spans 2 = .ok (.iconst 0, 1) := by decide +kernel
theorem dX1_spans_3 : decode cX1_spans 3 = .ok (.istore_n 2, 1) := by decide +kernel
theorem dX1_spans_4 : decode cX1_spans 4 = .ok (.iload_n 2, 1) := by decide +kernel
theorem dX1_spans_5 : decode cX1_spans 5 = .ok (.sipush 256, 3) := by decide +kernel
theorem dX1_spans_8 : decode cX1_spans 8 = .ok (.if_icmp .ge 25, 3) := by decide +kernel
theorem dX1_spans_11 : decode cX1_spans 11 = .ok (.aload_n 0, 1) := by decide +kernel
theorem dX1_spans_12 : decode cX1_spans 12 = .ok (.iload_n 2, 1) := by decide +kernel
theorem dX1_spans_13 : decode cX1_spans 13 = .ok (.invokevirtual 51, 3) := by decide +kernel
theorem dX1_spans_16 : decode cX1_spans 16 = .ok (.ifCond .eq 9, 3) := by decide +kernel
theorem dX1_spans_19 : decode cX1_spans 19 = .ok (.iload_n 1, 1) := by decide +kernel
theorem dX1_spans_20 : decode cX1_spans 20 = .ok (.iconst 1, 1) := by decide +kernel
theorem dX1_spans_21 : decode cX1_spans 21 = .ok (.iadd, 1) := by decide +kernel
theorem dX1_spans_22 : decode cX1_spans 22 = .ok (.goto 4, 3) := by decide +kernel
theorem dX1_spans_25 : decode cX1_spans 25 = .ok (.iload_n 1, 1) := by decide +kernel
theorem dX1_spans_26 : decode cX1_spans 26 = .ok (.istore_n 1, 1) := by decide +kernel
theorem dX1_spans_27 : decode cX1_spans 27 = .ok (.iinc 2 1, 3) := by decide +kernel
theorem dX1_spans_30 : decode cX1_spans 30 = .ok (.goto (-26), 3) := by decide +kernel
theorem dX1_spans_33 : decode cX1_spans 33 = .ok (.iload_n 1, 1) := by decide +kernel
theorem dX1_spans_34 : decode cX1_spans 34 = .ok (.ireturn, 1) := by decide +kernel
abbrev cX1_begins : ByteArray := prog_3_method_18_code
def yX1_begins : MethodName := ⟨RX1, "begins", "(I)Z"⟩
theorem dX1_begins_0 : decode cX1_begins 0 = .ok (.iload_n 1, 1) := by decide +kernel
theorem dX1_begins_1 : decode cX1_begins 1 = .ok (.ifCond .eq 18, 3) := by decide +kernel
theorem dX1_begins_4 : decode cX1_begins 4 = .ok (.aload_n 0, 1) := by decide +kernel
theorem dX1_begins_5 : decode cX1_begins 5 = .ok (.iload_n 1, 1) := by decide +kernel
theorem dX1_begins_6 : decode cX1_begins 6 = .ok (.invokevirtual 38, 3) := by decide +kernel
theorem dX1_begins_9 : decode cX1_begins 9 = .ok (.aload_n 0, 1) := by decide +kernel
theorem dX1_begins_10 : decode cX1_begins 10 = .ok (.iload_n 1, 1) := by decide +kernel
theorem dX1_begins_11 : decode cX1_begins 11 = .ok (.iconst 1, 1) := by decide +kernel
theorem dX1_begins_12 : decode cX1_begins 12 = .ok (.isub, 1) := by decide +kernel
theorem dX1_begins_13 : decode cX1_begins 13 = .ok (.invokevirtual 38, 3) := by decide +kernel
theorem dX1_begins_16 : decode cX1_begins 16 = .ok (.if_icmp .eq 7, 3) := by decide +kernel
theorem dX1_begins_19 : decode cX1_begins 19 = .ok (.iconst 1, 1) := by decide +kernel
theorem dX1_begins_20 : decode cX1_begins 20 = .ok (.goto 4, 3) := by decide +kernel
theorem dX1_begins_23 : decode cX1_begins 23 = .ok (.iconst 0, 1) := by decide +kernel
theorem dX1_begins_24 : decode cX1_begins 24 = .ok (.ireturn, 1) := by decide +kernel
abbrev cX1_spanStart : ByteArray := prog_3_method_20_code
def yX1_spanStart : MethodName := ⟨RX1, "spanStart", "(I)I"⟩
theorem dX1_spanStart_0 : decode cX1_spanStart 0 = .ok (.iconst 0, 1) := by decide +kernel
theorem dX1_spanStart_1 : decode cX1_spanStart 1 = .ok (.istore_n 2, 1) := by decide +kernel
theorem dX1_spanStart_2 : decode cX1_spanStart 2 = .ok (.iconst 0, 1) := by decide +kernel
theorem dX1_spanStart_3 : decode cX1_spanStart 3 = .ok (.istore_n 3, 1) := by decide +kernel
theorem dX1_spanStart_4 : decode cX1_spanStart 4 = .ok (.iload_n 3, 1) := by decide +kernel
theorem dX1_spanStart_5 : decode cX1_spanStart 5 = .ok (.sipush 256, 3) := by decide +kernel
theorem dX1_spanStart_8 : decode cX1_spanStart 8 = .ok (.if_icmp .ge 27, 3) := by decide +kernel
theorem dX1_spanStart_11 : decode cX1_spanStart 11 = .ok (.aload_n 0, 1) := by decide +kernel
theorem dX1_spanStart_12 : decode cX1_spanStart 12 = .ok (.iload_n 3, 1) := by decide +kernel
theorem dX1_spanStart_13 : decode cX1_spanStart 13 = .ok (.invokevirtual 51, 3) := by decide +kernel
theorem dX1_spanStart_16 : decode cX1_spanStart 16 = .ok (.ifCond .eq 13, 3) := by decide +kernel
theorem dX1_spanStart_19 : decode cX1_spanStart 19 = .ok (.iload_n 2, 1) := by decide +kernel
theorem dX1_spanStart_20 : decode cX1_spanStart 20 = .ok (.iload_n 1, 1) := by decide +kernel
theorem dX1_spanStart_21 : decode cX1_spanStart 21 = .ok (.if_icmp .ne 5, 3) := by decide +kernel
theorem dX1_spanStart_24 : decode cX1_spanStart 24 = .ok (.iload_n 3, 1) := by decide +kernel
theorem dX1_spanStart_25 : decode cX1_spanStart 25 = .ok (.ireturn, 1) := by decide +kernel
theorem dX1_spanStart_26 : decode cX1_spanStart 26 = .ok (.iinc 2 1, 3) := by decide +kernel
theorem dX1_spanStart_29 : decode cX1_spanStart 29 = .ok (.iinc 3 1, 3) := by decide +kernel
theorem dX1_spanStart_32 : decode cX1_spanStart 32 = .ok (.goto (-28), 3) := by decide +kernel
theorem dX1_spanStart_35 : decode cX1_spanStart 35 = .ok (.iconst (-1), 1) := by decide +kernel
theorem dX1_spanStart_36 : decode cX1_spanStart 36 = .ok (.ireturn, 1) := by decide +kernel
theorem q12 : (Jvm.Cond.initialized "RouteTableModel") ∈ lw_all := lw_g (lw_at lw_m0 2 rfl) rfl
theorem q141 : (Jvm.Cond.instantiable "RouteTableModel" (2 : Nat)) ∈ lw_all := lw_g (lw_at lw_m0 131 rfl) rfl
theorem q143 : (Jvm.Cond.instanceMethod ({ cls := "RouteTableModel", name := "<init>", desc := "()V" } : Jvm.MethodName)) ∈ lw_all := lw_g (lw_at lw_m0 133 rfl) rfl
theorem q144 : (Jvm.Cond.code ({ cls := "RouteTableModel", name := "<init>", desc := "()V" } : Jvm.MethodName) prog_3_method_1_code (1 : Nat) (Option.none : Option Jvm.ClassFile.FieldType)) ∈ lw_all := lw_g (lw_at lw_m0 134 rfl) rfl
theorem q145 : (Jvm.Cond.methodLink "RouteTableModel" (1 : Nat) ({ cls := "java/lang/Object", name := "<init>", desc := "()V" } : Jvm.MethodName)) ∈ lw_all := lw_g (lw_at lw_m0 135 rfl) rfl
theorem q146 : (Jvm.Cond.methodLink "RouteTableModel" (16 : Nat) ({ cls := "RouteTableModel", name := "clear", desc := "()V" } : Jvm.MethodName)) ∈ lw_all := lw_g (lw_at lw_m0 136 rfl) rfl
theorem q147 : (Jvm.Cond.instanceMethod ({ cls := "RouteTableModel", name := "clear", desc := "()V" } : Jvm.MethodName)) ∈ lw_all := lw_g (lw_at lw_m0 137 rfl) rfl
theorem q148 : (Jvm.Cond.selects "RouteTableModel" ({ cls := "RouteTableModel", name := "clear", desc := "()V" } : Jvm.MethodName) ({ cls := "RouteTableModel", name := "clear", desc := "()V" } : Jvm.MethodName)) ∈ lw_all := lw_g (lw_at lw_m0 138 rfl) rfl
theorem q149 : (Jvm.Cond.code ({ cls := "RouteTableModel", name := "clear", desc := "()V" } : Jvm.MethodName) prog_3_method_7_code (2 : Nat) (Option.none : Option Jvm.ClassFile.FieldType)) ∈ lw_all := lw_g (lw_at lw_m0 139 rfl) rfl
theorem q150 : (Jvm.Cond.fieldLink "RouteTableModel" (7 : Nat) "RouteTableModel" "goals" "[I") ∈ lw_all := lw_g (lw_at lw_m0 140 rfl) rfl
theorem q151 : (Jvm.Cond.fieldLink "RouteTableModel" (13 : Nat) "RouteTableModel" "before" "[I") ∈ lw_all := lw_g (lw_at lw_m0 141 rfl) rfl
theorem q152 : (Jvm.Cond.lays "RouteTableModel" "RouteTableModel" "goals" "[I") ∈ lw_all := lw_g (lw_at lw_m0 142 rfl) rfl
theorem q153 : (Jvm.Cond.soleField "RouteTableModel" "goals") ∈ lw_all := lw_g (lw_at lw_m0 143 rfl) rfl
theorem q154 : (Jvm.Cond.lays "RouteTableModel" "RouteTableModel" "before" "[I") ∈ lw_all := lw_g (lw_at lw_m0 144 rfl) rfl
theorem q155 : (Jvm.Cond.soleField "RouteTableModel" "before") ∈ lw_all := lw_g (lw_at lw_m0 145 rfl) rfl
theorem q156 : (Jvm.Cond.superclass "RouteTableModel" "java/lang/Object") ∈ lw_all := lw_g (lw_at lw_m0 146 rfl) rfl
theorem q158 : (Jvm.Cond.instanceMethod ({ cls := "RouteTableModel", name := "put", desc := "(III)Z" } : Jvm.MethodName)) ∈ lw_all := lw_g (lw_at lw_m0 148 rfl) rfl
theorem q159 : (Jvm.Cond.selects "RouteTableModel" ({ cls := "RouteTableModel", name := "put", desc := "(III)Z" } : Jvm.MethodName) ({ cls := "RouteTableModel", name := "put", desc := "(III)Z" } : Jvm.MethodName)) ∈ lw_all := lw_g (lw_at lw_m0 149 rfl) rfl
theorem q160 : (Jvm.Cond.code ({ cls := "RouteTableModel", name := "put", desc := "(III)Z" } : Jvm.MethodName) prog_3_method_4_code (5 : Nat) (Option.some Jvm.ClassFile.FieldType.boolean)) ∈ lw_all := lw_g (lw_at lw_m0 150 rfl) rfl
theorem q161 : (Jvm.Cond.methodLink "RouteTableModel" (19 : Nat) ({ cls := "RouteTableModel", name := "beginning", desc := "(II)Z" } : Jvm.MethodName)) ∈ lw_all := lw_g (lw_at lw_m0 151 rfl) rfl
theorem q162 : (Jvm.Cond.privateMethod ({ cls := "RouteTableModel", name := "beginning", desc := "(II)Z" } : Jvm.MethodName)) ∈ lw_tbl := lw_at lw_m0 152 rfl
theorem q163 : (Jvm.Cond.instanceMethod ({ cls := "RouteTableModel", name := "beginning", desc := "(II)Z" } : Jvm.MethodName)) ∈ lw_all := lw_g (lw_at lw_m0 153 rfl) rfl
theorem q164 : (Jvm.Cond.code ({ cls := "RouteTableModel", name := "beginning", desc := "(II)Z" } : Jvm.MethodName) prog_3_method_2_code (3 : Nat) (Option.some Jvm.ClassFile.FieldType.boolean)) ∈ lw_all := lw_g (lw_at lw_m0 154 rfl) rfl
theorem q165 : (Jvm.Cond.methodLink "RouteTableModel" (23 : Nat) ({ cls := "RouteTableModel", name := "cell", desc := "(II)I" } : Jvm.MethodName)) ∈ lw_all := lw_g (lw_at lw_m0 155 rfl) rfl
theorem q166 : (Jvm.Cond.privateMethod ({ cls := "RouteTableModel", name := "cell", desc := "(II)I" } : Jvm.MethodName)) ∈ lw_tbl := lw_at lw_m0 156 rfl
theorem q167 : (Jvm.Cond.instanceMethod ({ cls := "RouteTableModel", name := "cell", desc := "(II)I" } : Jvm.MethodName)) ∈ lw_all := lw_g (lw_at lw_m0 157 rfl) rfl
theorem q168 : (Jvm.Cond.code ({ cls := "RouteTableModel", name := "cell", desc := "(II)I" } : Jvm.MethodName) prog_3_method_3_code (3 : Nat) (Option.some Jvm.ClassFile.FieldType.int)) ∈ lw_all := lw_g (lw_at lw_m0 158 rfl) rfl
theorem q170 : (Jvm.Cond.instanceMethod ({ cls := "RouteTableModel", name := "drop", desc := "(II)Z" } : Jvm.MethodName)) ∈ lw_all := lw_g (lw_at lw_m0 160 rfl) rfl
theorem q171 : (Jvm.Cond.selects "RouteTableModel" ({ cls := "RouteTableModel", name := "drop", desc := "(II)Z" } : Jvm.MethodName) ({ cls := "RouteTableModel", name := "drop", desc := "(II)Z" } : Jvm.MethodName)) ∈ lw_all := lw_g (lw_at lw_m0 161 rfl) rfl
theorem q172 : (Jvm.Cond.code ({ cls := "RouteTableModel", name := "drop", desc := "(II)Z" } : Jvm.MethodName) prog_3_method_6_code (4 : Nat) (Option.some Jvm.ClassFile.FieldType.boolean)) ∈ lw_all := lw_g (lw_at lw_m0 162 rfl) rfl
theorem q173 : (Jvm.Cond.methodLink "RouteTableModel" (27 : Nat) ({ cls := "RouteTableModel", name := "is", desc := "(II)Z" } : Jvm.MethodName)) ∈ lw_all := lw_g (lw_at lw_m0 163 rfl) rfl
theorem q174 : (Jvm.Cond.privateMethod ({ cls := "RouteTableModel", name := "is", desc := "(II)Z" } : Jvm.MethodName)) ∈ lw_tbl := lw_at lw_m0 164 rfl
theorem q175 : (Jvm.Cond.instanceMethod ({ cls := "RouteTableModel", name := "is", desc := "(II)Z" } : Jvm.MethodName)) ∈ lw_all := lw_g (lw_at lw_m0 165 rfl) rfl
theorem q176 : (Jvm.Cond.code ({ cls := "RouteTableModel", name := "is", desc := "(II)Z" } : Jvm.MethodName) prog_3_method_5_code (3 : Nat) (Option.some Jvm.ClassFile.FieldType.boolean)) ∈ lw_all := lw_g (lw_at lw_m0 166 rfl) rfl
theorem q179 : (Jvm.Cond.instanceMethod ({ cls := "RouteTableModel", name := "routes", desc := "()I" } : Jvm.MethodName)) ∈ lw_all := lw_g (lw_at lw_m0 169 rfl) rfl
theorem q180 : (Jvm.Cond.selects "RouteTableModel" ({ cls := "RouteTableModel", name := "routes", desc := "()I" } : Jvm.MethodName) ({ cls := "RouteTableModel", name := "routes", desc := "()I" } : Jvm.MethodName)) ∈ lw_all := lw_g (lw_at lw_m0 170 rfl) rfl
theorem q181 : (Jvm.Cond.code ({ cls := "RouteTableModel", name := "routes", desc := "()I" } : Jvm.MethodName) prog_3_method_8_code (3 : Nat) (Option.some Jvm.ClassFile.FieldType.int)) ∈ lw_all := lw_g (lw_at lw_m0 171 rfl) rfl
theorem q183 : (Jvm.Cond.instanceMethod ({ cls := "RouteTableModel", name := "exact", desc := "(II)I" } : Jvm.MethodName)) ∈ lw_all := lw_g (lw_at lw_m0 173 rfl) rfl
theorem q184 : (Jvm.Cond.selects "RouteTableModel" ({ cls := "RouteTableModel", name := "exact", desc := "(II)I" } : Jvm.MethodName) ({ cls := "RouteTableModel", name := "exact", desc := "(II)I" } : Jvm.MethodName)) ∈ lw_all := lw_g (lw_at lw_m0 174 rfl) rfl
theorem q185 : (Jvm.Cond.code ({ cls := "RouteTableModel", name := "exact", desc := "(II)I" } : Jvm.MethodName) prog_3_method_9_code (3 : Nat) (Option.some Jvm.ClassFile.FieldType.int)) ∈ lw_all := lw_g (lw_at lw_m0 175 rfl) rfl
theorem q187 : (Jvm.Cond.instanceMethod ({ cls := "RouteTableModel", name := "goal", desc := "(I)I" } : Jvm.MethodName)) ∈ lw_all := lw_g (lw_at lw_m0 177 rfl) rfl
theorem q188 : (Jvm.Cond.selects "RouteTableModel" ({ cls := "RouteTableModel", name := "goal", desc := "(I)I" } : Jvm.MethodName) ({ cls := "RouteTableModel", name := "goal", desc := "(I)I" } : Jvm.MethodName)) ∈ lw_all := lw_g (lw_at lw_m0 178 rfl) rfl
theorem q189 : (Jvm.Cond.code ({ cls := "RouteTableModel", name := "goal", desc := "(I)I" } : Jvm.MethodName) prog_3_method_11_code (3 : Nat) (Option.some Jvm.ClassFile.FieldType.int)) ∈ lw_all := lw_g (lw_at lw_m0 179 rfl) rfl
theorem q190 : (Jvm.Cond.methodLink "RouteTableModel" (30 : Nat) ({ cls := "RouteTableModel", name := "bits", desc := "(I)I" } : Jvm.MethodName)) ∈ lw_all := lw_g (lw_at lw_m0 180 rfl) rfl
theorem q191 : (Jvm.Cond.instanceMethod ({ cls := "RouteTableModel", name := "bits", desc := "(I)I" } : Jvm.MethodName)) ∈ lw_all := lw_g (lw_at lw_m0 181 rfl) rfl
theorem q192 : (Jvm.Cond.selects "RouteTableModel" ({ cls := "RouteTableModel", name := "bits", desc := "(I)I" } : Jvm.MethodName) ({ cls := "RouteTableModel", name := "bits", desc := "(I)I" } : Jvm.MethodName)) ∈ lw_all := lw_g (lw_at lw_m0 182 rfl) rfl
theorem q193 : (Jvm.Cond.code ({ cls := "RouteTableModel", name := "bits", desc := "(I)I" } : Jvm.MethodName) prog_3_method_12_code (3 : Nat) (Option.some Jvm.ClassFile.FieldType.int)) ∈ lw_all := lw_g (lw_at lw_m0 183 rfl) rfl
theorem q194 : (Jvm.Cond.methodLink "RouteTableModel" (34 : Nat) ({ cls := "RouteTableModel", name := "address", desc := "(I)Z" } : Jvm.MethodName)) ∈ lw_all := lw_g (lw_at lw_m0 184 rfl) rfl
theorem q195 : (Jvm.Cond.privateMethod ({ cls := "RouteTableModel", name := "address", desc := "(I)Z" } : Jvm.MethodName)) ∈ lw_tbl := lw_at lw_m0 185 rfl
theorem q196 : (Jvm.Cond.instanceMethod ({ cls := "RouteTableModel", name := "address", desc := "(I)Z" } : Jvm.MethodName)) ∈ lw_all := lw_g (lw_at lw_m0 186 rfl) rfl
theorem q197 : (Jvm.Cond.code ({ cls := "RouteTableModel", name := "address", desc := "(I)Z" } : Jvm.MethodName) prog_3_method_10_code (2 : Nat) (Option.some Jvm.ClassFile.FieldType.boolean)) ∈ lw_all := lw_g (lw_at lw_m0 187 rfl) rfl
theorem q200 : (Jvm.Cond.instanceMethod ({ cls := "RouteTableModel", name := "matching", desc := "(I)I" } : Jvm.MethodName)) ∈ lw_all := lw_g (lw_at lw_m0 190 rfl) rfl
theorem q201 : (Jvm.Cond.selects "RouteTableModel" ({ cls := "RouteTableModel", name := "matching", desc := "(I)I" } : Jvm.MethodName) ({ cls := "RouteTableModel", name := "matching", desc := "(I)I" } : Jvm.MethodName)) ∈ lw_all := lw_g (lw_at lw_m0 191 rfl) rfl
theorem q202 : (Jvm.Cond.code ({ cls := "RouteTableModel", name := "matching", desc := "(I)I" } : Jvm.MethodName) prog_3_method_13_code (4 : Nat) (Option.some Jvm.ClassFile.FieldType.int)) ∈ lw_all := lw_g (lw_at lw_m0 192 rfl) rfl
theorem q204 : (Jvm.Cond.instanceMethod ({ cls := "RouteTableModel", name := "next", desc := "(II)I" } : Jvm.MethodName)) ∈ lw_all := lw_g (lw_at lw_m0 194 rfl) rfl
theorem q205 : (Jvm.Cond.selects "RouteTableModel" ({ cls := "RouteTableModel", name := "next", desc := "(II)I" } : Jvm.MethodName) ({ cls := "RouteTableModel", name := "next", desc := "(II)I" } : Jvm.MethodName)) ∈ lw_all := lw_g (lw_at lw_m0 195 rfl) rfl
theorem q206 : (Jvm.Cond.code ({ cls := "RouteTableModel", name := "next", desc := "(II)I" } : Jvm.MethodName) prog_3_method_14_code (4 : Nat) (Option.some Jvm.ClassFile.FieldType.int)) ∈ lw_all := lw_g (lw_at lw_m0 196 rfl) rfl
theorem q207 : (Jvm.Cond.methodLink "RouteTableModel" (38 : Nat) ({ cls := "RouteTableModel", name := "goal", desc := "(I)I" } : Jvm.MethodName)) ∈ lw_all := lw_g (lw_at lw_m0 197 rfl) rfl
theorem q209 : (Jvm.Cond.instanceMethod ({ cls := "RouteTableModel", name := "load", desc := "(II)I" } : Jvm.MethodName)) ∈ lw_all := lw_g (lw_at lw_m0 199 rfl) rfl
theorem q210 : (Jvm.Cond.selects "RouteTableModel" ({ cls := "RouteTableModel", name := "load", desc := "(II)I" } : Jvm.MethodName) ({ cls := "RouteTableModel", name := "load", desc := "(II)I" } : Jvm.MethodName)) ∈ lw_all := lw_g (lw_at lw_m0 200 rfl) rfl
theorem q211 : (Jvm.Cond.code ({ cls := "RouteTableModel", name := "load", desc := "(II)I" } : Jvm.MethodName) prog_3_method_15_code (6 : Nat) (Option.some Jvm.ClassFile.FieldType.int)) ∈ lw_all := lw_g (lw_at lw_m0 201 rfl) rfl
theorem q213 : (Jvm.Cond.instanceMethod ({ cls := "RouteTableModel", name := "sent", desc := "(I)I" } : Jvm.MethodName)) ∈ lw_all := lw_g (lw_at lw_m0 203 rfl) rfl
theorem q214 : (Jvm.Cond.selects "RouteTableModel" ({ cls := "RouteTableModel", name := "sent", desc := "(I)I" } : Jvm.MethodName) ({ cls := "RouteTableModel", name := "sent", desc := "(I)I" } : Jvm.MethodName)) ∈ lw_all := lw_g (lw_at lw_m0 204 rfl) rfl
theorem q215 : (Jvm.Cond.code ({ cls := "RouteTableModel", name := "sent", desc := "(I)I" } : Jvm.MethodName) prog_3_method_16_code (4 : Nat) (Option.some Jvm.ClassFile.FieldType.int)) ∈ lw_all := lw_g (lw_at lw_m0 205 rfl) rfl
theorem q217 : (Jvm.Cond.instanceMethod ({ cls := "RouteTableModel", name := "idle", desc := "(II)Z" } : Jvm.MethodName)) ∈ lw_all := lw_g (lw_at lw_m0 207 rfl) rfl
theorem q218 : (Jvm.Cond.selects "RouteTableModel" ({ cls := "RouteTableModel", name := "idle", desc := "(II)Z" } : Jvm.MethodName) ({ cls := "RouteTableModel", name := "idle", desc := "(II)Z" } : Jvm.MethodName)) ∈ lw_all := lw_g (lw_at lw_m0 208 rfl) rfl
theorem q219 : (Jvm.Cond.code ({ cls := "RouteTableModel", name := "idle", desc := "(II)Z" } : Jvm.MethodName) prog_3_method_17_code (6 : Nat) (Option.some Jvm.ClassFile.FieldType.boolean)) ∈ lw_all := lw_g (lw_at lw_m0 209 rfl) rfl
theorem q220 : (Jvm.Cond.methodLink "RouteTableModel" (41 : Nat) ({ cls := "RouteTableModel", name := "exact", desc := "(II)I" } : Jvm.MethodName)) ∈ lw_all := lw_g (lw_at lw_m0 210 rfl) rfl
theorem q221 : (Jvm.Cond.methodLink "RouteTableModel" (44 : Nat) ({ cls := "RouteTableModel", name := "drop", desc := "(II)Z" } : Jvm.MethodName)) ∈ lw_all := lw_g (lw_at lw_m0 211 rfl) rfl
theorem q222 : (Jvm.Cond.methodLink "RouteTableModel" (47 : Nat) ({ cls := "RouteTableModel", name := "put", desc := "(III)Z" } : Jvm.MethodName)) ∈ lw_all := lw_g (lw_at lw_m0 212 rfl) rfl
theorem q224 : (Jvm.Cond.instanceMethod ({ cls := "RouteTableModel", name := "spans", desc := "()I" } : Jvm.MethodName)) ∈ lw_all := lw_g (lw_at lw_m0 214 rfl) rfl
theorem q225 : (Jvm.Cond.selects "RouteTableModel" ({ cls := "RouteTableModel", name := "spans", desc := "()I" } : Jvm.MethodName) ({ cls := "RouteTableModel", name := "spans", desc := "()I" } : Jvm.MethodName)) ∈ lw_all := lw_g (lw_at lw_m0 215 rfl) rfl
theorem q226 : (Jvm.Cond.code ({ cls := "RouteTableModel", name := "spans", desc := "()I" } : Jvm.MethodName) prog_3_method_19_code (3 : Nat) (Option.some Jvm.ClassFile.FieldType.int)) ∈ lw_all := lw_g (lw_at lw_m0 216 rfl) rfl
theorem q227 : (Jvm.Cond.methodLink "RouteTableModel" (51 : Nat) ({ cls := "RouteTableModel", name := "begins", desc := "(I)Z" } : Jvm.MethodName)) ∈ lw_all := lw_g (lw_at lw_m0 217 rfl) rfl
theorem q228 : (Jvm.Cond.privateMethod ({ cls := "RouteTableModel", name := "begins", desc := "(I)Z" } : Jvm.MethodName)) ∈ lw_tbl := lw_at lw_m0 218 rfl
theorem q229 : (Jvm.Cond.instanceMethod ({ cls := "RouteTableModel", name := "begins", desc := "(I)Z" } : Jvm.MethodName)) ∈ lw_all := lw_g (lw_at lw_m0 219 rfl) rfl
theorem q230 : (Jvm.Cond.code ({ cls := "RouteTableModel", name := "begins", desc := "(I)Z" } : Jvm.MethodName) prog_3_method_18_code (2 : Nat) (Option.some Jvm.ClassFile.FieldType.boolean)) ∈ lw_all := lw_g (lw_at lw_m0 220 rfl) rfl
theorem q232 : (Jvm.Cond.instanceMethod ({ cls := "RouteTableModel", name := "spanStart", desc := "(I)I" } : Jvm.MethodName)) ∈ lw_all := lw_g (lw_at lw_m0 222 rfl) rfl
theorem q233 : (Jvm.Cond.selects "RouteTableModel" ({ cls := "RouteTableModel", name := "spanStart", desc := "(I)I" } : Jvm.MethodName) ({ cls := "RouteTableModel", name := "spanStart", desc := "(I)I" } : Jvm.MethodName)) ∈ lw_all := lw_g (lw_at lw_m0 223 rfl) rfl
theorem q234 : (Jvm.Cond.code ({ cls := "RouteTableModel", name := "spanStart", desc := "(I)I" } : Jvm.MethodName) prog_3_method_20_code (4 : Nat) (Option.some Jvm.ClassFile.FieldType.int)) ∈ lw_all := lw_g (lw_at lw_m0 224 rfl) rfl
theorem in_X1 : ∀ w ∈ wsX10, w ∈ lw_all := lw_in wsX10 [152, 154] (by decide +kernel) (by decide +kernel)
end
section
set_option maxRecDepth 100000
/-! the law's own entry -/
abbrev cL_law : ByteArray := code
theorem dL_law_0 : decode cL_law 0 = .ok (.new 7, 3) := by decide +kernel
theorem dL_law_3 : decode cL_law 3 = .ok (.dup, 1) := by decide +kernel
theorem dL_law_4 : decode cL_law 4 = .ok (.invokespecial 9, 3) := by decide +kernel
theorem dL_law_7 : decode cL_law 7 = .ok (.astore_n 1, 1) := by decide +kernel
theorem dL_law_8 : decode cL_law 8 = .ok (.new 10, 3) := by decide +kernel
theorem dL_law_11 : decode cL_law 11 = .ok (.dup, 1) := by decide +kernel
theorem dL_law_12 : decode cL_law 12 = .ok (.invokespecial 12, 3) := by decide +kernel
theorem dL_law_15 : decode cL_law 15 = .ok (.astore_n 2, 1) := by decide +kernel
theorem dL_law_16 : decode cL_law 16 = .ok (.iconst 0, 1) := by decide +kernel
theorem dL_law_17 : decode cL_law 17 = .ok (.istore_n 3, 1) := by decide +kernel
theorem dL_law_18 : decode cL_law 18 = .ok (.iload_n 3, 1) := by decide +kernel
theorem dL_law_19 : decode cL_law 19 = .ok (.aload_n 0, 1) := by decide +kernel
theorem dL_law_20 : decode cL_law 20 = .ok (.arraylength, 1) := by decide +kernel
theorem dL_law_21 : decode cL_law 21 = .ok (.iconst 4, 1) := by decide +kernel
theorem dL_law_22 : decode cL_law 22 = .ok (.isub, 1) := by decide +kernel
theorem dL_law_23 : decode cL_law 23 = .ok (.if_icmp .gt 447, 3) := by decide +kernel
theorem dL_law_26 : decode cL_law 26 = .ok (.aload_n 0, 1) := by decide +kernel
theorem dL_law_27 : decode cL_law 27 = .ok (.iload_n 3, 1) := by decide +kernel
theorem dL_law_28 : decode cL_law 28 = .ok (.iaload, 1) := by decide +kernel
theorem dL_law_29 : decode cL_law 29 = .ok (.bipush 15, 2) := by decide +kernel
theorem dL_law_31 : decode cL_law 31 = .ok (.iand, 1) := by decide +kernel
theorem dL_law_32 : decode cL_law 32 = .ok (.tableswitch 432 0 13 #[72, 115, 148, 159, 172, 205, 228, 251, 274, 307, 340, 363, 396, 409], 72) := by decide +kernel
theorem dL_law_104 : decode cL_law 104 = .ok (.aload_n 1, 1) := by decide +kernel
theorem dL_law_105 : decode cL_law 105 = .ok (.aload_n 0, 1) := by decide +kernel
theorem dL_law_106 : decode cL_law 106 = .ok (.iload_n 3, 1) := by decide +kernel
theorem dL_law_107 : decode cL_law 107 = .ok (.iconst 1, 1) := by decide +kernel
theorem dL_law_108 : decode cL_law 108 = .ok (.iadd, 1) := by decide +kernel
theorem dL_law_109 : decode cL_law 109 = .ok (.iaload, 1) := by decide +kernel
theorem dL_law_110 : decode cL_law 110 = .ok (.aload_n 0, 1) := by decide +kernel
theorem dL_law_111 : decode cL_law 111 = .ok (.iload_n 3, 1) := by decide +kernel
theorem dL_law_112 : decode cL_law 112 = .ok (.iconst 2, 1) := by decide +kernel
theorem dL_law_113 : decode cL_law 113 = .ok (.iadd, 1) := by decide +kernel
theorem dL_law_114 : decode cL_law 114 = .ok (.iaload, 1) := by decide +kernel
theorem dL_law_115 : decode cL_law 115 = .ok (.aload_n 0, 1) := by decide +kernel
theorem dL_law_116 : decode cL_law 116 = .ok (.iload_n 3, 1) := by decide +kernel
theorem dL_law_117 : decode cL_law 117 = .ok (.iconst 3, 1) := by decide +kernel
theorem dL_law_118 : decode cL_law 118 = .ok (.iadd, 1) := by decide +kernel
theorem dL_law_119 : decode cL_law 119 = .ok (.iaload, 1) := by decide +kernel
theorem dL_law_120 : decode cL_law 120 = .ok (.invokevirtual 13, 3) := by decide +kernel
theorem dL_law_123 : decode cL_law 123 = .ok (.aload_n 2, 1) := by decide +kernel
theorem dL_law_124 : decode cL_law 124 = .ok (.aload_n 0, 1) := by decide +kernel
theorem dL_law_125 : decode cL_law 125 = .ok (.iload_n 3, 1) := by decide +kernel
theorem dL_law_126 : decode cL_law 126 = .ok (.iconst 1, 1) := by decide +kernel
theorem dL_law_127 : decode cL_law 127 = .ok (.iadd, 1) := by decide +kernel
theorem dL_law_128 : decode cL_law 128 = .ok (.iaload, 1) := by decide +kernel
theorem dL_law_129 : decode cL_law 129 = .ok (.aload_n 0, 1) := by decide +kernel
theorem dL_law_130 : decode cL_law 130 = .ok (.iload_n 3, 1) := by decide +kernel
theorem dL_law_131 : decode cL_law 131 = .ok (.iconst 2, 1) := by decide +kernel
theorem dL_law_132 : decode cL_law 132 = .ok (.iadd, 1) := by decide +kernel
theorem dL_law_133 : decode cL_law 133 = .ok (.iaload, 1) := by decide +kernel
theorem dL_law_134 : decode cL_law 134 = .ok (.aload_n 0, 1) := by decide +kernel
theorem dL_law_135 : decode cL_law 135 = .ok (.iload_n 3, 1) := by decide +kernel
theorem dL_law_136 : decode cL_law 136 = .ok (.iconst 3, 1) := by decide +kernel
theorem dL_law_137 : decode cL_law 137 = .ok (.iadd, 1) := by decide +kernel
theorem dL_law_138 : decode cL_law 138 = .ok (.iaload, 1) := by decide +kernel
theorem dL_law_139 : decode cL_law 139 = .ok (.invokevirtual 17, 3) := by decide +kernel
theorem dL_law_142 : decode cL_law 142 = .ok (.if_icmp .eq 322, 3) := by decide +kernel
theorem dL_law_145 : decode cL_law 145 = .ok (.iconst 0, 1) := by decide +kernel
theorem dL_law_146 : decode cL_law 146 = .ok (.ireturn, 1) := by decide +kernel
theorem dL_law_147 : decode cL_law 147 = .ok (.aload_n 1, 1) := by decide +kernel
theorem dL_law_148 : decode cL_law 148 = .ok (.aload_n 0, 1) := by decide +kernel
theorem dL_law_149 : decode cL_law 149 = .ok (.iload_n 3, 1) := by decide +kernel
theorem dL_law_150 : decode cL_law 150 = .ok (.iconst 1, 1) := by decide +kernel
theorem dL_law_151 : decode cL_law 151 = .ok (.iadd, 1) := by decide +kernel
theorem dL_law_152 : decode cL_law 152 = .ok (.iaload, 1) := by decide +kernel
theorem dL_law_153 : decode cL_law 153 = .ok (.aload_n 0, 1) := by decide +kernel
theorem dL_law_154 : decode cL_law 154 = .ok (.iload_n 3, 1) := by decide +kernel
theorem dL_law_155 : decode cL_law 155 = .ok (.iconst 2, 1) := by decide +kernel
theorem dL_law_156 : decode cL_law 156 = .ok (.iadd, 1) := by decide +kernel
theorem dL_law_157 : decode cL_law 157 = .ok (.iaload, 1) := by decide +kernel
theorem dL_law_158 : decode cL_law 158 = .ok (.invokevirtual 18, 3) := by decide +kernel
theorem dL_law_161 : decode cL_law 161 = .ok (.aload_n 2, 1) := by decide +kernel
theorem dL_law_162 : decode cL_law 162 = .ok (.aload_n 0, 1) := by decide +kernel
theorem dL_law_163 : decode cL_law 163 = .ok (.iload_n 3, 1) := by decide +kernel
theorem dL_law_164 : decode cL_law 164 = .ok (.iconst 1, 1) := by decide +kernel
theorem dL_law_165 : decode cL_law 165 = .ok (.iadd, 1) := by decide +kernel
theorem dL_law_166 : decode cL_law 166 = .ok (.iaload, 1) := by decide +kernel
theorem dL_law_167 : decode cL_law 167 = .ok (.aload_n 0, 1) := by decide +kernel
theorem dL_law_168 : decode cL_law 168 = .ok (.iload_n 3, 1) := by decide +kernel
theorem dL_law_169 : decode cL_law 169 = .ok (.iconst 2, 1) := by decide +kernel
theorem dL_law_170 : decode cL_law 170 = .ok (.iadd, 1) := by decide +kernel
theorem dL_law_171 : decode cL_law 171 = .ok (.iaload, 1) := by decide +kernel
theorem dL_law_172 : decode cL_law 172 = .ok (.invokevirtual 22, 3) := by decide +kernel
theorem dL_law_175 : decode cL_law 175 = .ok (.if_icmp .eq 289, 3) := by decide +kernel
theorem dL_law_178 : decode cL_law 178 = .ok (.iconst 0, 1) := by decide +kernel
theorem dL_law_179 : decode cL_law 179 = .ok (.ireturn, 1) := by decide +kernel
theorem dL_law_180 : decode cL_law 180 = .ok (.aload_n 1, 1) := by decide +kernel
theorem dL_law_181 : decode cL_law 181 = .ok (.invokevirtual 23, 3) := by decide +kernel
theorem dL_law_184 : decode cL_law 184 = .ok (.aload_n 2, 1) := by decide +kernel
theorem dL_law_185 : decode cL_law 185 = .ok (.invokevirtual 26, 3) := by decide +kernel
theorem dL_law_188 : decode cL_law 188 = .ok (.goto 276, 3) := by decide +kernel
theorem dL_law_191 : decode cL_law 191 = .ok (.aload_n 1, 1) := by decide +kernel
theorem dL_law_192 : decode cL_law 192 = .ok (.invokevirtual 27, 3) := by decide +kernel
theorem dL_law_195 : decode cL_law 195 = .ok (.aload_n 2, 1) := by decide +kernel
theorem dL_law_196 : decode cL_law 196 = .ok (.invokevirtual 31, 3) := by decide +kernel
theorem dL_law_199 : decode cL_law 199 = .ok (.if_icmp .eq 265, 3) := by decide +kernel
theorem dL_law_202 : decode cL_law 202 = .ok (.iconst 0, 1) := by decide +kernel
theorem dL_law_203 : decode cL_law 203 = .ok (.ireturn, 1) := by decide +kernel
theorem dL_law_204 : decode cL_law 204 = .ok (.aload_n 1, 1) := by decide +kernel
theorem dL_law_205 : decode cL_law 205 = .ok (.aload_n 0, 1) := by decide +kernel
theorem dL_law_206 : decode cL_law 206 = .ok (.iload_n 3, 1) := by decide +kernel
theorem dL_law_207 : decode cL_law 207 = .ok (.iconst 1, 1) := by decide +kernel
theorem dL_law_208 : decode cL_law 208 = .ok (.iadd, 1) := by decide +kernel
theorem dL_law_209 : decode cL_law 209 = .ok (.iaload, 1) := by decide +kernel
theorem dL_law_210 : decode cL_law 210 = .ok (.aload_n 0, 1) := by decide +kernel
theorem dL_law_211 : decode cL_law 211 = .ok (.iload_n 3, 1) := by decide +kernel
theorem dL_law_212 : decode cL_law 212 = .ok (.iconst 2, 1) := by decide +kernel
theorem dL_law_213 : decode cL_law 213 = .ok (.iadd, 1) := by decide +kernel
theorem dL_law_214 : decode cL_law 214 = .ok (.iaload, 1) := by decide +kernel
theorem dL_law_215 : decode cL_law 215 = .ok (.invokevirtual 32, 3) := by decide +kernel
theorem dL_law_218 : decode cL_law 218 = .ok (.aload_n 2, 1) := by decide +kernel
theorem dL_law_219 : decode cL_law 219 = .ok (.aload_n 0, 1) := by decide +kernel
theorem dL_law_220 : decode cL_law 220 = .ok (.iload_n 3, 1) := by decide +kernel
theorem dL_law_221 : decode cL_law 221 = .ok (.iconst 1, 1) := by decide +kernel
theorem dL_law_222 : decode cL_law 222 = .ok (.iadd, 1) := by decide +kernel
theorem dL_law_223 : decode cL_law 223 = .ok (.iaload, 1) := by decide +kernel
theorem dL_law_224 : decode cL_law 224 = .ok (.aload_n 0, 1) := by decide +kernel
theorem dL_law_225 : decode cL_law 225 = .ok (.iload_n 3, 1) := by decide +kernel
theorem dL_law_226 : decode cL_law 226 = .ok (.iconst 2, 1) := by decide +kernel
theorem dL_law_227 : decode cL_law 227 = .ok (.iadd, 1) := by decide +kernel
theorem dL_law_228 : decode cL_law 228 = .ok (.iaload, 1) := by decide +kernel
theorem dL_law_229 : decode cL_law 229 = .ok (.invokevirtual 36, 3) := by decide +kernel
theorem dL_law_232 : decode cL_law 232 = .ok (.if_icmp .eq 232, 3) := by decide +kernel
theorem dL_law_235 : decode cL_law 235 = .ok (.iconst 0, 1) := by decide +kernel
theorem dL_law_236 : decode cL_law 236 = .ok (.ireturn, 1) := by decide +kernel
theorem dL_law_237 : decode cL_law 237 = .ok (.aload_n 1, 1) := by decide +kernel
theorem dL_law_238 : decode cL_law 238 = .ok (.aload_n 0, 1) := by decide +kernel
theorem dL_law_239 : decode cL_law 239 = .ok (.iload_n 3, 1) := by decide +kernel
theorem dL_law_240 : decode cL_law 240 = .ok (.iconst 1, 1) := by decide +kernel
theorem dL_law_241 : decode cL_law 241 = .ok (.iadd, 1) := by decide +kernel
theorem dL_law_242 : decode cL_law 242 = .ok (.iaload, 1) := by decide +kernel
theorem dL_law_243 : decode cL_law 243 = .ok (.invokevirtual 37, 3) := by decide +kernel
theorem dL_law_246 : decode cL_law 246 = .ok (.aload_n 2, 1) := by decide +kernel
theorem dL_law_247 : decode cL_law 247 = .ok (.aload_n 0, 1) := by decide +kernel
theorem dL_law_248 : decode cL_law 248 = .ok (.iload_n 3, 1) := by decide +kernel
theorem dL_law_249 : decode cL_law 249 = .ok (.iconst 1, 1) := by decide +kernel
theorem dL_law_250 : decode cL_law 250 = .ok (.iadd, 1) := by decide +kernel
theorem dL_law_251 : decode cL_law 251 = .ok (.iaload, 1) := by decide +kernel
theorem dL_law_252 : decode cL_law 252 = .ok (.invokevirtual 41, 3) := by decide +kernel
theorem dL_law_255 : decode cL_law 255 = .ok (.if_icmp .eq 209, 3) := by decide +kernel
theorem dL_law_258 : decode cL_law 258 = .ok (.iconst 0, 1) := by decide +kernel
theorem dL_law_259 : decode cL_law 259 = .ok (.ireturn, 1) := by decide +kernel
theorem dL_law_260 : decode cL_law 260 = .ok (.aload_n 1, 1) := by decide +kernel
theorem dL_law_261 : decode cL_law 261 = .ok (.aload_n 0, 1) := by decide +kernel
theorem dL_law_262 : decode cL_law 262 = .ok (.iload_n 3, 1) := by decide +kernel
theorem dL_law_263 : decode cL_law 263 = .ok (.iconst 1, 1) := by decide +kernel
theorem dL_law_264 : decode cL_law 264 = .ok (.iadd, 1) := by decide +kernel
theorem dL_law_265 : decode cL_law 265 = .ok (.iaload, 1) := by decide +kernel
theorem dL_law_266 : decode cL_law 266 = .ok (.invokevirtual 42, 3) := by decide +kernel
theorem dL_law_269 : decode cL_law 269 = .ok (.aload_n 2, 1) := by decide +kernel
theorem dL_law_270 : decode cL_law 270 = .ok (.aload_n 0, 1) := by decide +kernel
theorem dL_law_271 : decode cL_law 271 = .ok (.iload_n 3, 1) := by decide +kernel
theorem dL_law_272 : decode cL_law 272 = .ok (.iconst 1, 1) := by decide +kernel
theorem dL_law_273 : decode cL_law 273 = .ok (.iadd, 1) := by decide +kernel
theorem dL_law_274 : decode cL_law 274 = .ok (.iaload, 1) := by decide +kernel
theorem dL_law_275 : decode cL_law 275 = .ok (.invokevirtual 45, 3) := by decide +kernel
theorem dL_law_278 : decode cL_law 278 = .ok (.if_icmp .eq 186, 3) := by decide +kernel
theorem dL_law_281 : decode cL_law 281 = .ok (.iconst 0, 1) := by decide +kernel
theorem dL_law_282 : decode cL_law 282 = .ok (.ireturn, 1) := by decide +kernel
theorem dL_law_283 : decode cL_law 283 = .ok (.aload_n 1, 1) := by decide +kernel
theorem dL_law_284 : decode cL_law 284 = .ok (.aload_n 0, 1) := by decide +kernel
theorem dL_law_285 : decode cL_law 285 = .ok (.iload_n 3, 1) := by decide +kernel
theorem dL_law_286 : decode cL_law 286 = .ok (.iconst 1, 1) := by decide +kernel
theorem dL_law_287 : decode cL_law 287 = .ok (.iadd, 1) := by decide +kernel
theorem dL_law_288 : decode cL_law 288 = .ok (.iaload, 1) := by decide +kernel
theorem dL_law_289 : decode cL_law 289 = .ok (.invokevirtual 46, 3) := by decide +kernel
theorem dL_law_292 : decode cL_law 292 = .ok (.aload_n 2, 1) := by decide +kernel
theorem dL_law_293 : decode cL_law 293 = .ok (.aload_n 0, 1) := by decide +kernel
theorem dL_law_294 : decode cL_law 294 = .ok (.iload_n 3, 1) := by decide +kernel
theorem dL_law_295 : decode cL_law 295 = .ok (.iconst 1, 1) := by decide +kernel
theorem dL_law_296 : decode cL_law 296 = .ok (.iadd, 1) := by decide +kernel
theorem dL_law_297 : decode cL_law 297 = .ok (.iaload, 1) := by decide +kernel
theorem dL_law_298 : decode cL_law 298 = .ok (.invokevirtual 49, 3) := by decide +kernel
theorem dL_law_301 : decode cL_law 301 = .ok (.if_icmp .eq 163, 3) := by decide +kernel
theorem dL_law_304 : decode cL_law 304 = .ok (.iconst 0, 1) := by decide +kernel
theorem dL_law_305 : decode cL_law 305 = .ok (.ireturn, 1) := by decide +kernel
theorem dL_law_306 : decode cL_law 306 = .ok (.aload_n 1, 1) := by decide +kernel
theorem dL_law_307 : decode cL_law 307 = .ok (.aload_n 0, 1) := by decide +kernel
theorem dL_law_308 : decode cL_law 308 = .ok (.iload_n 3, 1) := by decide +kernel
theorem dL_law_309 : decode cL_law 309 = .ok (.iconst 1, 1) := by decide +kernel
theorem dL_law_310 : decode cL_law 310 = .ok (.iadd, 1) := by decide +kernel
theorem dL_law_311 : decode cL_law 311 = .ok (.iaload, 1) := by decide +kernel
theorem dL_law_312 : decode cL_law 312 = .ok (.aload_n 0, 1) := by decide +kernel
theorem dL_law_313 : decode cL_law 313 = .ok (.iload_n 3, 1) := by decide +kernel
theorem dL_law_314 : decode cL_law 314 = .ok (.iconst 2, 1) := by decide +kernel
theorem dL_law_315 : decode cL_law 315 = .ok (.iadd, 1) := by decide +kernel
theorem dL_law_316 : decode cL_law 316 = .ok (.iaload, 1) := by decide +kernel
theorem dL_law_317 : decode cL_law 317 = .ok (.invokevirtual 50, 3) := by decide +kernel
theorem dL_law_320 : decode cL_law 320 = .ok (.aload_n 2, 1) := by decide +kernel
theorem dL_law_321 : decode cL_law 321 = .ok (.aload_n 0, 1) := by decide +kernel
theorem dL_law_322 : decode cL_law 322 = .ok (.iload_n 3, 1) := by decide +kernel
theorem dL_law_323 : decode cL_law 323 = .ok (.iconst 1, 1) := by decide +kernel
theorem dL_law_324 : decode cL_law 324 = .ok (.iadd, 1) := by decide +kernel
theorem dL_law_325 : decode cL_law 325 = .ok (.iaload, 1) := by decide +kernel
theorem dL_law_326 : decode cL_law 326 = .ok (.aload_n 0, 1) := by decide +kernel
theorem dL_law_327 : decode cL_law 327 = .ok (.iload_n 3, 1) := by decide +kernel
theorem dL_law_328 : decode cL_law 328 = .ok (.iconst 2, 1) := by decide +kernel
theorem dL_law_329 : decode cL_law 329 = .ok (.iadd, 1) := by decide +kernel
theorem dL_law_330 : decode cL_law 330 = .ok (.iaload, 1) := by decide +kernel
theorem dL_law_331 : decode cL_law 331 = .ok (.invokevirtual 53, 3) := by decide +kernel
theorem dL_law_334 : decode cL_law 334 = .ok (.if_icmp .eq 130, 3) := by decide +kernel
theorem dL_law_337 : decode cL_law 337 = .ok (.iconst 0, 1) := by decide +kernel
theorem dL_law_338 : decode cL_law 338 = .ok (.ireturn, 1) := by decide +kernel
theorem dL_law_339 : decode cL_law 339 = .ok (.aload_n 1, 1) := by decide +kernel
theorem dL_law_340 : decode cL_law 340 = .ok (.aload_n 0, 1) := by decide +kernel
theorem dL_law_341 : decode cL_law 341 = .ok (.iload_n 3, 1) := by decide +kernel
theorem dL_law_342 : decode cL_law 342 = .ok (.iconst 1, 1) := by decide +kernel
theorem dL_law_343 : decode cL_law 343 = .ok (.iadd, 1) := by decide +kernel
theorem dL_law_344 : decode cL_law 344 = .ok (.iaload, 1) := by decide +kernel
theorem dL_law_345 : decode cL_law 345 = .ok (.aload_n 0, 1) := by decide +kernel
theorem dL_law_346 : decode cL_law 346 = .ok (.iload_n 3, 1) := by decide +kernel
theorem dL_law_347 : decode cL_law 347 = .ok (.iconst 2, 1) := by decide +kernel
theorem dL_law_348 : decode cL_law 348 = .ok (.iadd, 1) := by decide +kernel
theorem dL_law_349 : decode cL_law 349 = .ok (.iaload, 1) := by decide +kernel
theorem dL_law_350 : decode cL_law 350 = .ok (.invokevirtual 54, 3) := by decide +kernel
theorem dL_law_353 : decode cL_law 353 = .ok (.aload_n 2, 1) := by decide +kernel
theorem dL_law_354 : decode cL_law 354 = .ok (.aload_n 0, 1) := by decide +kernel
theorem dL_law_355 : decode cL_law 355 = .ok (.iload_n 3, 1) := by decide +kernel
theorem dL_law_356 : decode cL_law 356 = .ok (.iconst 1, 1) := by decide +kernel
theorem dL_law_357 : decode cL_law 357 = .ok (.iadd, 1) := by decide +kernel
theorem dL_law_358 : decode cL_law 358 = .ok (.iaload, 1) := by decide +kernel
theorem dL_law_359 : decode cL_law 359 = .ok (.aload_n 0, 1) := by decide +kernel
theorem dL_law_360 : decode cL_law 360 = .ok (.iload_n 3, 1) := by decide +kernel
theorem dL_law_361 : decode cL_law 361 = .ok (.iconst 2, 1) := by decide +kernel
theorem dL_law_362 : decode cL_law 362 = .ok (.iadd, 1) := by decide +kernel
theorem dL_law_363 : decode cL_law 363 = .ok (.iaload, 1) := by decide +kernel
theorem dL_law_364 : decode cL_law 364 = .ok (.invokevirtual 57, 3) := by decide +kernel
theorem dL_law_367 : decode cL_law 367 = .ok (.if_icmp .eq 97, 3) := by decide +kernel
theorem dL_law_370 : decode cL_law 370 = .ok (.iconst 0, 1) := by decide +kernel
theorem dL_law_371 : decode cL_law 371 = .ok (.ireturn, 1) := by decide +kernel
theorem dL_law_372 : decode cL_law 372 = .ok (.aload_n 1, 1) := by decide +kernel
theorem dL_law_373 : decode cL_law 373 = .ok (.aload_n 0, 1) := by decide +kernel
theorem dL_law_374 : decode cL_law 374 = .ok (.iload_n 3, 1) := by decide +kernel
theorem dL_law_375 : decode cL_law 375 = .ok (.iconst 1, 1) := by decide +kernel
theorem dL_law_376 : decode cL_law 376 = .ok (.iadd, 1) := by decide +kernel
theorem dL_law_377 : decode cL_law 377 = .ok (.iaload, 1) := by decide +kernel
theorem dL_law_378 : decode cL_law 378 = .ok (.invokevirtual 58, 3) := by decide +kernel
theorem dL_law_381 : decode cL_law 381 = .ok (.aload_n 2, 1) := by decide +kernel
theorem dL_law_382 : decode cL_law 382 = .ok (.aload_n 0, 1) := by decide +kernel
theorem dL_law_383 : decode cL_law 383 = .ok (.iload_n 3, 1) := by decide +kernel
theorem dL_law_384 : decode cL_law 384 = .ok (.iconst 1, 1) := by decide +kernel
theorem dL_law_385 : decode cL_law 385 = .ok (.iadd, 1) := by decide +kernel
theorem dL_law_386 : decode cL_law 386 = .ok (.iaload, 1) := by decide +kernel
theorem dL_law_387 : decode cL_law 387 = .ok (.invokevirtual 61, 3) := by decide +kernel
theorem dL_law_390 : decode cL_law 390 = .ok (.if_icmp .eq 74, 3) := by decide +kernel
theorem dL_law_393 : decode cL_law 393 = .ok (.iconst 0, 1) := by decide +kernel
theorem dL_law_394 : decode cL_law 394 = .ok (.ireturn, 1) := by decide +kernel
theorem dL_law_395 : decode cL_law 395 = .ok (.aload_n 1, 1) := by decide +kernel
theorem dL_law_396 : decode cL_law 396 = .ok (.aload_n 0, 1) := by decide +kernel
theorem dL_law_397 : decode cL_law 397 = .ok (.iload_n 3, 1) := by decide +kernel
theorem dL_law_398 : decode cL_law 398 = .ok (.iconst 1, 1) := by decide +kernel
theorem dL_law_399 : decode cL_law 399 = .ok (.iadd, 1) := by decide +kernel
theorem dL_law_400 : decode cL_law 400 = .ok (.iaload, 1) := by decide +kernel
theorem dL_law_401 : decode cL_law 401 = .ok (.aload_n 0, 1) := by decide +kernel
theorem dL_law_402 : decode cL_law 402 = .ok (.iload_n 3, 1) := by decide +kernel
theorem dL_law_403 : decode cL_law 403 = .ok (.iconst 2, 1) := by decide +kernel
theorem dL_law_404 : decode cL_law 404 = .ok (.iadd, 1) := by decide +kernel
theorem dL_law_405 : decode cL_law 405 = .ok (.iaload, 1) := by decide +kernel
theorem dL_law_406 : decode cL_law 406 = .ok (.invokevirtual 62, 3) := by decide +kernel
theorem dL_law_409 : decode cL_law 409 = .ok (.aload_n 2, 1) := by decide +kernel
theorem dL_law_410 : decode cL_law 410 = .ok (.aload_n 0, 1) := by decide +kernel
theorem dL_law_411 : decode cL_law 411 = .ok (.iload_n 3, 1) := by decide +kernel
theorem dL_law_412 : decode cL_law 412 = .ok (.iconst 1, 1) := by decide +kernel
theorem dL_law_413 : decode cL_law 413 = .ok (.iadd, 1) := by decide +kernel
theorem dL_law_414 : decode cL_law 414 = .ok (.iaload, 1) := by decide +kernel
theorem dL_law_415 : decode cL_law 415 = .ok (.aload_n 0, 1) := by decide +kernel
theorem dL_law_416 : decode cL_law 416 = .ok (.iload_n 3, 1) := by decide +kernel
theorem dL_law_417 : decode cL_law 417 = .ok (.iconst 2, 1) := by decide +kernel
theorem dL_law_418 : decode cL_law 418 = .ok (.iadd, 1) := by decide +kernel
theorem dL_law_419 : decode cL_law 419 = .ok (.iaload, 1) := by decide +kernel
theorem dL_law_420 : decode cL_law 420 = .ok (.invokevirtual 65, 3) := by decide +kernel
theorem dL_law_423 : decode cL_law 423 = .ok (.if_icmp .eq 41, 3) := by decide +kernel
theorem dL_law_426 : decode cL_law 426 = .ok (.iconst 0, 1) := by decide +kernel
theorem dL_law_427 : decode cL_law 427 = .ok (.ireturn, 1) := by decide +kernel
theorem dL_law_428 : decode cL_law 428 = .ok (.aload_n 1, 1) := by decide +kernel
theorem dL_law_429 : decode cL_law 429 = .ok (.invokevirtual 66, 3) := by decide +kernel
theorem dL_law_432 : decode cL_law 432 = .ok (.aload_n 2, 1) := by decide +kernel
theorem dL_law_433 : decode cL_law 433 = .ok (.invokevirtual 69, 3) := by decide +kernel
theorem dL_law_436 : decode cL_law 436 = .ok (.if_icmp .eq 28, 3) := by decide +kernel
theorem dL_law_439 : decode cL_law 439 = .ok (.iconst 0, 1) := by decide +kernel
theorem dL_law_440 : decode cL_law 440 = .ok (.ireturn, 1) := by decide +kernel
theorem dL_law_441 : decode cL_law 441 = .ok (.aload_n 1, 1) := by decide +kernel
theorem dL_law_442 : decode cL_law 442 = .ok (.aload_n 0, 1) := by decide +kernel
theorem dL_law_443 : decode cL_law 443 = .ok (.iload_n 3, 1) := by decide +kernel
theorem dL_law_444 : decode cL_law 444 = .ok (.iconst 1, 1) := by decide +kernel
theorem dL_law_445 : decode cL_law 445 = .ok (.iadd, 1) := by decide +kernel
theorem dL_law_446 : decode cL_law 446 = .ok (.iaload, 1) := by decide +kernel
theorem dL_law_447 : decode cL_law 447 = .ok (.invokevirtual 70, 3) := by decide +kernel
theorem dL_law_450 : decode cL_law 450 = .ok (.aload_n 2, 1) := by decide +kernel
theorem dL_law_451 : decode cL_law 451 = .ok (.aload_n 0, 1) := by decide +kernel
theorem dL_law_452 : decode cL_law 452 = .ok (.iload_n 3, 1) := by decide +kernel
theorem dL_law_453 : decode cL_law 453 = .ok (.iconst 1, 1) := by decide +kernel
theorem dL_law_454 : decode cL_law 454 = .ok (.iadd, 1) := by decide +kernel
theorem dL_law_455 : decode cL_law 455 = .ok (.iaload, 1) := by decide +kernel
theorem dL_law_456 : decode cL_law 456 = .ok (.invokevirtual 73, 3) := by decide +kernel
theorem dL_law_459 : decode cL_law 459 = .ok (.if_icmp .eq 5, 3) := by decide +kernel
theorem dL_law_462 : decode cL_law 462 = .ok (.iconst 0, 1) := by decide +kernel
theorem dL_law_463 : decode cL_law 463 = .ok (.ireturn, 1) := by decide +kernel
theorem dL_law_464 : decode cL_law 464 = .ok (.iinc 3 4, 3) := by decide +kernel
theorem dL_law_467 : decode cL_law 467 = .ok (.goto (-449), 3) := by decide +kernel
theorem dL_law_470 : decode cL_law 470 = .ok (.iconst 1, 1) := by decide +kernel
theorem dL_law_471 : decode cL_law 471 = .ok (.ireturn, 1) := by decide +kernel

theorem q10 : (Jvm.Cond.initialized "RouteTableLaw") ∈ lw_all := lw_g (lw_at lw_m0 0 rfl) rfl
theorem q13 : (Jvm.Cond.classLink "RouteTableLaw" (7 : Nat) "RouteTable") ∈ lw_all := lw_g (lw_at lw_m0 3 rfl) rfl
theorem q15 : (Jvm.Cond.methodLink "RouteTableLaw" (9 : Nat) ({ cls := "RouteTable", name := "<init>", desc := "()V" } : Jvm.MethodName)) ∈ lw_all := lw_g (lw_at lw_m0 5 rfl) rfl
theorem q39 : (Jvm.Cond.methodLink "RouteTableLaw" (13 : Nat) ({ cls := "RouteTable", name := "put", desc := "(III)Z" } : Jvm.MethodName)) ∈ lw_all := lw_g (lw_at lw_m0 29 rfl) rfl
theorem q56 : (Jvm.Cond.methodLink "RouteTableLaw" (18 : Nat) ({ cls := "RouteTable", name := "drop", desc := "(II)Z" } : Jvm.MethodName)) ∈ lw_all := lw_g (lw_at lw_m0 46 rfl) rfl
theorem q60 : (Jvm.Cond.methodLink "RouteTableLaw" (23 : Nat) ({ cls := "RouteTable", name := "clear", desc := "()V" } : Jvm.MethodName)) ∈ lw_all := lw_g (lw_at lw_m0 50 rfl) rfl
theorem q64 : (Jvm.Cond.methodLink "RouteTableLaw" (27 : Nat) ({ cls := "RouteTable", name := "routes", desc := "()I" } : Jvm.MethodName)) ∈ lw_all := lw_g (lw_at lw_m0 54 rfl) rfl
theorem q68 : (Jvm.Cond.methodLink "RouteTableLaw" (32 : Nat) ({ cls := "RouteTable", name := "exact", desc := "(II)I" } : Jvm.MethodName)) ∈ lw_all := lw_g (lw_at lw_m0 58 rfl) rfl
theorem q76 : (Jvm.Cond.methodLink "RouteTableLaw" (37 : Nat) ({ cls := "RouteTable", name := "goal", desc := "(I)I" } : Jvm.MethodName)) ∈ lw_all := lw_g (lw_at lw_m0 66 rfl) rfl
theorem q100 : (Jvm.Cond.methodLink "RouteTableLaw" (42 : Nat) ({ cls := "RouteTable", name := "bits", desc := "(I)I" } : Jvm.MethodName)) ∈ lw_all := lw_g (lw_at lw_m0 90 rfl) rfl
theorem q104 : (Jvm.Cond.methodLink "RouteTableLaw" (46 : Nat) ({ cls := "RouteTable", name := "matching", desc := "(I)I" } : Jvm.MethodName)) ∈ lw_all := lw_g (lw_at lw_m0 94 rfl) rfl
theorem q111 : (Jvm.Cond.methodLink "RouteTableLaw" (50 : Nat) ({ cls := "RouteTable", name := "next", desc := "(II)I" } : Jvm.MethodName)) ∈ lw_all := lw_g (lw_at lw_m0 101 rfl) rfl
theorem q115 : (Jvm.Cond.methodLink "RouteTableLaw" (54 : Nat) ({ cls := "RouteTable", name := "load", desc := "(II)I" } : Jvm.MethodName)) ∈ lw_all := lw_g (lw_at lw_m0 105 rfl) rfl
theorem q119 : (Jvm.Cond.methodLink "RouteTableLaw" (58 : Nat) ({ cls := "RouteTable", name := "sent", desc := "(I)I" } : Jvm.MethodName)) ∈ lw_all := lw_g (lw_at lw_m0 109 rfl) rfl
theorem q123 : (Jvm.Cond.methodLink "RouteTableLaw" (62 : Nat) ({ cls := "RouteTable", name := "idle", desc := "(II)Z" } : Jvm.MethodName)) ∈ lw_all := lw_g (lw_at lw_m0 113 rfl) rfl
theorem q128 : (Jvm.Cond.methodLink "RouteTableLaw" (66 : Nat) ({ cls := "RouteTable", name := "spans", desc := "()I" } : Jvm.MethodName)) ∈ lw_all := lw_g (lw_at lw_m0 118 rfl) rfl
theorem q136 : (Jvm.Cond.methodLink "RouteTableLaw" (70 : Nat) ({ cls := "RouteTable", name := "spanStart", desc := "(I)I" } : Jvm.MethodName)) ∈ lw_all := lw_g (lw_at lw_m0 126 rfl) rfl
theorem q140 : (Jvm.Cond.classLink "RouteTableLaw" (10 : Nat) "RouteTableModel") ∈ lw_all := lw_g (lw_at lw_m0 130 rfl) rfl
theorem q142 : (Jvm.Cond.methodLink "RouteTableLaw" (12 : Nat) ({ cls := "RouteTableModel", name := "<init>", desc := "()V" } : Jvm.MethodName)) ∈ lw_all := lw_g (lw_at lw_m0 132 rfl) rfl
theorem q157 : (Jvm.Cond.methodLink "RouteTableLaw" (17 : Nat) ({ cls := "RouteTableModel", name := "put", desc := "(III)Z" } : Jvm.MethodName)) ∈ lw_all := lw_g (lw_at lw_m0 147 rfl) rfl
theorem q169 : (Jvm.Cond.methodLink "RouteTableLaw" (22 : Nat) ({ cls := "RouteTableModel", name := "drop", desc := "(II)Z" } : Jvm.MethodName)) ∈ lw_all := lw_g (lw_at lw_m0 159 rfl) rfl
theorem q177 : (Jvm.Cond.methodLink "RouteTableLaw" (26 : Nat) ({ cls := "RouteTableModel", name := "clear", desc := "()V" } : Jvm.MethodName)) ∈ lw_all := lw_g (lw_at lw_m0 167 rfl) rfl
theorem q178 : (Jvm.Cond.methodLink "RouteTableLaw" (31 : Nat) ({ cls := "RouteTableModel", name := "routes", desc := "()I" } : Jvm.MethodName)) ∈ lw_all := lw_g (lw_at lw_m0 168 rfl) rfl
theorem q182 : (Jvm.Cond.methodLink "RouteTableLaw" (36 : Nat) ({ cls := "RouteTableModel", name := "exact", desc := "(II)I" } : Jvm.MethodName)) ∈ lw_all := lw_g (lw_at lw_m0 172 rfl) rfl
theorem q186 : (Jvm.Cond.methodLink "RouteTableLaw" (41 : Nat) ({ cls := "RouteTableModel", name := "goal", desc := "(I)I" } : Jvm.MethodName)) ∈ lw_all := lw_g (lw_at lw_m0 176 rfl) rfl
theorem q198 : (Jvm.Cond.methodLink "RouteTableLaw" (45 : Nat) ({ cls := "RouteTableModel", name := "bits", desc := "(I)I" } : Jvm.MethodName)) ∈ lw_all := lw_g (lw_at lw_m0 188 rfl) rfl
theorem q199 : (Jvm.Cond.methodLink "RouteTableLaw" (49 : Nat) ({ cls := "RouteTableModel", name := "matching", desc := "(I)I" } : Jvm.MethodName)) ∈ lw_all := lw_g (lw_at lw_m0 189 rfl) rfl
theorem q203 : (Jvm.Cond.methodLink "RouteTableLaw" (53 : Nat) ({ cls := "RouteTableModel", name := "next", desc := "(II)I" } : Jvm.MethodName)) ∈ lw_all := lw_g (lw_at lw_m0 193 rfl) rfl
theorem q208 : (Jvm.Cond.methodLink "RouteTableLaw" (57 : Nat) ({ cls := "RouteTableModel", name := "load", desc := "(II)I" } : Jvm.MethodName)) ∈ lw_all := lw_g (lw_at lw_m0 198 rfl) rfl
theorem q212 : (Jvm.Cond.methodLink "RouteTableLaw" (61 : Nat) ({ cls := "RouteTableModel", name := "sent", desc := "(I)I" } : Jvm.MethodName)) ∈ lw_all := lw_g (lw_at lw_m0 202 rfl) rfl
theorem q216 : (Jvm.Cond.methodLink "RouteTableLaw" (65 : Nat) ({ cls := "RouteTableModel", name := "idle", desc := "(II)Z" } : Jvm.MethodName)) ∈ lw_all := lw_g (lw_at lw_m0 206 rfl) rfl
theorem q223 : (Jvm.Cond.methodLink "RouteTableLaw" (69 : Nat) ({ cls := "RouteTableModel", name := "spans", desc := "()I" } : Jvm.MethodName)) ∈ lw_all := lw_g (lw_at lw_m0 213 rfl) rfl
theorem q231 : (Jvm.Cond.methodLink "RouteTableLaw" (73 : Nat) ({ cls := "RouteTableModel", name := "spanStart", desc := "(I)I" } : Jvm.MethodName)) ∈ lw_all := lw_g (lw_at lw_m0 221 rfl) rfl
end
section
/-! ===== Int32 by its bits: bt x i ===== -/
def bt (x : Int32) (i : Nat) : Bool := x.toBitVec.getLsbD i
theorem b_ext {x y : Int32} (h : ∀ i, i < 32 → bt x i = bt y i) : x = y := Int32.toBitVec_inj.mp (BitVec.eq_of_getLsbD_eq (fun i hi => h i hi))
theorem b_or (x y : Int32) (i : Nat) : bt (x ||| y) i = (bt x i || bt y i) := by unfold bt; rw [Int32.toBitVec_or, BitVec.getLsbD_or]
theorem b_and (x y : Int32) (i : Nat) : bt (x &&& y) i = (bt x i && bt y i) := by unfold bt; rw [Int32.toBitVec_and, BitVec.getLsbD_and]
theorem b_xor (x y : Int32) (i : Nat) : bt (x ^^^ y) i = (bt x i ^^ bt y i) := by unfold bt; rw [Int32.toBitVec_xor, BitVec.getLsbD_xor]
theorem b_big {x : Int32} {i : Nat} (h : 32 ≤ i) : bt x i = false := BitVec.getLsbD_of_ge _ _ h
theorem b_255 (i : Nat) : bt 255 i = decide (i < 8) := by
  rcases Nat.lt_or_ge i 32 with h | h
  · exact (by decide +kernel : ∀ i, i < 32 → bt 255 i = decide (i < 8)) i h
  · rw [b_big h, decide_eq_false (by omega)]
theorem b_65535 (i : Nat) : bt 65535 i = decide (i < 16) := by
  rcases Nat.lt_or_ge i 32 with h | h
  · exact (by decide +kernel : ∀ i, i < 32 → bt 65535 i = decide (i < 16)) i h
  · rw [b_big h, decide_eq_false (by omega)]
theorem b_m1 : ∀ i, i < 32 → bt (-1) i = true := by decide +kernel
theorem b_0 (i : Nat) : bt 0 i = false := BitVec.getLsbD_zero
theorem s_l : ∀ n, n < 32 → ((nI n &&& 31).toBitVec.smod 32).toNat = n := by decide +kernel
theorem s_u : ∀ n, n < 32 → (((nI n).toUInt32 &&& Int32.toUInt32 31).toBitVec % 32).toNat = n := by decide +kernel
theorem b_shl (n : Nat) (hn : n < 32) (x : Int32) {i : Nat} (hi : i < 32) : bt (x <<< (nI n &&& 31)) i = (decide (n ≤ i) && bt x (i - n)) := by
  unfold bt
  rw [Int32.toBitVec_shiftLeft]
  show (x.toBitVec <<< ((nI n &&& 31).toBitVec.smod 32).toNat).getLsbD i = _
  rw [s_l n hn, BitVec.getLsbD_shiftLeft]
  rcases Nat.lt_or_ge i n with h | h
  · simp [h, Nat.not_le.mpr h]
  · simp [hi, h, Nat.not_lt.mpr h]
theorem b_ushr (n : Nat) (hn : n < 32) (x : Int32) (i : Nat) : bt ((x.toUInt32 >>> ((nI n).toUInt32 &&& Int32.toUInt32 31)).toInt32) i = bt x (n + i) := by
  show (x.toUInt32 >>> ((nI n).toUInt32 &&& Int32.toUInt32 31)).toBitVec.getLsbD i = x.toUInt32.toBitVec.getLsbD (n + i)
  rw [UInt32.toBitVec_shiftRight]
  show (x.toUInt32.toBitVec >>> (((nI n).toUInt32 &&& Int32.toUInt32 31).toBitVec % 32).toNat).getLsbD i = _
  rw [s_u n hn, BitVec.getLsbD_ushiftRight]
theorem b_sshr (n : Nat) (hn : n < 32) (x : Int32) {i : Nat} (hi : i < 32) : bt (x >>> (nI n &&& 31)) i = if n + i < 32 then bt x (n + i) else bt x 31 := by
  unfold bt
  rw [Int32.toBitVec_shiftRight]
  show (x.toBitVec.sshiftRight ((nI n &&& 31).toBitVec.smod 32).toNat).getLsbD i = _
  rw [s_l n hn, BitVec.getLsbD_sshiftRight, BitVec.msb_eq_getLsbD_last]
  simp [hi]
theorem b_shl8 (x : Int32) {i : Nat} (hi : i < 32) : bt (x <<< ((8 : Int32) &&& 31)) i = (decide (8 ≤ i) && bt x (i - 8)) := b_shl 8 (by omega) x hi
theorem b_shl16 (x : Int32) {i : Nat} (hi : i < 32) : bt (x <<< ((16 : Int32) &&& 31)) i = (decide (16 ≤ i) && bt x (i - 16)) := b_shl 16 (by omega) x hi
theorem b_shl24 (x : Int32) {i : Nat} (hi : i < 32) : bt (x <<< ((24 : Int32) &&& 31)) i = (decide (24 ≤ i) && bt x (i - 24)) := b_shl 24 (by omega) x hi
theorem b_sshr8 (x : Int32) {i : Nat} (hi : i < 32) : bt (x >>> ((8 : Int32) &&& 31)) i = if 8 + i < 32 then bt x (8 + i) else bt x 31 := b_sshr 8 (by omega) x hi
/-! ===== order of ints, in all its forms, and through longs ===== -/
theorem fa_lt (a b : Int32) : a < b ↔ a.toInt < b.toInt := Int32.lt_iff_toInt_lt
theorem fa_le (a b : Int32) : a ≤ b ↔ a.toInt ≤ b.toInt := Int32.le_iff_toInt_le
theorem fa_eq (a b : Int32) : a = b ↔ a.toInt = b.toInt := Int32.toInt_inj.symm
theorem fa_lt64 (a b : Int64) : a < b ↔ a.toInt < b.toInt := Int64.lt_iff_toInt_lt
theorem fa_le64 (a b : Int64) : a ≤ b ↔ a.toInt ≤ b.toInt := Int64.le_iff_toInt_le
theorem fa_eq64 (a b : Int64) : a = b ↔ a.toInt = b.toInt := Int64.toInt_inj.symm
/-- a comparison of two ints taken as longs -/
theorem fa_wide_lt (a b : Int32) : a.toInt64 < b.toInt64 ↔ a < b := by rw [fa_lt64, fa_lt, Int32.toInt_toInt64, Int32.toInt_toInt64]
theorem fa_wide_le (a b : Int32) : a.toInt64 ≤ b.toInt64 ↔ a ≤ b := by rw [fa_le64, fa_le, Int32.toInt_toInt64, Int32.toInt_toInt64]
theorem fa_wide_eq (a b : Int32) : a.toInt64 = b.toInt64 ↔ a = b := by rw [fa_eq64, fa_eq, Int32.toInt_toInt64, Int32.toInt_toInt64]
/-- one strict comparison gives all the others -/
theorem fa_of_lt {a b : Int32} (h : a < b) : a ≤ b ∧ ¬ b ≤ a ∧ ¬ b < a ∧ a ≠ b ∧ b ≠ a := by
  rw [fa_lt] at h
  refine ⟨?_, ?_, ?_, ?_, ?_⟩
  · rw [fa_le]; omega
  · rw [fa_le]; omega
  · rw [fa_lt]; omega
  · intro e; rw [fa_eq] at e; omega
  · intro e; rw [fa_eq] at e; omega
theorem fa_of_nlt {a b : Int32} (h : ¬ a < b) : b ≤ a := by
  rw [fa_lt] at h
  rw [fa_le]
  omega
theorem fa_of_nle {a b : Int32} (h : ¬ a ≤ b) : b < a := by
  rw [fa_le] at h
  rw [fa_lt]
  omega
theorem fa_le_ne {a b : Int32} (h : a ≤ b) (h2 : a ≠ b) : a < b := by
  rw [fa_le] at h
  rw [fa_lt]
  have h3 : a.toInt ≠ b.toInt := fun e => h2 ((fa_eq a b).mpr e)
  omega
theorem fa_three (a b : Int32) : a < b ∨ a = b ∨ b < a := by
  rw [fa_lt, fa_lt, fa_eq]
  omega
theorem fa_trans {a b c : Int32} (h : a < b) (h2 : b ≤ c) : a < c := by
  rw [fa_lt] at *
  rw [fa_le] at h2
  omega
/-! ===== small literals as numbers ===== -/
theorem fa_lit (n : Nat) : (OfNat.ofNat n : Int32) = nI n := rfl
theorem fa_litL (n : Nat) : (OfNat.ofNat n : Int64) = lN n := rfl
/-! ===== cuts to a byte, a short ===== -/
theorem fa_byte_xor (x y : Int32) : (x ^^^ y).toInt8 = x.toInt8 ^^^ y.toInt8 := by
  apply Int8.toBitVec_inj.1
  apply BitVec.eq_of_getLsbD_eq
  intro i hi
  first | (simp [hi]; done) | (simp [hi, BitVec.getLsbD_setWidth, BitVec.getLsbD_signExtend]; done)
theorem fa_short_xor (x y : Int32) : (x ^^^ y).toInt16 = x.toInt16 ^^^ y.toInt16 := by
  apply Int16.toBitVec_inj.1
  apply BitVec.eq_of_getLsbD_eq
  intro i hi
  first | (simp [hi]; done) | (simp [hi, BitVec.getLsbD_setWidth, BitVec.getLsbD_signExtend]; done)
/-- the cut to a byte sees the low byte alone -/
theorem fa_byte_low (x : Int32) : (x &&& 255).toInt8 = x.toInt8 := by
  apply Int8.toBitVec_inj.1
  apply BitVec.eq_of_getLsbD_eq
  intro i hi
  have h2 : (255 : Int32).toBitVec.getLsbD i = true := by
    have : ∀ j : Fin 8, (255 : Int32).toBitVec.getLsbD j.val = true := by decide +kernel
    exact this ⟨i, hi⟩
  have h4 : (x &&& 255).toBitVec.getLsbD i = x.toBitVec.getLsbD i := by
    show (x.toBitVec &&& (255 : Int32).toBitVec).getLsbD i = _
    rw [BitVec.getLsbD_and, h2, Bool.and_true]
  have h3 : i < 32 := by omega
  first
    | (show (((x &&& 255).toBitVec).signExtend 8).getLsbD i = (x.toBitVec.signExtend 8).getLsbD i; rw [BitVec.getLsbD_signExtend, BitVec.getLsbD_signExtend, if_pos h3, if_pos h3, h4])
    | (show (((x &&& 255).toBitVec).setWidth 8).getLsbD i = (x.toBitVec.setWidth 8).getLsbD i; rw [BitVec.getLsbD_setWidth, BitVec.getLsbD_setWidth, h4])
    | (simp [hi, h3, h4]; done)
theorem fa_short_low (x : Int32) : (x &&& 65535).toInt16 = x.toInt16 := by
  apply Int16.toBitVec_inj.1
  apply BitVec.eq_of_getLsbD_eq
  intro i hi
  have h2 : (65535 : Int32).toBitVec.getLsbD i = true := by
    have : ∀ j : Fin 16, (65535 : Int32).toBitVec.getLsbD j.val = true := by decide +kernel
    exact this ⟨i, hi⟩
  have h4 : (x &&& 65535).toBitVec.getLsbD i = x.toBitVec.getLsbD i := by
    show (x.toBitVec &&& (65535 : Int32).toBitVec).getLsbD i = _
    rw [BitVec.getLsbD_and, h2, Bool.and_true]
  have h3 : i < 32 := by omega
  first
    | (show (((x &&& 65535).toBitVec).signExtend 16).getLsbD i = (x.toBitVec.signExtend 16).getLsbD i; rw [BitVec.getLsbD_signExtend, BitVec.getLsbD_signExtend, if_pos h3, if_pos h3, h4])
    | (show (((x &&& 65535).toBitVec).setWidth 16).getLsbD i = (x.toBitVec.setWidth 16).getLsbD i; rw [BitVec.getLsbD_setWidth, BitVec.getLsbD_setWidth, h4])
    | (simp [hi, h3, h4]; done)
/-- a small number is its own byte, its own short -/
theorem fa_byte_small {n : Nat} (h : n < 128) : (nI n).toInt8.toInt32 = nI n := by
  have : ∀ j : Fin 128, (nI j.val).toInt8.toInt32 = nI j.val := by decide +kernel
  exact this ⟨n, h⟩
/-! ===== an array behind i stores, a conditional store, a row copied ===== -/
/-- f where k < i, what stood there else -/
def fa_fill {α : Type} (f g : Nat → α) (i : Nat) : Nat → α := fun k => if k < i then f k else g k
theorem fa_fill_0 {α : Type} (f g : Nat → α) : fa_fill f g 0 = g := funext fun k => if_neg (Nat.not_lt_zero k)
theorem fa_fill_in {α : Type} {f g : Nat → α} {i k : Nat} (h : k < i) : fa_fill f g i k = f k := if_pos h
theorem fa_fill_out {α : Type} {f g : Nat → α} {i k : Nat} (h : i ≤ k) : fa_fill f g i k = g k := if_neg (Nat.not_lt.mpr h)
theorem fa_fill_succ (f g : Nat → Int32) (i : Nat) : upd (fa_fill f g i) i (f i) = fa_fill f g (i + 1) := by
  funext k
  by_cases e : k = i
  · subst e
    rw [pk_us]
    exact (if_pos (Nat.lt_succ_self k)).symm
  · rw [pk_un e]
    by_cases h : k < i
    · rw [fa_fill_in h, fa_fill_in (Nat.lt_succ_of_lt h)]
    · rw [fa_fill_out (Nat.le_of_not_lt h), fa_fill_out (by omega)]
/-- a store that changes nothing -/
theorem fa_upd_same {f : Nat → Int32} {i : Nat} {x : Int32} (h : f i = x) : upd f i x = f := by
  funext k
  by_cases e : k = i
  · subst e
    rw [pk_us, h]
  · rw [pk_un e]
/-- a store under a condition, told as one -/
theorem fa_upd_if (c : Prop) [Decidable c] (f : Nat → Int32) (i : Nat) (x : Int32) : (if c then upd f i x else f) = upd f i (if c then x else f i) := by
  by_cases h : c
  · rw [if_pos h, if_pos h]
  · rw [if_neg h, if_neg h, fa_upd_same rfl]
/-- two stores at one place, at two -/
theorem fa_upd_twice (f : Nat → Int32) (i : Nat) (x y : Int32) : upd (upd f i x) i y = upd f i y := by
  funext k
  by_cases e : k = i
  · subst e
    rw [pk_us, pk_us]
  · rw [pk_un e, pk_un e, pk_un e]
theorem fa_upd_swap (f : Nat → Int32) {i j : Nat} (h : i ≠ j) (x y : Int32) : upd (upd f i x) j y = upd (upd f j y) i x := by
  funext k
  by_cases e : k = i
  · subst e
    rw [pk_un h, pk_us, pk_us]
  · by_cases e2 : k = j
    · subst e2
      rw [pk_us, pk_un e, pk_us]
    · rw [pk_un e2, pk_un e, pk_un e, pk_un e2]
/-! ===== how many places have a property ===== -/
def fb_ct (p : Nat → Bool) : Nat → Nat
  | 0 => 0
  | n + 1 => fb_ct p n + (if p n then 1 else 0)
theorem fb_ct_succ (p : Nat → Bool) (n : Nat) : fb_ct p (n + 1) = fb_ct p n + (if p n then 1 else 0) := rfl
theorem fb_ct_le (p : Nat → Bool) : ∀ n, fb_ct p n ≤ n
  | 0 => Nat.le_refl _
  | n + 1 => by
    have h := fb_ct_le p n
    rw [fb_ct_succ]
    split <;> omega
theorem fb_ct_step (p : Nat → Bool) (m : Nat) : ∀ n, fb_ct p m ≤ fb_ct p (m + n)
  | 0 => Nat.le_refl _
  | n + 1 => by
    have h := fb_ct_step p m n
    show fb_ct p m ≤ fb_ct p (m + n + 1)
    rw [fb_ct_succ]
    omega
theorem fb_ct_mono (p : Nat → Bool) {m n : Nat} (h : m ≤ n) : fb_ct p m ≤ fb_ct p n := by
  have := fb_ct_step p m (n - m)
  rwa [Nat.add_sub_cancel' h] at this
theorem fb_ct_cong {p q : Nat → Bool} : ∀ {n : Nat}, (∀ k, k < n → p k = q k) → fb_ct p n = fb_ct q n
  | 0, _ => rfl
  | n + 1, h => by
    rw [fb_ct_succ, fb_ct_succ, fb_ct_cong (fun k hk => h k (by omega)), h n (by omega)]
/-- one place changed -/
theorem fb_ct_out (p : Nat → Bool) (b : Bool) {i n : Nat} (h : n ≤ i) : fb_ct (fun k => if k = i then b else p k) n = fb_ct p n :=
  fb_ct_cong fun k hk => if_neg (by omega)
theorem fb_ct_upd (p : Nat → Bool) (b : Bool) {i : Nat} : ∀ {n : Nat}, i < n → fb_ct (fun k => if k = i then b else p k) n + (if p i then 1 else 0) = fb_ct p n + (if b then 1 else 0)
  | 0, h => absurd h (Nat.not_lt_zero i)
  | n + 1, h => by
    rw [fb_ct_succ, fb_ct_succ]
    rcases Nat.lt_or_ge i n with q | q
    · have := fb_ct_upd p b q
      have e : (if n = i then b else p n) = p n := if_neg (by omega)
      rw [e]
      omega
    · have e : i = n := by omega
      subst e
      rw [fb_ct_out p b (Nat.le_refl _)]
      simp only [if_true]
      omega
theorem fb_ct_sub {p q : Nat → Bool} : ∀ {n : Nat}, (∀ k, k < n → p k = true → q k = true) → fb_ct p n ≤ fb_ct q n
  | 0, _ => Nat.le_refl _
  | n + 1, h => by
    have h1 := fb_ct_sub (n := n) (p := p) (q := q) (fun k hk => h k (by omega))
    have h2 := h n (by omega)
    rw [fb_ct_succ, fb_ct_succ]
    cases hp : p n <;> cases hq : q n <;> simp_all <;> omega
theorem fb_ct_or {p q : Nat → Bool} : ∀ {n : Nat}, (∀ k, k < n → ¬ (p k = true ∧ q k = true)) → fb_ct (fun k => p k || q k) n = fb_ct p n + fb_ct q n
  | 0, _ => rfl
  | n + 1, h => by
    have h1 := fb_ct_or (n := n) (p := p) (q := q) (fun k hk => h k (by omega))
    have h2 := h n (by omega)
    rw [fb_ct_succ, fb_ct_succ, fb_ct_succ, h1]
    cases hp : p n <;> cases hq : q n <;> simp_all <;> omega
theorem fb_ct_not (p : Nat → Bool) : ∀ n, fb_ct p n + fb_ct (fun k => !p k) n = n
  | 0 => rfl
  | n + 1 => by
    have h := fb_ct_not p n
    rw [fb_ct_succ, fb_ct_succ]
    cases p n <;> simp <;> omega
theorem fb_ct_split (p : Nat → Bool) (m : Nat) : ∀ n, fb_ct p (m + n) = fb_ct p m + fb_ct (fun k => p (m + k)) n
  | 0 => rfl
  | n + 1 => by
    have h := fb_ct_split p m n
    show fb_ct p (m + n + 1) = _
    rw [fb_ct_succ, fb_ct_succ, h, Nat.add_assoc]
theorem fb_ct_zero {p : Nat → Bool} : ∀ {n : Nat}, fb_ct p n = 0 ↔ ∀ k, k < n → p k = false
  | 0 => ⟨fun _ k hk => absurd hk (Nat.not_lt_zero k), fun _ => rfl⟩
  | n + 1 => by
    have h := fb_ct_zero (p := p) (n := n)
    rw [fb_ct_succ]
    constructor
    · intro e k hk
      have e1 : fb_ct p n = 0 := by omega
      rcases Nat.lt_or_ge k n with q | q
      · exact h.mp e1 k q
      · have ek : k = n := by omega
        subst ek
        cases hp : p k
        · rfl
        · simp [hp] at e
    · intro a
      rw [h.mpr (fun k hk => a k (by omega)), a n (by omega)]
      rfl
theorem fb_ct_pos {p : Nat → Bool} {n : Nat} : 0 < fb_ct p n ↔ ∃ k, k < n ∧ p k = true := by
  constructor
  · intro h
    refine Classical.byContradiction fun hx => ?_
    have := fb_ct_zero.mpr (fun k hk => by
      cases hp : p k
      · rfl
      · exact absurd ⟨k, hk, hp⟩ hx : ∀ k, k < n → p k = false)
    omega
  · rintro ⟨k, hk, hp⟩
    rcases Nat.eq_zero_or_pos (fb_ct p n) with e | e
    · have := fb_ct_zero.mp e k hk
      rw [this] at hp
      cases hp
    · exact e
theorem fb_ct_all {p : Nat → Bool} {n : Nat} : fb_ct p n = n ↔ ∀ k, k < n → p k = true := by
  have h := fb_ct_not p n
  constructor
  · intro e k hk
    have z : fb_ct (fun k => !p k) n = 0 := by omega
    have := fb_ct_zero.mp z k hk
    cases hp : p k
    · simp [hp] at this
    · rfl
  · intro a
    have z : fb_ct (fun k => !p k) n = 0 := fb_ct_zero.mpr (fun k hk => by simp [a k hk])
    omega
/-- the k-th place with the property -/
theorem fb_ct_kth {p : Nat → Bool} {k : Nat} : ∀ {n : Nat}, k < fb_ct p n → ∃ i, i < n ∧ p i = true ∧ fb_ct p i = k
  | 0, h => absurd h (Nat.not_lt_zero k)
  | n + 1, h => by
    rcases Nat.lt_or_ge k (fb_ct p n) with q | q
    · obtain ⟨i, h1, h2⟩ := fb_ct_kth q
      exact ⟨i, by omega, h2⟩
    · rw [fb_ct_succ] at h
      cases hp : p n
      · simp [hp] at h; omega
      · simp [hp] at h
        exact ⟨n, by omega, hp, by omega⟩
theorem fb_ct_kth_one {p : Nat → Bool} {i j : Nat} (hi : p i = true) (hj : p j = true) (e : fb_ct p i = fb_ct p j) : i = j := by
  have key : ∀ a b : Nat, a < b → p a = true → fb_ct p a < fb_ct p b := by
    intro a b hab ha
    have h := fb_ct_mono p (show a + 1 ≤ b from hab)
    rw [fb_ct_succ, ha] at h
    simp at h
    omega
  rcases Nat.lt_trichotomy i j with q | q | q
  · have := key i j q hi; omega
  · exact q
  · have := key j i q hj; omega
/-! ===== signed ints as whole numbers, within bounds ===== -/
theorem fb_rng (x : Int32) : -2147483648 ≤ x.toInt ∧ x.toInt < 2147483648 := by
  have h1 := Int32.le_toInt x
  have h2 := Int32.toInt_lt x
  omega
theorem fb_bmod {z : Int} (h1 : -2147483648 ≤ z) (h2 : z < 2147483648) : z.bmod (2 ^ 32) = z := by
  rw [Int.bmod_eq_of_le (by omega) (by omega)]
theorem fb_addI {x y : Int32} (h1 : -2147483648 ≤ x.toInt + y.toInt) (h2 : x.toInt + y.toInt < 2147483648) : (x + y).toInt = x.toInt + y.toInt := by
  rw [Int32.toInt_add, fb_bmod h1 h2]
theorem fb_subI {x y : Int32} (h1 : -2147483648 ≤ x.toInt - y.toInt) (h2 : x.toInt - y.toInt < 2147483648) : (x - y).toInt = x.toInt - y.toInt := by
  rw [Int32.toInt_sub, fb_bmod h1 h2]
theorem fb_mulI {x y : Int32} (h1 : -2147483648 ≤ x.toInt * y.toInt) (h2 : x.toInt * y.toInt < 2147483648) : (x * y).toInt = x.toInt * y.toInt := by
  rw [Int32.toInt_mul, fb_bmod h1 h2]
theorem fb_negI {x : Int32} (h : x.toInt ≠ -2147483648) : (-x).toInt = -x.toInt := by
  have := fb_rng x
  rw [Int32.toInt_neg, fb_bmod (by omega) (by omega)]
theorem fb_ofI {z : Int} (h1 : -2147483648 ≤ z) (h2 : z < 2147483648) : (Int32.ofInt z).toInt = z := by
  rw [Int32.toInt_ofInt, fb_bmod h1 h2]
theorem fb_asI (x : Int32) : Int32.ofInt x.toInt = x := Int32.ofInt_toInt x
theorem fb_rngL (x : Int64) : -9223372036854775808 ≤ x.toInt ∧ x.toInt < 9223372036854775808 := by
  have h1 := Int64.le_toInt x
  have h2 := Int64.toInt_lt x
  omega
theorem fb_bmodL {z : Int} (h1 : -9223372036854775808 ≤ z) (h2 : z < 9223372036854775808) : z.bmod (2 ^ 64) = z := by
  rw [Int.bmod_eq_of_le (by omega) (by omega)]
theorem fb_addL {x y : Int64} (h1 : -9223372036854775808 ≤ x.toInt + y.toInt) (h2 : x.toInt + y.toInt < 9223372036854775808) : (x + y).toInt = x.toInt + y.toInt := by
  rw [Int64.toInt_add, fb_bmodL h1 h2]
theorem fb_subL {x y : Int64} (h1 : -9223372036854775808 ≤ x.toInt - y.toInt) (h2 : x.toInt - y.toInt < 9223372036854775808) : (x - y).toInt = x.toInt - y.toInt := by
  rw [Int64.toInt_sub, fb_bmodL h1 h2]
theorem fb_mulL {x y : Int64} (h1 : -9223372036854775808 ≤ x.toInt * y.toInt) (h2 : x.toInt * y.toInt < 9223372036854775808) : (x * y).toInt = x.toInt * y.toInt := by
  rw [Int64.toInt_mul, fb_bmodL h1 h2]
end
section
/-! ===== what the two classes compute, over the reference's array of goals gs ===== -/
/-- a boolean as Java's int -/
def b2i (b : Bool) : Int32 := if b then 1 else 0
theorem b2i_0 {b : Bool} (h : b2i b = 0) : b = false := by
  cases b
  · rfl
  · exact absurd h (by decide)
theorem b2i_n0 {b : Bool} (h : ¬ b2i b = 0) : b = true := by
  cases b
  · exact absurd rfl h
  · rfl
theorem b2i_nar (b : Bool) : narrow .boolean (.int (b2i b)) = .int (b2i b) := by cases b <;> rfl
theorem not_dec {P : Prop} [Decidable P] (h : ¬ P) : decide P = false := decide_eq_false h
theorem yes_dec {P : Prop} [Decidable P] (h : P) : decide P = true := decide_eq_true h
/-- the beginning's number in the reference: n bits of the address a -/
def cel (a n : Nat) : Nat := 2 ^ n - 1 + a / 2 ^ (8 - n)
/-- its place in a low node -/
def pll (o n : Nat) : Nat := 2 ^ (n - 4) - 1 + o / 2 ^ (8 - n)
/-- its place in its node -/
def plc (a n : Nat) : Nat := if n < 4 then cel a n else pll (a % 16) n
/-- how many bits a place has -/
def nOf (c : Nat) : Nat := if c < 1 then 0 else if c < 3 then 1 else if c < 7 then 2 else if c < 15 then 3 else if c < 31 then 4 else if c < 63 then 5 else if c < 127 then 6 else if c < 255 then 7 else 8
def hs (gs : Nat → Int32) (a n : Nat) : Bool := !decide (gs (cel a n) < 0)
/-- one more than the greatest n < lim with f n; 0 if there is none -/
def bsN (f : Nat → Bool) : Nat → Nat
  | 0 => 0
  | n + 1 => if f n then n + 1 else bsN f n
def Sb (gs : Nat → Int32) (a lim : Nat) : Nat := bsN (hs gs a) lim
def Sg (gs : Nat → Int32) (a lim : Nat) : Int32 := if Sb gs a lim = 0 then -1 else gs (cel a (Sb gs a lim - 1))
def isAd (a : Int32) : Bool := !decide (a < 0) && !decide (256 ≤ a)
def isBeg (a b : Int32) : Bool := !decide (b < 0) && (!decide (8 < b) && (isAd a && decide (a &&& (255 >>> (b &&& 31)) = 0)))
def S_has (gs : Nat → Int32) (a b : Int32) : Bool := isBeg a b && hs gs a.toNatClampNeg b.toNatClampNeg
def S_put (a b g : Int32) : Bool := isBeg a b && (!decide (g < 0) && !decide (99 < g))
def gs_put (gs : Nat → Int32) (a b g : Int32) : Nat → Int32 := if S_put a b g then upd gs (cel a.toNatClampNeg b.toNatClampNeg) g else gs
def gs_drop (gs : Nat → Int32) (a b : Int32) : Nat → Int32 := if S_has gs a b then upd gs (cel a.toNatClampNeg b.toNatClampNeg) (-1) else gs
def gs_clear (gs : Nat → Int32) : Nat → Int32 := fa_fill (fun _ => -1) gs 511
def P_routes (gs : Nat → Int32) : Nat → Bool := fun c => !decide (gs c < 0)
def S_routes (gs : Nat → Int32) : Int32 := nI (fb_ct (P_routes gs) 511)
def S_exact (gs : Nat → Int32) (a b : Int32) : Int32 := if S_has gs a b then gs (cel a.toNatClampNeg b.toNatClampNeg) else -1
def S_bits (gs : Nat → Int32) (p : Int32) : Int32 := if isAd p then nI (Sb gs p.toNatClampNeg 9) - 1 else -1
def S_goal (gs : Nat → Int32) (p : Int32) : Int32 := if isAd p then Sg gs p.toNatClampNeg 9 else -1
def S_match (gs : Nat → Int32) (p : Int32) : Int32 := if isAd p then nI (fb_ct (hs gs p.toNatClampNeg) 9) else 0
/-- the first x from i on, of k, with P x; -1 if there is none -/
def fstF (P : Nat → Bool) : Nat → Nat → Int32
  | 0, _ => -1
  | k + 1, i => if P i then nI i else fstF P k (i + 1)
def P_next (gs : Nat → Int32) (f g : Int32) : Nat → Bool := fun x => !decide (nI x < f) && (!decide (g < 0) && decide (Sg gs x 9 = g))
def S_next (gs : Nat → Int32) (f g : Int32) : Int32 := fstF (P_next gs f g) 256 0
def P_load (gs : Nat → Int32) (a n : Nat) : Nat → Bool := fun x => decide (x / 2 ^ (8 - n) = a / 2 ^ (8 - n)) && decide (Sb gs x 9 = n + 1)
def S_load (gs : Nat → Int32) (a b : Int32) : Int32 := if S_has gs a b then nI (fb_ct (P_load gs a.toNatClampNeg b.toNatClampNeg) 256) else -1
def P_sent (gs : Nat → Int32) (g : Int32) : Nat → Bool := fun x => decide (Sg gs x 9 = g)
def S_sent (gs : Nat → Int32) (g : Int32) : Int32 := nI (fb_ct (P_sent gs g) 256)
def allF (P : Nat → Bool) : Nat → Bool
  | 0 => true
  | k + 1 => allF P k && P k
def P_idle (gs gs2 : Nat → Int32) : Nat → Bool := fun x => decide (Sg gs2 x 9 = Sg gs x 9)
def S_idle (gs : Nat → Int32) (a b : Int32) : Bool := S_has gs a b && allF (P_idle gs (gs_drop gs a b)) 256
def S_begins (gs : Nat → Int32) : Nat → Bool := fun x => decide (x = 0) || !decide (Sg gs x 9 = Sg gs (x - 1) 9)
def S_spans (gs : Nat → Int32) : Int32 := nI (fb_ct (S_begins gs) 256)
def spF (P : Nat → Bool) (i : Int32) : Nat → Nat → Int32 → Int32
  | 0, _, _ => -1
  | k + 1, a, n => if P a then (if n = i then nI a else spF P i k (a + 1) (n + 1)) else spF P i k (a + 1) n
def S_spanStart (gs : Nat → Int32) (i : Int32) : Int32 := spF (S_begins gs) i 256 0 0
/-! ===== the table beside the reference's array ===== -/
def tbit (tb : Int32) (lb : Nat → Int32) (a n : Nat) : Bool := if n < 4 then bt tb (plc a n) else bt (lb (a / 16)) (plc a n)
def tgoal (tg lg : Nat → Int32) (a n : Nat) : Int32 := if n < 4 then tg (plc a n) else lg (a / 16 * 31 + plc a n)
def Rel (tb ct : Int32) (tg lb lg gs : Nat → Int32) : Prop :=
  (∀ a n, a < 256 → n ≤ 8 → tbit tb lb a n = hs gs a n) ∧ (∀ a n, a < 256 → n ≤ 8 → hs gs a n = true → tgoal tg lg a n = gs (cel a n)) ∧ ct = S_routes gs ∧ ∀ c, gs c ≤ 99
/-! ===== numbers ===== -/
theorem isAd_of {a : Int32} (h : isAd a = true) : ∃ j, j < 256 ∧ a = nI j := by
  simp only [isAd, Bool.and_eq_true, Bool.not_eq_true', decide_eq_false_iff_not] at h
  rcases pk_ix a (n := 256) (by decide) with h1 | h1 | h1
  · exact absurd h1 h.1
  · exact absurd h1 h.2
  · exact h1
theorem isAd_nI {i : Nat} (h : i < 256) : isAd (nI i) = true := by
  have h1 : ¬ nI i < 0 := nI_pos (by omega)
  have h2 : ¬ (256 : Int32) ≤ nI i := nI_ge (a := i) (b := 256) h (by decide)
  simp only [isAd, not_dec h1, not_dec h2]; rfl
theorem clN {i : Nat} (h : i < 256) : (nI i).toNatClampNeg = i := nI_clamp (by omega)
theorem S_goal_nI {gs : Nat → Int32} {i : Nat} (h : i < 256) : S_goal gs (nI i) = Sg gs i 9 := by rw [S_goal, isAd_nI h, if_pos rfl, clN h]
theorem S_bits_nI {gs : Nat → Int32} {i : Nat} (h : i < 256) : S_bits gs (nI i) = nI (Sb gs i 9) - 1 := by rw [S_bits, isAd_nI h, if_pos rfl, clN h]
theorem beg_tab : ∀ n, n < 9 → ∀ x, x < 256 → nI x &&& (255 >>> (nI n &&& 31)) = 0 → x % 2 ^ (8 - n) = 0 := by decide +kernel
theorem isBeg_of {a b : Int32} (h : isBeg a b = true) : ∃ x n, x < 256 ∧ n ≤ 8 ∧ a = nI x ∧ b = nI n ∧ x % 2 ^ (8 - n) = 0 := by
  simp only [isBeg, Bool.and_eq_true, Bool.not_eq_true', decide_eq_false_iff_not, decide_eq_true_eq] at h
  obtain ⟨h1, h2, h3, h4⟩ := h
  obtain ⟨x, hx, rfl⟩ := isAd_of h3
  obtain ⟨n, hn, rfl⟩ := nI_of2 (x := b) (M := 8) (n := 8) (by decide) h1 (fa_of_nlt h2)
  exact ⟨x, n, hx, hn, rfl, rfl, beg_tab n (by omega) x hx h4⟩
theorem cel_lt : ∀ n, n < 9 → ∀ a, a < 256 → cel a n < 511 := by decide +kernel
theorem cel_lt4 : ∀ n, n < 4 → ∀ a, a < 256 → cel a n < 15 := by decide +kernel
theorem pll_lt : ∀ n, n < 9 → 4 ≤ n → ∀ o, o < 16 → pll o n < 31 := by decide +kernel
theorem plc_lt {a n : Nat} (ha : a < 256) (hn : n ≤ 8) : plc a n < 31 := by
  unfold plc
  split
  · rename_i h
    exact Nat.lt_of_lt_of_le (cel_lt4 n h a ha) (by decide)
  · exact pll_lt n (by omega) (by omega) _ (Nat.mod_lt _ (by decide))
theorem plc_lt4 {a n : Nat} (ha : a < 256) (hn : n < 4) : plc a n < 15 := by
  unfold plc
  rw [if_pos hn]
  exact cel_lt4 n hn a ha
theorem plcA_tab : ∀ n, n < 4 → ∀ a, a < 256 → ((1 : Int32) <<< (nI n &&& 31) - 1) + (nI a >>> ((8 - nI n) &&& 31)) = nI (cel a n) := by decide +kernel
theorem celB_tab : ∀ n, n < 9 → ∀ a, a < 256 → ((1 : Int32) <<< (nI n &&& 31) - 1) + (nI a >>> ((8 - nI n) &&& 31)) = nI (cel a n) := by decide +kernel
theorem plcB_tab : ∀ n, n < 9 → 4 ≤ n → ∀ o, o < 16 → ((1 : Int32) <<< ((nI n - 4) &&& 31) - 1) + (nI o >>> ((4 - (nI n - 4)) &&& 31)) = nI (pll o n) := by decide +kernel
theorem shr4 {a : Nat} (h : a < 256) : nI a >>> ((4 : Int32) &&& 31) = nI (a / 16) := pk_shrN (by omega) _ 4 (by decide)
theorem and15 {a : Nat} (h : a < 256) : nI a &&& 15 = nI (a % 16) := pk_andN (by omega) 4 (by decide)
theorem and1 : ∀ b : Bool, (bt (b2i b) 0 = b) := by decide
theorem bt_1 (i : Nat) : bt 1 i = decide (i = 0) := by
  rcases Nat.lt_or_ge i 32 with h | h
  · exact (by decide +kernel : ∀ i, i < 32 → bt 1 i = decide (i = 0)) i h
  · rw [b_big h, not_dec (by omega)]
theorem bt_b2i (b : Bool) (i : Nat) : bt (b2i b) i = (b && decide (i = 0)) := by
  cases b
  · exact b_0 i
  · exact bt_1 i
/-- one bit of a set -/
theorem bitOf (x : Int32) {i : Nat} (h : i < 32) : (x >>> (nI i &&& 31)) &&& 1 = b2i (bt x i) := by
  apply b_ext
  intro j hj
  rw [b_and, bt_1, bt_b2i]
  by_cases hj0 : j = 0
  · subst hj0
    rw [b_sshr i h x hj]
    simp [h]
  · simp [hj0]
theorem one_shl : ∀ k, k < 32 → ∀ i, i < 32 → bt ((1 : Int32) <<< (nI k &&& 31)) i = decide (i = k) := by decide +kernel
end
section
/-! ===== the greatest n with a property ===== -/
theorem bsN_le (f : Nat → Bool) : ∀ n, bsN f n ≤ n := by
  intro n
  induction n with
  | zero => exact Nat.le_refl 0
  | succ n ih =>
    unfold bsN
    split
    · exact Nat.le_refl _
    · omega
theorem bsN_no {f : Nat → Bool} {n : Nat} (h : f n = false) : bsN f (n + 1) = bsN f n := by
  show (if f n = true then n + 1 else bsN f n) = bsN f n
  rw [h]; rfl
theorem bsN_yes {f : Nat → Bool} {n : Nat} (h : f n = true) : bsN f (n + 1) = n + 1 := by
  show (if f n = true then n + 1 else bsN f n) = n + 1
  rw [h]; rfl
theorem bsN_cong {f g : Nat → Bool} : ∀ {n : Nat}, (∀ k, k < n → f k = g k) → bsN f n = bsN g n := by
  intro n
  induction n with
  | zero => intro _; rfl
  | succ n ih =>
    intro h
    simp only [bsN]
    rw [h n (Nat.lt_succ_self n), ih (fun k hk => h k (Nat.lt_succ_of_lt hk))]
theorem bsN_zero {f : Nat → Bool} : ∀ {n : Nat}, (∀ k, k < n → f k = false) → bsN f n = 0 := by
  intro n
  induction n with
  | zero => intro _; rfl
  | succ n ih =>
    intro h
    simp only [bsN]
    rw [h n (Nat.lt_succ_self n), ih (fun k hk => h k (Nat.lt_succ_of_lt hk))]
    rfl
theorem bsN_hit {f : Nat → Bool} {k : Nat} : ∀ {n : Nat}, k < n → f k = true → (∀ j, k < j → j < n → f j = false) → bsN f n = k + 1 := by
  intro n
  induction n with
  | zero => intro h; exact absurd h (Nat.not_lt_zero _)
  | succ n ih =>
    intro h1 h2 h3
    simp only [bsN]
    by_cases e : k = n
    · subst e; rw [h2]; rfl
    · rw [h3 n (by omega) (Nat.lt_succ_self n)]
      exact ih (by omega) h2 (fun j hj hj2 => h3 j hj (Nat.lt_succ_of_lt hj2))
theorem bsN_spec {f : Nat → Bool} {k : Nat} : ∀ {n : Nat}, bsN f n = k + 1 → k < n ∧ f k = true ∧ ∀ j, k < j → j < n → f j = false := by
  intro n
  induction n with
  | zero => intro h; exact absurd h (by simp [bsN])
  | succ n ih =>
    intro h
    simp only [bsN] at h
    by_cases e : f n = true
    · rw [if_pos e] at h
      have hk : k = n := by omega
      subst hk
      exact ⟨Nat.lt_succ_self _, e, fun j h1 h2 => absurd h1 (by omega)⟩
    · rw [if_neg e] at h
      obtain ⟨h1, h2, h3⟩ := ih h
      refine ⟨by omega, h2, fun j hj hj2 => ?_⟩
      by_cases ej : j = n
      · subst ej; exact Bool.eq_false_iff.mpr e
      · exact h3 j hj (by omega)
theorem bsN_spec0 {f : Nat → Bool} : ∀ {n : Nat}, bsN f n = 0 → ∀ j, j < n → f j = false := by
  intro n
  induction n with
  | zero => intro _ j h; exact absurd h (Nat.not_lt_zero _)
  | succ n ih =>
    intro h j hj
    simp only [bsN] at h
    by_cases e : f n = true
    · rw [if_pos e] at h; exact absurd h (by omega)
    · rw [if_neg e] at h
      by_cases ej : j = n
      · subst ej; exact Bool.eq_false_iff.mpr e
      · exact ih h j (by omega)
/-! ===== the highest bit ===== -/
def hiN (f : Nat → Bool) : Nat → Nat
  | 0 => 0
  | k + 1 => if f (k + 1) then k + 1 else hiN f k
theorem hiN_le (f : Nat → Bool) : ∀ n, hiN f n ≤ n := by
  intro n
  induction n with
  | zero => exact Nat.le_refl 0
  | succ n ih =>
    unfold hiN
    split
    · exact Nat.le_refl _
    · omega
theorem hiN_spec {f : Nat → Bool} : ∀ {n i : Nat}, i ≤ n → f i = true → f (hiN f n) = true ∧ ∀ j, hiN f n < j → j ≤ n → f j = false := by
  intro n
  induction n with
  | zero =>
    intro i h1 h2
    have : i = 0 := by omega
    subst this
    exact ⟨h2, fun j h3 h4 => absurd h3 (by omega)⟩
  | succ n ih =>
    intro i h1 h2
    simp only [hiN]
    by_cases e : f (n + 1) = true
    · rw [if_pos e]
      exact ⟨e, fun j h3 h4 => absurd h3 (by omega)⟩
    · rw [if_neg e]
      have hi : i ≤ n := by
        rcases Nat.lt_or_ge n i with h | h
        · have : i = n + 1 := by omega
          subst this
          exact absurd h2 e
        · exact h
      obtain ⟨h3, h4⟩ := ih hi h2
      refine ⟨h3, fun j h5 h6 => ?_⟩
      by_cases ej : j = n + 1
      · subst ej; exact Bool.eq_false_iff.mpr e
      · exact h4 j h5 (by omega)
theorem bt_ex {x : Int32} (h : x ≠ 0) : ∃ i, i < 32 ∧ bt x i = true := by
  refine Classical.byContradiction fun hx => h (b_ext fun i hi => ?_)
  rw [b_0]
  exact Bool.eq_false_iff.mpr fun h2 => hx ⟨i, hi, h2⟩
/-- a set of places P n, one for each n in lo .. hi with f n: its highest -/
theorem set_none {x : Int32} {P : Nat → Nat} {f : Nat → Bool} {lo hi : Nat} (h2 : ∀ n, lo ≤ n → n < hi → f n = true → bt x (P n) = true) (h0 : x = 0) : ∀ n, lo ≤ n → n < hi → f n = false := by
  intro n h3 h4
  refine Bool.eq_false_iff.mpr fun h5 => ?_
  have h6 := h2 n h3 h4 h5
  rw [h0, b_0] at h6
  exact absurd h6 (by decide)
theorem set_high {x : Int32} {P : Nat → Nat} {f : Nat → Bool} {lo hi : Nat} (h1 : ∀ i, i < 32 → bt x i = true → ∃ n, lo ≤ n ∧ n < hi ∧ i = P n ∧ f n = true) (h2 : ∀ n, lo ≤ n → n < hi → f n = true → bt x (P n) = true) (hm : ∀ n k, lo ≤ n → n < k → k < hi → P n < P k) (hP : ∀ n, lo ≤ n → n < hi → P n ≤ 30) (h0 : x ≠ 0) :
    ∃ n, lo ≤ n ∧ n < hi ∧ hiN (bt x) 30 = P n ∧ f n = true ∧ ∀ k, n < k → k < hi → f k = false := by
  obtain ⟨i, hi32, hbi⟩ := bt_ex h0
  obtain ⟨n0, g1, g2, g3, g4⟩ := h1 i hi32 hbi
  have hi30 : i ≤ 30 := by rw [g3]; exact hP n0 g1 g2
  obtain ⟨h3, h4⟩ := hiN_spec hi30 hbi
  have hle := hiN_le (bt x) 30
  obtain ⟨n, e1, e2, e3, e4⟩ := h1 (hiN (bt x) 30) (by omega) h3
  refine ⟨n, e1, e2, e3, e4, fun k hk1 hk2 => ?_⟩
  refine Bool.eq_false_iff.mpr fun hf => ?_
  have hb := h2 k (by omega) hk2 hf
  have hlt := hm n k e1 hk1 hk2
  have hf2 := h4 (P k) (by omega) (hP k (by omega) hk2)
  rw [hf2] at hb
  exact absurd hb (by decide)
/-! ===== the sets of places of an address ===== -/
def topP (t : Nat) : Int32 := ((1 ||| ((2 : Int32) <<< (nI (t / 4) &&& 31))) ||| ((8 : Int32) <<< (nI (t / 2) &&& 31))) ||| ((128 : Int32) <<< (nI t &&& 31))
def lowP (o : Nat) : Int32 := (((1 ||| ((2 : Int32) <<< ((nI o >>> ((3 : Int32) &&& 31)) &&& 31))) ||| ((8 : Int32) <<< ((nI o >>> ((2 : Int32) &&& 31)) &&& 31))) ||| ((128 : Int32) <<< ((nI o >>> ((1 : Int32) &&& 31)) &&& 31))) ||| ((1 : Int32) <<< ((15 + nI o) &&& 31))
theorem topP_bit : ∀ t, t < 8 → ∀ i, i < 32 → bt (topP t) i = (decide (i = 0) || (decide (i = 1 + t / 4) || (decide (i = 3 + t / 2) || (decide (i = 7 + t) || false)))) := by decide +kernel
theorem lowP_bit : ∀ o, o < 16 → ∀ i, i < 32 → bt (lowP o) i = (decide (i = pll o 4) || (decide (i = pll o 5) || (decide (i = pll o 6) || (decide (i = pll o 7) || (decide (i = pll o 8) || false))))) := by decide +kernel
theorem cel_top {a : Nat} : cel a 0 = 0 + a / 256 ∧ cel a 1 = 1 + a / 128 ∧ cel a 2 = 3 + a / 64 ∧ cel a 3 = 7 + a / 32 := ⟨rfl, rfl, rfl, rfl⟩
def lmask (lim : Nat) : Int32 := (1 : Int32) <<< (((1 : Int32) <<< ((nI lim - 4) &&& 31) - 1) &&& 31) - 1
def tmask (lim : Nat) : Int32 := (1 : Int32) <<< (((1 : Int32) <<< (nI lim &&& 31) - 1) &&& 31) - 1
theorem lmask_bit : ∀ lim, lim < 10 → 5 ≤ lim → ∀ i, i < 32 → bt (lmask lim) i = decide (i < 2 ^ (lim - 4) - 1) := by decide +kernel
theorem tmask_bit : ∀ lim, lim < 4 → ∀ i, i < 32 → bt (tmask lim) i = decide (i < 2 ^ lim - 1) := by decide +kernel
theorem tmask_hi : ∀ i, i < 32 → bt 32767 i = decide (i < 15) := by decide +kernel
theorem pll_mono : ∀ n, n < 9 → 4 ≤ n → ∀ k, k < 9 → n < k → ∀ o, o < 16 → pll o n < pll o k := by decide +kernel
theorem cel_mono : ∀ n, n < 4 → ∀ k, k < 4 → n < k → ∀ a, a < 256 → cel a n < cel a k := by decide +kernel
theorem nOf_pll : ∀ n, n < 9 → 4 ≤ n → ∀ o, o < 16 → nOf (pll o n) = n - 4 := by decide +kernel
theorem nOf_cel : ∀ n, n < 9 → ∀ a, a < 256 → nOf (cel a n) = n := by decide +kernel
theorem pll_lim0 : ∀ lim, lim < 10 → ∀ n, n < 9 → ∀ o, o < 16 → (decide (lim < 5) || decide (n < 4) || (decide (pll o n < 2 ^ (lim - 4) - 1) == decide (n < lim))) = true := by decide +kernel
theorem pll_lim (lim : Nat) (h1 : lim < 10) (h2 : 5 ≤ lim) (n : Nat) (h3 : n < 9) (h4 : 4 ≤ n) (o : Nat) (h5 : o < 16) : (pll o n < 2 ^ (lim - 4) - 1 ↔ n < lim) := by
  have h := pll_lim0 lim h1 n h3 o h5
  rw [not_dec (show ¬ lim < 5 by omega), not_dec (show ¬ n < 4 by omega)] at h
  simpa using h
theorem cel_lim : ∀ lim, lim < 4 → ∀ n, n < 4 → ∀ a, a < 256 → (cel a n < 2 ^ lim - 1 ↔ n < lim) := by decide +kernel
theorem or5 {P : Nat → Prop} {n : Nat} (h1 : 4 ≤ n) (h2 : n < 9) (h : P 4 ∧ P 5 ∧ P 6 ∧ P 7 ∧ P 8) : P n := by
  obtain ⟨a, b, c, d, e⟩ := h
  rcases (show n = 4 ∨ n = 5 ∨ n = 6 ∨ n = 7 ∨ n = 8 by omega) with rfl | rfl | rfl | rfl | rfl <;> assumption
theorem or4 {P : Nat → Prop} {n : Nat} (h2 : n < 4) (h : P 0 ∧ P 1 ∧ P 2 ∧ P 3) : P n := by
  obtain ⟨a, b, c, d⟩ := h
  rcases (show n = 0 ∨ n = 1 ∨ n = 2 ∨ n = 3 by omega) with rfl | rfl | rfl | rfl <;> assumption
theorem lowP_at {o n : Nat} (ho : o < 16) (h1 : 4 ≤ n) (h2 : n < 9) : bt (lowP o) (pll o n) = true := by
  have hl : pll o n < 32 := Nat.lt_trans (pll_lt n h2 h1 o ho) (by decide)
  rw [lowP_bit o ho _ hl]
  rcases (show n = 4 ∨ n = 5 ∨ n = 6 ∨ n = 7 ∨ n = 8 by omega) with rfl | rfl | rfl | rfl | rfl <;> simp
theorem lowP_of {o i : Nat} (ho : o < 16) (hi : i < 32) (h : bt (lowP o) i = true) : ∃ n, 4 ≤ n ∧ n < 9 ∧ i = pll o n := by
  rw [lowP_bit o ho i hi] at h
  simp only [Bool.or_eq_true, decide_eq_true_eq, Bool.false_eq_true, or_false] at h
  rcases h with h | h | h | h | h
  · exact ⟨4, by decide, by decide, h⟩
  · exact ⟨5, by decide, by decide, h⟩
  · exact ⟨6, by decide, by decide, h⟩
  · exact ⟨7, by decide, by decide, h⟩
  · exact ⟨8, by decide, by decide, h⟩
theorem topP_bit2 {a i : Nat} (ha : a < 256) (hi : i < 32) : bt (topP (a / 32)) i = (decide (i = cel a 0) || (decide (i = cel a 1) || (decide (i = cel a 2) || (decide (i = cel a 3) || false)))) := by
  rw [topP_bit (a / 32) (by omega) i hi]
  obtain ⟨e0, e1, e2, e3⟩ := cel_top (a := a)
  rw [e0, e1, e2, e3, show a / 256 = 0 by omega, show a / 32 / 4 = a / 128 by omega, show a / 32 / 2 = a / 64 by omega]
theorem topP_at {a n : Nat} (ha : a < 256) (h2 : n < 4) : bt (topP (a / 32)) (cel a n) = true := by
  have hl : cel a n < 32 := Nat.lt_trans (cel_lt4 n h2 a ha) (by decide)
  rw [topP_bit2 ha hl]
  rcases (show n = 0 ∨ n = 1 ∨ n = 2 ∨ n = 3 by omega) with rfl | rfl | rfl | rfl <;> simp
theorem topP_of {a i : Nat} (ha : a < 256) (hi : i < 32) (h : bt (topP (a / 32)) i = true) : ∃ n, n < 4 ∧ i = cel a n := by
  rw [topP_bit2 ha hi] at h
  simp only [Bool.or_eq_true, decide_eq_true_eq, Bool.false_eq_true, or_false] at h
  rcases h with h | h | h | h
  · exact ⟨0, by decide, h⟩
  · exact ⟨1, by decide, h⟩
  · exact ⟨2, by decide, h⟩
  · exact ⟨3, by decide, h⟩
/-! ===== what the table's bits say ===== -/
section REL
variable {tb ct : Int32} {tg lb lg gs : Nat → Int32}
theorem Rel.low (hR : Rel tb ct tg lb lg gs) {a n : Nat} (ha : a < 256) (h1 : 4 ≤ n) (h2 : n < 9) : bt (lb (a / 16)) (pll (a % 16) n) = hs gs a n := by
  have h := hR.1 a n ha (by omega)
  rwa [tbit, if_neg (by omega), plc, if_neg (by omega)] at h
theorem Rel.top (hR : Rel tb ct tg lb lg gs) {a n : Nat} (ha : a < 256) (h2 : n < 4) : bt tb (cel a n) = hs gs a n := by
  have h := hR.1 a n ha (by omega)
  rwa [tbit, if_pos h2, plc, if_pos h2] at h
/-- a place below a limit -/
theorem rl_low (hR : Rel tb ct tg lb lg gs) {a lim : Nat} (ha : a < 256) (h4 : 4 < lim) (h9 : lim ≤ 9) :
    (∀ i, i < 32 → bt ((lb (a / 16) &&& lowP (a % 16)) &&& lmask lim) i = true → ∃ n, 4 ≤ n ∧ n < lim ∧ i = pll (a % 16) n ∧ hs gs a n = true) ∧ (∀ n, 4 ≤ n → n < lim → hs gs a n = true → bt ((lb (a / 16) &&& lowP (a % 16)) &&& lmask lim) (pll (a % 16) n) = true) := by
  have ho : a % 16 < 16 := Nat.mod_lt _ (by decide)
  constructor
  · intro i hi h
    rw [b_and, b_and, Bool.and_eq_true, Bool.and_eq_true] at h
    obtain ⟨⟨h1, h2⟩, h3⟩ := h
    obtain ⟨n, g1, g2, g3⟩ := lowP_of ho hi h2
    subst g3
    rw [lmask_bit lim (by omega) (by omega) _ hi, decide_eq_true_eq] at h3
    rw [Rel.low hR ha g1 g2] at h1
    exact ⟨n, g1, (pll_lim lim (by omega) (by omega) n g2 g1 _ ho).mp h3, rfl, h1⟩
  · intro n g1 g2 g3
    have g9 : n < 9 := by omega
    have hl : pll (a % 16) n < 32 := Nat.lt_trans (pll_lt n g9 g1 _ ho) (by decide)
    rw [b_and, b_and, Rel.low hR ha g1 g9, g3, lowP_at ho g1 g9, lmask_bit lim (by omega) (by omega) _ hl, yes_dec ((pll_lim lim (by omega) (by omega) n g9 g1 _ ho).mpr g2)]
    rfl
theorem rl_top (hR : Rel tb ct tg lb lg gs) {a lim : Nat} {M : Int32} (ha : a < 256) (h4 : lim ≤ 4) (hM : ∀ n, n < 4 → (bt M (cel a n) = true ↔ n < lim)) :
    (∀ i, i < 32 → bt ((tb &&& topP (a / 32)) &&& M) i = true → ∃ n, 0 ≤ n ∧ n < lim ∧ i = cel a n ∧ hs gs a n = true) ∧ (∀ n, 0 ≤ n → n < lim → hs gs a n = true → bt ((tb &&& topP (a / 32)) &&& M) (cel a n) = true) := by
  constructor
  · intro i hi h
    rw [b_and, b_and, Bool.and_eq_true, Bool.and_eq_true] at h
    obtain ⟨⟨h1, h2⟩, h3⟩ := h
    obtain ⟨n, g2, g3⟩ := topP_of ha hi h2
    subst g3
    rw [Rel.top hR ha g2] at h1
    exact ⟨n, Nat.zero_le _, (hM n g2).mp h3, rfl, h1⟩
  · intro n _ g2 g3
    have g4 : n < 4 := by omega
    rw [b_and, b_and, Rel.top hR ha g4, g3, topP_at ha g4, (hM n g4).mpr g2]
    rfl
theorem tM_lo {a lim : Nat} (ha : a < 256) (h : lim < 4) : ∀ n, n < 4 → (bt (tmask lim) (cel a n) = true ↔ n < lim) := by
  intro n hn
  rw [tmask_bit lim h _ (Nat.lt_trans (cel_lt4 n hn a ha) (by decide)), decide_eq_true_eq]
  exact cel_lim lim h n hn a ha
theorem tM_hi {a : Nat} (ha : a < 256) : ∀ n, n < 4 → (bt 32767 (cel a n) = true ↔ n < 4) := by
  intro n hn
  have h := cel_lt4 n hn a ha
  rw [tmask_hi _ (Nat.lt_trans h (by decide)), decide_eq_true_eq]
  exact ⟨fun _ => hn, fun _ => h⟩
/-- the low node has one -/
theorem bits_low (hR : Rel tb ct tg lb lg gs) {a lim : Nat} (ha : a < 256) (h4 : 4 < lim) (h9 : lim ≤ 9) (h0 : (lb (a / 16) &&& lowP (a % 16)) &&& lmask lim ≠ 0) :
    4 + nI (nOf (hiN (bt ((lb (a / 16) &&& lowP (a % 16)) &&& lmask lim)) 30)) = nI (Sb gs a lim) - 1 := by
  have ho : a % 16 < 16 := Nat.mod_lt _ (by decide)
  obtain ⟨s1, s2⟩ := rl_low hR ha h4 h9
  obtain ⟨n, e1, e2, e3, e4, e5⟩ := set_high (P := pll (a % 16)) s1 s2 (fun n k q1 q2 q3 => pll_mono n (by omega) q1 k (by omega) q2 _ ho) (fun n q1 q2 => Nat.le_of_lt_succ (pll_lt n (by omega) q1 _ ho)) h0
  rw [e3, nOf_pll n (by omega) e1 _ ho, Sb, bsN_hit e2 e4 e5, nI_pred]
  show nI 4 + nI (n - 4) = nI n
  rw [nI_add, show 4 + (n - 4) = n by omega]
/-- the low node has none: what the top one says -/
theorem low_none (hR : Rel tb ct tg lb lg gs) {a lim : Nat} (ha : a < 256) (h4 : 4 < lim) (h9 : lim ≤ 9) (h0 : (lb (a / 16) &&& lowP (a % 16)) &&& lmask lim = 0) : Sb gs a lim = Sb gs a 4 := by
  obtain ⟨-, s2⟩ := rl_low hR ha h4 h9
  have hn := set_none (P := pll (a % 16)) s2 h0
  have : ∀ k, bsN (hs gs a) (4 + k) = bsN (hs gs a) 4 ∨ lim < 4 + k := by
    intro k
    induction k with
    | zero => exact Or.inl rfl
    | succ k ih =>
      rcases ih with ih | ih
      · rcases Nat.lt_or_ge (4 + k) lim with q | q
        · left
          exact (bsN_no (hn (4 + k) (by omega) q)).trans ih
        · right; omega
      · right; omega
  rcases this (lim - 4) with q | q
  · unfold Sb
    rw [show lim = 4 + (lim - 4) by omega]
    exact q
  · omega
theorem bits_top (hR : Rel tb ct tg lb lg gs) {a lim : Nat} {M : Int32} (ha : a < 256) (h4 : lim ≤ 4) (hM : ∀ n, n < 4 → (bt M (cel a n) = true ↔ n < lim)) (h0 : (tb &&& topP (a / 32)) &&& M ≠ 0) :
    nI (nOf (hiN (bt ((tb &&& topP (a / 32)) &&& M)) 30)) = nI (Sb gs a lim) - 1 := by
  obtain ⟨s1, s2⟩ := rl_top hR ha h4 hM
  obtain ⟨n, e1, e2, e3, e4, e5⟩ := set_high (P := cel a) s1 s2 (fun n k q1 q2 q3 => cel_mono n (by omega) k (by omega) q2 a ha) (fun n q1 q2 => Nat.le_trans (Nat.le_of_lt (cel_lt4 n (by omega) a ha)) (by decide)) h0
  rw [e3, nOf_cel n (by omega) a ha, Sb, bsN_hit e2 e4 e5, nI_pred]
theorem top_none (hR : Rel tb ct tg lb lg gs) {a lim : Nat} {M : Int32} (ha : a < 256) (h4 : lim ≤ 4) (hM : ∀ n, n < 4 → (bt M (cel a n) = true ↔ n < lim)) (h0 : (tb &&& topP (a / 32)) &&& M = 0) : (-1 : Int32) = nI (Sb gs a lim) - 1 := by
  obtain ⟨-, s2⟩ := rl_top hR ha h4 hM
  have hn := set_none (P := cel a) s2 h0
  rw [Sb, bsN_zero (fun k hk => hn k (Nat.zero_le _) hk)]
  rfl
theorem hi_lt31 (f : Nat → Bool) : hiN f 30 < 31 := Nat.lt_succ_of_le (hiN_le f 30)
/-! ===== how many beginnings of an address ===== -/
theorem ct_pick (f Q : Nat → Bool) {p : Nat} : ∀ {N : Nat}, p < N → Q p = false → fb_ct (fun i => f i && (decide (i = p) || Q i)) N = (if f p then 1 else 0) + fb_ct (fun i => f i && Q i) N := by
  intro N
  induction N with
  | zero => intro h; exact absurd h (Nat.not_lt_zero _)
  | succ N ih =>
    intro h hq
    simp only [fb_ct]
    by_cases e : p = N
    · subst e
      have hc : fb_ct (fun i => f i && (decide (i = p) || Q i)) p = fb_ct (fun i => f i && Q i) p := fb_ct_cong (fun k hk => by
        have : decide (k = p) = false := decide_eq_false (by omega)
        simp [this])
      rw [hc]
      simp only [hq]
      cases f p <;> simp [Nat.add_comm]
    · rw [ih (by omega) hq]
      have : decide (N = p) = false := decide_eq_false (fun q => e q.symm)
      simp only [this, Bool.false_or]
      omega
theorem ct_none (f : Nat → Bool) (N : Nat) : fb_ct (fun i => f i && false) N = 0 := by
  rw [fb_ct_zero]
  intro k _
  cases f k <;> rfl
theorem mat_low (hR : Rel tb ct tg lb lg gs) {a : Nat} (ha : a < 256) : fb_ct (bt (lb (a / 16) &&& lowP (a % 16))) 31 = (if hs gs a 4 then 1 else 0) + ((if hs gs a 5 then 1 else 0) + ((if hs gs a 6 then 1 else 0) + ((if hs gs a 7 then 1 else 0) + ((if hs gs a 8 then 1 else 0) + 0)))) := by
  have ho : a % 16 < 16 := Nat.mod_lt _ (by decide)
  have hc : fb_ct (bt (lb (a / 16) &&& lowP (a % 16))) 31 = fb_ct (fun i => bt (lb (a / 16)) i && (decide (i = pll (a % 16) 4) || (decide (i = pll (a % 16) 5) || (decide (i = pll (a % 16) 6) || (decide (i = pll (a % 16) 7) || (decide (i = pll (a % 16) 8) || false)))))) 31 := fb_ct_cong (fun k hk => by rw [b_and, lowP_bit _ ho k (by omega)])
  have m45 := pll_mono 4 (by decide) (by decide) 5 (by decide) (by decide) _ ho
  have m56 := pll_mono 5 (by decide) (by decide) 6 (by decide) (by decide) _ ho
  have m67 := pll_mono 6 (by decide) (by decide) 7 (by decide) (by decide) _ ho
  have m78 := pll_mono 7 (by decide) (by decide) 8 (by decide) (by decide) _ ho
  have l8 := pll_lt 8 (by decide) (by decide) _ ho
  rw [hc]
  rw [ct_pick _ _ (by omega) (by simp only [Bool.or_eq_false_iff, decide_eq_false_iff_not, and_true]; omega)]
  rw [ct_pick _ _ (by omega) (by simp only [Bool.or_eq_false_iff, decide_eq_false_iff_not, and_true]; omega)]
  rw [ct_pick _ _ (by omega) (by simp only [Bool.or_eq_false_iff, decide_eq_false_iff_not, and_true]; omega)]
  rw [ct_pick _ _ (by omega) (by simp only [Bool.or_eq_false_iff, decide_eq_false_iff_not, and_true]; omega)]
  rw [ct_pick _ _ (by omega) rfl, ct_none]
  rw [Rel.low hR ha (n := 4) (by decide) (by decide), Rel.low hR ha (n := 5) (by decide) (by decide), Rel.low hR ha (n := 6) (by decide) (by decide), Rel.low hR ha (n := 7) (by decide) (by decide), Rel.low hR ha (n := 8) (by decide) (by decide)]
theorem mat_top (hR : Rel tb ct tg lb lg gs) {a : Nat} (ha : a < 256) : fb_ct (bt (tb &&& topP (a / 32))) 31 = (if hs gs a 0 then 1 else 0) + ((if hs gs a 1 then 1 else 0) + ((if hs gs a 2 then 1 else 0) + ((if hs gs a 3 then 1 else 0) + 0))) := by
  have hc : fb_ct (bt (tb &&& topP (a / 32))) 31 = fb_ct (fun i => bt tb i && (decide (i = cel a 0) || (decide (i = cel a 1) || (decide (i = cel a 2) || (decide (i = cel a 3) || false))))) 31 := fb_ct_cong (fun k hk => by rw [b_and, topP_bit2 ha (by omega)])
  have m45 := cel_mono 0 (by decide) 1 (by decide) (by decide) _ ha
  have m56 := cel_mono 1 (by decide) 2 (by decide) (by decide) _ ha
  have m67 := cel_mono 2 (by decide) 3 (by decide) (by decide) _ ha
  have l8 := cel_lt4 3 (by decide) _ ha
  rw [hc]
  rw [ct_pick _ _ (by omega) (by simp only [Bool.or_eq_false_iff, decide_eq_false_iff_not, and_true]; omega)]
  rw [ct_pick _ _ (by omega) (by simp only [Bool.or_eq_false_iff, decide_eq_false_iff_not, and_true]; omega)]
  rw [ct_pick _ _ (by omega) (by simp only [Bool.or_eq_false_iff, decide_eq_false_iff_not, and_true]; omega)]
  rw [ct_pick _ _ (by omega) rfl, ct_none]
  rw [Rel.top hR ha (n := 0) (by decide), Rel.top hR ha (n := 1) (by decide), Rel.top hR ha (n := 2) (by decide), Rel.top hR ha (n := 3) (by decide)]
theorem mat_all (hR : Rel tb ct tg lb lg gs) {a : Nat} (ha : a < 256) : nI (fb_ct (bt (tb &&& topP (a / 32))) 31) + nI (fb_ct (bt (lb (a / 16) &&& lowP (a % 16))) 31) = nI (fb_ct (hs gs a) 9) := by
  rw [mat_low hR ha, mat_top hR ha, nI_add]
  simp only [fb_ct]
  congr 1
  omega
end REL
end
section
/-! ===== a beginning's number and its place ===== -/
def celOf (nd at_ : Nat) : Nat := 2 ^ (nOf at_ + 4) - 1 + nd * 2 ^ nOf at_ + (at_ + 1 - 2 ^ nOf at_)
def ndOf (c : Nat) : Nat := (c + 1 - 2 ^ nOf c) / 2 ^ (nOf c - 4)
def atOf (c : Nat) : Nat := 2 ^ (nOf c - 4) - 1 + (c + 1 - 2 ^ nOf c) % 2 ^ (nOf c - 4)
theorem celOf_tab : ∀ n, n < 9 → ∀ a, a < 256 → 4 ≤ n → celOf (a / 16) (pll (a % 16) n) = cel a n := by decide +kernel
theorem ndOf_tab : ∀ n, n < 9 → ∀ a, a < 256 → 4 ≤ n → ndOf (cel a n) = a / 16 := by decide +kernel
theorem atOf_tab : ∀ n, n < 9 → ∀ a, a < 256 → 4 ≤ n → atOf (cel a n) = pll (a % 16) n := by decide +kernel
theorem cel_hi : ∀ n, n < 9 → ∀ a, a < 256 → 4 ≤ n → 15 ≤ cel a n := by decide +kernel
theorem same_low {a a' n n' : Nat} (ha : a < 256) (ha' : a' < 256) (hn : n < 9) (hn' : n' < 9) (h4 : 4 ≤ n) (h4' : 4 ≤ n') : cel a' n' = cel a n ↔ (a' / 16 = a / 16 ∧ pll (a' % 16) n' = pll (a % 16) n) := by
  constructor
  · intro h
    rw [← ndOf_tab n hn a ha h4, ← ndOf_tab n' hn' a' ha' h4', ← atOf_tab n hn a ha h4, ← atOf_tab n' hn' a' ha' h4', h]
    exact ⟨rfl, rfl⟩
  · intro h
    rw [← celOf_tab n hn a ha h4, ← celOf_tab n' hn' a' ha' h4', h.1, h.2]
theorem cel_inj {a a' n n' : Nat} (ha : a < 256) (ha' : a' < 256) (hn : n < 9) (hn' : n' < 9) (h : cel a' n' = cel a n) : n' = n ∧ a' / 2 ^ (8 - n) = a / 2 ^ (8 - n) := by
  have e : n' = n := by rw [← nOf_cel n hn a ha, ← nOf_cel n' hn' a' ha', h]
  subst e
  refine ⟨rfl, ?_⟩
  unfold cel at h
  omega
/-! ===== one cell of the array changed ===== -/
theorem hs_upd_eq {gs : Nat → Int32} {a n c : Nat} {v : Int32} (h : cel a n = c) : hs (upd gs c v) a n = !decide (v < 0) := by unfold hs; rw [h, pk_us]
theorem hs_upd_ne {gs : Nat → Int32} {a n c : Nat} {v : Int32} (h : cel a n ≠ c) : hs (upd gs c v) a n = hs gs a n := by unfold hs; rw [pk_un h]
theorem P_upd (gs : Nat → Int32) (c : Nat) (v : Int32) : P_routes (upd gs c v) = fun k => if k = c then !decide (v < 0) else P_routes gs k := by
  funext k
  unfold P_routes
  by_cases e : k = c
  · subst e; rw [if_pos rfl, pk_us]
  · rw [if_neg e, pk_un e]
theorem routes_put {gs : Nat → Int32} {c : Nat} {v : Int32} (hc : c < 511) (hv : ¬ v < 0) : S_routes (upd gs c v) = S_routes gs + (if P_routes gs c then 0 else 1) := by
  have h := fb_ct_upd (P_routes gs) (!decide (v < 0)) hc
  unfold S_routes
  rw [P_upd]
  rw [show (!decide (v < 0)) = true by rw [not_dec hv]; rfl] at h ⊢
  by_cases e : P_routes gs c = true
  · rw [if_pos e] at h ⊢
    rw [if_pos rfl] at h
    rw [show fb_ct (fun k => if k = c then true else P_routes gs k) 511 = fb_ct (P_routes gs) 511 by omega]
    exact (Int32.add_zero _).symm
  · rw [if_neg e] at h ⊢
    rw [if_pos rfl] at h
    rw [show fb_ct (fun k => if k = c then true else P_routes gs k) 511 = fb_ct (P_routes gs) 511 + 1 by omega]
    exact nI_succ _
theorem routes_drop {gs : Nat → Int32} {c : Nat} (hc : c < 511) (h1 : P_routes gs c = true) : S_routes (upd gs c (-1)) = S_routes gs - 1 := by
  have h := fb_ct_upd (P_routes gs) (!decide ((-1 : Int32) < 0)) hc
  unfold S_routes
  rw [P_upd]
  rw [show (!decide ((-1 : Int32) < 0)) = false by decide] at h ⊢
  rw [if_pos h1, if_neg (by decide)] at h
  rw [show fb_ct (P_routes gs) 511 = fb_ct (fun k => if k = c then false else P_routes gs k) 511 + 1 by omega]
  exact (nI_pred _).symm
theorem upd_le {gs : Nat → Int32} (h : ∀ c, gs c ≤ 99) (c : Nat) {v : Int32} (hv : v ≤ 99) : ∀ k, upd gs c v k ≤ 99 := by
  intro k
  by_cases e : k = c
  · subst e; rw [pk_us]; exact hv
  · rw [pk_un e]; exact h k
theorem not_shl : ∀ k, k < 32 → ∀ i, i < 32 → bt (((1 : Int32) <<< (nI k &&& 31)) ^^^ (-1)) i = !decide (i = k) := by decide +kernel
section REL
variable {tb ct : Int32} {tg lb lg gs : Nat → Int32}
theorem Rel.put_top (hR : Rel tb ct tg lb lg gs) {a n : Nat} {g : Int32} (ha : a < 256) (hn : n < 4) (h0 : ¬ g < 0) (h9 : ¬ 99 < g) : Rel (tb ||| ((1 : Int32) <<< (nI (plc a n) &&& 31))) (ct + (if hs gs a n then 0 else 1)) (upd tg (plc a n) g) lb lg (upd gs (cel a n) g) := by
  have hp : plc a n = cel a n := by unfold plc; rw [if_pos hn]
  have hlt := cel_lt4 n hn a ha
  rw [hp]
  refine ⟨fun a' n' ha' hn' => ?_, fun a' n' ha' hn' hh => ?_, ?_, upd_le hR.2.2.2 _ (fa_of_nlt h9)⟩
  · by_cases h4 : n' < 4
    · have hlt' := cel_lt4 n' h4 a' ha'
      rw [tbit, if_pos h4, plc, if_pos h4, b_or, Rel.top hR ha' h4, one_shl _ (by omega) _ (by omega)]
      by_cases e : cel a' n' = cel a n
      · rw [hs_upd_eq e, not_dec h0, yes_dec e]
        cases hs gs a' n' <;> rfl
      · rw [hs_upd_ne e, not_dec e]
        cases hs gs a' n' <;> rfl
    · have hhi := cel_hi n' (by omega) a' ha' (by omega)
      rw [tbit, if_neg h4, plc, if_neg h4, Rel.low hR ha' (by omega) (by omega), hs_upd_ne (by omega)]
  · by_cases h4 : n' < 4
    · rw [tgoal, if_pos h4, plc, if_pos h4]
      by_cases e : cel a' n' = cel a n
      · rw [e, pk_us, pk_us]
      · rw [pk_un e, pk_un e]
        rw [hs_upd_ne e] at hh
        have h := hR.2.1 a' n' ha' hn' hh
        rwa [tgoal, if_pos h4, plc, if_pos h4] at h
    · have hhi := cel_hi n' (by omega) a' ha' (by omega)
      have e : cel a' n' ≠ cel a n := by omega
      rw [pk_un e]
      rw [hs_upd_ne e] at hh
      have h := hR.2.1 a' n' ha' hn' hh
      rw [tgoal, if_neg h4] at h ⊢
      exact h
  · rw [routes_put (Nat.lt_trans hlt (by decide)) h0, ← hR.2.2.1]
    rfl
theorem Rel.put_low (hR : Rel tb ct tg lb lg gs) {a n : Nat} {g : Int32} (ha : a < 256) (h4 : ¬ n < 4) (hn : n ≤ 8) (h0 : ¬ g < 0) (h9 : ¬ 99 < g) : Rel tb (ct + (if hs gs a n then 0 else 1)) tg (upd lb (a / 16) (lb (a / 16) ||| ((1 : Int32) <<< (nI (plc a n) &&& 31)))) (upd lg (a / 16 * 31 + plc a n) g) (upd gs (cel a n) g) := by
  have hp : plc a n = pll (a % 16) n := by unfold plc; rw [if_neg h4]
  have ho : a % 16 < 16 := Nat.mod_lt _ (by decide)
  have hlt := pll_lt n (by omega) (by omega) _ ho
  have hc := cel_hi n (by omega) a ha (by omega)
  rw [hp]
  refine ⟨fun a' n' ha' hn' => ?_, fun a' n' ha' hn' hh => ?_, ?_, upd_le hR.2.2.2 _ (fa_of_nlt h9)⟩
  · by_cases h4' : n' < 4
    · have hlt' := cel_lt4 n' h4' a' ha'
      rw [tbit, if_pos h4', plc, if_pos h4', Rel.top hR ha' h4', hs_upd_ne (by omega)]
    · have ho' : a' % 16 < 16 := Nat.mod_lt _ (by decide)
      have hlt' := pll_lt n' (by omega) (by omega) _ ho'
      have hs' := same_low ha ha' (show n < 9 by omega) (show n' < 9 by omega) (by omega) (by omega)
      rw [tbit, if_neg h4', plc, if_neg h4']
      by_cases en : a' / 16 = a / 16
      · rw [en, pk_us, b_or, one_shl _ (by omega) _ (by omega), ← en, Rel.low hR ha' (by omega) (by omega)]
        by_cases e : cel a' n' = cel a n
        · rw [hs_upd_eq e, not_dec h0, yes_dec (hs'.mp e).2]
          cases hs gs a' n' <;> rfl
        · rw [hs_upd_ne e, not_dec (fun q => e (hs'.mpr ⟨en, q⟩))]
          cases hs gs a' n' <;> rfl
      · rw [pk_un en, Rel.low hR ha' (by omega) (by omega), hs_upd_ne (fun q => en (hs'.mp q).1)]
  · by_cases h4' : n' < 4
    · have hlt' := cel_lt4 n' h4' a' ha'
      have e : cel a' n' ≠ cel a n := by omega
      rw [pk_un e]
      rw [hs_upd_ne e] at hh
      have h := hR.2.1 a' n' ha' hn' hh
      rw [tgoal, if_pos h4'] at h ⊢
      exact h
    · have ho' : a' % 16 < 16 := Nat.mod_lt _ (by decide)
      have hlt' := pll_lt n' (by omega) (by omega) _ ho'
      have hs' := same_low ha ha' (show n < 9 by omega) (show n' < 9 by omega) (by omega) (by omega)
      rw [tgoal, if_neg h4', plc, if_neg h4']
      by_cases e : cel a' n' = cel a n
      · obtain ⟨e1, e2⟩ := hs'.mp e
        rw [e, e1, e2, pk_us, pk_us]
      · have ei : a' / 16 * 31 + pll (a' % 16) n' ≠ a / 16 * 31 + pll (a % 16) n := fun q => e (hs'.mpr (by omega))
        rw [pk_un ei, pk_un e]
        rw [hs_upd_ne e] at hh
        have h := hR.2.1 a' n' ha' hn' hh
        rwa [tgoal, if_neg h4', plc, if_neg h4'] at h
  · rw [routes_put (cel_lt n (by omega) a ha) h0, ← hR.2.2.1]
    rfl
theorem Rel.drop_top (hR : Rel tb ct tg lb lg gs) {a n : Nat} (ha : a < 256) (hn : n < 4) (hh0 : hs gs a n = true) : Rel (tb &&& (((1 : Int32) <<< (nI (plc a n) &&& 31)) ^^^ (-1))) (ct - 1) tg lb lg (upd gs (cel a n) (-1)) := by
  have hp : plc a n = cel a n := by unfold plc; rw [if_pos hn]
  have hlt := cel_lt4 n hn a ha
  rw [hp]
  refine ⟨fun a' n' ha' hn' => ?_, fun a' n' ha' hn' hh => ?_, ?_, upd_le hR.2.2.2 _ (by decide)⟩
  · by_cases h4 : n' < 4
    · have hlt' := cel_lt4 n' h4 a' ha'
      rw [tbit, if_pos h4, plc, if_pos h4, b_and, Rel.top hR ha' h4, not_shl _ (by omega) _ (by omega)]
      by_cases e : cel a' n' = cel a n
      · rw [hs_upd_eq e, yes_dec e]
        cases hs gs a' n' <;> decide
      · rw [hs_upd_ne e, not_dec e]
        cases hs gs a' n' <;> rfl
    · have hhi := cel_hi n' (by omega) a' ha' (by omega)
      rw [tbit, if_neg h4, plc, if_neg h4, Rel.low hR ha' (by omega) (by omega), hs_upd_ne (by omega)]
  · by_cases e : cel a' n' = cel a n
    · rw [hs_upd_eq e] at hh
      exact absurd hh (by decide)
    · rw [hs_upd_ne e] at hh
      rw [pk_un e]
      exact hR.2.1 a' n' ha' hn' hh
  · rw [routes_drop (Nat.lt_trans hlt (by decide)) hh0, ← hR.2.2.1]
theorem Rel.drop_low (hR : Rel tb ct tg lb lg gs) {a n : Nat} (ha : a < 256) (h4 : ¬ n < 4) (hn : n ≤ 8) (hh0 : hs gs a n = true) : Rel tb (ct - 1) tg (upd lb (a / 16) (lb (a / 16) &&& (((1 : Int32) <<< (nI (plc a n) &&& 31)) ^^^ (-1)))) lg (upd gs (cel a n) (-1)) := by
  have hp : plc a n = pll (a % 16) n := by unfold plc; rw [if_neg h4]
  have ho : a % 16 < 16 := Nat.mod_lt _ (by decide)
  have hlt := pll_lt n (by omega) (by omega) _ ho
  have hc := cel_hi n (by omega) a ha (by omega)
  rw [hp]
  refine ⟨fun a' n' ha' hn' => ?_, fun a' n' ha' hn' hh => ?_, ?_, upd_le hR.2.2.2 _ (by decide)⟩
  · by_cases h4' : n' < 4
    · have hlt' := cel_lt4 n' h4' a' ha'
      rw [tbit, if_pos h4', plc, if_pos h4', Rel.top hR ha' h4', hs_upd_ne (by omega)]
    · have ho' : a' % 16 < 16 := Nat.mod_lt _ (by decide)
      have hlt' := pll_lt n' (by omega) (by omega) _ ho'
      have hs' := same_low ha ha' (show n < 9 by omega) (show n' < 9 by omega) (by omega) (by omega)
      rw [tbit, if_neg h4', plc, if_neg h4']
      by_cases en : a' / 16 = a / 16
      · rw [en, pk_us, b_and, not_shl _ (by omega) _ (by omega), ← en, Rel.low hR ha' (by omega) (by omega)]
        by_cases e : cel a' n' = cel a n
        · rw [hs_upd_eq e, yes_dec (hs'.mp e).2]
          cases hs gs a' n' <;> decide
        · rw [hs_upd_ne e, not_dec (fun q => e (hs'.mpr ⟨en, q⟩))]
          cases hs gs a' n' <;> rfl
      · rw [pk_un en, Rel.low hR ha' (by omega) (by omega), hs_upd_ne (fun q => en (hs'.mp q).1)]
  · by_cases e : cel a' n' = cel a n
    · rw [hs_upd_eq e] at hh
      exact absurd hh (by decide)
    · rw [hs_upd_ne e] at hh
      rw [pk_un e]
      exact hR.2.1 a' n' ha' hn' hh
  · rw [routes_drop (cel_lt n (by omega) a ha) hh0, ← hR.2.2.1]
theorem Rel.cleared (hl : ∀ k, k < 16 → lb k = 0) (h9 : ∀ c, gs c ≤ 99) : Rel 0 0 tg lb lg (gs_clear gs) := by
  have hno : ∀ a n, a < 256 → n ≤ 8 → hs (gs_clear gs) a n = false := by
    intro a n ha hn
    unfold hs gs_clear
    rw [fa_fill_in (cel_lt n (by omega) a ha)]
    decide
  refine ⟨fun a n ha hn => ?_, fun a n ha hn hh => ?_, ?_, fun c => ?_⟩
  · rw [hno a n ha hn, tbit, hl (a / 16) (by omega), b_0]
    split <;> rfl
  · rw [hno a n ha hn] at hh
    exact absurd hh (by decide)
  · unfold S_routes
    rw [(fb_ct_zero (p := P_routes (gs_clear gs)) (n := 511)).mpr (fun k hk => by
      unfold P_routes gs_clear
      rw [fa_fill_in hk]
      decide)]
    rfl
  · unfold gs_clear fa_fill
    split
    · show (-1 : Int32) ≤ 99
      decide
    · exact h9 c
end REL
/-! ===== the first one ===== -/
theorem fst_none {P : Nat → Bool} : ∀ k i, (∀ x, i ≤ x → x < i + k → P x = false) → fstF P k i = -1 := by
  intro k
  induction k with
  | zero => intro i _; rfl
  | succ k ih =>
    intro i h
    simp only [fstF]
    rw [h i (Nat.le_refl i) (by omega)]
    exact ih (i + 1) (fun x h1 h2 => h x (by omega) (by omega))
theorem fst_skip {P : Nat → Bool} {i0 : Nat} : ∀ k i, i ≤ i0 → i0 ≤ i + k → (∀ x, i ≤ x → x < i0 → P x = false) → fstF P k i = fstF P (i + k - i0) i0 := by
  intro k
  induction k with
  | zero =>
    intro i h1 h2 _
    have e : i0 = i := by omega
    subst e
    rw [show i0 + 0 - i0 = 0 by omega]
  | succ k ih =>
    intro i h1 h2 h3
    by_cases e : i0 = i
    · subst e
      rw [show i0 + (k + 1) - i0 = k + 1 by omega]
    · simp only [fstF]
      rw [h3 i (Nat.le_refl i) (by omega)]
      rw [show i + (k + 1) - i0 = i + 1 + k - i0 by omega]
      exact ih (i + 1) (by omega) (by omega) (fun x h4 h5 => h3 x (by omega) h5)
/-! ===== a stretch of addresses ===== -/
theorem ct_ext {P : Nat → Bool} {i : Nat} : ∀ k, (∀ y, i ≤ y → y < i + k → P y = false) → fb_ct P (i + k) = fb_ct P i := by
  intro k
  induction k with
  | zero => intro _; rfl
  | succ k ih =>
    intro h
    show fb_ct P (i + k) + (if P (i + k) then 1 else 0) = _
    rw [h (i + k) (by omega) (by omega), ih (fun y h1 h2 => h y h1 (by omega))]
    rfl
theorem stretch {x y d : Nat} (hd : 0 < d) (hx : x % d = 0) : y / d = x / d ↔ x ≤ y ∧ y < x + d := by
  have ex := Nat.div_add_mod x d
  have ey := Nat.div_add_mod y d
  have hm := Nat.mod_lt y hd
  constructor
  · intro h
    rw [h] at ey
    omega
  · intro h
    have e : y = d * (x / d) + (y - x) := by omega
    have e2 : y / d = (d * (x / d) + (y - x)) / d := congrArg (fun z => z / d) e
    rw [e2, Nat.mul_add_div hd, Nat.div_eq_of_lt (show y - x < d by omega)]
    rfl
theorem last_tab : ∀ n, n < 9 → ∀ x, x < 256 → x % 2 ^ (8 - n) = 0 → nI x ||| ((255 : Int32) >>> (nI n &&& 31)) = nI (x + (2 ^ (8 - n) - 1)) := by decide +kernel
theorem room_tab : ∀ n, n < 9 → ∀ x, x < 256 → x % 2 ^ (8 - n) = 0 → x + 2 ^ (8 - n) ≤ 256 := by decide +kernel
theorem load_0 {gs : Nat → Int32} {x n : Nat} (hx : x % 2 ^ (8 - n) = 0) : fb_ct (P_load gs x n) x = 0 := by
  rw [fb_ct_zero]
  intro k hk
  have : ¬ (k / 2 ^ (8 - n) = x / 2 ^ (8 - n)) := fun q => by
    have := (stretch (Nat.two_pow_pos _) hx).mp q
    omega
  simp only [P_load, not_dec this]
  rfl
theorem load_in {gs : Nat → Int32} {x n y : Nat} (hx : x % 2 ^ (8 - n) = 0) (h1 : x ≤ y) (h2 : y < x + 2 ^ (8 - n)) : P_load gs x n y = decide (Sb gs y 9 = n + 1) := by
  have : (y / 2 ^ (8 - n) = x / 2 ^ (8 - n)) := (stretch (Nat.two_pow_pos _) hx).mpr ⟨h1, h2⟩
  simp only [P_load, yes_dec this]
  rfl
theorem load_end {gs : Nat → Int32} {x n : Nat} (hx : x % 2 ^ (8 - n) = 0) (hr : x + 2 ^ (8 - n) ≤ 256) : fb_ct (P_load gs x n) (x + 2 ^ (8 - n)) = fb_ct (P_load gs x n) 256 := by
  have h := ct_ext (P := P_load gs x n) (i := x + 2 ^ (8 - n)) (256 - (x + 2 ^ (8 - n))) (fun y h1 h2 => by
    have : ¬ (y / 2 ^ (8 - n) = x / 2 ^ (8 - n)) := fun q => by
      have := (stretch (Nat.two_pow_pos _) hx).mp q
      omega
    simp only [P_load, not_dec this]
    rfl)
  rw [← h, show x + 2 ^ (8 - n) + (256 - (x + 2 ^ (8 - n))) = 256 by omega]
/-! ===== a route that changes nothing ===== -/
theorem allF_iff {P : Nat → Bool} : ∀ {n : Nat}, allF P n = true ↔ ∀ k, k < n → P k = true := by
  intro n
  induction n with
  | zero => exact ⟨fun _ k h => absurd h (Nat.not_lt_zero k), fun _ => rfl⟩
  | succ n ih =>
    simp only [allF, Bool.and_eq_true]
    rw [ih]
    constructor
    · intro h k hk
      by_cases e : k = n
      · subst e; exact h.2
      · exact h.1 k (by omega)
    · intro h
      exact ⟨fun k hk => h k (by omega), h n (by omega)⟩
theorem cel_up {x y n k : Nat} (hk : k ≤ n) (hn : n ≤ 8) (h : y / 2 ^ (8 - n) = x / 2 ^ (8 - n)) : cel y k = cel x k := by
  unfold cel
  have e : 2 ^ (8 - k) = 2 ^ (8 - n) * 2 ^ (n - k) := by rw [← Nat.pow_add, show 8 - n + (n - k) = 8 - k by omega]
  rw [e, ← Nat.div_div_eq_div_mul, ← Nat.div_div_eq_div_mul, h]
section IDLE
variable {gs : Nat → Int32} {x n : Nat}
theorem idle_out (hx : x < 256) (hn : n ≤ 8) {y : Nat} (hy : y < 256) (h : ¬ (y / 2 ^ (8 - n) = x / 2 ^ (8 - n))) : P_idle gs (upd gs (cel x n) (-1)) y = true := by
  have hne : ∀ k, k < 9 → cel y k ≠ cel x n := fun k hk q => h (cel_inj hx hy (by omega) hk q).2
  have hb : Sb (upd gs (cel x n) (-1)) y 9 = Sb gs y 9 := bsN_cong (fun k hk => hs_upd_ne (hne k hk))
  have hle := bsN_le (hs gs y) 9
  unfold P_idle
  refine yes_dec ?_
  unfold Sg
  rw [hb]
  split
  · rfl
  · rename_i h0
    have hb9 : Sb gs y 9 ≤ 9 := hle
    rw [pk_un (hne _ (by omega))]
theorem idle_in (hx : x < 256) (hn : n ≤ 8) (hh : hs gs x n = true) {y : Nat} (hy : y < 256) (h : y / 2 ^ (8 - n) = x / 2 ^ (8 - n)) : P_idle gs (upd gs (cel x n) (-1)) y = true ↔ (Sb gs y 9 = n + 1 → Sg gs x n = gs (cel x n)) := by
  have hc : cel y n = cel x n := cel_up (Nat.le_refl n) hn h
  have hne : ∀ k, k < 9 → k ≠ n → cel y k ≠ cel x n := fun k hk hkn q => hkn (cel_inj hx hy (by omega) hk q).1
  have hhy : hs gs y n = true := by unfold hs at hh ⊢; rw [hc]; exact hh
  cases hS : Sb gs y 9 with
  | zero =>
    have h0 := bsN_spec0 hS n (by omega)
    rw [hhy] at h0
    exact absurd h0 (by decide)
  | succ m =>
    obtain ⟨s1, s2, s3⟩ := bsN_spec hS
    have hmn : n ≤ m := by
      rcases Nat.lt_or_ge m n with q | q
      · have := s3 n q (by omega)
        rw [hhy] at this
        exact absurd this (by decide)
      · exact q
    have hgy : Sg gs y 9 = gs (cel y m) := by
      unfold Sg
      rw [hS, if_neg (by omega)]
      rfl
    by_cases e : m = n
    · subst e
      have hb1 : Sb (upd gs (cel x m) (-1)) y 9 = Sb gs x m := by
        have hz : ∀ j, m ≤ j → j < 9 → hs (upd gs (cel x m) (-1)) y j = false := by
          intro j h1 h2
          by_cases ej : j = m
          · subst ej; rw [hs_upd_eq hc]; decide
          · rw [hs_upd_ne (hne j h2 ej)]; exact s3 j (by omega) h2
        have hk : ∀ k, m + k ≤ 9 → bsN (hs (upd gs (cel x m) (-1)) y) (m + k) = bsN (hs (upd gs (cel x m) (-1)) y) m := by
          intro k
          induction k with
          | zero => intro _; rfl
          | succ k ih => intro hk; exact (bsN_no (hz (m + k) (by omega) (by omega))).trans (ih (by omega))
        have := hk (9 - m) (by omega)
        rw [show m + (9 - m) = 9 by omega] at this
        unfold Sb
        rw [this]
        refine bsN_cong (fun k hk => ?_)
        rw [hs_upd_ne (hne k (by omega) (by omega))]
        unfold hs
        rw [cel_up (by omega) hn h]
      have hg1 : Sg (upd gs (cel x m) (-1)) y 9 = Sg gs x m := by
        have hle : Sb gs x m ≤ m := bsN_le _ _
        unfold Sg
        rw [hb1]
        split
        · rfl
        · rw [pk_un (hne _ (by omega) (by omega)), cel_up (by omega) hn h]
      unfold P_idle
      rw [decide_eq_true_eq, hg1, hgy, hc]
      exact ⟨fun q _ => q, fun q => q rfl⟩
    · have hb1 : Sb (upd gs (cel x n) (-1)) y 9 = m + 1 := bsN_hit s1 (by rw [hs_upd_ne (hne m s1 e)]; exact s2) (fun j h1 h2 => by rw [hs_upd_ne (hne j h2 (by omega))]; exact s3 j h1 h2)
      have hg1 : Sg (upd gs (cel x n) (-1)) y 9 = Sg gs y 9 := by
        rw [hgy]
        unfold Sg
        rw [hb1, if_neg (by omega)]
        show upd gs (cel x n) (-1) (cel y m) = _
        rw [pk_un (hne m s1 e)]
      constructor
      · intro _ q
        exact absurd q (by omega)
      · intro _
        unfold P_idle
        exact yes_dec hg1
theorem idle_law (hx : x < 256) (hn : n ≤ 8) (hh : hs gs x n = true) : allF (P_idle gs (upd gs (cel x n) (-1))) 256 = (decide (Sg gs x n = gs (cel x n)) || decide (fb_ct (P_load gs x n) 256 = 0)) := by
  rw [Bool.eq_iff_iff, allF_iff, Bool.or_eq_true, decide_eq_true_eq, decide_eq_true_eq]
  constructor
  · intro h
    by_cases e : Sg gs x n = gs (cel x n)
    · exact Or.inl e
    · right
      rw [fb_ct_zero]
      intro y hy
      refine Bool.eq_false_iff.mpr fun q => ?_
      unfold P_load at q
      rw [Bool.and_eq_true, decide_eq_true_eq, decide_eq_true_eq] at q
      exact e ((idle_in hx hn hh hy q.1).mp (h y hy) q.2)
  · intro h y hy
    by_cases q : y / 2 ^ (8 - n) = x / 2 ^ (8 - n)
    · refine (idle_in hx hn hh hy q).mpr fun q2 => ?_
      rcases h with h | h
      · exact h
      · rw [fb_ct_zero] at h
        have := h y hy
        simp only [P_load, yes_dec q, yes_dec q2] at this
        exact absurd this (by decide)
    · exact idle_out hx hn hy q
end IDLE
end
section
/-! ===== the two classes' worlds, and rows for methods that only read ===== -/
abbrev vwCl : List vw_C := [(RX0, TX0, 5), (RX1, TX1, 2)]
abbrev W0 (h0 q1 q2 q3 : Nat) (k1 k2 k3 : ClassId) (tb ct : Int32) (tg lb lg : Nat → Int32) : va_W := [(h0, .inr (0, [.int tb, .ref q1, .ref q2, .ref q3, .int ct])), (q1, .inl (k1, 15, .inl tg)), (q2, .inl (k2, 16, .inl lb)), (q3, .inl (k3, 496, .inl lg))]
abbrev K0 (k1 k2 k3 : ClassId) : List (ClassId × FieldType) := [(k1, .byte), (k2, .int), (k3, .byte)]
abbrev W1 (h0 q1 q2 : Nat) (k1 k2 : ClassId) (gs bf : Nat → Int32) : va_W := [(h0, .inr (1, [.ref q1, .ref q2])), (q1, .inl (k1, 511, .inl gs)), (q2, .inl (k2, 256, .inl bf))]
abbrev K1 (k1 k2 : ClassId) : List (ClassId × FieldType) := [(k1, .int), (k2, .int)]
abbrev rdP (D : va_G) (cs : va_W) (tys : List (ClassId × FieldType)) (av : List Value) : Array Value → State → Prop := va_Pc av (fun U => va_P D vwCl cs U.heap ∧ va_K D vwCl tys U)
abbrev stP (av : List Value) : Array Value → State → Prop := va_Pc av (fun _ => True)
theorem rdP_blind {D : va_G} {cs : va_W} {tys : List (ClassId × FieldType)} {av : List Value} : FrameBlind (rdP D cs tys av) := fun a U g mk q => ⟨q.1, q.2.1, va_K.moved (u := U) (U := U.calling g mk a) (Vm.Alike.refl U.vm) q.2.2⟩
theorem stP_blind {av : List Value} : FrameBlind (stP av) := fun _ _ _ _ q => q
/-- a method that only reads: the state that its walk stands in -/
abbrev WR (p : Program) (l : Launch) (e : Env) (R : Room) (s : State) (m : MethodId) (args : Array Value) (below : List Frame) (meth : Method) (c : Code) (r : Int32) (g : JFrame) : Prop := W p l e R s m args below meth c s.heap [] 0 0 (MQ below (QcRead r) args s 0 0 (fun _ => False)) g
section RW
variable {p : Program} {l : Launch} {e : Env} {R : Room} {s : State} {m : MethodId} {args : Array Value} {below : List Frame} {meth : Method} {c : Code} {H : Heap} {locs : List Loc} {cells slots : Nat} {Q : State → Prop} {pc : Nat} {ls : Array Slot} {rest st : List Value} {cc bytes : ByteArray} {nL maxL n index : Nat} {Ts ws : List Cond} {own C : String} {y : MethodName} {ret : Option FieldType} {rm : Room} {r : Int32} {As : List Value} {D : va_G} {cs : va_W} {tys : List (ClassId × FieldType)}
theorem lv_tope {x y : Int32} (h : x = y) (k : W p l e R s m args below meth c H locs cells slots Q (F0 m pc ls (.int y :: rest))) : W p l e R s m args below meth c H locs cells slots Q (F0 m pc ls (.int x :: rest)) := by rw [h]; exact k
theorem rd_callV {b ci q0 N : Nat} {T : u_T} {fs : List Value} (S : CallFix p m c cc nL s args Ts own) (hM : Met l y ws rm (rdP D cs tys (.ref b :: As)) (QcRead r) 0 0 (fun _ => False)) (cw : CallW R s args own C index y bytes maxL ret ws rm 0 0 n) (hP : va_P D vwCl cs H) (hK : va_K D vwCl tys s) (hc : vwCl[ci]? = some (C, T, N)) (he : cs[q0]? = some (b, .inr (ci, fs))) (hn : As.length = n) (hsize : ls.size = nL) (hstack : st = As.reverse ++ .ref b :: rest) (hW : (rest.map fun v => v.category).sum ≤ 8) (hdg : decode cc pc = .ok (.invokevirtual index, 3)) (hf : cells ≤ R.cells ∧ slots ≤ R.slots)
    (kk : W p l e R s m args below meth c H locs cells slots Q (F0 m (pc + 3) ls (.int r :: rest))) : W p l e R s m args below meth c H locs cells slots Q (F0 m pc ls st) :=
  W.callR (a := (Value.ref b :: As).toArray) (W.runV S hM cw ⟨rdP_blind, va_recv hK hP hc he, fun U hU hW => ⟨rfl, by rw [hU]; exact hP, va_K.moved hW.alike hK⟩⟩ rfl hn hsize hstack (lv_room hW) hdg hf) kk
theorem rd_callS (S : CallFix p m c cc nL s args Ts own) (hM : Met l y ws rm (stP As) (QcRead r) 0 0 (fun _ => False)) (cw : CallB R s args own index y bytes maxL ret ws rm 0 0 n ∧ (Cond.static y).before args s = true) (hn : As.length = n) (hsize : ls.size = nL) (hstack : st = As.reverse ++ rest) (hW : (rest.map fun v => v.category).sum ≤ 8) (hdg : decode cc pc = .ok (.invokestatic index, 3)) (hf : cells ≤ R.cells ∧ slots ≤ R.slots)
    (kk : W p l e R s m args below meth c H locs cells slots Q (F0 m (pc + 3) ls (.int r :: rest))) : W p l e R s m args below meth c H locs cells slots Q (F0 m pc ls st) :=
  W.callR (a := As.toArray) (W.runS S hM cw ⟨stP_blind, fun U hU hW => ⟨rfl, trivial⟩⟩ rfl hn hsize hstack (lv_room hW) hdg hf) kk
theorem rd_iald (hx : p.tables.exec = Jvm.exec) (hb : c.code = cc) (hK : va_K D vwCl tys s) (hP : va_P D vwCl cs H) (q0 t0 : Nat) {cA : ClassId} {n a : Nat} {f : Nat → Int32} (ha : cs[q0]? = some (a, .inl (cA, n, .inl f))) (ht : tys[t0]? = some (cA, .int)) {i : Nat} (hi : i < n) (hn : n < 2 ^ 31) (hdg : decode cc pc = .ok (.iaload, 1))
    (kk : W p l e R s m args below meth c H locs cells slots Q (F0 m (pc + 1) ls (.int (f i) :: rest))) : W p l e R s m args below meth c H locs cells slots Q (F0 m pc ls (.int (nI i) :: .ref a :: rest)) :=
  va_iald hx hb hK hP q0 t0 ha ht (vp_in_nI hi hn) hdg (by rw [nI_clamp (Nat.lt_trans hi hn)]; exact kk)
theorem rd_bald (hx : p.tables.exec = Jvm.exec) (hb : c.code = cc) (hK : va_K D vwCl tys s) (hP : va_P D vwCl cs H) (q0 t0 : Nat) {cA : ClassId} {n a : Nat} {f : Nat → Int32} (ha : cs[q0]? = some (a, .inl (cA, n, .inl f))) (ht : tys[t0]? = some (cA, .byte)) {i : Nat} (hi : i < n) (hn : n < 2 ^ 31) (hdg : decode cc pc = .ok (.baload, 1))
    (kk : W p l e R s m args below meth c H locs cells slots Q (F0 m (pc + 1) ls (.int (f i) :: rest))) : W p l e R s m args below meth c H locs cells slots Q (F0 m pc ls (.int (nI i) :: .ref a :: rest)) :=
  va_bald hx hb hK hP q0 t0 ha ht (vp_in_nI hi hn) hdg (by rw [nI_clamp (Nat.lt_trans hi hn)]; exact kk)
theorem wr_iast {A : Nat → Prop} {H0 : Heap} (hx : p.tables.exec = Jvm.exec) (hb : c.code = cc) (hK : va_K D vwCl tys s) (hP : va_P D vwCl cs H) (hD : va_D A cs) (hS : va_S A H0 H locs) (q0 t0 : Nat) {cA : ClassId} {n a : Nat} {f : Nat → Int32} (ha : cs[q0]? = some (a, .inl (cA, n, .inl f))) (ht : tys[t0]? = some (cA, .int)) {i : Nat} {x : Int32} (hi : i < n) (hn : n < 2 ^ 31) (hdg : decode cc pc = .ok (.iastore, 1))
    (kk : ∀ (H1 : Heap) (locs1 : List Loc), va_P D vwCl (cs.set q0 (a, .inl (cA, n, .inl (upd f i x)))) H1 → va_D A (cs.set q0 (a, .inl (cA, n, .inl (upd f i x)))) → va_S A H0 H1 locs1 → W p l e R s m args below meth c H1 locs1 cells slots Q (F0 m (pc + 1) ls rest)) : W p l e R s m args below meth c H locs cells slots Q (F0 m pc ls (.int x :: .int (nI i) :: .ref a :: rest)) :=
  va_iast hx hb hK hP hD hS q0 t0 ha ht (vp_in_nI hi hn) hdg (by rw [nI_clamp (Nat.lt_trans hi hn)]; exact kk)
theorem wr_bast {A : Nat → Prop} {H0 : Heap} (hx : p.tables.exec = Jvm.exec) (hb : c.code = cc) (hK : va_K D vwCl tys s) (hP : va_P D vwCl cs H) (hD : va_D A cs) (hS : va_S A H0 H locs) (q0 t0 : Nat) {cA : ClassId} {n a : Nat} {f : Nat → Int32} (ha : cs[q0]? = some (a, .inl (cA, n, .inl f))) (ht : tys[t0]? = some (cA, .byte)) {i : Nat} {x : Int32} (hi : i < n) (hn : n < 2 ^ 31) (hv : vp_nar .byte x = x) (hdg : decode cc pc = .ok (.bastore, 1))
    (kk : ∀ (H1 : Heap) (locs1 : List Loc), va_P D vwCl (cs.set q0 (a, .inl (cA, n, .inl (upd f i x)))) H1 → va_D A (cs.set q0 (a, .inl (cA, n, .inl (upd f i x)))) → va_S A H0 H1 locs1 → W p l e R s m args below meth c H1 locs1 cells slots Q (F0 m (pc + 1) ls rest)) : W p l e R s m args below meth c H locs cells slots Q (F0 m pc ls (.int x :: .int (nI i) :: .ref a :: rest)) :=
  va_bast hx hb hK hP hD hS q0 t0 ha ht (vp_in_nI hi hn) hdg (by rw [nI_clamp (Nat.lt_trans hi hn), hv]; exact kk)
theorem rd_iret {v : Int32} (hx : p.tables.exec = Jvm.exec) (hb : c.code = cc) (hr : meth.sig.returnType = some .int) (hlocks : meth.locks = false) (e1 : v = r) (hdg : decode cc pc = .ok (.ireturn, 1)) : WR p l e R s m args below meth c r (F0 m pc ls [.int v]) :=
  W.iret hx hb hr (fun t ht _ => ⟨by rw [e1], ht⟩) (fun q h => by cases h) hdg hlocks
theorem rd_zret {v : Int32} (hx : p.tables.exec = Jvm.exec) (hb : c.code = cc) (hr : meth.sig.returnType = some .boolean) (hlocks : meth.locks = false) (hn : narrow .boolean (.int v) = .int v) (e1 : v = r) (hdg : decode cc pc = .ok (.ireturn, 1)) : WR p l e R s m args below meth c r (F0 m pc ls [.int v]) :=
  W.zret hx hb hr hn (fun t ht _ => ⟨by rw [e1], ht⟩) (fun q h => by cases h) hdg hlocks
end RW
theorem nI_4le {n : Nat} (hn : n < 2 ^ 31) (h : (4 : Int32) ≤ nI n) : 4 ≤ n := (nI_leI (a := 4) (by decide) hn).mp h
theorem nI_4gt {n : Nat} (hn : n < 2 ^ 31) (h : ¬ (4 : Int32) ≤ nI n) : n < 4 := by
  rcases Nat.lt_or_ge n 4 with q | q
  · exact q
  · exact absurd ((nI_leI (a := 4) (by decide) hn).mpr q) h
/-- a loop's test -/
theorem ge_N {i N : Nat} (hN : N < 2 ^ 31) (hi : i ≤ N) (h : nI N ≤ nI i) : i = N := by
  have := (nI_leI hN (Nat.lt_of_le_of_lt hi hN)).mp h
  omega
theorem lt_N {i N : Nat} (hN : N < 2 ^ 31) (hi : i ≤ N) (h : ¬ nI N ≤ nI i) : i < N := by
  rcases Nat.lt_or_ge i N with q | q
  · exact q
  · exact absurd ((nI_leI hN (Nat.lt_of_le_of_lt hi hN)).mpr q) h
end
section
/-! ===== RouteTable: its static leaves ===== -/
theorem b2i_t {b : Bool} (h : b = true) : (1 : Int32) = b2i b := by rw [h]; rfl
theorem b2i_f {b : Bool} (h : b = false) : (0 : Int32) = b2i b := by rw [h]; rfl
theorem two_tab : ∀ n, n < 5 → (1 : Int32) <<< ((nI n + 1) &&& 31) - 1 = nI (2 ^ (n + 1) - 1) := by decide +kernel
theorem two_lt : ∀ n, n < 5 → 2 ^ (n + 1) - 1 < 2 ^ 31 := by decide +kernel
theorem two_next {n i : Nat} (hn : n ≤ 4) (h : 2 ^ (n + 1) - 1 ≤ i) (hi : i < 31) : n + 1 ≤ 4 := by
  rcases Nat.lt_or_ge n 4 with q | q
  · omega
  · have e : n = 4 := by omega
    subst e
    exact absurd h (Nat.not_le.mpr hi)
theorem nOf_tab : ∀ n, n < 5 → ∀ i, i < 31 → 2 ^ n - 1 ≤ i → i < 2 ^ (n + 1) - 1 → nOf i = n := by decide +kernel
theorem hiN_yes {f : Nat → Bool} {i : Nat} (h0 : 0 < i) (h : f i = true) : hiN f i = i := by
  cases i with
  | zero => exact absurd h0 (Nat.lt_irrefl 0)
  | succ i => show (if f (i + 1) = true then i + 1 else hiN f i) = i + 1; rw [h]; rfl
theorem hiN_no {f : Nat → Bool} {i : Nat} (h0 : 0 < i) (h : f i = false) : hiN f i = hiN f (i - 1) := by
  cases i with
  | zero => exact absurd h0 (Nat.lt_irrefl 0)
  | succ i => show (if f (i + 1) = true then i + 1 else hiN f i) = hiN f i; rw [h]; rfl
theorem ct_b2i (P : Nat → Bool) (i : Nat) : nI (fb_ct P i) + b2i (P i) = nI (fb_ct P (i + 1)) := by
  rw [fb_ct_succ, ← nI_add]
  cases P i <;> rfl
theorem inc_1 (n : Nat) : nI n + Int32.ofInt 1 = nI (n + 1) := nI_1 n
theorem dec_1 {n : Nat} (h : 0 < n) : nI n + Int32.ofInt (-1) = nI (n - 1) := sb_m1 h
set_option maxHeartbeats 4000000 in
set_option maxRecDepth 100000 in
/-- isAddress(a) -/
theorem met_X0_isAddress (l : Launch)  (p0 : Int32) : Met l yX0_isAddress (ws_ yX0_isAddress cX0_isAddress 1 (some .boolean)) ({ frames := 0, cells := 0, slots := 0, locals := 0 }) (stP [.int p0]) (QcRead (b2i (isAd p0))) 0 0 (fun _ => False) := by
  refine Met.ofW (cc := cX0_isAddress) (maxL := 1) (ret := (some .boolean)) (by decide) rfl ?_
  intro p e s m args below meth c s₁ B hml hv
  obtain ⟨rfl, -⟩ := hv
  have hx := B.exec
  have hb := B.bytes
  have hr := B.returns
  have hts := atoms_spec (ws := (ws_ yX0_isAddress cX0_isAddress 1 (some .boolean))) B.pre
  have hts : ∀ w ∈ lw_all, w.before _ s = true := fun w h => hts w (List.mem_cons_of_mem _ h)
  have hown : s.vm.findClass RX0 = some m.cls := findClass_of_methodNamed B.named
  have hlocks := B.notSynchronized
  have hl := lv_entry ([.int p0]) (n := 1) (Nat.le_of_ble_eq_true rfl)
  rw [lg_entry_eq]
  generalize (lg_sl ([.int p0]) ++ List.replicate (1 - (lg_sl ([.int p0])).length) Slot.unset).toArray = ls at hl ⊢
  have hl : lv_has ls 1 [(0, .int p0)] := hl
  have S0 : CallFix p m c cX0_isAddress 1 s _ lw_all RX0 := ⟨hx, hb, hml, hown, hts⟩
  refine lv_iload_n hx hb dX0_isAddress_0 rfl (lv_at hl 0 rfl) ?_
  refine lv_if_lt (tgt := 15) hx hb dX0_isAddress_1 (by decide) (fun c1 => ?_) (fun c1 => ?_)
  · refine lv_iconst (v := 0) hx hb dX0_isAddress_15 (by decide) ?_
    exact rd_zret (v := (0 : Int32)) hx hb hr hlocks rfl (b2i_f (by rw [isAd, yes_dec c1] <;> rfl)) dX0_isAddress_16
  · refine lv_iload_n hx hb dX0_isAddress_4 rfl (lv_at hl 0 rfl) ?_
    refine lv_sipush (v := 256) hx hb dX0_isAddress_5 (by decide) ?_
    refine lv_icmp_ge (tgt := 15) hx hb dX0_isAddress_8 (by decide) (fun c2 => ?_) (fun c2 => ?_)
    · refine lv_iconst (v := 0) hx hb dX0_isAddress_15 (by decide) ?_
      exact rd_zret (v := (0 : Int32)) hx hb hr hlocks rfl (b2i_f (by rw [isAd, not_dec c1, yes_dec c2] <;> rfl)) dX0_isAddress_16
    · refine lv_iconst (v := 1) hx hb dX0_isAddress_11 (by decide) ?_
      refine lv_goto (tgt := 16) hx hb dX0_isAddress_12 (by decide) ?_
      exact rd_zret (v := (1 : Int32)) hx hb hr hlocks rfl (b2i_t (by rw [isAd, not_dec c1, not_dec c2] <;> rfl)) dX0_isAddress_16
set_option maxHeartbeats 4000000 in
set_option maxRecDepth 100000 in
/-- isBeginning(address, bits) -/
theorem met_X0_isBeginning (l : Launch)  (p0 p1 : Int32) : Met l yX0_isBeginning (ws_ yX0_isBeginning cX0_isBeginning 2 (some .boolean)) ({ frames := 1, cells := 0, slots := 0, locals := 20 }) (stP [.int p0, .int p1]) (QcRead (b2i (isBeg p0 p1))) 0 0 (fun _ => False) := by
  refine Met.ofW (cc := cX0_isBeginning) (maxL := 2) (ret := (some .boolean)) (by decide) rfl ?_
  intro p e s m args below meth c s₁ B hml hv
  obtain ⟨rfl, -⟩ := hv
  have hx := B.exec
  have hb := B.bytes
  have hr := B.returns
  have hts := atoms_spec (ws := (ws_ yX0_isBeginning cX0_isBeginning 2 (some .boolean))) B.pre
  have hts : ∀ w ∈ lw_all, w.before _ s = true := fun w h => hts w (List.mem_cons_of_mem _ h)
  have hown : s.vm.findClass RX0 = some m.cls := findClass_of_methodNamed B.named
  have hlocks := B.notSynchronized
  have hl := lv_entry ([.int p0, .int p1]) (n := 2) (Nat.le_of_ble_eq_true rfl)
  rw [lg_entry_eq]
  generalize (lg_sl ([.int p0, .int p1]) ++ List.replicate (2 - (lg_sl ([.int p0, .int p1])).length) Slot.unset).toArray = ls at hl ⊢
  have hl : lv_has ls 2 [(0, .int p0), (1, .int p1)] := hl
  have S0 : CallFix p m c cX0_isBeginning 2 s _ lw_all RX0 := ⟨hx, hb, hml, hown, hts⟩
  refine lv_iload_n hx hb dX0_isBeginning_0 rfl (lv_at hl 1 rfl) ?_
  refine lv_if_lt (tgt := 31) hx hb dX0_isBeginning_1 (by decide) (fun c1 => ?_) (fun c1 => ?_)
  · refine lv_iconst (v := 0) hx hb dX0_isBeginning_31 (by decide) ?_
    exact rd_zret (v := (0 : Int32)) hx hb hr hlocks rfl (b2i_f (by rw [isBeg, yes_dec c1] <;> rfl)) dX0_isBeginning_32
  · refine lv_iload_n hx hb dX0_isBeginning_4 rfl (lv_at hl 1 rfl) ?_
    refine lv_bipush (v := 8) hx hb dX0_isBeginning_5 (by decide) ?_
    refine lv_icmp_gt (tgt := 31) hx hb dX0_isBeginning_7 (by decide) (fun c2 => ?_) (fun c2 => ?_)
    · refine lv_iconst (v := 0) hx hb dX0_isBeginning_31 (by decide) ?_
      exact rd_zret (v := (0 : Int32)) hx hb hr hlocks rfl (b2i_f (by rw [isBeg, not_dec c1, yes_dec c2] <;> rfl)) dX0_isBeginning_32
    · refine lv_iload_n hx hb dX0_isBeginning_10 rfl (lv_at hl 0 rfl) ?_
      refine rd_callS (As := [.int p0]) (rest := []) S0 (met_X0_isAddress l p0) (va_cwS 1 hts (lw_S q46 q47 q11 q48) rfl rfl rfl (by decide +kernel) ⟨Nat.le_of_ble_eq_true rfl, Nat.le_of_ble_eq_true rfl⟩) rfl hl.1 rfl (Nat.le_of_ble_eq_true rfl) dX0_isBeginning_11 ⟨Nat.zero_le _, Nat.zero_le _⟩ ?_
      refine lv_if_eq (tgt := 31) hx hb dX0_isBeginning_14 (by decide) (fun c3 => ?_) (fun c3 => ?_)
      · have c3 := b2i_0 c3
        refine lv_iconst (v := 0) hx hb dX0_isBeginning_31 (by decide) ?_
        exact rd_zret (v := (0 : Int32)) hx hb hr hlocks rfl (b2i_f (by rw [isBeg, not_dec c1, not_dec c2, c3] <;> rfl)) dX0_isBeginning_32
      · have c3 := b2i_n0 c3
        refine lv_iload_n hx hb dX0_isBeginning_17 rfl (lv_at hl 0 rfl) ?_
        refine lv_sipush (v := 255) hx hb dX0_isBeginning_18 (by decide) ?_
        refine lv_iload_n hx hb dX0_isBeginning_21 rfl (lv_at hl 1 rfl) ?_
        refine lv_ishr hx hb dX0_isBeginning_22 ?_
        refine lv_iand hx hb dX0_isBeginning_23 ?_
        refine lv_if_ne (tgt := 31) hx hb dX0_isBeginning_24 (by decide) (fun c4 => ?_) (fun c4 => ?_)
        · refine lv_iconst (v := 0) hx hb dX0_isBeginning_31 (by decide) ?_
          exact rd_zret (v := (0 : Int32)) hx hb hr hlocks rfl (b2i_f (by rw [isBeg, not_dec c1, not_dec c2, c3, not_dec c4] <;> rfl)) dX0_isBeginning_32
        · refine lv_iconst (v := 1) hx hb dX0_isBeginning_27 (by decide) ?_
          refine lv_goto (tgt := 32) hx hb dX0_isBeginning_28 (by decide) ?_
          exact rd_zret (v := (1 : Int32)) hx hb hr hlocks rfl (b2i_t (by rw [isBeg, not_dec c1, not_dec c2, c3, yes_dec c4] <;> rfl)) dX0_isBeginning_32
set_option maxHeartbeats 4000000 in
set_option maxRecDepth 100000 in
/-- place(address, bits) -/
theorem met_X0_place (l : Launch)  (a n : Nat) (ha : a < 256) (hn : n ≤ 8) : Met l yX0_place (ws_ yX0_place cX0_place 3 (some .int)) ({ frames := 0, cells := 0, slots := 0, locals := 0 }) (stP [.int (nI a), .int (nI n)]) (QcRead (nI (plc a n))) 0 0 (fun _ => False) := by
  refine Met.ofW (cc := cX0_place) (maxL := 3) (ret := (some .int)) (by decide) rfl ?_
  intro p e s m args below meth c s₁ B hml hv
  obtain ⟨rfl, -⟩ := hv
  have hx := B.exec
  have hb := B.bytes
  have hr := B.returns
  have hts := atoms_spec (ws := (ws_ yX0_place cX0_place 3 (some .int))) B.pre
  have hts : ∀ w ∈ lw_all, w.before _ s = true := fun w h => hts w (List.mem_cons_of_mem _ h)
  have hown : s.vm.findClass RX0 = some m.cls := findClass_of_methodNamed B.named
  have hlocks := B.notSynchronized
  have hl := lv_entry ([.int (nI a), .int (nI n)]) (n := 3) (Nat.le_of_ble_eq_true rfl)
  rw [lg_entry_eq]
  generalize (lg_sl ([.int (nI a), .int (nI n)]) ++ List.replicate (3 - (lg_sl ([.int (nI a), .int (nI n)])).length) Slot.unset).toArray = ls at hl ⊢
  have hl : lv_has ls 3 [(0, .int (nI a)), (1, .int (nI n))] := hl
  have S0 : CallFix p m c cX0_place 3 s _ lw_all RX0 := ⟨hx, hb, hml, hown, hts⟩
  refine lv_iload_n hx hb dX0_place_0 rfl (lv_at hl 1 rfl) ?_
  refine lv_iconst (v := 4) hx hb dX0_place_1 (by decide) ?_
  refine lv_icmp_ge (tgt := 18) hx hb dX0_place_2 (by decide) (fun c1 => ?_) (fun c1 => ?_)
  · have c1 := nI_4le (by omega) c1
    refine lv_iload_n hx hb dX0_place_18 rfl (lv_at hl 1 rfl) ?_
    refine lv_iconst (v := 4) hx hb dX0_place_19 (by decide) ?_
    refine lv_isub hx hb dX0_place_20 ?_
    refine lv_istore_n (lv' := [(2, .int ((nI n) - (4 : Int32))), (0, .int (nI a)), (1, .int (nI n))]) hx hb dX0_place_21 rfl hl (by decide) rfl (fun ls hl => ?_)
    refine lv_iconst (v := 1) hx hb dX0_place_22 (by decide) ?_
    refine lv_iload_n hx hb dX0_place_23 rfl (lv_at hl 0 rfl) ?_
    refine lv_ishl hx hb dX0_place_24 ?_
    refine lv_iconst (v := 1) hx hb dX0_place_25 (by decide) ?_
    refine lv_isub hx hb dX0_place_26 ?_
    refine lv_iload_n hx hb dX0_place_27 rfl (lv_at hl 1 rfl) ?_
    refine lv_bipush (v := 15) hx hb dX0_place_28 (by decide) ?_
    refine lv_iand hx hb dX0_place_30 ?_
    refine lv_tope (show (nI a) &&& (15 : Int32) = nI (a % 16) from and15 ha) ?_
    refine lv_iconst (v := 4) hx hb dX0_place_31 (by decide) ?_
    refine lv_iload_n hx hb dX0_place_32 rfl (lv_at hl 0 rfl) ?_
    refine lv_isub hx hb dX0_place_33 ?_
    refine lv_ishr hx hb dX0_place_34 ?_
    refine lv_iadd hx hb dX0_place_35 ?_
    exact rd_iret (v := (((1 : Int32) <<< (((nI n) - (4 : Int32)) &&& 31)) - (1 : Int32)) + ((nI (a % 16)) >>> (((4 : Int32) - ((nI n) - (4 : Int32))) &&& 31))) hx hb hr hlocks ((plcB_tab n (by omega) c1 (a % 16) (Nat.mod_lt _ (by decide))).trans (by rw [plc, if_neg (by omega)])) dX0_place_36
  · have c1 := nI_4gt (by omega) c1
    refine lv_iconst (v := 1) hx hb dX0_place_5 (by decide) ?_
    refine lv_iload_n hx hb dX0_place_6 rfl (lv_at hl 1 rfl) ?_
    refine lv_ishl hx hb dX0_place_7 ?_
    refine lv_iconst (v := 1) hx hb dX0_place_8 (by decide) ?_
    refine lv_isub hx hb dX0_place_9 ?_
    refine lv_iload_n hx hb dX0_place_10 rfl (lv_at hl 0 rfl) ?_
    refine lv_bipush (v := 8) hx hb dX0_place_11 (by decide) ?_
    refine lv_iload_n hx hb dX0_place_13 rfl (lv_at hl 1 rfl) ?_
    refine lv_isub hx hb dX0_place_14 ?_
    refine lv_ishr hx hb dX0_place_15 ?_
    refine lv_iadd hx hb dX0_place_16 ?_
    exact rd_iret (v := (((1 : Int32) <<< ((nI n) &&& 31)) - (1 : Int32)) + ((nI a) >>> (((8 : Int32) - (nI n)) &&& 31))) hx hb hr hlocks ((plcA_tab n c1 a ha).trans (by rw [plc, if_pos c1])) dX0_place_17
set_option maxHeartbeats 4000000 in
set_option maxRecDepth 100000 in
/-- topPlaces(address) -/
theorem met_X0_topPlaces (l : Launch)  (a : Nat) (ha : a < 256) : Met l yX0_topPlaces (ws_ yX0_topPlaces cX0_topPlaces 1 (some .int)) ({ frames := 0, cells := 0, slots := 0, locals := 0 }) (stP [.int (nI a)]) (QcRead (topP (a / 32))) 0 0 (fun _ => False) := by
  refine Met.ofW (cc := cX0_topPlaces) (maxL := 1) (ret := (some .int)) (by decide) rfl ?_
  intro p e s m args below meth c s₁ B hml hv
  obtain ⟨rfl, -⟩ := hv
  have hx := B.exec
  have hb := B.bytes
  have hr := B.returns
  have hts := atoms_spec (ws := (ws_ yX0_topPlaces cX0_topPlaces 1 (some .int))) B.pre
  have hts : ∀ w ∈ lw_all, w.before _ s = true := fun w h => hts w (List.mem_cons_of_mem _ h)
  have hown : s.vm.findClass RX0 = some m.cls := findClass_of_methodNamed B.named
  have hlocks := B.notSynchronized
  have hl := lv_entry ([.int (nI a)]) (n := 1) (Nat.le_of_ble_eq_true rfl)
  rw [lg_entry_eq]
  generalize (lg_sl ([.int (nI a)]) ++ List.replicate (1 - (lg_sl ([.int (nI a)])).length) Slot.unset).toArray = ls at hl ⊢
  have hl : lv_has ls 1 [(0, .int (nI a))] := hl
  have S0 : CallFix p m c cX0_topPlaces 1 s _ lw_all RX0 := ⟨hx, hb, hml, hown, hts⟩
  refine lv_iconst (v := 1) hx hb dX0_topPlaces_0 (by decide) ?_
  refine lv_iconst (v := 2) hx hb dX0_topPlaces_1 (by decide) ?_
  refine lv_iload_n hx hb dX0_topPlaces_2 rfl (lv_at hl 0 rfl) ?_
  refine lv_bipush (v := 7) hx hb dX0_topPlaces_3 (by decide) ?_
  refine lv_ishr hx hb dX0_topPlaces_5 ?_
  refine lv_tope (show (nI a) >>> ((7 : Int32) &&& 31) = nI (a / 32 / 4) from (by rw [show a / 32 / 4 = a / 128 by omega]; exact pk_shrN (by omega) _ 7 (by decide))) ?_
  refine lv_ishl hx hb dX0_topPlaces_6 ?_
  refine lv_ior hx hb dX0_topPlaces_7 ?_
  refine lv_bipush (v := 8) hx hb dX0_topPlaces_8 (by decide) ?_
  refine lv_iload_n hx hb dX0_topPlaces_10 rfl (lv_at hl 0 rfl) ?_
  refine lv_bipush (v := 6) hx hb dX0_topPlaces_11 (by decide) ?_
  refine lv_ishr hx hb dX0_topPlaces_13 ?_
  refine lv_tope (show (nI a) >>> ((6 : Int32) &&& 31) = nI (a / 32 / 2) from (by rw [show a / 32 / 2 = a / 64 by omega]; exact pk_shrN (by omega) _ 6 (by decide))) ?_
  refine lv_ishl hx hb dX0_topPlaces_14 ?_
  refine lv_ior hx hb dX0_topPlaces_15 ?_
  refine lv_sipush (v := 128) hx hb dX0_topPlaces_16 (by decide) ?_
  refine lv_iload_n hx hb dX0_topPlaces_19 rfl (lv_at hl 0 rfl) ?_
  refine lv_iconst (v := 5) hx hb dX0_topPlaces_20 (by decide) ?_
  refine lv_ishr hx hb dX0_topPlaces_21 ?_
  refine lv_tope (show (nI a) >>> ((5 : Int32) &&& 31) = nI (a / 32) from (pk_shrN (by omega) _ 5 (by decide))) ?_
  refine lv_ishl hx hb dX0_topPlaces_22 ?_
  refine lv_ior hx hb dX0_topPlaces_23 ?_
  exact rd_iret (v := (((1 : Int32) ||| ((2 : Int32) <<< ((nI (a / 32 / 4)) &&& 31))) ||| ((8 : Int32) <<< ((nI (a / 32 / 2)) &&& 31))) ||| ((128 : Int32) <<< ((nI (a / 32)) &&& 31))) hx hb hr hlocks rfl dX0_topPlaces_24
set_option maxHeartbeats 4000000 in
set_option maxRecDepth 100000 in
/-- lowPlaces(address) -/
theorem met_X0_lowPlaces (l : Launch)  (a : Nat) (ha : a < 256) : Met l yX0_lowPlaces (ws_ yX0_lowPlaces cX0_lowPlaces 2 (some .int)) ({ frames := 0, cells := 0, slots := 0, locals := 0 }) (stP [.int (nI a)]) (QcRead (lowP (a % 16))) 0 0 (fun _ => False) := by
  refine Met.ofW (cc := cX0_lowPlaces) (maxL := 2) (ret := (some .int)) (by decide) rfl ?_
  intro p e s m args below meth c s₁ B hml hv
  obtain ⟨rfl, -⟩ := hv
  have hx := B.exec
  have hb := B.bytes
  have hr := B.returns
  have hts := atoms_spec (ws := (ws_ yX0_lowPlaces cX0_lowPlaces 2 (some .int))) B.pre
  have hts : ∀ w ∈ lw_all, w.before _ s = true := fun w h => hts w (List.mem_cons_of_mem _ h)
  have hown : s.vm.findClass RX0 = some m.cls := findClass_of_methodNamed B.named
  have hlocks := B.notSynchronized
  have hl := lv_entry ([.int (nI a)]) (n := 2) (Nat.le_of_ble_eq_true rfl)
  rw [lg_entry_eq]
  generalize (lg_sl ([.int (nI a)]) ++ List.replicate (2 - (lg_sl ([.int (nI a)])).length) Slot.unset).toArray = ls at hl ⊢
  have hl : lv_has ls 2 [(0, .int (nI a))] := hl
  have S0 : CallFix p m c cX0_lowPlaces 2 s _ lw_all RX0 := ⟨hx, hb, hml, hown, hts⟩
  refine lv_iload_n hx hb dX0_lowPlaces_0 rfl (lv_at hl 0 rfl) ?_
  refine lv_bipush (v := 15) hx hb dX0_lowPlaces_1 (by decide) ?_
  refine lv_iand hx hb dX0_lowPlaces_3 ?_
  refine lv_tope (show (nI a) &&& (15 : Int32) = nI (a % 16) from and15 ha) ?_
  refine lv_istore_n (lv' := [(1, .int (nI (a % 16))), (0, .int (nI a))]) hx hb dX0_lowPlaces_4 rfl hl (by decide) rfl (fun ls hl => ?_)
  refine lv_iconst (v := 1) hx hb dX0_lowPlaces_5 (by decide) ?_
  refine lv_iconst (v := 2) hx hb dX0_lowPlaces_6 (by decide) ?_
  refine lv_iload_n hx hb dX0_lowPlaces_7 rfl (lv_at hl 0 rfl) ?_
  refine lv_iconst (v := 3) hx hb dX0_lowPlaces_8 (by decide) ?_
  refine lv_ishr hx hb dX0_lowPlaces_9 ?_
  refine lv_ishl hx hb dX0_lowPlaces_10 ?_
  refine lv_ior hx hb dX0_lowPlaces_11 ?_
  refine lv_bipush (v := 8) hx hb dX0_lowPlaces_12 (by decide) ?_
  refine lv_iload_n hx hb dX0_lowPlaces_14 rfl (lv_at hl 0 rfl) ?_
  refine lv_iconst (v := 2) hx hb dX0_lowPlaces_15 (by decide) ?_
  refine lv_ishr hx hb dX0_lowPlaces_16 ?_
  refine lv_ishl hx hb dX0_lowPlaces_17 ?_
  refine lv_ior hx hb dX0_lowPlaces_18 ?_
  refine lv_sipush (v := 128) hx hb dX0_lowPlaces_19 (by decide) ?_
  refine lv_iload_n hx hb dX0_lowPlaces_22 rfl (lv_at hl 0 rfl) ?_
  refine lv_iconst (v := 1) hx hb dX0_lowPlaces_23 (by decide) ?_
  refine lv_ishr hx hb dX0_lowPlaces_24 ?_
  refine lv_ishl hx hb dX0_lowPlaces_25 ?_
  refine lv_ior hx hb dX0_lowPlaces_26 ?_
  refine lv_iconst (v := 1) hx hb dX0_lowPlaces_27 (by decide) ?_
  refine lv_bipush (v := 15) hx hb dX0_lowPlaces_28 (by decide) ?_
  refine lv_iload_n hx hb dX0_lowPlaces_30 rfl (lv_at hl 0 rfl) ?_
  refine lv_iadd hx hb dX0_lowPlaces_31 ?_
  refine lv_ishl hx hb dX0_lowPlaces_32 ?_
  refine lv_ior hx hb dX0_lowPlaces_33 ?_
  exact rd_iret (v := ((((1 : Int32) ||| ((2 : Int32) <<< (((nI (a % 16)) >>> ((3 : Int32) &&& 31)) &&& 31))) ||| ((8 : Int32) <<< (((nI (a % 16)) >>> ((2 : Int32) &&& 31)) &&& 31))) ||| ((128 : Int32) <<< (((nI (a % 16)) >>> ((1 : Int32) &&& 31)) &&& 31))) ||| ((1 : Int32) <<< (((15 : Int32) + (nI (a % 16))) &&& 31))) hx hb hr hlocks rfl dX0_lowPlaces_34
set_option maxHeartbeats 4000000 in
set_option maxRecDepth 100000 in
/-- highest(set) -/
theorem met_X0_highest (l : Launch)  (x : Int32) : Met l yX0_highest (ws_ yX0_highest cX0_highest 2 (some .int)) ({ frames := 0, cells := 0, slots := 0, locals := 0 }) (stP [.int x]) (QcRead (nI (hiN (bt x) 30))) 0 0 (fun _ => False) := by
  refine Met.ofW (cc := cX0_highest) (maxL := 2) (ret := (some .int)) (by decide) rfl ?_
  intro p e s m args below meth c s₁ B hml hv
  obtain ⟨rfl, -⟩ := hv
  have hx := B.exec
  have hb := B.bytes
  have hr := B.returns
  have hts := atoms_spec (ws := (ws_ yX0_highest cX0_highest 2 (some .int))) B.pre
  have hts : ∀ w ∈ lw_all, w.before _ s = true := fun w h => hts w (List.mem_cons_of_mem _ h)
  have hown : s.vm.findClass RX0 = some m.cls := findClass_of_methodNamed B.named
  have hlocks := B.notSynchronized
  have hl := lv_entry ([.int x]) (n := 2) (Nat.le_of_ble_eq_true rfl)
  rw [lg_entry_eq]
  generalize (lg_sl ([.int x]) ++ List.replicate (2 - (lg_sl ([.int x])).length) Slot.unset).toArray = ls at hl ⊢
  have hl : lv_has ls 2 [(0, .int x)] := hl
  have S0 : CallFix p m c cX0_highest 2 s _ lw_all RX0 := ⟨hx, hb, hml, hown, hts⟩
  refine lv_bipush (v := 30) hx hb dX0_highest_0 (by decide) ?_
  refine lv_istore_n (lv' := [(1, .int (30 : Int32)), (0, .int x)]) hx hb dX0_highest_2 rfl hl (by decide) rfl (fun ls hl => ?_)
  have loop3 : ∀ (k : Nat) (i : Nat), i ≤ 30 → i < k → hiN (bt x) i = hiN (bt x) 30 → ∀ (ls : Array Slot), lv_has ls 2 [(0, .int x), (1, .int (nI i))] → WR p l e (headSpec (ws_ yX0_highest cX0_highest 2 (some .int)) ({ frames := 0, cells := 0, slots := 0, locals := 0 })).room s m ([.int x] : List Value).toArray below meth c (nI (hiN (bt x) 30)) (F0 m 3 ls []) := by
    intro k
    induction k with
    | zero =>
      intro i h1 h2 h3 ls hl
      exact absurd h2 (by omega)
    | succ k ih3 =>
      intro i h1 h2 h3 ls hl
      refine lv_iload_n hx hb dX0_highest_3 rfl (lv_at hl 1 rfl) ?_
      refine lv_if_le (tgt := 21) hx hb dX0_highest_4 (by decide) (fun c1 => ?_) (fun c1 => ?_)
      · have c1 : i = 0 := by
          have := (nI_leI (a := i) (b := 0) (by omega) (by decide)).mp c1
          omega
        refine lv_iload_n hx hb dX0_highest_21 rfl (lv_at hl 1 rfl) ?_
        exact rd_iret (v := nI i) hx hb hr hlocks (by rw [← h3, c1]; rfl) dX0_highest_22
      · have c1 : 0 < i := by
          rcases Nat.eq_zero_or_pos i with q | q
          · exact absurd (by rw [q]; decide) c1
          · exact q
        refine lv_iload_n hx hb dX0_highest_7 rfl (lv_at hl 0 rfl) ?_
        refine lv_iload_n hx hb dX0_highest_8 rfl (lv_at hl 1 rfl) ?_
        refine lv_ishr hx hb dX0_highest_9 ?_
        refine lv_iconst (v := 1) hx hb dX0_highest_10 (by decide) ?_
        refine lv_iand hx hb dX0_highest_11 ?_
        refine lv_tope (show (x >>> ((nI i) &&& 31)) &&& (1 : Int32) = b2i (bt x i) from bitOf x (by omega)) ?_
        refine lv_if_ne (tgt := 21) hx hb dX0_highest_12 (by decide) (fun c2 => ?_) (fun c2 => ?_)
        · have c2 := b2i_n0 c2
          refine lv_iload_n hx hb dX0_highest_21 rfl (lv_at hl 1 rfl) ?_
          exact rd_iret (v := nI i) hx hb hr hlocks (by rw [← h3, hiN_yes c1 c2]) dX0_highest_22
        · have c2 := b2i_0 c2
          refine lv_iinc (v := nI (i - 1)) (lv' := [(1, .int (nI (i - 1))), (0, .int x)]) hx hb dX0_highest_15 hl (k := 1) rfl (dec_1 c1) (by decide) rfl (fun ls hl => ?_)
          refine lv_goto (tgt := 3) hx hb dX0_highest_18 (by decide) ?_
          exact ih3 (i - 1) (by omega) (by omega) (by rw [← h3, hiN_no c1 c2]) ls (lv_sub hl [1, 0] rfl)
  exact loop3 31 30 (by decide) (by decide) rfl ls (lv_sub hl [1, 0] rfl)
set_option maxHeartbeats 4000000 in
set_option maxRecDepth 100000 in
/-- bitsAt(at) -/
theorem met_X0_bitsAt (l : Launch)  (i : Nat) (hi : i < 31) : Met l yX0_bitsAt (ws_ yX0_bitsAt cX0_bitsAt 2 (some .int)) ({ frames := 0, cells := 0, slots := 0, locals := 0 }) (stP [.int (nI i)]) (QcRead (nI (nOf i))) 0 0 (fun _ => False) := by
  refine Met.ofW (cc := cX0_bitsAt) (maxL := 2) (ret := (some .int)) (by decide) rfl ?_
  intro p e s m args below meth c s₁ B hml hv
  obtain ⟨rfl, -⟩ := hv
  have hx := B.exec
  have hb := B.bytes
  have hr := B.returns
  have hts := atoms_spec (ws := (ws_ yX0_bitsAt cX0_bitsAt 2 (some .int))) B.pre
  have hts : ∀ w ∈ lw_all, w.before _ s = true := fun w h => hts w (List.mem_cons_of_mem _ h)
  have hown : s.vm.findClass RX0 = some m.cls := findClass_of_methodNamed B.named
  have hlocks := B.notSynchronized
  have hl := lv_entry ([.int (nI i)]) (n := 2) (Nat.le_of_ble_eq_true rfl)
  rw [lg_entry_eq]
  generalize (lg_sl ([.int (nI i)]) ++ List.replicate (2 - (lg_sl ([.int (nI i)])).length) Slot.unset).toArray = ls at hl ⊢
  have hl : lv_has ls 2 [(0, .int (nI i))] := hl
  have S0 : CallFix p m c cX0_bitsAt 2 s _ lw_all RX0 := ⟨hx, hb, hml, hown, hts⟩
  refine lv_iconst (v := 0) hx hb dX0_bitsAt_0 (by decide) ?_
  refine lv_istore_n (lv' := [(1, .int (0 : Int32)), (0, .int (nI i))]) hx hb dX0_bitsAt_1 rfl hl (by decide) rfl (fun ls hl => ?_)
  have loop2 : ∀ (k : Nat) (n : Nat), n ≤ 4 → 5 ≤ n + k → 2 ^ n - 1 ≤ i → ∀ (ls : Array Slot), lv_has ls 2 [(0, .int (nI i)), (1, .int (nI n))] → WR p l e (headSpec (ws_ yX0_bitsAt cX0_bitsAt 2 (some .int)) ({ frames := 0, cells := 0, slots := 0, locals := 0 })).room s m ([.int (nI i)] : List Value).toArray below meth c (nI (nOf i)) (F0 m 2 ls []) := by
    intro k
    induction k with
    | zero =>
      intro n h1 h2 h3 ls hl
      exact absurd h2 (by omega)
    | succ k ih2 =>
      intro n h1 h2 h3 ls hl
      refine lv_iconst (v := 1) hx hb dX0_bitsAt_2 (by decide) ?_
      refine lv_iload_n hx hb dX0_bitsAt_3 rfl (lv_at hl 1 rfl) ?_
      refine lv_iconst (v := 1) hx hb dX0_bitsAt_4 (by decide) ?_
      refine lv_iadd hx hb dX0_bitsAt_5 ?_
      refine lv_ishl hx hb dX0_bitsAt_6 ?_
      refine lv_iconst (v := 1) hx hb dX0_bitsAt_7 (by decide) ?_
      refine lv_isub hx hb dX0_bitsAt_8 ?_
      refine lv_tope (show ((1 : Int32) <<< (((nI n) + (1 : Int32)) &&& 31)) - (1 : Int32) = nI (2 ^ (n + 1) - 1) from two_tab n (by omega)) ?_
      refine lv_iload_n hx hb dX0_bitsAt_9 rfl (lv_at hl 0 rfl) ?_
      refine lv_icmp_gt (tgt := 19) hx hb dX0_bitsAt_10 (by decide) (fun c1 => ?_) (fun c1 => ?_)
      · have c1 : i < 2 ^ (n + 1) - 1 := (nI_ltI (by omega) (two_lt n (by omega))).mp c1
        refine lv_iload_n hx hb dX0_bitsAt_19 rfl (lv_at hl 1 rfl) ?_
        exact rd_iret (v := nI n) hx hb hr hlocks (by rw [nOf_tab n (by omega) i hi h3 c1]) dX0_bitsAt_20
      · have c1 : 2 ^ (n + 1) - 1 ≤ i := Nat.not_lt.mp fun q => c1 ((nI_ltI (by omega) (two_lt n (by omega))).mpr q)
        refine lv_iinc (v := nI (n + 1)) (lv' := [(1, .int (nI (n + 1))), (0, .int (nI i))]) hx hb dX0_bitsAt_13 hl (k := 1) rfl (inc_1 n) (by decide) rfl (fun ls hl => ?_)
        refine lv_goto (tgt := 2) hx hb dX0_bitsAt_16 (by decide) ?_
        exact ih2 (n + 1) (two_next h1 c1 hi) (by omega) c1 ls (lv_sub hl [1, 0] rfl)
  exact loop2 5 0 (by decide) (by decide) (Nat.zero_le _) ls (lv_sub hl [1, 0] rfl)
set_option maxHeartbeats 4000000 in
set_option maxRecDepth 100000 in
/-- ones(set) -/
theorem met_X0_ones (l : Launch)  (x : Int32) : Met l yX0_ones (ws_ yX0_ones cX0_ones 3 (some .int)) ({ frames := 0, cells := 0, slots := 0, locals := 0 }) (stP [.int x]) (QcRead (nI (fb_ct (bt x) 31))) 0 0 (fun _ => False) := by
  refine Met.ofW (cc := cX0_ones) (maxL := 3) (ret := (some .int)) (by decide) rfl ?_
  intro p e s m args below meth c s₁ B hml hv
  obtain ⟨rfl, -⟩ := hv
  have hx := B.exec
  have hb := B.bytes
  have hr := B.returns
  have hts := atoms_spec (ws := (ws_ yX0_ones cX0_ones 3 (some .int))) B.pre
  have hts : ∀ w ∈ lw_all, w.before _ s = true := fun w h => hts w (List.mem_cons_of_mem _ h)
  have hown : s.vm.findClass RX0 = some m.cls := findClass_of_methodNamed B.named
  have hlocks := B.notSynchronized
  have hl := lv_entry ([.int x]) (n := 3) (Nat.le_of_ble_eq_true rfl)
  rw [lg_entry_eq]
  generalize (lg_sl ([.int x]) ++ List.replicate (3 - (lg_sl ([.int x])).length) Slot.unset).toArray = ls at hl ⊢
  have hl : lv_has ls 3 [(0, .int x)] := hl
  have S0 : CallFix p m c cX0_ones 3 s _ lw_all RX0 := ⟨hx, hb, hml, hown, hts⟩
  refine lv_iconst (v := 0) hx hb dX0_ones_0 (by decide) ?_
  refine lv_istore_n (lv' := [(1, .int (0 : Int32)), (0, .int x)]) hx hb dX0_ones_1 rfl hl (by decide) rfl (fun ls hl => ?_)
  refine lv_iconst (v := 0) hx hb dX0_ones_2 (by decide) ?_
  refine lv_istore_n (lv' := [(2, .int (0 : Int32)), (1, .int (0 : Int32)), (0, .int x)]) hx hb dX0_ones_3 rfl hl (by decide) rfl (fun ls hl => ?_)
  have loop4 : ∀ (k : Nat) (i : Nat), i ≤ 31 → 32 ≤ i + k → ∀ (ls : Array Slot), lv_has ls 3 [(0, .int x), (1, .int (nI (fb_ct (bt x) i))), (2, .int (nI i))] → WR p l e (headSpec (ws_ yX0_ones cX0_ones 3 (some .int)) ({ frames := 0, cells := 0, slots := 0, locals := 0 })).room s m ([.int x] : List Value).toArray below meth c (nI (fb_ct (bt x) 31)) (F0 m 4 ls []) := by
    intro k
    induction k with
    | zero =>
      intro i h1 h2 ls hl
      exact absurd h2 (by omega)
    | succ k ih4 =>
      intro i h1 h2 ls hl
      refine lv_iload_n hx hb dX0_ones_4 rfl (lv_at hl 2 rfl) ?_
      refine lv_bipush (v := 31) hx hb dX0_ones_5 (by decide) ?_
      refine lv_icmp_ge (tgt := 24) hx hb dX0_ones_7 (by decide) (fun c1 => ?_) (fun c1 => ?_)
      · have c1 : i = 31 := ge_N (N := 31) (by decide) h1 c1
        refine lv_iload_n hx hb dX0_ones_24 rfl (lv_at hl 1 rfl) ?_
        exact rd_iret (v := nI (fb_ct (bt x) i)) hx hb hr hlocks (by rw [c1]) dX0_ones_25
      · have c1 : i < 31 := lt_N (N := 31) (by decide) h1 c1
        refine lv_iload_n hx hb dX0_ones_10 rfl (lv_at hl 1 rfl) ?_
        refine lv_iload_n hx hb dX0_ones_11 rfl (lv_at hl 0 rfl) ?_
        refine lv_iload_n hx hb dX0_ones_12 rfl (lv_at hl 2 rfl) ?_
        refine lv_ishr hx hb dX0_ones_13 ?_
        refine lv_iconst (v := 1) hx hb dX0_ones_14 (by decide) ?_
        refine lv_iand hx hb dX0_ones_15 ?_
        refine lv_tope (show (x >>> ((nI i) &&& 31)) &&& (1 : Int32) = b2i (bt x i) from bitOf x (by omega)) ?_
        refine lv_iadd hx hb dX0_ones_16 ?_
        refine lv_tope (show (nI (fb_ct (bt x) i)) + (b2i (bt x i)) = nI (fb_ct (bt x) (i + 1)) from ct_b2i (bt x) i) ?_
        refine lv_istore_n (lv' := [(1, .int (nI (fb_ct (bt x) (i + 1)))), (0, .int x), (2, .int (nI i))]) hx hb dX0_ones_17 rfl hl (by decide) rfl (fun ls hl => ?_)
        refine lv_iinc (v := nI (i + 1)) (lv' := [(2, .int (nI (i + 1))), (1, .int (nI (fb_ct (bt x) (i + 1)))), (0, .int x)]) hx hb dX0_ones_18 hl (k := 2) rfl (inc_1 i) (by decide) rfl (fun ls hl => ?_)
        refine lv_goto (tgt := 4) hx hb dX0_ones_21 (by decide) ?_
        exact ih4 (i + 1) (by omega) (by omega) ls (lv_sub hl [2, 1, 0] rfl)
  exact loop4 32 0 (by decide) (by decide) ls (lv_sub hl [2, 1, 0] rfl)
end
section
/-! ===== RouteTable: its reading methods ===== -/
theorem ge0_pred {k : Nat} (h : (0 : Int32) ≤ nI k - 1) : ∃ b, k = b + 1 := by
  cases k with
  | zero => exact absurd h (by decide)
  | succ k => exact ⟨k, rfl⟩
theorem nge0_pred {k : Nat} (hk : k ≤ 9) (h : ¬ (0 : Int32) ≤ nI k - 1) : k = 0 := by
  cases k with
  | zero => rfl
  | succ k => exact absurd (by rw [nI_pred]; exact nI_pos' (by omega)) h
theorem pred_eq {k n : Nat} (hk : k ≤ 9) (hn : n ≤ 8) : nI k - 1 = nI n ↔ k = n + 1 := by
  cases k with
  | zero =>
    constructor
    · intro h
      have h2 : ¬ nI n < 0 := nI_pos (by omega)
      rw [← h] at h2
      exact absurd (by decide) h2
    · intro h; omega
  | succ k => rw [nI_pred, nI_eq (by omega) (by omega)]; omega
theorem Sb_le (gs : Nat → Int32) (a lim : Nat) : Sb gs a lim ≤ lim := bsN_le _ _
theorem ct_0 {P : Nat → Bool} {i : Nat} (h : P i = false) : nI (fb_ct P i) + 0 = nI (fb_ct P (i + 1)) := by rw [← ct_b2i, h]; rfl
theorem ct_1 {P : Nat → Bool} {i : Nat} (h : P i = true) : nI (fb_ct P i) + 1 = nI (fb_ct P (i + 1)) := by rw [← ct_b2i, h]; rfl
theorem ct_n {P : Nat → Bool} {i : Nat} (h : P i = false) : nI (fb_ct P i) = nI (fb_ct P (i + 1)) := by rw [fb_ct_succ, h]; rfl
theorem fst_at {P : Nat → Bool} {i : Nat} (h : i < 256) (hp : P i = true) : fstF P (256 - i) i = nI i := by
  rw [show 256 - i = 255 - i + 1 by omega]
  show (if P i = true then nI i else _) = _
  rw [hp]; rfl
theorem fst_nx {P : Nat → Bool} {i : Nat} (h : i < 256) (hp : P i = false) : fstF P (256 - i) i = fstF P (256 - (i + 1)) (i + 1) := by
  rw [show 256 - i = 255 - i + 1 by omega, show 256 - (i + 1) = 255 - i by omega]
  show (if P i = true then nI i else _) = _
  rw [hp]; rfl
theorem nlt_succ {f : Int32} {i : Nat} (hi : i < 256) (h : ¬ nI i < f) : ¬ nI (i + 1) < f := by
  intro q
  rw [fa_lt, nI_toInt (by omega)] at h q
  omega
theorem next_start {gs : Nat → Int32} {f g : Int32} {j : Nat} (hj : j < 2 ^ 31) (ej : f = nI j) : fstF (P_next gs f g) (256 - j) j = S_next gs f g := by
  have hno : ∀ x, x < j → P_next gs f g x = false := by
    intro x hx
    unfold P_next
    rw [ej, yes_dec (nI_lt hx hj)]
    rfl
  unfold S_next
  rcases Nat.lt_or_ge 256 j with q | q
  · rw [show 256 - j = 0 by omega, fst_none 256 0 (fun x _ h2 => hno x (by omega))]
    rfl
  · rw [fst_skip (i0 := j) 256 0 (Nat.zero_le j) (by omega) (fun x _ h2 => hno x h2)]
theorem tM_hi4 {a lim : Nat} (ha : a < 256) (e : lim = 4) : ∀ n, n < 4 → (bt 32767 (cel a n) = true ↔ n < lim) := by
  subst e
  exact tM_hi ha
theorem clN8 {n : Nat} (h : n ≤ 8) : (nI n).toNatClampNeg = n := nI_clamp (by omega)
theorem S_has_nI {gs : Nat → Int32} {a n : Nat} (ha : a < 256) (hn : n ≤ 8) (hb : isBeg (nI a) (nI n) = true) : S_has gs (nI a) (nI n) = hs gs a n := by
  rw [S_has, hb, clN ha, clN8 hn]
  rfl
theorem S_has_no {gs : Nat → Int32} {a b : Int32} (hb : isBeg a b = false) : S_has gs a b = false := by
  rw [S_has, hb]
  rfl
theorem S_load_nI {gs : Nat → Int32} {a n : Nat} (ha : a < 256) (hn : n ≤ 8) (hb : isBeg (nI a) (nI n) = true) (hh : hs gs a n = true) : S_load gs (nI a) (nI n) = nI (fb_ct (P_load gs a n) 256) := by
  rw [S_load, S_has_nI ha hn hb, hh, clN ha, clN8 hn]
  rfl
theorem gs_drop_nI {gs : Nat → Int32} {a n : Nat} (ha : a < 256) (hn : n ≤ 8) (hb : isBeg (nI a) (nI n) = true) (hh : hs gs a n = true) : gs_drop gs (nI a) (nI n) = upd gs (cel a n) (-1) := by
  rw [gs_drop, S_has_nI ha hn hb, hh, clN ha, clN8 hn]
  rfl
theorem S_idle_nI {gs : Nat → Int32} {a n : Nat} (ha : a < 256) (hn : n ≤ 8) (hb : isBeg (nI a) (nI n) = true) (hh : hs gs a n = true) : S_idle gs (nI a) (nI n) = (decide (Sg gs a n = gs (cel a n)) || decide (fb_ct (P_load gs a n) 256 = 0)) := by
  rw [S_idle, S_has_nI ha hn hb, hh, gs_drop_nI ha hn hb hh, idle_law ha hn hh]
  rfl
theorem sp_hit {P : Nat → Bool} {j n : Int32} {i : Nat} (h : i < 256) (hp : P i = true) (e : n = j) : spF P j (256 - i) i n = nI i := by
  rw [show 256 - i = 255 - i + 1 by omega]
  show (if P i = true then (if n = j then nI i else _) else _) = _
  rw [hp, if_pos rfl, if_pos e]
theorem sp_next {P : Nat → Bool} {j n : Int32} {i : Nat} (h : i < 256) (hp : P i = true) (e : ¬ n = j) : spF P j (256 - i) i n = spF P j (256 - (i + 1)) (i + 1) (n + 1) := by
  rw [show 256 - i = 255 - i + 1 by omega, show 256 - (i + 1) = 255 - i by omega]
  show (if P i = true then (if n = j then nI i else _) else _) = _
  rw [hp, if_pos rfl, if_neg e]
theorem sp_no {P : Nat → Bool} {j n : Int32} {i : Nat} (h : i < 256) (hp : P i = false) : spF P j (256 - i) i n = spF P j (256 - (i + 1)) (i + 1) n := by
  rw [show 256 - i = 255 - i + 1 by omega, show 256 - (i + 1) = 255 - i by omega]
  show (if P i = true then _ else _) = _
  rw [hp]; rfl
theorem nI0_eq {i : Nat} (h : i < 256) (e : nI i = 0) : i = 0 := (nI_eq (a := i) (b := 0) (by omega) (by decide)).mp e
theorem ct0_iff {P : Nat → Bool} (e : nI (fb_ct P 256) = 0) : fb_ct P 256 = 0 := (nI_eq (a := fb_ct P 256) (b := 0) (Nat.lt_of_le_of_lt (fb_ct_le P 256) (by decide)) (by decide)).mp e
set_option maxHeartbeats 4000000 in
set_option maxRecDepth 100000 in
/-- has(address, bits) -/
theorem met_X0_has (l : Launch) (D : va_G) (h0 q1 q2 q3 : Nat) (k1 k2 k3 : ClassId) (tb ct : Int32) (tg lb lg gs : Nat → Int32) (hR : Rel tb ct tg lb lg gs) (a n : Nat) (ha : a < 256) (hn : n ≤ 8) : Met l yX0_has (ws_ yX0_has cX0_has 5 (some .boolean)) ({ frames := 1, cells := 0, slots := 0, locals := 22 }) (rdP D (W0 h0 q1 q2 q3 k1 k2 k3 tb ct tg lb lg) (K0 k1 k2 k3) [.ref h0, .int (nI a), .int (nI n)]) (QcRead (b2i (hs gs a n))) 0 0 (fun _ => False) := by
  refine Met.ofW (cc := cX0_has) (maxL := 5) (ret := (some .boolean)) (by decide) rfl ?_
  intro p e s m args below meth c s₁ B hml hv
  obtain ⟨rfl, hP, hK⟩ := hv
  have hx := B.exec
  have hb := B.bytes
  have hr := B.returns
  have hts := atoms_spec (ws := (ws_ yX0_has cX0_has 5 (some .boolean))) B.pre
  have hts : ∀ w ∈ lw_all, w.before _ s = true := fun w h => hts w (List.mem_cons_of_mem _ h)
  have hown : s.vm.findClass RX0 = some m.cls := findClass_of_methodNamed B.named
  have hlocks := B.notSynchronized
  have hl := lv_entry ([.ref h0, .int (nI a), .int (nI n)]) (n := 5) (Nat.le_of_ble_eq_true rfl)
  rw [lg_entry_eq]
  generalize (lg_sl ([.ref h0, .int (nI a), .int (nI n)]) ++ List.replicate (5 - (lg_sl ([.ref h0, .int (nI a), .int (nI n)])).length) Slot.unset).toArray = ls at hl ⊢
  have hl : lv_has ls 5 [(0, .ref h0), (1, .int (nI a)), (2, .int (nI n))] := hl
  have S0 : CallFix p m c cX0_has 5 s _ lw_all RX0 := ⟨hx, hb, hml, hown, hts⟩
  refine lv_iload_n hx hb dX0_has_0 rfl (lv_at hl 1 rfl) ?_
  refine lv_iload_n hx hb dX0_has_1 rfl (lv_at hl 2 rfl) ?_
  refine rd_callS (As := [.int (nI a), .int (nI n)]) (rest := []) S0 (met_X0_place l a n ha hn) (va_cwS 2 hts (lw_S q53 q54 q11 q55) rfl rfl rfl (by decide +kernel) ⟨Nat.le_of_ble_eq_true rfl, Nat.le_of_ble_eq_true rfl⟩) rfl hl.1 rfl (Nat.le_of_ble_eq_true rfl) dX0_has_2 ⟨Nat.zero_le _, Nat.zero_le _⟩ ?_
  refine lv_istore_n (lv' := [(3, .int (nI (plc a n))), (0, .ref h0), (1, .int (nI a)), (2, .int (nI n))]) hx hb dX0_has_5 rfl hl (by decide) rfl (fun ls hl => ?_)
  refine lv_iload_n hx hb dX0_has_6 rfl (lv_at hl 3 rfl) ?_
  refine lv_iconst (v := 4) hx hb dX0_has_7 (by decide) ?_
  refine lv_icmp_ge (tgt := 18) hx hb dX0_has_8 (by decide) (fun c1 => ?_) (fun c1 => ?_)
  · have c1 := nI_4le (by omega) c1
    refine lv_aload_n hx hb dX0_has_18 rfl (lv_at hl 1 rfl) ?_
    refine va_get (D := D) (ci := 0) (v := .ref q2) (C := RX0) (T := TX0) (N := 5) hx hb hts in_X0 hown hK hP 0 rfl rfl 2 (by decide) (hts _ q23) (fun _ h9 => h9) rfl dX0_has_19 ?_
    refine lv_iload_n hx hb dX0_has_22 rfl (lv_at hl 2 rfl) ?_
    refine lv_iconst (v := 4) hx hb dX0_has_23 (by decide) ?_
    refine lv_ishr hx hb dX0_has_24 ?_
    refine lv_tope (show (nI a) >>> ((4 : Int32) &&& 31) = nI (a / 16) from shr4 ha) ?_
    refine rd_iald hx hb hK hP 2 1 rfl rfl (i := (a / 16)) (by omega) (by decide) dX0_has_25 ?_
    refine lv_istore (lv' := [(4, .int (lb (a / 16))), (3, .int (nI (plc a n))), (0, .ref h0), (1, .int (nI a)), (2, .int (nI n))]) hx hb dX0_has_26 hl (by decide) rfl (fun ls hl => ?_)
    refine lv_iload hx hb dX0_has_28 (lv_at hl 0 rfl) ?_
    refine lv_iload_n hx hb dX0_has_30 rfl (lv_at hl 1 rfl) ?_
    refine lv_ishr hx hb dX0_has_31 ?_
    refine lv_iconst (v := 1) hx hb dX0_has_32 (by decide) ?_
    refine lv_iand hx hb dX0_has_33 ?_
    refine lv_tope (show ((lb (a / 16)) >>> ((nI (plc a n)) &&& 31)) &&& (1 : Int32) = b2i (bt (lb (a / 16)) (plc a n)) from bitOf _ (Nat.lt_trans (plc_lt ha hn) (by decide))) ?_
    refine lv_if_eq (tgt := 41) hx hb dX0_has_34 (by decide) (fun c2 => ?_) (fun c2 => ?_)
    · have c2 := b2i_0 c2
      refine lv_iconst (v := 0) hx hb dX0_has_41 (by decide) ?_
      exact rd_zret (v := (0 : Int32)) hx hb hr hlocks rfl (b2i_f (by rw [← hR.1 a n ha hn, tbit, if_neg (by omega)]; exact c2)) dX0_has_42
    · have c2 := b2i_n0 c2
      refine lv_iconst (v := 1) hx hb dX0_has_37 (by decide) ?_
      refine lv_goto (tgt := 42) hx hb dX0_has_38 (by decide) ?_
      exact rd_zret (v := (1 : Int32)) hx hb hr hlocks rfl (b2i_t (by rw [← hR.1 a n ha hn, tbit, if_neg (by omega)]; exact c2)) dX0_has_42
  · have c1 := nI_4gt (by omega) c1
    refine lv_aload_n hx hb dX0_has_11 rfl (lv_at hl 1 rfl) ?_
    refine va_get (D := D) (ci := 0) (v := .int tb) (C := RX0) (T := TX0) (N := 5) hx hb hts in_X0 hown hK hP 0 rfl rfl 0 (by decide) (hts _ q21) (fun _ h9 => h9) rfl dX0_has_12 ?_
    refine lv_goto (tgt := 26) hx hb dX0_has_15 (by decide) ?_
    refine lv_istore (lv' := [(4, .int tb), (3, .int (nI (plc a n))), (0, .ref h0), (1, .int (nI a)), (2, .int (nI n))]) hx hb dX0_has_26 hl (by decide) rfl (fun ls hl => ?_)
    refine lv_iload hx hb dX0_has_28 (lv_at hl 0 rfl) ?_
    refine lv_iload_n hx hb dX0_has_30 rfl (lv_at hl 1 rfl) ?_
    refine lv_ishr hx hb dX0_has_31 ?_
    refine lv_iconst (v := 1) hx hb dX0_has_32 (by decide) ?_
    refine lv_iand hx hb dX0_has_33 ?_
    refine lv_tope (show (tb >>> ((nI (plc a n)) &&& 31)) &&& (1 : Int32) = b2i (bt tb (plc a n)) from bitOf _ (Nat.lt_trans (plc_lt ha hn) (by decide))) ?_
    refine lv_if_eq (tgt := 41) hx hb dX0_has_34 (by decide) (fun c2 => ?_) (fun c2 => ?_)
    · have c2 := b2i_0 c2
      refine lv_iconst (v := 0) hx hb dX0_has_41 (by decide) ?_
      exact rd_zret (v := (0 : Int32)) hx hb hr hlocks rfl (b2i_f (by rw [← hR.1 a n ha hn, tbit, if_pos c1]; exact c2)) dX0_has_42
    · have c2 := b2i_n0 c2
      refine lv_iconst (v := 1) hx hb dX0_has_37 (by decide) ?_
      refine lv_goto (tgt := 42) hx hb dX0_has_38 (by decide) ?_
      exact rd_zret (v := (1 : Int32)) hx hb hr hlocks rfl (b2i_t (by rw [← hR.1 a n ha hn, tbit, if_pos c1]; exact c2)) dX0_has_42
set_option maxHeartbeats 4000000 in
set_option maxRecDepth 100000 in
/-- goalOf(address, bits) where there is a route -/
theorem met_X0_goalOf (l : Launch) (D : va_G) (h0 q1 q2 q3 : Nat) (k1 k2 k3 : ClassId) (tb ct : Int32) (tg lb lg gs : Nat → Int32) (hR : Rel tb ct tg lb lg gs) (a n : Nat) (ha : a < 256) (hn : n ≤ 8) (hh : hs gs a n = true) : Met l yX0_goalOf (ws_ yX0_goalOf cX0_goalOf 4 (some .int)) ({ frames := 1, cells := 0, slots := 0, locals := 22 }) (rdP D (W0 h0 q1 q2 q3 k1 k2 k3 tb ct tg lb lg) (K0 k1 k2 k3) [.ref h0, .int (nI a), .int (nI n)]) (QcRead (gs (cel a n))) 0 0 (fun _ => False) := by
  refine Met.ofW (cc := cX0_goalOf) (maxL := 4) (ret := (some .int)) (by decide) rfl ?_
  intro p e s m args below meth c s₁ B hml hv
  obtain ⟨rfl, hP, hK⟩ := hv
  have hx := B.exec
  have hb := B.bytes
  have hr := B.returns
  have hts := atoms_spec (ws := (ws_ yX0_goalOf cX0_goalOf 4 (some .int))) B.pre
  have hts : ∀ w ∈ lw_all, w.before _ s = true := fun w h => hts w (List.mem_cons_of_mem _ h)
  have hown : s.vm.findClass RX0 = some m.cls := findClass_of_methodNamed B.named
  have hlocks := B.notSynchronized
  have hl := lv_entry ([.ref h0, .int (nI a), .int (nI n)]) (n := 4) (Nat.le_of_ble_eq_true rfl)
  rw [lg_entry_eq]
  generalize (lg_sl ([.ref h0, .int (nI a), .int (nI n)]) ++ List.replicate (4 - (lg_sl ([.ref h0, .int (nI a), .int (nI n)])).length) Slot.unset).toArray = ls at hl ⊢
  have hl : lv_has ls 4 [(0, .ref h0), (1, .int (nI a)), (2, .int (nI n))] := hl
  have S0 : CallFix p m c cX0_goalOf 4 s _ lw_all RX0 := ⟨hx, hb, hml, hown, hts⟩
  refine lv_iload_n hx hb dX0_goalOf_0 rfl (lv_at hl 1 rfl) ?_
  refine lv_iload_n hx hb dX0_goalOf_1 rfl (lv_at hl 2 rfl) ?_
  refine rd_callS (As := [.int (nI a), .int (nI n)]) (rest := []) S0 (met_X0_place l a n ha hn) (va_cwS 2 hts (lw_S q53 q54 q11 q55) rfl rfl rfl (by decide +kernel) ⟨Nat.le_of_ble_eq_true rfl, Nat.le_of_ble_eq_true rfl⟩) rfl hl.1 rfl (Nat.le_of_ble_eq_true rfl) dX0_goalOf_2 ⟨Nat.zero_le _, Nat.zero_le _⟩ ?_
  refine lv_istore_n (lv' := [(3, .int (nI (plc a n))), (0, .ref h0), (1, .int (nI a)), (2, .int (nI n))]) hx hb dX0_goalOf_5 rfl hl (by decide) rfl (fun ls hl => ?_)
  refine lv_iload_n hx hb dX0_goalOf_6 rfl (lv_at hl 3 rfl) ?_
  refine lv_iconst (v := 4) hx hb dX0_goalOf_7 (by decide) ?_
  refine lv_icmp_ge (tgt := 20) hx hb dX0_goalOf_8 (by decide) (fun c1 => ?_) (fun c1 => ?_)
  · have c1 := nI_4le (by omega) c1
    refine lv_aload_n hx hb dX0_goalOf_20 rfl (lv_at hl 1 rfl) ?_
    refine va_get (D := D) (ci := 0) (v := .ref q3) (C := RX0) (T := TX0) (N := 5) hx hb hts in_X0 hown hK hP 0 rfl rfl 3 (by decide) (hts _ q24) (fun _ h9 => h9) rfl dX0_goalOf_21 ?_
    refine lv_iload_n hx hb dX0_goalOf_24 rfl (lv_at hl 2 rfl) ?_
    refine lv_iconst (v := 4) hx hb dX0_goalOf_25 (by decide) ?_
    refine lv_ishr hx hb dX0_goalOf_26 ?_
    refine lv_tope (show (nI a) >>> ((4 : Int32) &&& 31) = nI (a / 16) from shr4 ha) ?_
    refine lv_bipush (v := 31) hx hb dX0_goalOf_27 (by decide) ?_
    refine lv_imul hx hb dX0_goalOf_29 ?_
    refine lv_tope (show (nI (a / 16)) * (31 : Int32) = nI (a / 16 * 31) from pk_mul _ 31) ?_
    refine lv_iload_n hx hb dX0_goalOf_30 rfl (lv_at hl 0 rfl) ?_
    refine lv_iadd hx hb dX0_goalOf_31 ?_
    refine lv_tope (show (nI (a / 16 * 31)) + (nI (plc a n)) = nI (a / 16 * 31 + plc a n) from nI_add _ _) ?_
    refine rd_bald hx hb hK hP 3 2 rfl rfl (i := (a / 16 * 31 + plc a n)) (by have := plc_lt ha hn; omega) (by decide) dX0_goalOf_32 ?_
    exact rd_iret (v := lg (a / 16 * 31 + plc a n)) hx hb hr hlocks (by rw [← hR.2.1 a n ha hn hh, tgoal, if_neg (by omega)]) dX0_goalOf_33
  · have c1 := nI_4gt (by omega) c1
    refine lv_aload_n hx hb dX0_goalOf_11 rfl (lv_at hl 1 rfl) ?_
    refine va_get (D := D) (ci := 0) (v := .ref q1) (C := RX0) (T := TX0) (N := 5) hx hb hts in_X0 hown hK hP 0 rfl rfl 1 (by decide) (hts _ q22) (fun _ h9 => h9) rfl dX0_goalOf_12 ?_
    refine lv_iload_n hx hb dX0_goalOf_15 rfl (lv_at hl 0 rfl) ?_
    refine rd_bald hx hb hK hP 1 0 rfl rfl (i := (plc a n)) (plc_lt4 ha c1) (by decide) dX0_goalOf_16 ?_
    refine lv_goto (tgt := 33) hx hb dX0_goalOf_17 (by decide) ?_
    exact rd_iret (v := tg (plc a n)) hx hb hr hlocks (by rw [← hR.2.1 a n ha hn hh, tgoal, if_pos c1]) dX0_goalOf_33
set_option maxHeartbeats 4000000 in
set_option maxRecDepth 100000 in
/-- bitsBelow(address, limit) -/
theorem met_X0_bitsBelow (l : Launch) (D : va_G) (h0 q1 q2 q3 : Nat) (k1 k2 k3 : ClassId) (tb ct : Int32) (tg lb lg gs : Nat → Int32) (hR : Rel tb ct tg lb lg gs) (a lim : Nat) (ha : a < 256) (hm : lim ≤ 9) : Met l yX0_bitsBelow (ws_ yX0_bitsBelow cX0_bitsBelow 6 (some .int)) ({ frames := 1, cells := 0, slots := 0, locals := 21 }) (rdP D (W0 h0 q1 q2 q3 k1 k2 k3 tb ct tg lb lg) (K0 k1 k2 k3) [.ref h0, .int (nI a), .int (nI lim)]) (QcRead (nI (Sb gs a lim) - 1)) 0 0 (fun _ => False) := by
  refine Met.ofW (cc := cX0_bitsBelow) (maxL := 6) (ret := (some .int)) (by decide) rfl ?_
  intro p e s m args below meth c s₁ B hml hv
  obtain ⟨rfl, hP, hK⟩ := hv
  have hx := B.exec
  have hb := B.bytes
  have hr := B.returns
  have hts := atoms_spec (ws := (ws_ yX0_bitsBelow cX0_bitsBelow 6 (some .int))) B.pre
  have hts : ∀ w ∈ lw_all, w.before _ s = true := fun w h => hts w (List.mem_cons_of_mem _ h)
  have hown : s.vm.findClass RX0 = some m.cls := findClass_of_methodNamed B.named
  have hlocks := B.notSynchronized
  have hl := lv_entry ([.ref h0, .int (nI a), .int (nI lim)]) (n := 6) (Nat.le_of_ble_eq_true rfl)
  rw [lg_entry_eq]
  generalize (lg_sl ([.ref h0, .int (nI a), .int (nI lim)]) ++ List.replicate (6 - (lg_sl ([.ref h0, .int (nI a), .int (nI lim)])).length) Slot.unset).toArray = ls at hl ⊢
  have hl : lv_has ls 6 [(0, .ref h0), (1, .int (nI a)), (2, .int (nI lim))] := hl
  have S0 : CallFix p m c cX0_bitsBelow 6 s _ lw_all RX0 := ⟨hx, hb, hml, hown, hts⟩
  refine lv_iload_n hx hb dX0_bitsBelow_0 rfl (lv_at hl 2 rfl) ?_
  refine lv_iconst (v := 4) hx hb dX0_bitsBelow_1 (by decide) ?_
  refine lv_icmp_le (tgt := 33) hx hb dX0_bitsBelow_2 (by decide) (fun c1 => ?_) (fun c1 => ?_)
  · have c1 : lim ≤ 4 := (nI_leI (a := lim) (b := 4) (by omega) (by decide)).mp c1
    refine lv_iconst (v := 0) hx hb dX0_bitsBelow_33 (by decide) ?_
    refine lv_istore_n (lv' := [(3, .int (0 : Int32)), (0, .ref h0), (1, .int (nI a)), (2, .int (nI lim))]) hx hb dX0_bitsBelow_34 rfl hl (by decide) rfl (fun ls hl => ?_)
    refine lv_iload_n hx hb dX0_bitsBelow_35 rfl (lv_at hl 0 rfl) ?_
    refine lv_if_eq (tgt := 53) hx hb dX0_bitsBelow_36 (by decide) (fun c2 => ?_) (fun c2 => ?_)
    · refine lv_aload_n hx hb dX0_bitsBelow_53 rfl (lv_at hl 1 rfl) ?_
      refine va_get (D := D) (ci := 0) (v := .int tb) (C := RX0) (T := TX0) (N := 5) hx hb hts in_X0 hown hK hP 0 rfl rfl 0 (by decide) (hts _ q21) (fun _ h9 => h9) rfl dX0_bitsBelow_54 ?_
      refine lv_iload_n hx hb dX0_bitsBelow_57 rfl (lv_at hl 2 rfl) ?_
      refine rd_callS (As := [.int (nI a)]) (rest := [.int tb]) S0 (met_X0_topPlaces l a ha) (va_cwS 1 hts (lw_S q97 q98 q11 q99) rfl rfl rfl (by decide +kernel) ⟨Nat.le_of_ble_eq_true rfl, Nat.le_of_ble_eq_true rfl⟩) rfl hl.1 rfl (Nat.le_of_ble_eq_true rfl) dX0_bitsBelow_58 ⟨Nat.zero_le _, Nat.zero_le _⟩ ?_
      refine lv_iand hx hb dX0_bitsBelow_61 ?_
      refine lv_istore (lv' := [(4, .int (tb &&& (topP (a / 32)))), (3, .int (0 : Int32)), (0, .ref h0), (1, .int (nI a)), (2, .int (nI lim))]) hx hb dX0_bitsBelow_62 hl (by decide) rfl (fun ls hl => ?_)
      refine lv_iload hx hb dX0_bitsBelow_64 (lv_at hl 0 rfl) ?_
      refine lv_iload_n hx hb dX0_bitsBelow_66 rfl (lv_at hl 4 rfl) ?_
      refine lv_iconst (v := 4) hx hb dX0_bitsBelow_67 (by decide) ?_
      refine lv_icmp_ge (tgt := 83) hx hb dX0_bitsBelow_68 (by decide) (fun c3 => ?_) (fun c3 => ?_)
      · have c3 := nI_4le (by omega) c3
        refine lv_sipush (v := 32767) hx hb dX0_bitsBelow_83 (by decide) ?_
        refine lv_iand hx hb dX0_bitsBelow_86 ?_
        refine lv_istore (lv' := [(4, .int ((tb &&& (topP (a / 32))) &&& (32767 : Int32))), (3, .int (0 : Int32)), (0, .ref h0), (1, .int (nI a)), (2, .int (nI lim))]) hx hb dX0_bitsBelow_87 hl (by decide) rfl (fun ls hl => ?_)
        refine lv_iload hx hb dX0_bitsBelow_89 (lv_at hl 0 rfl) ?_
        refine lv_if_ne (tgt := 96) hx hb dX0_bitsBelow_91 (by decide) (fun c4 => ?_) (fun c4 => ?_)
        · refine lv_iload hx hb dX0_bitsBelow_96 (lv_at hl 0 rfl) ?_
          refine rd_callS (As := [.int ((tb &&& (topP (a / 32))) &&& (32767 : Int32))]) (rest := []) S0 (met_X0_highest l ((tb &&& (topP (a / 32))) &&& (32767 : Int32))) (va_cwS 1 hts (lw_S q91 q92 q11 q93) rfl rfl rfl (by decide +kernel) ⟨Nat.le_of_ble_eq_true rfl, Nat.le_of_ble_eq_true rfl⟩) rfl hl.1 rfl (Nat.le_of_ble_eq_true rfl) dX0_bitsBelow_98 ⟨Nat.zero_le _, Nat.zero_le _⟩ ?_
          refine lv_istore (lv' := [(5, .int (nI (hiN (bt ((tb &&& (topP (a / 32))) &&& (32767 : Int32))) 30))), (4, .int ((tb &&& (topP (a / 32))) &&& (32767 : Int32))), (3, .int (0 : Int32)), (0, .ref h0), (1, .int (nI a)), (2, .int (nI lim))]) hx hb dX0_bitsBelow_101 hl (by decide) rfl (fun ls hl => ?_)
          refine lv_iload hx hb dX0_bitsBelow_103 (lv_at hl 0 rfl) ?_
          refine rd_callS (As := [.int (nI (hiN (bt ((tb &&& (topP (a / 32))) &&& (32767 : Int32))) 30))]) (rest := []) S0 (met_X0_bitsAt l (hiN (bt ((tb &&& (topP (a / 32))) &&& (32767 : Int32))) 30) (hi_lt31 _)) (va_cwS 1 hts (lw_S q94 q95 q11 q96) rfl rfl rfl (by decide +kernel) ⟨Nat.le_of_ble_eq_true rfl, Nat.le_of_ble_eq_true rfl⟩) rfl hl.1 rfl (Nat.le_of_ble_eq_true rfl) dX0_bitsBelow_105 ⟨Nat.zero_le _, Nat.zero_le _⟩ ?_
          exact rd_iret (v := nI (nOf (hiN (bt ((tb &&& (topP (a / 32))) &&& (32767 : Int32))) 30))) hx hb hr hlocks (bits_top hR ha (by omega) (tM_hi4 ha (by omega)) c4) dX0_bitsBelow_108
        · refine lv_iconst (v := (-1)) hx hb dX0_bitsBelow_94 (by decide) ?_
          exact rd_iret (v := (-1 : Int32)) hx hb hr hlocks (top_none hR ha (by omega) (tM_hi4 ha (by omega)) c4) dX0_bitsBelow_95
      · have c3 := nI_4gt (by omega) c3
        refine lv_iconst (v := 1) hx hb dX0_bitsBelow_71 (by decide) ?_
        refine lv_iconst (v := 1) hx hb dX0_bitsBelow_72 (by decide) ?_
        refine lv_iload_n hx hb dX0_bitsBelow_73 rfl (lv_at hl 4 rfl) ?_
        refine lv_ishl hx hb dX0_bitsBelow_74 ?_
        refine lv_iconst (v := 1) hx hb dX0_bitsBelow_75 (by decide) ?_
        refine lv_isub hx hb dX0_bitsBelow_76 ?_
        refine lv_ishl hx hb dX0_bitsBelow_77 ?_
        refine lv_iconst (v := 1) hx hb dX0_bitsBelow_78 (by decide) ?_
        refine lv_isub hx hb dX0_bitsBelow_79 ?_
        refine lv_tope (show ((1 : Int32) <<< ((((1 : Int32) <<< ((nI lim) &&& 31)) - (1 : Int32)) &&& 31)) - (1 : Int32) = tmask lim from rfl) ?_
        refine lv_goto (tgt := 86) hx hb dX0_bitsBelow_80 (by decide) ?_
        refine lv_iand hx hb dX0_bitsBelow_86 ?_
        refine lv_istore (lv' := [(4, .int ((tb &&& (topP (a / 32))) &&& (tmask lim))), (3, .int (0 : Int32)), (0, .ref h0), (1, .int (nI a)), (2, .int (nI lim))]) hx hb dX0_bitsBelow_87 hl (by decide) rfl (fun ls hl => ?_)
        refine lv_iload hx hb dX0_bitsBelow_89 (lv_at hl 0 rfl) ?_
        refine lv_if_ne (tgt := 96) hx hb dX0_bitsBelow_91 (by decide) (fun c4 => ?_) (fun c4 => ?_)
        · refine lv_iload hx hb dX0_bitsBelow_96 (lv_at hl 0 rfl) ?_
          refine rd_callS (As := [.int ((tb &&& (topP (a / 32))) &&& (tmask lim))]) (rest := []) S0 (met_X0_highest l ((tb &&& (topP (a / 32))) &&& (tmask lim))) (va_cwS 1 hts (lw_S q91 q92 q11 q93) rfl rfl rfl (by decide +kernel) ⟨Nat.le_of_ble_eq_true rfl, Nat.le_of_ble_eq_true rfl⟩) rfl hl.1 rfl (Nat.le_of_ble_eq_true rfl) dX0_bitsBelow_98 ⟨Nat.zero_le _, Nat.zero_le _⟩ ?_
          refine lv_istore (lv' := [(5, .int (nI (hiN (bt ((tb &&& (topP (a / 32))) &&& (tmask lim))) 30))), (4, .int ((tb &&& (topP (a / 32))) &&& (tmask lim))), (3, .int (0 : Int32)), (0, .ref h0), (1, .int (nI a)), (2, .int (nI lim))]) hx hb dX0_bitsBelow_101 hl (by decide) rfl (fun ls hl => ?_)
          refine lv_iload hx hb dX0_bitsBelow_103 (lv_at hl 0 rfl) ?_
          refine rd_callS (As := [.int (nI (hiN (bt ((tb &&& (topP (a / 32))) &&& (tmask lim))) 30))]) (rest := []) S0 (met_X0_bitsAt l (hiN (bt ((tb &&& (topP (a / 32))) &&& (tmask lim))) 30) (hi_lt31 _)) (va_cwS 1 hts (lw_S q94 q95 q11 q96) rfl rfl rfl (by decide +kernel) ⟨Nat.le_of_ble_eq_true rfl, Nat.le_of_ble_eq_true rfl⟩) rfl hl.1 rfl (Nat.le_of_ble_eq_true rfl) dX0_bitsBelow_105 ⟨Nat.zero_le _, Nat.zero_le _⟩ ?_
          exact rd_iret (v := nI (nOf (hiN (bt ((tb &&& (topP (a / 32))) &&& (tmask lim))) 30))) hx hb hr hlocks (bits_top hR ha (by omega) (tM_lo ha c3) c4) dX0_bitsBelow_108
        · refine lv_iconst (v := (-1)) hx hb dX0_bitsBelow_94 (by decide) ?_
          exact rd_iret (v := (-1 : Int32)) hx hb hr hlocks (top_none hR ha (by omega) (tM_lo ha c3) c4) dX0_bitsBelow_95
    · exact absurd rfl c2
  · have c1 : 4 < lim := Nat.not_le.mp fun q => c1 ((nI_leI (a := lim) (b := 4) (by omega) (by decide)).mpr q)
    refine lv_aload_n hx hb dX0_bitsBelow_5 rfl (lv_at hl 0 rfl) ?_
    refine va_get (D := D) (ci := 0) (v := .ref q2) (C := RX0) (T := TX0) (N := 5) hx hb hts in_X0 hown hK hP 0 rfl rfl 2 (by decide) (hts _ q23) (fun _ h9 => h9) rfl dX0_bitsBelow_6 ?_
    refine lv_iload_n hx hb dX0_bitsBelow_9 rfl (lv_at hl 1 rfl) ?_
    refine lv_iconst (v := 4) hx hb dX0_bitsBelow_10 (by decide) ?_
    refine lv_ishr hx hb dX0_bitsBelow_11 ?_
    refine lv_tope (show (nI a) >>> ((4 : Int32) &&& 31) = nI (a / 16) from shr4 ha) ?_
    refine rd_iald hx hb hK hP 2 1 rfl rfl (i := (a / 16)) (by omega) (by decide) dX0_bitsBelow_12 ?_
    refine lv_iload_n hx hb dX0_bitsBelow_13 rfl (lv_at hl 1 rfl) ?_
    refine rd_callS (As := [.int (nI a)]) (rest := [.int (lb (a / 16))]) S0 (met_X0_lowPlaces l a ha) (va_cwS 1 hts (lw_S q88 q89 q11 q90) rfl rfl rfl (by decide +kernel) ⟨Nat.le_of_ble_eq_true rfl, Nat.le_of_ble_eq_true rfl⟩) rfl hl.1 rfl (Nat.le_of_ble_eq_true rfl) dX0_bitsBelow_14 ⟨Nat.zero_le _, Nat.zero_le _⟩ ?_
    refine lv_iand hx hb dX0_bitsBelow_17 ?_
    refine lv_iconst (v := 1) hx hb dX0_bitsBelow_18 (by decide) ?_
    refine lv_iconst (v := 1) hx hb dX0_bitsBelow_19 (by decide) ?_
    refine lv_iload_n hx hb dX0_bitsBelow_20 rfl (lv_at hl 2 rfl) ?_
    refine lv_iconst (v := 4) hx hb dX0_bitsBelow_21 (by decide) ?_
    refine lv_isub hx hb dX0_bitsBelow_22 ?_
    refine lv_ishl hx hb dX0_bitsBelow_23 ?_
    refine lv_iconst (v := 1) hx hb dX0_bitsBelow_24 (by decide) ?_
    refine lv_isub hx hb dX0_bitsBelow_25 ?_
    refine lv_ishl hx hb dX0_bitsBelow_26 ?_
    refine lv_iconst (v := 1) hx hb dX0_bitsBelow_27 (by decide) ?_
    refine lv_isub hx hb dX0_bitsBelow_28 ?_
    refine lv_tope (show ((1 : Int32) <<< ((((1 : Int32) <<< (((nI lim) - (4 : Int32)) &&& 31)) - (1 : Int32)) &&& 31)) - (1 : Int32) = lmask lim from rfl) ?_
    refine lv_iand hx hb dX0_bitsBelow_29 ?_
    refine lv_goto (tgt := 34) hx hb dX0_bitsBelow_30 (by decide) ?_
    refine lv_istore_n (lv' := [(3, .int (((lb (a / 16)) &&& (lowP (a % 16))) &&& (lmask lim))), (0, .ref h0), (1, .int (nI a)), (2, .int (nI lim))]) hx hb dX0_bitsBelow_34 rfl hl (by decide) rfl (fun ls hl => ?_)
    refine lv_iload_n hx hb dX0_bitsBelow_35 rfl (lv_at hl 0 rfl) ?_
    refine lv_if_eq (tgt := 53) hx hb dX0_bitsBelow_36 (by decide) (fun c2 => ?_) (fun c2 => ?_)
    · refine lv_aload_n hx hb dX0_bitsBelow_53 rfl (lv_at hl 1 rfl) ?_
      refine va_get (D := D) (ci := 0) (v := .int tb) (C := RX0) (T := TX0) (N := 5) hx hb hts in_X0 hown hK hP 0 rfl rfl 0 (by decide) (hts _ q21) (fun _ h9 => h9) rfl dX0_bitsBelow_54 ?_
      refine lv_iload_n hx hb dX0_bitsBelow_57 rfl (lv_at hl 2 rfl) ?_
      refine rd_callS (As := [.int (nI a)]) (rest := [.int tb]) S0 (met_X0_topPlaces l a ha) (va_cwS 1 hts (lw_S q97 q98 q11 q99) rfl rfl rfl (by decide +kernel) ⟨Nat.le_of_ble_eq_true rfl, Nat.le_of_ble_eq_true rfl⟩) rfl hl.1 rfl (Nat.le_of_ble_eq_true rfl) dX0_bitsBelow_58 ⟨Nat.zero_le _, Nat.zero_le _⟩ ?_
      refine lv_iand hx hb dX0_bitsBelow_61 ?_
      refine lv_istore (lv' := [(4, .int (tb &&& (topP (a / 32)))), (3, .int (((lb (a / 16)) &&& (lowP (a % 16))) &&& (lmask lim))), (0, .ref h0), (1, .int (nI a)), (2, .int (nI lim))]) hx hb dX0_bitsBelow_62 hl (by decide) rfl (fun ls hl => ?_)
      refine lv_iload hx hb dX0_bitsBelow_64 (lv_at hl 0 rfl) ?_
      refine lv_iload_n hx hb dX0_bitsBelow_66 rfl (lv_at hl 4 rfl) ?_
      refine lv_iconst (v := 4) hx hb dX0_bitsBelow_67 (by decide) ?_
      refine lv_icmp_ge (tgt := 83) hx hb dX0_bitsBelow_68 (by decide) (fun c3 => ?_) (fun c3 => ?_)
      · have c3 := nI_4le (by omega) c3
        refine lv_sipush (v := 32767) hx hb dX0_bitsBelow_83 (by decide) ?_
        refine lv_iand hx hb dX0_bitsBelow_86 ?_
        refine lv_istore (lv' := [(4, .int ((tb &&& (topP (a / 32))) &&& (32767 : Int32))), (3, .int (((lb (a / 16)) &&& (lowP (a % 16))) &&& (lmask lim))), (0, .ref h0), (1, .int (nI a)), (2, .int (nI lim))]) hx hb dX0_bitsBelow_87 hl (by decide) rfl (fun ls hl => ?_)
        refine lv_iload hx hb dX0_bitsBelow_89 (lv_at hl 0 rfl) ?_
        refine lv_if_ne (tgt := 96) hx hb dX0_bitsBelow_91 (by decide) (fun c4 => ?_) (fun c4 => ?_)
        · refine lv_iload hx hb dX0_bitsBelow_96 (lv_at hl 0 rfl) ?_
          refine rd_callS (As := [.int ((tb &&& (topP (a / 32))) &&& (32767 : Int32))]) (rest := []) S0 (met_X0_highest l ((tb &&& (topP (a / 32))) &&& (32767 : Int32))) (va_cwS 1 hts (lw_S q91 q92 q11 q93) rfl rfl rfl (by decide +kernel) ⟨Nat.le_of_ble_eq_true rfl, Nat.le_of_ble_eq_true rfl⟩) rfl hl.1 rfl (Nat.le_of_ble_eq_true rfl) dX0_bitsBelow_98 ⟨Nat.zero_le _, Nat.zero_le _⟩ ?_
          refine lv_istore (lv' := [(5, .int (nI (hiN (bt ((tb &&& (topP (a / 32))) &&& (32767 : Int32))) 30))), (4, .int ((tb &&& (topP (a / 32))) &&& (32767 : Int32))), (3, .int (((lb (a / 16)) &&& (lowP (a % 16))) &&& (lmask lim))), (0, .ref h0), (1, .int (nI a)), (2, .int (nI lim))]) hx hb dX0_bitsBelow_101 hl (by decide) rfl (fun ls hl => ?_)
          refine lv_iload hx hb dX0_bitsBelow_103 (lv_at hl 0 rfl) ?_
          refine rd_callS (As := [.int (nI (hiN (bt ((tb &&& (topP (a / 32))) &&& (32767 : Int32))) 30))]) (rest := []) S0 (met_X0_bitsAt l (hiN (bt ((tb &&& (topP (a / 32))) &&& (32767 : Int32))) 30) (hi_lt31 _)) (va_cwS 1 hts (lw_S q94 q95 q11 q96) rfl rfl rfl (by decide +kernel) ⟨Nat.le_of_ble_eq_true rfl, Nat.le_of_ble_eq_true rfl⟩) rfl hl.1 rfl (Nat.le_of_ble_eq_true rfl) dX0_bitsBelow_105 ⟨Nat.zero_le _, Nat.zero_le _⟩ ?_
          exact rd_iret (v := nI (nOf (hiN (bt ((tb &&& (topP (a / 32))) &&& (32767 : Int32))) 30))) hx hb hr hlocks (by rw [low_none hR ha c1 hm c2]; exact bits_top hR ha (Nat.le_refl 4) (tM_hi ha) c4) dX0_bitsBelow_108
        · refine lv_iconst (v := (-1)) hx hb dX0_bitsBelow_94 (by decide) ?_
          exact rd_iret (v := (-1 : Int32)) hx hb hr hlocks (by rw [low_none hR ha c1 hm c2]; exact top_none hR ha (Nat.le_refl 4) (tM_hi ha) c4) dX0_bitsBelow_95
      · have c3 := nI_4gt (by omega) c3
        exact absurd c1 (by omega)
    · refine lv_iload_n hx hb dX0_bitsBelow_39 rfl (lv_at hl 0 rfl) ?_
      refine rd_callS (As := [.int (((lb (a / 16)) &&& (lowP (a % 16))) &&& (lmask lim))]) (rest := []) S0 (met_X0_highest l (((lb (a / 16)) &&& (lowP (a % 16))) &&& (lmask lim))) (va_cwS 1 hts (lw_S q91 q92 q11 q93) rfl rfl rfl (by decide +kernel) ⟨Nat.le_of_ble_eq_true rfl, Nat.le_of_ble_eq_true rfl⟩) rfl hl.1 rfl (Nat.le_of_ble_eq_true rfl) dX0_bitsBelow_40 ⟨Nat.zero_le _, Nat.zero_le _⟩ ?_
      refine lv_istore (lv' := [(4, .int (nI (hiN (bt (((lb (a / 16)) &&& (lowP (a % 16))) &&& (lmask lim))) 30))), (3, .int (((lb (a / 16)) &&& (lowP (a % 16))) &&& (lmask lim))), (0, .ref h0), (1, .int (nI a)), (2, .int (nI lim))]) hx hb dX0_bitsBelow_43 hl (by decide) rfl (fun ls hl => ?_)
      refine lv_iconst (v := 4) hx hb dX0_bitsBelow_45 (by decide) ?_
      refine lv_iload hx hb dX0_bitsBelow_46 (lv_at hl 0 rfl) ?_
      refine rd_callS (As := [.int (nI (hiN (bt (((lb (a / 16)) &&& (lowP (a % 16))) &&& (lmask lim))) 30))]) (rest := [.int (4 : Int32)]) S0 (met_X0_bitsAt l (hiN (bt (((lb (a / 16)) &&& (lowP (a % 16))) &&& (lmask lim))) 30) (hi_lt31 _)) (va_cwS 1 hts (lw_S q94 q95 q11 q96) rfl rfl rfl (by decide +kernel) ⟨Nat.le_of_ble_eq_true rfl, Nat.le_of_ble_eq_true rfl⟩) rfl hl.1 rfl (Nat.le_of_ble_eq_true rfl) dX0_bitsBelow_48 ⟨Nat.zero_le _, Nat.zero_le _⟩ ?_
      refine lv_iadd hx hb dX0_bitsBelow_51 ?_
      exact rd_iret (v := (4 : Int32) + (nI (nOf (hiN (bt (((lb (a / 16)) &&& (lowP (a % 16))) &&& (lmask lim))) 30)))) hx hb hr hlocks (bits_low hR ha c1 hm c2) dX0_bitsBelow_52
set_option maxHeartbeats 4000000 in
set_option maxRecDepth 100000 in
/-- goalBelow(address, limit) -/
theorem met_X0_goalBelow (l : Launch) (D : va_G) (h0 q1 q2 q3 : Nat) (k1 k2 k3 : ClassId) (tb ct : Int32) (tg lb lg gs : Nat → Int32) (hR : Rel tb ct tg lb lg gs) (a lim : Nat) (ha : a < 256) (hm : lim ≤ 9) : Met l yX0_goalBelow (ws_ yX0_goalBelow cX0_goalBelow 4 (some .int)) ({ frames := 2, cells := 0, slots := 0, locals := 46 }) (rdP D (W0 h0 q1 q2 q3 k1 k2 k3 tb ct tg lb lg) (K0 k1 k2 k3) [.ref h0, .int (nI a), .int (nI lim)]) (QcRead (Sg gs a lim)) 0 0 (fun _ => False) := by
  refine Met.ofW (cc := cX0_goalBelow) (maxL := 4) (ret := (some .int)) (by decide) rfl ?_
  intro p e s m args below meth c s₁ B hml hv
  obtain ⟨rfl, hP, hK⟩ := hv
  have hx := B.exec
  have hb := B.bytes
  have hr := B.returns
  have hts := atoms_spec (ws := (ws_ yX0_goalBelow cX0_goalBelow 4 (some .int))) B.pre
  have hts : ∀ w ∈ lw_all, w.before _ s = true := fun w h => hts w (List.mem_cons_of_mem _ h)
  have hown : s.vm.findClass RX0 = some m.cls := findClass_of_methodNamed B.named
  have hlocks := B.notSynchronized
  have hl := lv_entry ([.ref h0, .int (nI a), .int (nI lim)]) (n := 4) (Nat.le_of_ble_eq_true rfl)
  rw [lg_entry_eq]
  generalize (lg_sl ([.ref h0, .int (nI a), .int (nI lim)]) ++ List.replicate (4 - (lg_sl ([.ref h0, .int (nI a), .int (nI lim)])).length) Slot.unset).toArray = ls at hl ⊢
  have hl : lv_has ls 4 [(0, .ref h0), (1, .int (nI a)), (2, .int (nI lim))] := hl
  have S0 : CallFix p m c cX0_goalBelow 4 s _ lw_all RX0 := ⟨hx, hb, hml, hown, hts⟩
  refine lv_aload_n hx hb dX0_goalBelow_0 rfl (lv_at hl 0 rfl) ?_
  refine lv_iload_n hx hb dX0_goalBelow_1 rfl (lv_at hl 1 rfl) ?_
  refine lv_iload_n hx hb dX0_goalBelow_2 rfl (lv_at hl 2 rfl) ?_
  refine rd_callV (As := [.int (nI a), .int (nI lim)]) (rest := []) (b := h0) (ci := 0) (q0 := 0) S0 (met_X0_bitsBelow l D h0 q1 q2 q3 k1 k2 k3 tb ct tg lb lg gs hR a lim ha hm) (cwV 2 hts (lw_V q84 q86 qs3 q11 q87) rfl rfl rfl (by decide +kernel) ⟨Nat.le_of_ble_eq_true rfl, Nat.le_of_ble_eq_true rfl⟩) hP hK rfl rfl rfl hl.1 rfl (Nat.le_of_ble_eq_true rfl) dX0_goalBelow_3 ⟨Nat.zero_le _, Nat.zero_le _⟩ ?_
  refine lv_istore_n (lv' := [(3, .int (nI (Sb gs a lim) - 1)), (0, .ref h0), (1, .int (nI a)), (2, .int (nI lim))]) hx hb dX0_goalBelow_6 rfl hl (by decide) rfl (fun ls hl => ?_)
  refine lv_iload_n hx hb dX0_goalBelow_7 rfl (lv_at hl 0 rfl) ?_
  refine lv_if_ge (tgt := 15) hx hb dX0_goalBelow_8 (by decide) (fun c1 => ?_) (fun c1 => ?_)
  · obtain ⟨b, e1⟩ := ge0_pred c1
    obtain ⟨e2, e3, -⟩ := bsN_spec e1
    refine lv_aload_n hx hb dX0_goalBelow_15 rfl (lv_at hl 1 rfl) ?_
    refine lv_iload_n hx hb dX0_goalBelow_16 rfl (lv_at hl 2 rfl) ?_
    refine lv_iload_n hx hb dX0_goalBelow_17 rfl (lv_at hl 0 rfl) ?_
    refine lv_tope (show nI (Sb gs a lim) - 1 = nI b from (by rw [e1, nI_pred])) ?_
    refine rd_callV (As := [.int (nI a), .int (nI b)]) (rest := []) (b := h0) (ci := 0) (q0 := 0) S0 (met_X0_goalOf l D h0 q1 q2 q3 k1 k2 k3 tb ct tg lb lg gs hR a b ha (by omega) e3) (cwV 2 hts (lw_V q72 q74 qs1 q11 q75) rfl rfl rfl (by decide +kernel) ⟨Nat.le_of_ble_eq_true rfl, Nat.le_of_ble_eq_true rfl⟩) hP hK rfl rfl rfl hl.1 rfl (Nat.le_of_ble_eq_true rfl) dX0_goalBelow_18 ⟨Nat.zero_le _, Nat.zero_le _⟩ ?_
    exact rd_iret (v := gs (cel a b)) hx hb hr hlocks (by rw [Sg, e1, if_neg (by omega)]; rfl) dX0_goalBelow_21
  · have c1 := nge0_pred (Nat.le_trans (Sb_le gs a lim) hm) c1
    refine lv_iconst (v := (-1)) hx hb dX0_goalBelow_11 (by decide) ?_
    refine lv_goto (tgt := 21) hx hb dX0_goalBelow_12 (by decide) ?_
    exact rd_iret (v := (-1 : Int32)) hx hb hr hlocks (by rw [Sg, if_pos c1]) dX0_goalBelow_21
set_option maxHeartbeats 4000000 in
set_option maxRecDepth 100000 in
/-- goal(address) -/
theorem met_X0_goal (l : Launch) (D : va_G) (h0 q1 q2 q3 : Nat) (k1 k2 k3 : ClassId) (tb ct : Int32) (tg lb lg gs : Nat → Int32) (hR : Rel tb ct tg lb lg gs) (p0 : Int32) : Met l yX0_goal (ws_ yX0_goal cX0_goal 2 (some .int)) ({ frames := 3, cells := 0, slots := 0, locals := 69 }) (rdP D (W0 h0 q1 q2 q3 k1 k2 k3 tb ct tg lb lg) (K0 k1 k2 k3) [.ref h0, .int p0]) (QcRead (S_goal gs p0)) 0 0 (fun _ => False) := by
  refine Met.ofW (cc := cX0_goal) (maxL := 2) (ret := (some .int)) (by decide) rfl ?_
  intro p e s m args below meth c s₁ B hml hv
  obtain ⟨rfl, hP, hK⟩ := hv
  have hx := B.exec
  have hb := B.bytes
  have hr := B.returns
  have hts := atoms_spec (ws := (ws_ yX0_goal cX0_goal 2 (some .int))) B.pre
  have hts : ∀ w ∈ lw_all, w.before _ s = true := fun w h => hts w (List.mem_cons_of_mem _ h)
  have hown : s.vm.findClass RX0 = some m.cls := findClass_of_methodNamed B.named
  have hlocks := B.notSynchronized
  have hl := lv_entry ([.ref h0, .int p0]) (n := 2) (Nat.le_of_ble_eq_true rfl)
  rw [lg_entry_eq]
  generalize (lg_sl ([.ref h0, .int p0]) ++ List.replicate (2 - (lg_sl ([.ref h0, .int p0])).length) Slot.unset).toArray = ls at hl ⊢
  have hl : lv_has ls 2 [(0, .ref h0), (1, .int p0)] := hl
  have S0 : CallFix p m c cX0_goal 2 s _ lw_all RX0 := ⟨hx, hb, hml, hown, hts⟩
  refine lv_iload_n hx hb dX0_goal_0 rfl (lv_at hl 1 rfl) ?_
  refine rd_callS (As := [.int p0]) (rest := []) S0 (met_X0_isAddress l p0) (va_cwS 1 hts (lw_S q46 q47 q11 q48) rfl rfl rfl (by decide +kernel) ⟨Nat.le_of_ble_eq_true rfl, Nat.le_of_ble_eq_true rfl⟩) rfl hl.1 rfl (Nat.le_of_ble_eq_true rfl) dX0_goal_1 ⟨Nat.zero_le _, Nat.zero_le _⟩ ?_
  refine lv_if_eq (tgt := 17) hx hb dX0_goal_4 (by decide) (fun c1 => ?_) (fun c1 => ?_)
  · have c1 := b2i_0 c1
    refine lv_iconst (v := (-1)) hx hb dX0_goal_17 (by decide) ?_
    exact rd_iret (v := (-1 : Int32)) hx hb hr hlocks (by rw [S_goal, c1]; rfl) dX0_goal_18
  · have c1 := b2i_n0 c1
    obtain ⟨a, ha, ea⟩ := isAd_of c1
    subst ea
    refine lv_aload_n hx hb dX0_goal_7 rfl (lv_at hl 0 rfl) ?_
    refine lv_iload_n hx hb dX0_goal_8 rfl (lv_at hl 1 rfl) ?_
    refine lv_bipush (v := 9) hx hb dX0_goal_9 (by decide) ?_
    refine lv_tope (show (9 : Int32) = nI 9 from rfl) ?_
    refine rd_callV (As := [.int (nI a), .int (nI 9)]) (rest := []) (b := h0) (ci := 0) (q0 := 0) S0 (met_X0_goalBelow l D h0 q1 q2 q3 k1 k2 k3 tb ct tg lb lg gs hR a 9 ha (by decide)) (cwV 2 hts (lw_V q80 q82 qs2 q11 q83) rfl rfl rfl (by decide +kernel) ⟨Nat.le_of_ble_eq_true rfl, Nat.le_of_ble_eq_true rfl⟩) hP hK rfl rfl rfl hl.1 rfl (Nat.le_of_ble_eq_true rfl) dX0_goal_11 ⟨Nat.zero_le _, Nat.zero_le _⟩ ?_
    refine lv_goto (tgt := 18) hx hb dX0_goal_14 (by decide) ?_
    exact rd_iret (v := Sg gs a 9) hx hb hr hlocks (S_goal_nI ha).symm dX0_goal_18
set_option maxHeartbeats 4000000 in
set_option maxRecDepth 100000 in
/-- bits(address) -/
theorem met_X0_bits (l : Launch) (D : va_G) (h0 q1 q2 q3 : Nat) (k1 k2 k3 : ClassId) (tb ct : Int32) (tg lb lg gs : Nat → Int32) (hR : Rel tb ct tg lb lg gs) (p0 : Int32) : Met l yX0_bits (ws_ yX0_bits cX0_bits 2 (some .int)) ({ frames := 2, cells := 0, slots := 0, locals := 46 }) (rdP D (W0 h0 q1 q2 q3 k1 k2 k3 tb ct tg lb lg) (K0 k1 k2 k3) [.ref h0, .int p0]) (QcRead (S_bits gs p0)) 0 0 (fun _ => False) := by
  refine Met.ofW (cc := cX0_bits) (maxL := 2) (ret := (some .int)) (by decide) rfl ?_
  intro p e s m args below meth c s₁ B hml hv
  obtain ⟨rfl, hP, hK⟩ := hv
  have hx := B.exec
  have hb := B.bytes
  have hr := B.returns
  have hts := atoms_spec (ws := (ws_ yX0_bits cX0_bits 2 (some .int))) B.pre
  have hts : ∀ w ∈ lw_all, w.before _ s = true := fun w h => hts w (List.mem_cons_of_mem _ h)
  have hown : s.vm.findClass RX0 = some m.cls := findClass_of_methodNamed B.named
  have hlocks := B.notSynchronized
  have hl := lv_entry ([.ref h0, .int p0]) (n := 2) (Nat.le_of_ble_eq_true rfl)
  rw [lg_entry_eq]
  generalize (lg_sl ([.ref h0, .int p0]) ++ List.replicate (2 - (lg_sl ([.ref h0, .int p0])).length) Slot.unset).toArray = ls at hl ⊢
  have hl : lv_has ls 2 [(0, .ref h0), (1, .int p0)] := hl
  have S0 : CallFix p m c cX0_bits 2 s _ lw_all RX0 := ⟨hx, hb, hml, hown, hts⟩
  refine lv_iload_n hx hb dX0_bits_0 rfl (lv_at hl 1 rfl) ?_
  refine rd_callS (As := [.int p0]) (rest := []) S0 (met_X0_isAddress l p0) (va_cwS 1 hts (lw_S q46 q47 q11 q48) rfl rfl rfl (by decide +kernel) ⟨Nat.le_of_ble_eq_true rfl, Nat.le_of_ble_eq_true rfl⟩) rfl hl.1 rfl (Nat.le_of_ble_eq_true rfl) dX0_bits_1 ⟨Nat.zero_le _, Nat.zero_le _⟩ ?_
  refine lv_if_eq (tgt := 17) hx hb dX0_bits_4 (by decide) (fun c1 => ?_) (fun c1 => ?_)
  · have c1 := b2i_0 c1
    refine lv_iconst (v := (-1)) hx hb dX0_bits_17 (by decide) ?_
    exact rd_iret (v := (-1 : Int32)) hx hb hr hlocks (by rw [S_bits, c1]; rfl) dX0_bits_18
  · have c1 := b2i_n0 c1
    obtain ⟨a, ha, ea⟩ := isAd_of c1
    subst ea
    refine lv_aload_n hx hb dX0_bits_7 rfl (lv_at hl 0 rfl) ?_
    refine lv_iload_n hx hb dX0_bits_8 rfl (lv_at hl 1 rfl) ?_
    refine lv_bipush (v := 9) hx hb dX0_bits_9 (by decide) ?_
    refine lv_tope (show (9 : Int32) = nI 9 from rfl) ?_
    refine rd_callV (As := [.int (nI a), .int (nI 9)]) (rest := []) (b := h0) (ci := 0) (q0 := 0) S0 (met_X0_bitsBelow l D h0 q1 q2 q3 k1 k2 k3 tb ct tg lb lg gs hR a 9 ha (by decide)) (cwV 2 hts (lw_V q84 q86 qs3 q11 q87) rfl rfl rfl (by decide +kernel) ⟨Nat.le_of_ble_eq_true rfl, Nat.le_of_ble_eq_true rfl⟩) hP hK rfl rfl rfl hl.1 rfl (Nat.le_of_ble_eq_true rfl) dX0_bits_11 ⟨Nat.zero_le _, Nat.zero_le _⟩ ?_
    refine lv_goto (tgt := 18) hx hb dX0_bits_14 (by decide) ?_
    exact rd_iret (v := nI (Sb gs a 9) - 1) hx hb hr hlocks (S_bits_nI ha).symm dX0_bits_18
set_option maxHeartbeats 4000000 in
set_option maxRecDepth 100000 in
/-- matching(address) -/
theorem met_X0_matching (l : Launch) (D : va_G) (h0 q1 q2 q3 : Nat) (k1 k2 k3 : ClassId) (tb ct : Int32) (tg lb lg gs : Nat → Int32) (hR : Rel tb ct tg lb lg gs) (p0 : Int32) : Met l yX0_matching (ws_ yX0_matching cX0_matching 4 (some .int)) ({ frames := 1, cells := 0, slots := 0, locals := 22 }) (rdP D (W0 h0 q1 q2 q3 k1 k2 k3 tb ct tg lb lg) (K0 k1 k2 k3) [.ref h0, .int p0]) (QcRead (S_match gs p0)) 0 0 (fun _ => False) := by
  refine Met.ofW (cc := cX0_matching) (maxL := 4) (ret := (some .int)) (by decide) rfl ?_
  intro p e s m args below meth c s₁ B hml hv
  obtain ⟨rfl, hP, hK⟩ := hv
  have hx := B.exec
  have hb := B.bytes
  have hr := B.returns
  have hts := atoms_spec (ws := (ws_ yX0_matching cX0_matching 4 (some .int))) B.pre
  have hts : ∀ w ∈ lw_all, w.before _ s = true := fun w h => hts w (List.mem_cons_of_mem _ h)
  have hown : s.vm.findClass RX0 = some m.cls := findClass_of_methodNamed B.named
  have hlocks := B.notSynchronized
  have hl := lv_entry ([.ref h0, .int p0]) (n := 4) (Nat.le_of_ble_eq_true rfl)
  rw [lg_entry_eq]
  generalize (lg_sl ([.ref h0, .int p0]) ++ List.replicate (4 - (lg_sl ([.ref h0, .int p0])).length) Slot.unset).toArray = ls at hl ⊢
  have hl : lv_has ls 4 [(0, .ref h0), (1, .int p0)] := hl
  have S0 : CallFix p m c cX0_matching 4 s _ lw_all RX0 := ⟨hx, hb, hml, hown, hts⟩
  refine lv_iload_n hx hb dX0_matching_0 rfl (lv_at hl 1 rfl) ?_
  refine rd_callS (As := [.int p0]) (rest := []) S0 (met_X0_isAddress l p0) (va_cwS 1 hts (lw_S q46 q47 q11 q48) rfl rfl rfl (by decide +kernel) ⟨Nat.le_of_ble_eq_true rfl, Nat.le_of_ble_eq_true rfl⟩) rfl hl.1 rfl (Nat.le_of_ble_eq_true rfl) dX0_matching_1 ⟨Nat.zero_le _, Nat.zero_le _⟩ ?_
  refine lv_if_ne (tgt := 9) hx hb dX0_matching_4 (by decide) (fun c1 => ?_) (fun c1 => ?_)
  · have c1 := b2i_n0 c1
    obtain ⟨a, ha, ea⟩ := isAd_of c1
    subst ea
    refine lv_aload_n hx hb dX0_matching_9 rfl (lv_at hl 0 rfl) ?_
    refine va_get (D := D) (ci := 0) (v := .int tb) (C := RX0) (T := TX0) (N := 5) hx hb hts in_X0 hown hK hP 0 rfl rfl 0 (by decide) (hts _ q21) (fun _ h9 => h9) rfl dX0_matching_10 ?_
    refine lv_iload_n hx hb dX0_matching_13 rfl (lv_at hl 1 rfl) ?_
    refine rd_callS (As := [.int (nI a)]) (rest := [.int tb]) S0 (met_X0_topPlaces l a ha) (va_cwS 1 hts (lw_S q97 q98 q11 q99) rfl rfl rfl (by decide +kernel) ⟨Nat.le_of_ble_eq_true rfl, Nat.le_of_ble_eq_true rfl⟩) rfl hl.1 rfl (Nat.le_of_ble_eq_true rfl) dX0_matching_14 ⟨Nat.zero_le _, Nat.zero_le _⟩ ?_
    refine lv_iand hx hb dX0_matching_17 ?_
    refine lv_istore_n (lv' := [(2, .int (tb &&& (topP (a / 32)))), (0, .ref h0), (1, .int (nI a))]) hx hb dX0_matching_18 rfl hl (by decide) rfl (fun ls hl => ?_)
    refine lv_aload_n hx hb dX0_matching_19 rfl (lv_at hl 1 rfl) ?_
    refine va_get (D := D) (ci := 0) (v := .ref q2) (C := RX0) (T := TX0) (N := 5) hx hb hts in_X0 hown hK hP 0 rfl rfl 2 (by decide) (hts _ q23) (fun _ h9 => h9) rfl dX0_matching_20 ?_
    refine lv_iload_n hx hb dX0_matching_23 rfl (lv_at hl 2 rfl) ?_
    refine lv_iconst (v := 4) hx hb dX0_matching_24 (by decide) ?_
    refine lv_ishr hx hb dX0_matching_25 ?_
    refine lv_tope (show (nI a) >>> ((4 : Int32) &&& 31) = nI (a / 16) from shr4 ha) ?_
    refine rd_iald hx hb hK hP 2 1 rfl rfl (i := (a / 16)) (by omega) (by decide) dX0_matching_26 ?_
    refine lv_iload_n hx hb dX0_matching_27 rfl (lv_at hl 2 rfl) ?_
    refine rd_callS (As := [.int (nI a)]) (rest := [.int (lb (a / 16))]) S0 (met_X0_lowPlaces l a ha) (va_cwS 1 hts (lw_S q88 q89 q11 q90) rfl rfl rfl (by decide +kernel) ⟨Nat.le_of_ble_eq_true rfl, Nat.le_of_ble_eq_true rfl⟩) rfl hl.1 rfl (Nat.le_of_ble_eq_true rfl) dX0_matching_28 ⟨Nat.zero_le _, Nat.zero_le _⟩ ?_
    refine lv_iand hx hb dX0_matching_31 ?_
    refine lv_istore_n (lv' := [(3, .int ((lb (a / 16)) &&& (lowP (a % 16)))), (2, .int (tb &&& (topP (a / 32)))), (0, .ref h0), (1, .int (nI a))]) hx hb dX0_matching_32 rfl hl (by decide) rfl (fun ls hl => ?_)
    refine lv_iload_n hx hb dX0_matching_33 rfl (lv_at hl 1 rfl) ?_
    refine rd_callS (As := [.int (tb &&& (topP (a / 32)))]) (rest := []) S0 (met_X0_ones l (tb &&& (topP (a / 32)))) (va_cwS 1 hts (lw_S q108 q109 q11 q110) rfl rfl rfl (by decide +kernel) ⟨Nat.le_of_ble_eq_true rfl, Nat.le_of_ble_eq_true rfl⟩) rfl hl.1 rfl (Nat.le_of_ble_eq_true rfl) dX0_matching_34 ⟨Nat.zero_le _, Nat.zero_le _⟩ ?_
    refine lv_iload_n hx hb dX0_matching_37 rfl (lv_at hl 0 rfl) ?_
    refine rd_callS (As := [.int ((lb (a / 16)) &&& (lowP (a % 16)))]) (rest := [.int (nI (fb_ct (bt (tb &&& (topP (a / 32)))) 31))]) S0 (met_X0_ones l ((lb (a / 16)) &&& (lowP (a % 16)))) (va_cwS 1 hts (lw_S q108 q109 q11 q110) rfl rfl rfl (by decide +kernel) ⟨Nat.le_of_ble_eq_true rfl, Nat.le_of_ble_eq_true rfl⟩) rfl hl.1 rfl (Nat.le_of_ble_eq_true rfl) dX0_matching_38 ⟨Nat.zero_le _, Nat.zero_le _⟩ ?_
    refine lv_iadd hx hb dX0_matching_41 ?_
    exact rd_iret (v := (nI (fb_ct (bt (tb &&& (topP (a / 32)))) 31)) + (nI (fb_ct (bt ((lb (a / 16)) &&& (lowP (a % 16)))) 31))) hx hb hr hlocks (by rw [S_match, c1, if_pos rfl, clN ha]; exact mat_all hR ha) dX0_matching_42
  · have c1 := b2i_0 c1
    refine lv_iconst (v := 0) hx hb dX0_matching_7 (by decide) ?_
    exact rd_iret (v := (0 : Int32)) hx hb hr hlocks (by rw [S_match, c1]; rfl) dX0_matching_8
set_option maxHeartbeats 4000000 in
set_option maxRecDepth 100000 in
/-- next(from, goal) -/
theorem met_X0_next (l : Launch) (D : va_G) (h0 q1 q2 q3 : Nat) (k1 k2 k3 : ClassId) (tb ct : Int32) (tg lb lg gs : Nat → Int32) (hR : Rel tb ct tg lb lg gs) (f g : Int32) : Met l yX0_next (ws_ yX0_next cX0_next 4 (some .int)) ({ frames := 3, cells := 0, slots := 0, locals := 69 }) (rdP D (W0 h0 q1 q2 q3 k1 k2 k3 tb ct tg lb lg) (K0 k1 k2 k3) [.ref h0, .int f, .int g]) (QcRead (S_next gs f g)) 0 0 (fun _ => False) := by
  refine Met.ofW (cc := cX0_next) (maxL := 4) (ret := (some .int)) (by decide) rfl ?_
  intro p e s m args below meth c s₁ B hml hv
  obtain ⟨rfl, hP, hK⟩ := hv
  have hx := B.exec
  have hb := B.bytes
  have hr := B.returns
  have hts := atoms_spec (ws := (ws_ yX0_next cX0_next 4 (some .int))) B.pre
  have hts : ∀ w ∈ lw_all, w.before _ s = true := fun w h => hts w (List.mem_cons_of_mem _ h)
  have hown : s.vm.findClass RX0 = some m.cls := findClass_of_methodNamed B.named
  have hlocks := B.notSynchronized
  have hl := lv_entry ([.ref h0, .int f, .int g]) (n := 4) (Nat.le_of_ble_eq_true rfl)
  rw [lg_entry_eq]
  generalize (lg_sl ([.ref h0, .int f, .int g]) ++ List.replicate (4 - (lg_sl ([.ref h0, .int f, .int g])).length) Slot.unset).toArray = ls at hl ⊢
  have hl : lv_has ls 4 [(0, .ref h0), (1, .int f), (2, .int g)] := hl
  have S0 : CallFix p m c cX0_next 4 s _ lw_all RX0 := ⟨hx, hb, hml, hown, hts⟩
  refine lv_iload_n hx hb dX0_next_0 rfl (lv_at hl 1 rfl) ?_
  refine lv_if_ge (tgt := 8) hx hb dX0_next_1 (by decide) (fun c1 => ?_) (fun c1 => ?_)
  · obtain ⟨j, hj, ej⟩ := nI_of (x := f) (fun q => (fa_of_lt q).2.1 c1)
    refine lv_iload_n hx hb dX0_next_8 rfl (lv_at hl 1 rfl) ?_
    refine lv_tope (show f = nI j from ej) ?_
    refine lv_istore_n (lv' := [(3, .int (nI j)), (0, .ref h0), (1, .int f), (2, .int g)]) hx hb dX0_next_9 rfl hl (by decide) rfl (fun ls hl => ?_)
    have loop10 : ∀ (k : Nat) (i : Nat), i < 2 ^ 31 → 256 - i < k → fstF (P_next gs f g) (256 - i) i = S_next gs f g → ¬ nI i < f → ∀ (ls : Array Slot), lv_has ls 4 [(0, .ref h0), (1, .int f), (2, .int g), (3, .int (nI i))] → WR p l e (headSpec (ws_ yX0_next cX0_next 4 (some .int)) ({ frames := 3, cells := 0, slots := 0, locals := 69 })).room s m ([.ref h0, .int f, .int g] : List Value).toArray below meth c (S_next gs f g) (F0 m 10 ls []) := by
      intro k
      induction k with
      | zero =>
        intro i h1 h2 h3 h4 ls hl
        exact absurd h2 (by omega)
      | succ k ih10 =>
        intro i h1 h2 h3 h4 ls hl
        refine lv_iload_n hx hb dX0_next_10 rfl (lv_at hl 3 rfl) ?_
        refine lv_sipush (v := 256) hx hb dX0_next_11 (by decide) ?_
        refine lv_icmp_ge (tgt := 40) hx hb dX0_next_14 (by decide) (fun c2 => ?_) (fun c2 => ?_)
        · have c2 : 256 ≤ i := (nI_leI (a := 256) (by decide) h1).mp c2
          refine lv_iconst (v := (-1)) hx hb dX0_next_40 (by decide) ?_
          exact rd_iret (v := (-1 : Int32)) hx hb hr hlocks (by rw [← h3, show 256 - i = 0 by omega]; rfl) dX0_next_41
        · have c2 : i < 256 := Nat.not_le.mp fun q => c2 ((nI_leI (a := 256) (by decide) h1).mpr q)
          refine lv_iload_n hx hb dX0_next_17 rfl (lv_at hl 2 rfl) ?_
          refine lv_if_lt (tgt := 34) hx hb dX0_next_18 (by decide) (fun c3 => ?_) (fun c3 => ?_)
          · refine lv_iinc (v := nI (i + 1)) (lv' := [(3, .int (nI (i + 1))), (0, .ref h0), (1, .int f), (2, .int g)]) hx hb dX0_next_34 hl (k := 3) rfl (inc_1 i) (by decide) rfl (fun ls hl => ?_)
            refine lv_goto (tgt := 10) hx hb dX0_next_37 (by decide) ?_
            exact ih10 (i + 1) (by omega) (by omega) (by rw [← h3]; exact (fst_nx c2 (by unfold P_next; rw [not_dec h4, yes_dec c3] <;> rfl)).symm) (nlt_succ c2 h4) ls (lv_sub hl [1, 2, 3, 0] rfl)
          · refine lv_aload_n hx hb dX0_next_21 rfl (lv_at hl 0 rfl) ?_
            refine lv_iload_n hx hb dX0_next_22 rfl (lv_at hl 3 rfl) ?_
            refine lv_bipush (v := 9) hx hb dX0_next_23 (by decide) ?_
            refine lv_tope (show (9 : Int32) = nI 9 from rfl) ?_
            refine rd_callV (As := [.int (nI i), .int (nI 9)]) (rest := []) (b := h0) (ci := 0) (q0 := 0) S0 (met_X0_goalBelow l D h0 q1 q2 q3 k1 k2 k3 tb ct tg lb lg gs hR i 9 c2 (by decide)) (cwV 2 hts (lw_V q80 q82 qs2 q11 q83) rfl rfl rfl (by decide +kernel) ⟨Nat.le_of_ble_eq_true rfl, Nat.le_of_ble_eq_true rfl⟩) hP hK rfl rfl rfl hl.1 rfl (Nat.le_of_ble_eq_true rfl) dX0_next_25 ⟨Nat.zero_le _, Nat.zero_le _⟩ ?_
            refine lv_iload_n hx hb dX0_next_28 rfl (lv_at hl 2 rfl) ?_
            refine lv_icmp_ne (tgt := 34) hx hb dX0_next_29 (by decide) (fun c4 => ?_) (fun c4 => ?_)
            · refine lv_iinc (v := nI (i + 1)) (lv' := [(3, .int (nI (i + 1))), (0, .ref h0), (1, .int f), (2, .int g)]) hx hb dX0_next_34 hl (k := 3) rfl (inc_1 i) (by decide) rfl (fun ls hl => ?_)
              refine lv_goto (tgt := 10) hx hb dX0_next_37 (by decide) ?_
              exact ih10 (i + 1) (by omega) (by omega) (by rw [← h3]; exact (fst_nx c2 (by unfold P_next; rw [not_dec h4, not_dec c3, not_dec c4] <;> rfl)).symm) (nlt_succ c2 h4) ls (lv_sub hl [1, 2, 3, 0] rfl)
            · refine lv_iload_n hx hb dX0_next_32 rfl (lv_at hl 3 rfl) ?_
              exact rd_iret (v := nI i) hx hb hr hlocks (by rw [← h3]; exact (fst_at c2 (by unfold P_next; rw [not_dec h4, not_dec c3, yes_dec c4] <;> rfl)).symm) dX0_next_33
    exact loop10 257 j hj (by omega) (next_start hj ej) (by rw [ej]; exact fun q => absurd ((fa_lt _ _).mp q) (by omega)) ls (lv_sub hl [1, 2, 3, 0] rfl)
  · refine lv_iconst (v := 0) hx hb dX0_next_4 (by decide) ?_
    refine lv_goto (tgt := 9) hx hb dX0_next_5 (by decide) ?_
    refine lv_tope (show (0 : Int32) = nI 0 from rfl) ?_
    refine lv_istore_n (lv' := [(3, .int (nI 0)), (0, .ref h0), (1, .int f), (2, .int g)]) hx hb dX0_next_9 rfl hl (by decide) rfl (fun ls hl => ?_)
    have loop10 : ∀ (k : Nat) (i : Nat), i < 2 ^ 31 → 256 - i < k → fstF (P_next gs f g) (256 - i) i = S_next gs f g → ¬ nI i < f → ∀ (ls : Array Slot), lv_has ls 4 [(0, .ref h0), (1, .int f), (2, .int g), (3, .int (nI i))] → WR p l e (headSpec (ws_ yX0_next cX0_next 4 (some .int)) ({ frames := 3, cells := 0, slots := 0, locals := 69 })).room s m ([.ref h0, .int f, .int g] : List Value).toArray below meth c (S_next gs f g) (F0 m 10 ls []) := by
      intro k
      induction k with
      | zero =>
        intro i h1 h2 h3 h4 ls hl
        exact absurd h2 (by omega)
      | succ k ih10 =>
        intro i h1 h2 h3 h4 ls hl
        refine lv_iload_n hx hb dX0_next_10 rfl (lv_at hl 3 rfl) ?_
        refine lv_sipush (v := 256) hx hb dX0_next_11 (by decide) ?_
        refine lv_icmp_ge (tgt := 40) hx hb dX0_next_14 (by decide) (fun c2 => ?_) (fun c2 => ?_)
        · have c2 : 256 ≤ i := (nI_leI (a := 256) (by decide) h1).mp c2
          refine lv_iconst (v := (-1)) hx hb dX0_next_40 (by decide) ?_
          exact rd_iret (v := (-1 : Int32)) hx hb hr hlocks (by rw [← h3, show 256 - i = 0 by omega]; rfl) dX0_next_41
        · have c2 : i < 256 := Nat.not_le.mp fun q => c2 ((nI_leI (a := 256) (by decide) h1).mpr q)
          refine lv_iload_n hx hb dX0_next_17 rfl (lv_at hl 2 rfl) ?_
          refine lv_if_lt (tgt := 34) hx hb dX0_next_18 (by decide) (fun c3 => ?_) (fun c3 => ?_)
          · refine lv_iinc (v := nI (i + 1)) (lv' := [(3, .int (nI (i + 1))), (0, .ref h0), (1, .int f), (2, .int g)]) hx hb dX0_next_34 hl (k := 3) rfl (inc_1 i) (by decide) rfl (fun ls hl => ?_)
            refine lv_goto (tgt := 10) hx hb dX0_next_37 (by decide) ?_
            exact ih10 (i + 1) (by omega) (by omega) (by rw [← h3]; exact (fst_nx c2 (by unfold P_next; rw [not_dec h4, yes_dec c3] <;> rfl)).symm) (nlt_succ c2 h4) ls (lv_sub hl [1, 2, 3, 0] rfl)
          · refine lv_aload_n hx hb dX0_next_21 rfl (lv_at hl 0 rfl) ?_
            refine lv_iload_n hx hb dX0_next_22 rfl (lv_at hl 3 rfl) ?_
            refine lv_bipush (v := 9) hx hb dX0_next_23 (by decide) ?_
            refine lv_tope (show (9 : Int32) = nI 9 from rfl) ?_
            refine rd_callV (As := [.int (nI i), .int (nI 9)]) (rest := []) (b := h0) (ci := 0) (q0 := 0) S0 (met_X0_goalBelow l D h0 q1 q2 q3 k1 k2 k3 tb ct tg lb lg gs hR i 9 c2 (by decide)) (cwV 2 hts (lw_V q80 q82 qs2 q11 q83) rfl rfl rfl (by decide +kernel) ⟨Nat.le_of_ble_eq_true rfl, Nat.le_of_ble_eq_true rfl⟩) hP hK rfl rfl rfl hl.1 rfl (Nat.le_of_ble_eq_true rfl) dX0_next_25 ⟨Nat.zero_le _, Nat.zero_le _⟩ ?_
            refine lv_iload_n hx hb dX0_next_28 rfl (lv_at hl 2 rfl) ?_
            refine lv_icmp_ne (tgt := 34) hx hb dX0_next_29 (by decide) (fun c4 => ?_) (fun c4 => ?_)
            · refine lv_iinc (v := nI (i + 1)) (lv' := [(3, .int (nI (i + 1))), (0, .ref h0), (1, .int f), (2, .int g)]) hx hb dX0_next_34 hl (k := 3) rfl (inc_1 i) (by decide) rfl (fun ls hl => ?_)
              refine lv_goto (tgt := 10) hx hb dX0_next_37 (by decide) ?_
              exact ih10 (i + 1) (by omega) (by omega) (by rw [← h3]; exact (fst_nx c2 (by unfold P_next; rw [not_dec h4, not_dec c3, not_dec c4] <;> rfl)).symm) (nlt_succ c2 h4) ls (lv_sub hl [1, 2, 3, 0] rfl)
            · refine lv_iload_n hx hb dX0_next_32 rfl (lv_at hl 3 rfl) ?_
              exact rd_iret (v := nI i) hx hb hr hlocks (by rw [← h3]; exact (fst_at c2 (by unfold P_next; rw [not_dec h4, not_dec c3, yes_dec c4] <;> rfl)).symm) dX0_next_33
    exact loop10 257 0 (by decide) (by decide) rfl (fun q => c1 (fa_of_lt q).1) ls (lv_sub hl [1, 2, 3, 0] rfl)
set_option maxHeartbeats 4000000 in
set_option maxRecDepth 100000 in
/-- load(address, bits) -/
theorem met_X0_load (l : Launch) (D : va_G) (h0 q1 q2 q3 : Nat) (k1 k2 k3 : ClassId) (tb ct : Int32) (tg lb lg gs : Nat → Int32) (hR : Rel tb ct tg lb lg gs) (p0 p1 : Int32) : Met l yX0_load (ws_ yX0_load cX0_load 6 (some .int)) ({ frames := 2, cells := 0, slots := 0, locals := 46 }) (rdP D (W0 h0 q1 q2 q3 k1 k2 k3 tb ct tg lb lg) (K0 k1 k2 k3) [.ref h0, .int p0, .int p1]) (QcRead (S_load gs p0 p1)) 0 0 (fun _ => False) := by
  refine Met.ofW (cc := cX0_load) (maxL := 6) (ret := (some .int)) (by decide) rfl ?_
  intro p e s m args below meth c s₁ B hml hv
  obtain ⟨rfl, hP, hK⟩ := hv
  have hx := B.exec
  have hb := B.bytes
  have hr := B.returns
  have hts := atoms_spec (ws := (ws_ yX0_load cX0_load 6 (some .int))) B.pre
  have hts : ∀ w ∈ lw_all, w.before _ s = true := fun w h => hts w (List.mem_cons_of_mem _ h)
  have hown : s.vm.findClass RX0 = some m.cls := findClass_of_methodNamed B.named
  have hlocks := B.notSynchronized
  have hl := lv_entry ([.ref h0, .int p0, .int p1]) (n := 6) (Nat.le_of_ble_eq_true rfl)
  rw [lg_entry_eq]
  generalize (lg_sl ([.ref h0, .int p0, .int p1]) ++ List.replicate (6 - (lg_sl ([.ref h0, .int p0, .int p1])).length) Slot.unset).toArray = ls at hl ⊢
  have hl : lv_has ls 6 [(0, .ref h0), (1, .int p0), (2, .int p1)] := hl
  have S0 : CallFix p m c cX0_load 6 s _ lw_all RX0 := ⟨hx, hb, hml, hown, hts⟩
  refine lv_iload_n hx hb dX0_load_0 rfl (lv_at hl 1 rfl) ?_
  refine lv_iload_n hx hb dX0_load_1 rfl (lv_at hl 2 rfl) ?_
  refine rd_callS (As := [.int p0, .int p1]) (rest := []) S0 (met_X0_isBeginning l p0 p1) (va_cwS 2 hts (lw_S q43 q44 q11 q45) rfl rfl rfl (by decide +kernel) ⟨Nat.le_of_ble_eq_true rfl, Nat.le_of_ble_eq_true rfl⟩) rfl hl.1 rfl (Nat.le_of_ble_eq_true rfl) dX0_load_2 ⟨Nat.zero_le _, Nat.zero_le _⟩ ?_
  refine lv_if_eq (tgt := 17) hx hb dX0_load_5 (by decide) (fun c1 => ?_) (fun c1 => ?_)
  · have c1 := b2i_0 c1
    refine lv_iconst (v := (-1)) hx hb dX0_load_17 (by decide) ?_
    exact rd_iret (v := (-1 : Int32)) hx hb hr hlocks (by rw [S_load, S_has_no c1]; rfl) dX0_load_18
  · have c1 := b2i_n0 c1
    obtain ⟨a, n, ha, hn, ea, en, hd⟩ := isBeg_of c1
    subst ea
    subst en
    refine lv_aload_n hx hb dX0_load_8 rfl (lv_at hl 0 rfl) ?_
    refine lv_iload_n hx hb dX0_load_9 rfl (lv_at hl 1 rfl) ?_
    refine lv_iload_n hx hb dX0_load_10 rfl (lv_at hl 2 rfl) ?_
    refine rd_callV (As := [.int (nI a), .int (nI n)]) (rest := []) (b := h0) (ci := 0) (q0 := 0) S0 (met_X0_has l D h0 q1 q2 q3 k1 k2 k3 tb ct tg lb lg gs hR a n ha hn) (cwV 2 hts (lw_V q49 q51 qs0 q11 q52) rfl rfl rfl (by decide +kernel) ⟨Nat.le_of_ble_eq_true rfl, Nat.le_of_ble_eq_true rfl⟩) hP hK rfl rfl rfl hl.1 rfl (Nat.le_of_ble_eq_true rfl) dX0_load_11 ⟨Nat.zero_le _, Nat.zero_le _⟩ ?_
    refine lv_if_ne (tgt := 19) hx hb dX0_load_14 (by decide) (fun c2 => ?_) (fun c2 => ?_)
    · have c2 := b2i_n0 c2
      have hpos := Nat.two_pow_pos (8 - n)
      have hroom := room_tab n (by omega) a ha hd
      refine lv_iload_n hx hb dX0_load_19 rfl (lv_at hl 1 rfl) ?_
      refine lv_sipush (v := 255) hx hb dX0_load_20 (by decide) ?_
      refine lv_iload_n hx hb dX0_load_23 rfl (lv_at hl 2 rfl) ?_
      refine lv_ishr hx hb dX0_load_24 ?_
      refine lv_ior hx hb dX0_load_25 ?_
      refine lv_tope (show (nI a) ||| ((255 : Int32) >>> ((nI n) &&& 31)) = nI (a + (2 ^ (8 - n) - 1)) from last_tab n (by omega) a ha hd) ?_
      refine lv_istore_n (lv' := [(3, .int (nI (a + (2 ^ (8 - n) - 1)))), (0, .ref h0), (1, .int (nI a)), (2, .int (nI n))]) hx hb dX0_load_26 rfl hl (by decide) rfl (fun ls hl => ?_)
      refine lv_iconst (v := 0) hx hb dX0_load_27 (by decide) ?_
      refine lv_tope (show (0 : Int32) = nI (fb_ct (P_load gs a n) a) from (by rw [load_0 hd]; rfl)) ?_
      refine lv_istore (lv' := [(4, .int (nI (fb_ct (P_load gs a n) a))), (3, .int (nI (a + (2 ^ (8 - n) - 1)))), (0, .ref h0), (1, .int (nI a)), (2, .int (nI n))]) hx hb dX0_load_28 hl (by decide) rfl (fun ls hl => ?_)
      refine lv_iload_n hx hb dX0_load_30 rfl (lv_at hl 3 rfl) ?_
      refine lv_istore (lv' := [(5, .int (nI a)), (4, .int (nI (fb_ct (P_load gs a n) a))), (3, .int (nI (a + (2 ^ (8 - n) - 1)))), (0, .ref h0), (1, .int (nI a)), (2, .int (nI n))]) hx hb dX0_load_31 hl (by decide) rfl (fun ls hl => ?_)
      have loop33 : ∀ (k : Nat) (i : Nat), a ≤ i → i ≤ a + 2 ^ (8 - n) → a + 2 ^ (8 - n) < i + k → ∀ (ls : Array Slot), lv_has ls 6 [(0, .ref h0), (1, .int (nI a)), (2, .int (nI n)), (3, .int (nI (a + (2 ^ (8 - n) - 1)))), (4, .int (nI (fb_ct (P_load gs a n) i))), (5, .int (nI i))] → WR p l e (headSpec (ws_ yX0_load cX0_load 6 (some .int)) ({ frames := 2, cells := 0, slots := 0, locals := 46 })).room s m ([.ref h0, .int (nI a), .int (nI n)] : List Value).toArray below meth c (S_load gs (nI a) (nI n)) (F0 m 33 ls []) := by
        intro k
        induction k with
        | zero =>
          intro i h1 h2 h3 ls hl
          exact absurd h3 (by omega)
        | succ k ih33 =>
          intro i h1 h2 h3 ls hl
          refine lv_iload hx hb dX0_load_33 (lv_at hl 5 rfl) ?_
          refine lv_iload_n hx hb dX0_load_35 rfl (lv_at hl 3 rfl) ?_
          refine lv_icmp_gt (tgt := 67) hx hb dX0_load_36 (by decide) (fun c3 => ?_) (fun c3 => ?_)
          · have c3 : a + (2 ^ (8 - n) - 1) < i := (nI_ltI (by omega) (by omega)).mp c3
            have c3 : i = a + 2 ^ (8 - n) := by omega
            refine lv_iload hx hb dX0_load_67 (lv_at hl 4 rfl) ?_
            exact rd_iret (v := nI (fb_ct (P_load gs a n) i)) hx hb hr hlocks (by rw [S_load_nI ha hn c1 c2, ← load_end hd hroom, ← c3]) dX0_load_69
          · have c3 : i < a + 2 ^ (8 - n) := by
              have := Nat.not_lt.mp fun q => c3 ((nI_ltI (a := a + (2 ^ (8 - n) - 1)) (b := i) (by omega) (by omega)).mpr q)
              omega
            refine lv_iload hx hb dX0_load_39 (lv_at hl 4 rfl) ?_
            refine lv_aload_n hx hb dX0_load_41 rfl (lv_at hl 0 rfl) ?_
            refine lv_iload hx hb dX0_load_42 (lv_at hl 5 rfl) ?_
            refine lv_bipush (v := 9) hx hb dX0_load_44 (by decide) ?_
            refine lv_tope (show (9 : Int32) = nI 9 from rfl) ?_
            refine rd_callV (As := [.int (nI i), .int (nI 9)]) (rest := [.int (nI (fb_ct (P_load gs a n) i))]) (b := h0) (ci := 0) (q0 := 0) S0 (met_X0_bitsBelow l D h0 q1 q2 q3 k1 k2 k3 tb ct tg lb lg gs hR i 9 (by omega) (by decide)) (cwV 2 hts (lw_V q84 q86 qs3 q11 q87) rfl rfl rfl (by decide +kernel) ⟨Nat.le_of_ble_eq_true rfl, Nat.le_of_ble_eq_true rfl⟩) hP hK rfl rfl rfl hl.1 rfl (Nat.le_of_ble_eq_true rfl) dX0_load_46 ⟨Nat.zero_le _, Nat.zero_le _⟩ ?_
            refine lv_iload_n hx hb dX0_load_49 rfl (lv_at hl 2 rfl) ?_
            refine lv_icmp_ne (tgt := 57) hx hb dX0_load_50 (by decide) (fun c4 => ?_) (fun c4 => ?_)
            · have c4 := fun q => c4 ((pred_eq (Sb_le gs i 9) hn).mpr q)
              refine lv_iconst (v := 0) hx hb dX0_load_57 (by decide) ?_
              refine lv_iadd hx hb dX0_load_58 ?_
              refine lv_tope (show (nI (fb_ct (P_load gs a n) i)) + (0 : Int32) = nI (fb_ct (P_load gs a n) (i + 1)) from ct_0 (by rw [load_in hd h1 c3, not_dec c4])) ?_
              refine lv_istore (lv' := [(4, .int (nI (fb_ct (P_load gs a n) (i + 1)))), (0, .ref h0), (1, .int (nI a)), (2, .int (nI n)), (3, .int (nI (a + (2 ^ (8 - n) - 1)))), (5, .int (nI i))]) hx hb dX0_load_59 hl (by decide) rfl (fun ls hl => ?_)
              refine lv_iinc (v := nI (i + 1)) (lv' := [(5, .int (nI (i + 1))), (4, .int (nI (fb_ct (P_load gs a n) (i + 1)))), (0, .ref h0), (1, .int (nI a)), (2, .int (nI n)), (3, .int (nI (a + (2 ^ (8 - n) - 1))))]) hx hb dX0_load_61 hl (k := 5) rfl (inc_1 i) (by decide) rfl (fun ls hl => ?_)
              refine lv_goto (tgt := 33) hx hb dX0_load_64 (by decide) ?_
              exact ih33 (i + 1) (by omega) (by omega) (by omega) ls (lv_sub hl [2, 3, 4, 5, 1, 0] rfl)
            · have c4 := (pred_eq (Sb_le gs i 9) hn).mp c4
              refine lv_iconst (v := 1) hx hb dX0_load_53 (by decide) ?_
              refine lv_goto (tgt := 58) hx hb dX0_load_54 (by decide) ?_
              refine lv_iadd hx hb dX0_load_58 ?_
              refine lv_tope (show (nI (fb_ct (P_load gs a n) i)) + (1 : Int32) = nI (fb_ct (P_load gs a n) (i + 1)) from ct_1 (by rw [load_in hd h1 c3, yes_dec c4])) ?_
              refine lv_istore (lv' := [(4, .int (nI (fb_ct (P_load gs a n) (i + 1)))), (0, .ref h0), (1, .int (nI a)), (2, .int (nI n)), (3, .int (nI (a + (2 ^ (8 - n) - 1)))), (5, .int (nI i))]) hx hb dX0_load_59 hl (by decide) rfl (fun ls hl => ?_)
              refine lv_iinc (v := nI (i + 1)) (lv' := [(5, .int (nI (i + 1))), (4, .int (nI (fb_ct (P_load gs a n) (i + 1)))), (0, .ref h0), (1, .int (nI a)), (2, .int (nI n)), (3, .int (nI (a + (2 ^ (8 - n) - 1))))]) hx hb dX0_load_61 hl (k := 5) rfl (inc_1 i) (by decide) rfl (fun ls hl => ?_)
              refine lv_goto (tgt := 33) hx hb dX0_load_64 (by decide) ?_
              exact ih33 (i + 1) (by omega) (by omega) (by omega) ls (lv_sub hl [2, 3, 4, 5, 1, 0] rfl)
      exact loop33 (2 ^ (8 - n) + 1) a (Nat.le_refl a) (by omega) (by omega) ls (lv_sub hl [3, 4, 5, 2, 1, 0] rfl)
    · have c2 := b2i_0 c2
      refine lv_iconst (v := (-1)) hx hb dX0_load_17 (by decide) ?_
      exact rd_iret (v := (-1 : Int32)) hx hb hr hlocks (by rw [S_load, S_has_nI ha hn c1, c2]; rfl) dX0_load_18
set_option maxHeartbeats 4000000 in
set_option maxRecDepth 100000 in
/-- sent(goal) -/
theorem met_X0_sent (l : Launch) (D : va_G) (h0 q1 q2 q3 : Nat) (k1 k2 k3 : ClassId) (tb ct : Int32) (tg lb lg gs : Nat → Int32) (hR : Rel tb ct tg lb lg gs) (g : Int32) : Met l yX0_sent (ws_ yX0_sent cX0_sent 4 (some .int)) ({ frames := 3, cells := 0, slots := 0, locals := 69 }) (rdP D (W0 h0 q1 q2 q3 k1 k2 k3 tb ct tg lb lg) (K0 k1 k2 k3) [.ref h0, .int g]) (QcRead (S_sent gs g)) 0 0 (fun _ => False) := by
  refine Met.ofW (cc := cX0_sent) (maxL := 4) (ret := (some .int)) (by decide) rfl ?_
  intro p e s m args below meth c s₁ B hml hv
  obtain ⟨rfl, hP, hK⟩ := hv
  have hx := B.exec
  have hb := B.bytes
  have hr := B.returns
  have hts := atoms_spec (ws := (ws_ yX0_sent cX0_sent 4 (some .int))) B.pre
  have hts : ∀ w ∈ lw_all, w.before _ s = true := fun w h => hts w (List.mem_cons_of_mem _ h)
  have hown : s.vm.findClass RX0 = some m.cls := findClass_of_methodNamed B.named
  have hlocks := B.notSynchronized
  have hl := lv_entry ([.ref h0, .int g]) (n := 4) (Nat.le_of_ble_eq_true rfl)
  rw [lg_entry_eq]
  generalize (lg_sl ([.ref h0, .int g]) ++ List.replicate (4 - (lg_sl ([.ref h0, .int g])).length) Slot.unset).toArray = ls at hl ⊢
  have hl : lv_has ls 4 [(0, .ref h0), (1, .int g)] := hl
  have S0 : CallFix p m c cX0_sent 4 s _ lw_all RX0 := ⟨hx, hb, hml, hown, hts⟩
  refine lv_iconst (v := 0) hx hb dX0_sent_0 (by decide) ?_
  refine lv_istore_n (lv' := [(2, .int (0 : Int32)), (0, .ref h0), (1, .int g)]) hx hb dX0_sent_1 rfl hl (by decide) rfl (fun ls hl => ?_)
  refine lv_iconst (v := 0) hx hb dX0_sent_2 (by decide) ?_
  refine lv_istore_n (lv' := [(3, .int (0 : Int32)), (2, .int (0 : Int32)), (0, .ref h0), (1, .int g)]) hx hb dX0_sent_3 rfl hl (by decide) rfl (fun ls hl => ?_)
  have loop4 : ∀ (k : Nat) (i : Nat), i ≤ 256 → 257 ≤ i + k → ∀ (ls : Array Slot), lv_has ls 4 [(0, .ref h0), (1, .int g), (2, .int (nI (fb_ct (P_sent gs g) i))), (3, .int (nI i))] → WR p l e (headSpec (ws_ yX0_sent cX0_sent 4 (some .int)) ({ frames := 3, cells := 0, slots := 0, locals := 69 })).room s m ([.ref h0, .int g] : List Value).toArray below meth c (S_sent gs g) (F0 m 4 ls []) := by
    intro k
    induction k with
    | zero =>
      intro i h1 h2 ls hl
      exact absurd h2 (by omega)
    | succ k ih4 =>
      intro i h1 h2 ls hl
      refine lv_iload_n hx hb dX0_sent_4 rfl (lv_at hl 3 rfl) ?_
      refine lv_sipush (v := 256) hx hb dX0_sent_5 (by decide) ?_
      refine lv_icmp_ge (tgt := 36) hx hb dX0_sent_8 (by decide) (fun c1 => ?_) (fun c1 => ?_)
      · have c1 : i = 256 := ge_N (N := 256) (by decide) h1 c1
        refine lv_iload_n hx hb dX0_sent_36 rfl (lv_at hl 2 rfl) ?_
        exact rd_iret (v := nI (fb_ct (P_sent gs g) i)) hx hb hr hlocks (by rw [c1]; rfl) dX0_sent_37
      · have c1 : i < 256 := lt_N (N := 256) (by decide) h1 c1
        refine lv_iload_n hx hb dX0_sent_11 rfl (lv_at hl 2 rfl) ?_
        refine lv_aload_n hx hb dX0_sent_12 rfl (lv_at hl 0 rfl) ?_
        refine lv_iload_n hx hb dX0_sent_13 rfl (lv_at hl 3 rfl) ?_
        refine lv_bipush (v := 9) hx hb dX0_sent_14 (by decide) ?_
        refine lv_tope (show (9 : Int32) = nI 9 from rfl) ?_
        refine rd_callV (As := [.int (nI i), .int (nI 9)]) (rest := [.int (nI (fb_ct (P_sent gs g) i))]) (b := h0) (ci := 0) (q0 := 0) S0 (met_X0_goalBelow l D h0 q1 q2 q3 k1 k2 k3 tb ct tg lb lg gs hR i 9 c1 (by decide)) (cwV 2 hts (lw_V q80 q82 qs2 q11 q83) rfl rfl rfl (by decide +kernel) ⟨Nat.le_of_ble_eq_true rfl, Nat.le_of_ble_eq_true rfl⟩) hP hK rfl rfl rfl hl.1 rfl (Nat.le_of_ble_eq_true rfl) dX0_sent_16 ⟨Nat.zero_le _, Nat.zero_le _⟩ ?_
        refine lv_iload_n hx hb dX0_sent_19 rfl (lv_at hl 1 rfl) ?_
        refine lv_icmp_ne (tgt := 27) hx hb dX0_sent_20 (by decide) (fun c2 => ?_) (fun c2 => ?_)
        · refine lv_iconst (v := 0) hx hb dX0_sent_27 (by decide) ?_
          refine lv_iadd hx hb dX0_sent_28 ?_
          refine lv_tope (show (nI (fb_ct (P_sent gs g) i)) + (0 : Int32) = nI (fb_ct (P_sent gs g) (i + 1)) from ct_0 (P := P_sent gs g) (not_dec c2)) ?_
          refine lv_istore_n (lv' := [(2, .int (nI (fb_ct (P_sent gs g) (i + 1)))), (0, .ref h0), (1, .int g), (3, .int (nI i))]) hx hb dX0_sent_29 rfl hl (by decide) rfl (fun ls hl => ?_)
          refine lv_iinc (v := nI (i + 1)) (lv' := [(3, .int (nI (i + 1))), (2, .int (nI (fb_ct (P_sent gs g) (i + 1)))), (0, .ref h0), (1, .int g)]) hx hb dX0_sent_30 hl (k := 3) rfl (inc_1 i) (by decide) rfl (fun ls hl => ?_)
          refine lv_goto (tgt := 4) hx hb dX0_sent_33 (by decide) ?_
          exact ih4 (i + 1) (by omega) (by omega) ls (lv_sub hl [2, 3, 1, 0] rfl)
        · refine lv_iconst (v := 1) hx hb dX0_sent_23 (by decide) ?_
          refine lv_goto (tgt := 28) hx hb dX0_sent_24 (by decide) ?_
          refine lv_iadd hx hb dX0_sent_28 ?_
          refine lv_tope (show (nI (fb_ct (P_sent gs g) i)) + (1 : Int32) = nI (fb_ct (P_sent gs g) (i + 1)) from ct_1 (P := P_sent gs g) (yes_dec c2)) ?_
          refine lv_istore_n (lv' := [(2, .int (nI (fb_ct (P_sent gs g) (i + 1)))), (0, .ref h0), (1, .int g), (3, .int (nI i))]) hx hb dX0_sent_29 rfl hl (by decide) rfl (fun ls hl => ?_)
          refine lv_iinc (v := nI (i + 1)) (lv' := [(3, .int (nI (i + 1))), (2, .int (nI (fb_ct (P_sent gs g) (i + 1)))), (0, .ref h0), (1, .int g)]) hx hb dX0_sent_30 hl (k := 3) rfl (inc_1 i) (by decide) rfl (fun ls hl => ?_)
          refine lv_goto (tgt := 4) hx hb dX0_sent_33 (by decide) ?_
          exact ih4 (i + 1) (by omega) (by omega) ls (lv_sub hl [2, 3, 1, 0] rfl)
  exact loop4 257 0 (by decide) (by decide) ls (lv_sub hl [2, 3, 1, 0] rfl)
set_option maxHeartbeats 4000000 in
set_option maxRecDepth 100000 in
/-- idle(address, bits) -/
theorem met_X0_idle (l : Launch) (D : va_G) (h0 q1 q2 q3 : Nat) (k1 k2 k3 : ClassId) (tb ct : Int32) (tg lb lg gs : Nat → Int32) (hR : Rel tb ct tg lb lg gs) (p0 p1 : Int32) : Met l yX0_idle (ws_ yX0_idle cX0_idle 4 (some .boolean)) ({ frames := 3, cells := 0, slots := 0, locals := 71 }) (rdP D (W0 h0 q1 q2 q3 k1 k2 k3 tb ct tg lb lg) (K0 k1 k2 k3) [.ref h0, .int p0, .int p1]) (QcRead (b2i (S_idle gs p0 p1))) 0 0 (fun _ => False) := by
  refine Met.ofW (cc := cX0_idle) (maxL := 4) (ret := (some .boolean)) (by decide) rfl ?_
  intro p e s m args below meth c s₁ B hml hv
  obtain ⟨rfl, hP, hK⟩ := hv
  have hx := B.exec
  have hb := B.bytes
  have hr := B.returns
  have hts := atoms_spec (ws := (ws_ yX0_idle cX0_idle 4 (some .boolean))) B.pre
  have hts : ∀ w ∈ lw_all, w.before _ s = true := fun w h => hts w (List.mem_cons_of_mem _ h)
  have hown : s.vm.findClass RX0 = some m.cls := findClass_of_methodNamed B.named
  have hlocks := B.notSynchronized
  have hl := lv_entry ([.ref h0, .int p0, .int p1]) (n := 4) (Nat.le_of_ble_eq_true rfl)
  rw [lg_entry_eq]
  generalize (lg_sl ([.ref h0, .int p0, .int p1]) ++ List.replicate (4 - (lg_sl ([.ref h0, .int p0, .int p1])).length) Slot.unset).toArray = ls at hl ⊢
  have hl : lv_has ls 4 [(0, .ref h0), (1, .int p0), (2, .int p1)] := hl
  have S0 : CallFix p m c cX0_idle 4 s _ lw_all RX0 := ⟨hx, hb, hml, hown, hts⟩
  refine lv_iload_n hx hb dX0_idle_0 rfl (lv_at hl 1 rfl) ?_
  refine lv_iload_n hx hb dX0_idle_1 rfl (lv_at hl 2 rfl) ?_
  refine rd_callS (As := [.int p0, .int p1]) (rest := []) S0 (met_X0_isBeginning l p0 p1) (va_cwS 2 hts (lw_S q43 q44 q11 q45) rfl rfl rfl (by decide +kernel) ⟨Nat.le_of_ble_eq_true rfl, Nat.le_of_ble_eq_true rfl⟩) rfl hl.1 rfl (Nat.le_of_ble_eq_true rfl) dX0_idle_2 ⟨Nat.zero_le _, Nat.zero_le _⟩ ?_
  refine lv_if_eq (tgt := 17) hx hb dX0_idle_5 (by decide) (fun c1 => ?_) (fun c1 => ?_)
  · have c1 := b2i_0 c1
    refine lv_iconst (v := 0) hx hb dX0_idle_17 (by decide) ?_
    exact rd_zret (v := (0 : Int32)) hx hb hr hlocks rfl (b2i_f (by rw [S_idle, S_has_no c1] <;> rfl)) dX0_idle_18
  · have c1 := b2i_n0 c1
    obtain ⟨a, n, ha, hn, ea, en, hd⟩ := isBeg_of c1
    subst ea
    subst en
    refine lv_aload_n hx hb dX0_idle_8 rfl (lv_at hl 0 rfl) ?_
    refine lv_iload_n hx hb dX0_idle_9 rfl (lv_at hl 1 rfl) ?_
    refine lv_iload_n hx hb dX0_idle_10 rfl (lv_at hl 2 rfl) ?_
    refine rd_callV (As := [.int (nI a), .int (nI n)]) (rest := []) (b := h0) (ci := 0) (q0 := 0) S0 (met_X0_has l D h0 q1 q2 q3 k1 k2 k3 tb ct tg lb lg gs hR a n ha hn) (cwV 2 hts (lw_V q49 q51 qs0 q11 q52) rfl rfl rfl (by decide +kernel) ⟨Nat.le_of_ble_eq_true rfl, Nat.le_of_ble_eq_true rfl⟩) hP hK rfl rfl rfl hl.1 rfl (Nat.le_of_ble_eq_true rfl) dX0_idle_11 ⟨Nat.zero_le _, Nat.zero_le _⟩ ?_
    refine lv_if_ne (tgt := 19) hx hb dX0_idle_14 (by decide) (fun c2 => ?_) (fun c2 => ?_)
    · have c2 := b2i_n0 c2
      refine lv_aload_n hx hb dX0_idle_19 rfl (lv_at hl 0 rfl) ?_
      refine lv_iload_n hx hb dX0_idle_20 rfl (lv_at hl 1 rfl) ?_
      refine lv_iload_n hx hb dX0_idle_21 rfl (lv_at hl 2 rfl) ?_
      refine rd_callV (As := [.int (nI a), .int (nI n)]) (rest := []) (b := h0) (ci := 0) (q0 := 0) S0 (met_X0_goalBelow l D h0 q1 q2 q3 k1 k2 k3 tb ct tg lb lg gs hR a n ha (by omega)) (cwV 2 hts (lw_V q80 q82 qs2 q11 q83) rfl rfl rfl (by decide +kernel) ⟨Nat.le_of_ble_eq_true rfl, Nat.le_of_ble_eq_true rfl⟩) hP hK rfl rfl rfl hl.1 rfl (Nat.le_of_ble_eq_true rfl) dX0_idle_22 ⟨Nat.zero_le _, Nat.zero_le _⟩ ?_
      refine lv_istore_n (lv' := [(3, .int (Sg gs a n)), (0, .ref h0), (1, .int (nI a)), (2, .int (nI n))]) hx hb dX0_idle_25 rfl hl (by decide) rfl (fun ls hl => ?_)
      refine lv_iload_n hx hb dX0_idle_26 rfl (lv_at hl 0 rfl) ?_
      refine lv_aload_n hx hb dX0_idle_27 rfl (lv_at hl 1 rfl) ?_
      refine lv_iload_n hx hb dX0_idle_28 rfl (lv_at hl 2 rfl) ?_
      refine lv_iload_n hx hb dX0_idle_29 rfl (lv_at hl 3 rfl) ?_
      refine rd_callV (As := [.int (nI a), .int (nI n)]) (rest := [.int (Sg gs a n)]) (b := h0) (ci := 0) (q0 := 0) S0 (met_X0_goalOf l D h0 q1 q2 q3 k1 k2 k3 tb ct tg lb lg gs hR a n ha hn c2) (cwV 2 hts (lw_V q72 q74 qs1 q11 q75) rfl rfl rfl (by decide +kernel) ⟨Nat.le_of_ble_eq_true rfl, Nat.le_of_ble_eq_true rfl⟩) hP hK rfl rfl rfl hl.1 rfl (Nat.le_of_ble_eq_true rfl) dX0_idle_30 ⟨Nat.zero_le _, Nat.zero_le _⟩ ?_
      refine lv_icmp_eq (tgt := 45) hx hb dX0_idle_33 (by decide) (fun c3 => ?_) (fun c3 => ?_)
      · refine lv_iconst (v := 1) hx hb dX0_idle_45 (by decide) ?_
        refine lv_goto (tgt := 50) hx hb dX0_idle_46 (by decide) ?_
        exact rd_zret (v := (1 : Int32)) hx hb hr hlocks rfl (b2i_t (by rw [S_idle_nI ha hn c1 c2, yes_dec c3] <;> rfl)) dX0_idle_50
      · refine lv_aload_n hx hb dX0_idle_36 rfl (lv_at hl 1 rfl) ?_
        refine lv_iload_n hx hb dX0_idle_37 rfl (lv_at hl 2 rfl) ?_
        refine lv_iload_n hx hb dX0_idle_38 rfl (lv_at hl 3 rfl) ?_
        refine rd_callV (As := [.int (nI a), .int (nI n)]) (rest := []) (b := h0) (ci := 0) (q0 := 0) S0 (met_X0_load l D h0 q1 q2 q3 k1 k2 k3 tb ct tg lb lg gs hR (nI a) (nI n)) (cwV 2 hts (lw_V q127 q116 q117 q11 q118) rfl rfl rfl (by decide +kernel) ⟨Nat.le_of_ble_eq_true rfl, Nat.le_of_ble_eq_true rfl⟩) hP hK rfl rfl rfl hl.1 rfl (Nat.le_of_ble_eq_true rfl) dX0_idle_39 ⟨Nat.zero_le _, Nat.zero_le _⟩ ?_
        refine lv_tope (show S_load gs (nI a) (nI n) = nI (fb_ct (P_load gs a n) 256) from S_load_nI ha hn c1 c2) ?_
        refine lv_if_ne (tgt := 49) hx hb dX0_idle_42 (by decide) (fun c4 => ?_) (fun c4 => ?_)
        · refine lv_iconst (v := 0) hx hb dX0_idle_49 (by decide) ?_
          exact rd_zret (v := (0 : Int32)) hx hb hr hlocks rfl (b2i_f (by rw [S_idle_nI ha hn c1 c2, not_dec c3, not_dec (fun q => c4 (by rw [q]; rfl))] <;> rfl)) dX0_idle_50
        · refine lv_iconst (v := 1) hx hb dX0_idle_45 (by decide) ?_
          refine lv_goto (tgt := 50) hx hb dX0_idle_46 (by decide) ?_
          exact rd_zret (v := (1 : Int32)) hx hb hr hlocks rfl (b2i_t (by rw [S_idle_nI ha hn c1 c2, not_dec c3, yes_dec (ct0_iff c4)] <;> rfl)) dX0_idle_50
    · have c2 := b2i_0 c2
      refine lv_iconst (v := 0) hx hb dX0_idle_17 (by decide) ?_
      exact rd_zret (v := (0 : Int32)) hx hb hr hlocks rfl (b2i_f (by rw [S_idle, S_has_nI ha hn c1, c2] <;> rfl)) dX0_idle_18
set_option maxHeartbeats 4000000 in
set_option maxRecDepth 100000 in
/-- startsSpan(a) -/
theorem met_X0_startsSpan (l : Launch) (D : va_G) (h0 q1 q2 q3 : Nat) (k1 k2 k3 : ClassId) (tb ct : Int32) (tg lb lg gs : Nat → Int32) (hR : Rel tb ct tg lb lg gs) (a : Nat) (ha : a < 256) : Met l yX0_startsSpan (ws_ yX0_startsSpan cX0_startsSpan 3 (some .boolean)) ({ frames := 3, cells := 0, slots := 0, locals := 69 }) (rdP D (W0 h0 q1 q2 q3 k1 k2 k3 tb ct tg lb lg) (K0 k1 k2 k3) [.ref h0, .int (nI a)]) (QcRead (b2i (S_begins gs a))) 0 0 (fun _ => False) := by
  refine Met.ofW (cc := cX0_startsSpan) (maxL := 3) (ret := (some .boolean)) (by decide) rfl ?_
  intro p e s m args below meth c s₁ B hml hv
  obtain ⟨rfl, hP, hK⟩ := hv
  have hx := B.exec
  have hb := B.bytes
  have hr := B.returns
  have hts := atoms_spec (ws := (ws_ yX0_startsSpan cX0_startsSpan 3 (some .boolean))) B.pre
  have hts : ∀ w ∈ lw_all, w.before _ s = true := fun w h => hts w (List.mem_cons_of_mem _ h)
  have hown : s.vm.findClass RX0 = some m.cls := findClass_of_methodNamed B.named
  have hlocks := B.notSynchronized
  have hl := lv_entry ([.ref h0, .int (nI a)]) (n := 3) (Nat.le_of_ble_eq_true rfl)
  rw [lg_entry_eq]
  generalize (lg_sl ([.ref h0, .int (nI a)]) ++ List.replicate (3 - (lg_sl ([.ref h0, .int (nI a)])).length) Slot.unset).toArray = ls at hl ⊢
  have hl : lv_has ls 3 [(0, .ref h0), (1, .int (nI a))] := hl
  have S0 : CallFix p m c cX0_startsSpan 3 s _ lw_all RX0 := ⟨hx, hb, hml, hown, hts⟩
  refine lv_iload_n hx hb dX0_startsSpan_0 rfl (lv_at hl 1 rfl) ?_
  refine lv_if_ne (tgt := 6) hx hb dX0_startsSpan_1 (by decide) (fun c1 => ?_) (fun c1 => ?_)
  · have c1 : 0 < a := Nat.pos_of_ne_zero fun q => c1 (by rw [q]; rfl)
    refine lv_aload_n hx hb dX0_startsSpan_6 rfl (lv_at hl 0 rfl) ?_
    refine lv_iload_n hx hb dX0_startsSpan_7 rfl (lv_at hl 1 rfl) ?_
    refine lv_bipush (v := 9) hx hb dX0_startsSpan_8 (by decide) ?_
    refine lv_tope (show (9 : Int32) = nI 9 from rfl) ?_
    refine rd_callV (As := [.int (nI a), .int (nI 9)]) (rest := []) (b := h0) (ci := 0) (q0 := 0) S0 (met_X0_goalBelow l D h0 q1 q2 q3 k1 k2 k3 tb ct tg lb lg gs hR a 9 ha (by decide)) (cwV 2 hts (lw_V q80 q82 qs2 q11 q83) rfl rfl rfl (by decide +kernel) ⟨Nat.le_of_ble_eq_true rfl, Nat.le_of_ble_eq_true rfl⟩) hP hK rfl rfl rfl hl.1 rfl (Nat.le_of_ble_eq_true rfl) dX0_startsSpan_10 ⟨Nat.zero_le _, Nat.zero_le _⟩ ?_
    refine lv_istore_n (lv' := [(2, .int (Sg gs a 9)), (0, .ref h0), (1, .int (nI a))]) hx hb dX0_startsSpan_13 rfl hl (by decide) rfl (fun ls hl => ?_)
    refine lv_iload_n hx hb dX0_startsSpan_14 rfl (lv_at hl 0 rfl) ?_
    refine lv_aload_n hx hb dX0_startsSpan_15 rfl (lv_at hl 1 rfl) ?_
    refine lv_iload_n hx hb dX0_startsSpan_16 rfl (lv_at hl 2 rfl) ?_
    refine lv_iconst (v := 1) hx hb dX0_startsSpan_17 (by decide) ?_
    refine lv_isub hx hb dX0_startsSpan_18 ?_
    refine lv_tope (show (nI a) - (1 : Int32) = nI (a - 1) from pk_sub (a := a) (b := 1) c1) ?_
    refine lv_bipush (v := 9) hx hb dX0_startsSpan_19 (by decide) ?_
    refine lv_tope (show (9 : Int32) = nI 9 from rfl) ?_
    refine rd_callV (As := [.int (nI (a - 1)), .int (nI 9)]) (rest := [.int (Sg gs a 9)]) (b := h0) (ci := 0) (q0 := 0) S0 (met_X0_goalBelow l D h0 q1 q2 q3 k1 k2 k3 tb ct tg lb lg gs hR (a - 1) 9 (by omega) (by decide)) (cwV 2 hts (lw_V q80 q82 qs2 q11 q83) rfl rfl rfl (by decide +kernel) ⟨Nat.le_of_ble_eq_true rfl, Nat.le_of_ble_eq_true rfl⟩) hP hK rfl rfl rfl hl.1 rfl (Nat.le_of_ble_eq_true rfl) dX0_startsSpan_21 ⟨Nat.zero_le _, Nat.zero_le _⟩ ?_
    refine lv_icmp_eq (tgt := 31) hx hb dX0_startsSpan_24 (by decide) (fun c2 => ?_) (fun c2 => ?_)
    · refine lv_iconst (v := 0) hx hb dX0_startsSpan_31 (by decide) ?_
      exact rd_zret (v := (0 : Int32)) hx hb hr hlocks rfl (b2i_f (by unfold S_begins; rw [not_dec (show ¬ a = 0 by omega), yes_dec c2] <;> rfl)) dX0_startsSpan_32
    · refine lv_iconst (v := 1) hx hb dX0_startsSpan_27 (by decide) ?_
      refine lv_goto (tgt := 32) hx hb dX0_startsSpan_28 (by decide) ?_
      exact rd_zret (v := (1 : Int32)) hx hb hr hlocks rfl (b2i_t (by unfold S_begins; rw [not_dec (show ¬ a = 0 by omega), not_dec c2] <;> rfl)) dX0_startsSpan_32
  · have c1 := nI0_eq ha c1
    refine lv_iconst (v := 1) hx hb dX0_startsSpan_4 (by decide) ?_
    exact rd_zret (v := (1 : Int32)) hx hb hr hlocks rfl (b2i_t (by unfold S_begins; rw [yes_dec c1] <;> rfl)) dX0_startsSpan_5
set_option maxHeartbeats 4000000 in
set_option maxRecDepth 100000 in
/-- spans() -/
theorem met_X0_spans (l : Launch) (D : va_G) (h0 q1 q2 q3 : Nat) (k1 k2 k3 : ClassId) (tb ct : Int32) (tg lb lg gs : Nat → Int32) (hR : Rel tb ct tg lb lg gs)  : Met l yX0_spans (ws_ yX0_spans cX0_spans 3 (some .int)) ({ frames := 4, cells := 0, slots := 0, locals := 91 }) (rdP D (W0 h0 q1 q2 q3 k1 k2 k3 tb ct tg lb lg) (K0 k1 k2 k3) [.ref h0]) (QcRead (S_spans gs)) 0 0 (fun _ => False) := by
  refine Met.ofW (cc := cX0_spans) (maxL := 3) (ret := (some .int)) (by decide) rfl ?_
  intro p e s m args below meth c s₁ B hml hv
  obtain ⟨rfl, hP, hK⟩ := hv
  have hx := B.exec
  have hb := B.bytes
  have hr := B.returns
  have hts := atoms_spec (ws := (ws_ yX0_spans cX0_spans 3 (some .int))) B.pre
  have hts : ∀ w ∈ lw_all, w.before _ s = true := fun w h => hts w (List.mem_cons_of_mem _ h)
  have hown : s.vm.findClass RX0 = some m.cls := findClass_of_methodNamed B.named
  have hlocks := B.notSynchronized
  have hl := lv_entry ([.ref h0]) (n := 3) (Nat.le_of_ble_eq_true rfl)
  rw [lg_entry_eq]
  generalize (lg_sl ([.ref h0]) ++ List.replicate (3 - (lg_sl ([.ref h0])).length) Slot.unset).toArray = ls at hl ⊢
  have hl : lv_has ls 3 [(0, .ref h0)] := hl
  have S0 : CallFix p m c cX0_spans 3 s _ lw_all RX0 := ⟨hx, hb, hml, hown, hts⟩
  refine lv_iconst (v := 0) hx hb dX0_spans_0 (by decide) ?_
  refine lv_istore_n (lv' := [(1, .int (0 : Int32)), (0, .ref h0)]) hx hb dX0_spans_1 rfl hl (by decide) rfl (fun ls hl => ?_)
  refine lv_iconst (v := 0) hx hb dX0_spans_2 (by decide) ?_
  refine lv_istore_n (lv' := [(2, .int (0 : Int32)), (1, .int (0 : Int32)), (0, .ref h0)]) hx hb dX0_spans_3 rfl hl (by decide) rfl (fun ls hl => ?_)
  have loop4 : ∀ (k : Nat) (i : Nat), i ≤ 256 → 257 ≤ i + k → ∀ (ls : Array Slot), lv_has ls 3 [(0, .ref h0), (1, .int (nI (fb_ct (S_begins gs) i))), (2, .int (nI i))] → WR p l e (headSpec (ws_ yX0_spans cX0_spans 3 (some .int)) ({ frames := 4, cells := 0, slots := 0, locals := 91 })).room s m ([.ref h0] : List Value).toArray below meth c (S_spans gs) (F0 m 4 ls []) := by
    intro k
    induction k with
    | zero =>
      intro i h1 h2 ls hl
      exact absurd h2 (by omega)
    | succ k ih4 =>
      intro i h1 h2 ls hl
      refine lv_iload_n hx hb dX0_spans_4 rfl (lv_at hl 2 rfl) ?_
      refine lv_sipush (v := 256) hx hb dX0_spans_5 (by decide) ?_
      refine lv_icmp_ge (tgt := 33) hx hb dX0_spans_8 (by decide) (fun c1 => ?_) (fun c1 => ?_)
      · have c1 : i = 256 := ge_N (N := 256) (by decide) h1 c1
        refine lv_iload_n hx hb dX0_spans_33 rfl (lv_at hl 1 rfl) ?_
        exact rd_iret (v := nI (fb_ct (S_begins gs) i)) hx hb hr hlocks (by rw [c1]; rfl) dX0_spans_34
      · have c1 : i < 256 := lt_N (N := 256) (by decide) h1 c1
        refine lv_iload_n hx hb dX0_spans_11 rfl (lv_at hl 1 rfl) ?_
        refine lv_aload_n hx hb dX0_spans_12 rfl (lv_at hl 0 rfl) ?_
        refine lv_iload_n hx hb dX0_spans_13 rfl (lv_at hl 2 rfl) ?_
        refine rd_callV (As := [.int (nI i)]) (rest := [.int (nI (fb_ct (S_begins gs) i))]) (b := h0) (ci := 0) (q0 := 0) S0 (met_X0_startsSpan l D h0 q1 q2 q3 k1 k2 k3 tb ct tg lb lg gs hR i c1) (cwV 1 hts (lw_V q132 q134 qs4 q11 q135) rfl rfl rfl (by decide +kernel) ⟨Nat.le_of_ble_eq_true rfl, Nat.le_of_ble_eq_true rfl⟩) hP hK rfl rfl rfl hl.1 rfl (Nat.le_of_ble_eq_true rfl) dX0_spans_14 ⟨Nat.zero_le _, Nat.zero_le _⟩ ?_
        refine lv_if_eq (tgt := 24) hx hb dX0_spans_17 (by decide) (fun c2 => ?_) (fun c2 => ?_)
        · have c2 := b2i_0 c2
          refine lv_iconst (v := 0) hx hb dX0_spans_24 (by decide) ?_
          refine lv_iadd hx hb dX0_spans_25 ?_
          refine lv_tope (show (nI (fb_ct (S_begins gs) i)) + (0 : Int32) = nI (fb_ct (S_begins gs) (i + 1)) from ct_0 c2) ?_
          refine lv_istore_n (lv' := [(1, .int (nI (fb_ct (S_begins gs) (i + 1)))), (0, .ref h0), (2, .int (nI i))]) hx hb dX0_spans_26 rfl hl (by decide) rfl (fun ls hl => ?_)
          refine lv_iinc (v := nI (i + 1)) (lv' := [(2, .int (nI (i + 1))), (1, .int (nI (fb_ct (S_begins gs) (i + 1)))), (0, .ref h0)]) hx hb dX0_spans_27 hl (k := 2) rfl (inc_1 i) (by decide) rfl (fun ls hl => ?_)
          refine lv_goto (tgt := 4) hx hb dX0_spans_30 (by decide) ?_
          exact ih4 (i + 1) (by omega) (by omega) ls (lv_sub hl [2, 1, 0] rfl)
        · have c2 := b2i_n0 c2
          refine lv_iconst (v := 1) hx hb dX0_spans_20 (by decide) ?_
          refine lv_goto (tgt := 25) hx hb dX0_spans_21 (by decide) ?_
          refine lv_iadd hx hb dX0_spans_25 ?_
          refine lv_tope (show (nI (fb_ct (S_begins gs) i)) + (1 : Int32) = nI (fb_ct (S_begins gs) (i + 1)) from ct_1 c2) ?_
          refine lv_istore_n (lv' := [(1, .int (nI (fb_ct (S_begins gs) (i + 1)))), (0, .ref h0), (2, .int (nI i))]) hx hb dX0_spans_26 rfl hl (by decide) rfl (fun ls hl => ?_)
          refine lv_iinc (v := nI (i + 1)) (lv' := [(2, .int (nI (i + 1))), (1, .int (nI (fb_ct (S_begins gs) (i + 1)))), (0, .ref h0)]) hx hb dX0_spans_27 hl (k := 2) rfl (inc_1 i) (by decide) rfl (fun ls hl => ?_)
          refine lv_goto (tgt := 4) hx hb dX0_spans_30 (by decide) ?_
          exact ih4 (i + 1) (by omega) (by omega) ls (lv_sub hl [2, 1, 0] rfl)
  exact loop4 257 0 (by decide) (by decide) ls (lv_sub hl [2, 1, 0] rfl)
set_option maxHeartbeats 4000000 in
set_option maxRecDepth 100000 in
/-- spanStart(i) -/
theorem met_X0_spanStart (l : Launch) (D : va_G) (h0 q1 q2 q3 : Nat) (k1 k2 k3 : ClassId) (tb ct : Int32) (tg lb lg gs : Nat → Int32) (hR : Rel tb ct tg lb lg gs) (j : Int32) : Met l yX0_spanStart (ws_ yX0_spanStart cX0_spanStart 4 (some .int)) ({ frames := 4, cells := 0, slots := 0, locals := 91 }) (rdP D (W0 h0 q1 q2 q3 k1 k2 k3 tb ct tg lb lg) (K0 k1 k2 k3) [.ref h0, .int j]) (QcRead (S_spanStart gs j)) 0 0 (fun _ => False) := by
  refine Met.ofW (cc := cX0_spanStart) (maxL := 4) (ret := (some .int)) (by decide) rfl ?_
  intro p e s m args below meth c s₁ B hml hv
  obtain ⟨rfl, hP, hK⟩ := hv
  have hx := B.exec
  have hb := B.bytes
  have hr := B.returns
  have hts := atoms_spec (ws := (ws_ yX0_spanStart cX0_spanStart 4 (some .int))) B.pre
  have hts : ∀ w ∈ lw_all, w.before _ s = true := fun w h => hts w (List.mem_cons_of_mem _ h)
  have hown : s.vm.findClass RX0 = some m.cls := findClass_of_methodNamed B.named
  have hlocks := B.notSynchronized
  have hl := lv_entry ([.ref h0, .int j]) (n := 4) (Nat.le_of_ble_eq_true rfl)
  rw [lg_entry_eq]
  generalize (lg_sl ([.ref h0, .int j]) ++ List.replicate (4 - (lg_sl ([.ref h0, .int j])).length) Slot.unset).toArray = ls at hl ⊢
  have hl : lv_has ls 4 [(0, .ref h0), (1, .int j)] := hl
  have S0 : CallFix p m c cX0_spanStart 4 s _ lw_all RX0 := ⟨hx, hb, hml, hown, hts⟩
  refine lv_iconst (v := 0) hx hb dX0_spanStart_0 (by decide) ?_
  refine lv_istore_n (lv' := [(2, .int (0 : Int32)), (0, .ref h0), (1, .int j)]) hx hb dX0_spanStart_1 rfl hl (by decide) rfl (fun ls hl => ?_)
  refine lv_iconst (v := 0) hx hb dX0_spanStart_2 (by decide) ?_
  refine lv_istore_n (lv' := [(3, .int (0 : Int32)), (2, .int (0 : Int32)), (0, .ref h0), (1, .int j)]) hx hb dX0_spanStart_3 rfl hl (by decide) rfl (fun ls hl => ?_)
  have loop4 : ∀ (k : Nat) (i : Nat) (n : Int32), i ≤ 256 → 257 ≤ i + k → spF (S_begins gs) j (256 - i) i n = S_spanStart gs j → ∀ (ls : Array Slot), lv_has ls 4 [(0, .ref h0), (1, .int j), (2, .int n), (3, .int (nI i))] → WR p l e (headSpec (ws_ yX0_spanStart cX0_spanStart 4 (some .int)) ({ frames := 4, cells := 0, slots := 0, locals := 91 })).room s m ([.ref h0, .int j] : List Value).toArray below meth c (S_spanStart gs j) (F0 m 4 ls []) := by
    intro k
    induction k with
    | zero =>
      intro i n h1 h2 h3 ls hl
      exact absurd h2 (by omega)
    | succ k ih4 =>
      intro i n h1 h2 h3 ls hl
      refine lv_iload_n hx hb dX0_spanStart_4 rfl (lv_at hl 3 rfl) ?_
      refine lv_sipush (v := 256) hx hb dX0_spanStart_5 (by decide) ?_
      refine lv_icmp_ge (tgt := 35) hx hb dX0_spanStart_8 (by decide) (fun c1 => ?_) (fun c1 => ?_)
      · have c1 : i = 256 := ge_N (N := 256) (by decide) h1 c1
        refine lv_iconst (v := (-1)) hx hb dX0_spanStart_35 (by decide) ?_
        exact rd_iret (v := (-1 : Int32)) hx hb hr hlocks (by rw [← h3, show 256 - i = 0 by omega]; rfl) dX0_spanStart_36
      · have c1 : i < 256 := lt_N (N := 256) (by decide) h1 c1
        refine lv_aload_n hx hb dX0_spanStart_11 rfl (lv_at hl 0 rfl) ?_
        refine lv_iload_n hx hb dX0_spanStart_12 rfl (lv_at hl 3 rfl) ?_
        refine rd_callV (As := [.int (nI i)]) (rest := []) (b := h0) (ci := 0) (q0 := 0) S0 (met_X0_startsSpan l D h0 q1 q2 q3 k1 k2 k3 tb ct tg lb lg gs hR i c1) (cwV 1 hts (lw_V q132 q134 qs4 q11 q135) rfl rfl rfl (by decide +kernel) ⟨Nat.le_of_ble_eq_true rfl, Nat.le_of_ble_eq_true rfl⟩) hP hK rfl rfl rfl hl.1 rfl (Nat.le_of_ble_eq_true rfl) dX0_spanStart_13 ⟨Nat.zero_le _, Nat.zero_le _⟩ ?_
        refine lv_if_eq (tgt := 29) hx hb dX0_spanStart_16 (by decide) (fun c2 => ?_) (fun c2 => ?_)
        · have c2 := b2i_0 c2
          refine lv_iinc (v := nI (i + 1)) (lv' := [(3, .int (nI (i + 1))), (0, .ref h0), (1, .int j), (2, .int n)]) hx hb dX0_spanStart_29 hl (k := 3) rfl (inc_1 i) (by decide) rfl (fun ls hl => ?_)
          refine lv_goto (tgt := 4) hx hb dX0_spanStart_32 (by decide) ?_
          exact ih4 (i + 1) n (by omega) (by omega) (by rw [← h3, sp_no c1 c2]) ls (lv_sub hl [1, 2, 3, 0] rfl)
        · have c2 := b2i_n0 c2
          refine lv_iload_n hx hb dX0_spanStart_19 rfl (lv_at hl 2 rfl) ?_
          refine lv_iload_n hx hb dX0_spanStart_20 rfl (lv_at hl 1 rfl) ?_
          refine lv_icmp_ne (tgt := 26) hx hb dX0_spanStart_21 (by decide) (fun c3 => ?_) (fun c3 => ?_)
          · refine lv_iinc (v := n + 1) (lv' := [(2, .int (n + 1)), (0, .ref h0), (1, .int j), (3, .int (nI i))]) hx hb dX0_spanStart_26 hl (k := 2) rfl rfl (by decide) rfl (fun ls hl => ?_)
            refine lv_iinc (v := nI (i + 1)) (lv' := [(3, .int (nI (i + 1))), (2, .int (n + 1)), (0, .ref h0), (1, .int j)]) hx hb dX0_spanStart_29 hl (k := 3) rfl (inc_1 i) (by decide) rfl (fun ls hl => ?_)
            refine lv_goto (tgt := 4) hx hb dX0_spanStart_32 (by decide) ?_
            exact ih4 (i + 1) (n + 1) (by omega) (by omega) (by rw [← h3, sp_next c1 c2 c3]) ls (lv_sub hl [2, 3, 1, 0] rfl)
          · refine lv_iload_n hx hb dX0_spanStart_24 rfl (lv_at hl 3 rfl) ?_
            exact rd_iret (v := nI i) hx hb hr hlocks (by rw [← h3, sp_hit c1 c2 c3]) dX0_spanStart_25
  exact loop4 257 0 0 (by decide) (by decide) rfl ls (lv_sub hl [2, 3, 1, 0] rfl)
set_option maxHeartbeats 4000000 in
set_option maxRecDepth 100000 in
/-- routes() -/
theorem met_X0_routes (l : Launch) (D : va_G) (h0 q1 q2 q3 : Nat) (k1 k2 k3 : ClassId) (tb ct : Int32) (tg lb lg gs : Nat → Int32) (hR : Rel tb ct tg lb lg gs)  : Met l yX0_routes (ws_ yX0_routes cX0_routes 1 (some .int)) ({ frames := 0, cells := 0, slots := 0, locals := 0 }) (rdP D (W0 h0 q1 q2 q3 k1 k2 k3 tb ct tg lb lg) (K0 k1 k2 k3) [.ref h0]) (QcRead (S_routes gs)) 0 0 (fun _ => False) := by
  refine Met.ofW (cc := cX0_routes) (maxL := 1) (ret := (some .int)) (by decide) rfl ?_
  intro p e s m args below meth c s₁ B hml hv
  obtain ⟨rfl, hP, hK⟩ := hv
  have hx := B.exec
  have hb := B.bytes
  have hr := B.returns
  have hts := atoms_spec (ws := (ws_ yX0_routes cX0_routes 1 (some .int))) B.pre
  have hts : ∀ w ∈ lw_all, w.before _ s = true := fun w h => hts w (List.mem_cons_of_mem _ h)
  have hown : s.vm.findClass RX0 = some m.cls := findClass_of_methodNamed B.named
  have hlocks := B.notSynchronized
  have hl := lv_entry ([.ref h0]) (n := 1) (Nat.le_of_ble_eq_true rfl)
  rw [lg_entry_eq]
  generalize (lg_sl ([.ref h0]) ++ List.replicate (1 - (lg_sl ([.ref h0])).length) Slot.unset).toArray = ls at hl ⊢
  have hl : lv_has ls 1 [(0, .ref h0)] := hl
  have S0 : CallFix p m c cX0_routes 1 s _ lw_all RX0 := ⟨hx, hb, hml, hown, hts⟩
  refine lv_aload_n hx hb dX0_routes_0 rfl (lv_at hl 0 rfl) ?_
  refine va_get (D := D) (ci := 0) (v := .int ct) (C := RX0) (T := TX0) (N := 5) hx hb hts in_X0 hown hK hP 0 rfl rfl 4 (by decide) (hts _ q25) (fun _ h9 => h9) rfl dX0_routes_1 ?_
  exact rd_iret (v := ct) hx hb hr hlocks hR.2.2.1 dX0_routes_4
set_option maxHeartbeats 4000000 in
set_option maxRecDepth 100000 in
/-- exact(address, bits) -/
theorem met_X0_exact (l : Launch) (D : va_G) (h0 q1 q2 q3 : Nat) (k1 k2 k3 : ClassId) (tb ct : Int32) (tg lb lg gs : Nat → Int32) (hR : Rel tb ct tg lb lg gs) (p0 p1 : Int32) : Met l yX0_exact (ws_ yX0_exact cX0_exact 3 (some .int)) ({ frames := 2, cells := 0, slots := 0, locals := 46 }) (rdP D (W0 h0 q1 q2 q3 k1 k2 k3 tb ct tg lb lg) (K0 k1 k2 k3) [.ref h0, .int p0, .int p1]) (QcRead (S_exact gs p0 p1)) 0 0 (fun _ => False) := by
  refine Met.ofW (cc := cX0_exact) (maxL := 3) (ret := (some .int)) (by decide) rfl ?_
  intro p e s m args below meth c s₁ B hml hv
  obtain ⟨rfl, hP, hK⟩ := hv
  have hx := B.exec
  have hb := B.bytes
  have hr := B.returns
  have hts := atoms_spec (ws := (ws_ yX0_exact cX0_exact 3 (some .int))) B.pre
  have hts : ∀ w ∈ lw_all, w.before _ s = true := fun w h => hts w (List.mem_cons_of_mem _ h)
  have hown : s.vm.findClass RX0 = some m.cls := findClass_of_methodNamed B.named
  have hlocks := B.notSynchronized
  have hl := lv_entry ([.ref h0, .int p0, .int p1]) (n := 3) (Nat.le_of_ble_eq_true rfl)
  rw [lg_entry_eq]
  generalize (lg_sl ([.ref h0, .int p0, .int p1]) ++ List.replicate (3 - (lg_sl ([.ref h0, .int p0, .int p1])).length) Slot.unset).toArray = ls at hl ⊢
  have hl : lv_has ls 3 [(0, .ref h0), (1, .int p0), (2, .int p1)] := hl
  have S0 : CallFix p m c cX0_exact 3 s _ lw_all RX0 := ⟨hx, hb, hml, hown, hts⟩
  refine lv_iload_n hx hb dX0_exact_0 rfl (lv_at hl 1 rfl) ?_
  refine lv_iload_n hx hb dX0_exact_1 rfl (lv_at hl 2 rfl) ?_
  refine rd_callS (As := [.int p0, .int p1]) (rest := []) S0 (met_X0_isBeginning l p0 p1) (va_cwS 2 hts (lw_S q43 q44 q11 q45) rfl rfl rfl (by decide +kernel) ⟨Nat.le_of_ble_eq_true rfl, Nat.le_of_ble_eq_true rfl⟩) rfl hl.1 rfl (Nat.le_of_ble_eq_true rfl) dX0_exact_2 ⟨Nat.zero_le _, Nat.zero_le _⟩ ?_
  refine lv_if_eq (tgt := 26) hx hb dX0_exact_5 (by decide) (fun c1 => ?_) (fun c1 => ?_)
  · have c1 := b2i_0 c1
    refine lv_iconst (v := (-1)) hx hb dX0_exact_26 (by decide) ?_
    exact rd_iret (v := (-1 : Int32)) hx hb hr hlocks (by rw [S_exact, S_has_no c1]; rfl) dX0_exact_27
  · have c1 := b2i_n0 c1
    obtain ⟨a, n, ha, hn, ea, en, hd⟩ := isBeg_of c1
    subst ea
    subst en
    refine lv_aload_n hx hb dX0_exact_8 rfl (lv_at hl 0 rfl) ?_
    refine lv_iload_n hx hb dX0_exact_9 rfl (lv_at hl 1 rfl) ?_
    refine lv_iload_n hx hb dX0_exact_10 rfl (lv_at hl 2 rfl) ?_
    refine rd_callV (As := [.int (nI a), .int (nI n)]) (rest := []) (b := h0) (ci := 0) (q0 := 0) S0 (met_X0_has l D h0 q1 q2 q3 k1 k2 k3 tb ct tg lb lg gs hR a n ha hn) (cwV 2 hts (lw_V q49 q51 qs0 q11 q52) rfl rfl rfl (by decide +kernel) ⟨Nat.le_of_ble_eq_true rfl, Nat.le_of_ble_eq_true rfl⟩) hP hK rfl rfl rfl hl.1 rfl (Nat.le_of_ble_eq_true rfl) dX0_exact_11 ⟨Nat.zero_le _, Nat.zero_le _⟩ ?_
    refine lv_if_eq (tgt := 26) hx hb dX0_exact_14 (by decide) (fun c2 => ?_) (fun c2 => ?_)
    · have c2 := b2i_0 c2
      refine lv_iconst (v := (-1)) hx hb dX0_exact_26 (by decide) ?_
      exact rd_iret (v := (-1 : Int32)) hx hb hr hlocks (by rw [S_exact, S_has_nI ha hn c1, c2]; rfl) dX0_exact_27
    · have c2 := b2i_n0 c2
      refine lv_aload_n hx hb dX0_exact_17 rfl (lv_at hl 0 rfl) ?_
      refine lv_iload_n hx hb dX0_exact_18 rfl (lv_at hl 1 rfl) ?_
      refine lv_iload_n hx hb dX0_exact_19 rfl (lv_at hl 2 rfl) ?_
      refine rd_callV (As := [.int (nI a), .int (nI n)]) (rest := []) (b := h0) (ci := 0) (q0 := 0) S0 (met_X0_goalOf l D h0 q1 q2 q3 k1 k2 k3 tb ct tg lb lg gs hR a n ha hn c2) (cwV 2 hts (lw_V q72 q74 qs1 q11 q75) rfl rfl rfl (by decide +kernel) ⟨Nat.le_of_ble_eq_true rfl, Nat.le_of_ble_eq_true rfl⟩) hP hK rfl rfl rfl hl.1 rfl (Nat.le_of_ble_eq_true rfl) dX0_exact_20 ⟨Nat.zero_le _, Nat.zero_le _⟩ ?_
      refine lv_goto (tgt := 27) hx hb dX0_exact_23 (by decide) ?_
      exact rd_iret (v := gs (cel a n)) hx hb hr hlocks (by rw [S_exact, S_has_nI ha hn c1, c2, clN ha, clN8 hn]; rfl) dX0_exact_27
end
section
/-! ===== RouteTableModel: its reading methods ===== -/
theorem ad_hi (a : Int32) : 255 < a ↔ 256 ≤ a := by
  rw [fa_lt, fa_le, show (255 : Int32).toInt = 255 by decide, show (256 : Int32).toInt = 256 by decide]
  omega
theorem isAd_neg {a : Int32} (h : a < 0) : isAd a = false := by rw [isAd, yes_dec h] <;> rfl
theorem isAd_big {a : Int32} (h : 255 < a) : isAd a = false := by
  rw [isAd, yes_dec ((ad_hi a).mp h)]
  cases decide (a < 0) <;> rfl
theorem isAd_ok {a : Int32} (h1 : ¬ a < 0) (h2 : ¬ 255 < a) : isAd a = true := by
  rw [isAd, not_dec h1, not_dec (fun q => h2 ((ad_hi a).mpr q))] <;> rfl
theorem msk_tab : ∀ n, n < 9 → (1 : Int32) <<< ((8 - nI n) &&& 31) - 1 = (255 : Int32) >>> (nI n &&& 31) := by decide +kernel
theorem mask_eq {b : Int32} (h1 : ¬ b < 0) (h2 : ¬ 8 < b) : (1 : Int32) <<< ((8 - b) &&& 31) - 1 = (255 : Int32) >>> (b &&& 31) := by
  obtain ⟨n, hn, rfl⟩ := nI_of2 (x := b) (M := 8) (n := 8) (by decide) h1 (fa_of_nlt h2)
  exact msk_tab n (by omega)
theorem S_has_beg {gs : Nat → Int32} {a b : Int32} (h : S_has gs a b = true) : isBeg a b = true := by
  rw [S_has, Bool.and_eq_true] at h
  exact h.1
theorem dec_pred (d : Nat) : nI (d + 1) - 1 + Int32.ofInt (-1) = nI d - 1 := by
  rw [nI_pred, Int32.sub_eq_add_neg]
  rfl
theorem neg_pred {b : Nat} (hb : b ≤ 9) (h : nI b - 1 < 0) : b = 0 := by
  cases b with
  | zero => rfl
  | succ b => rw [nI_pred] at h; exact absurd h (nI_pos (by omega))
theorem nneg_pred {b : Nat} (h : ¬ nI b - 1 < 0) : ∃ d, b = d + 1 := by
  cases b with
  | zero => exact absurd (by decide) h
  | succ b => exact ⟨b, rfl⟩
theorem bits_none {gs : Nat → Int32} {p : Int32} (h : isAd p = true → 0 = bsN (hs gs p.toNatClampNeg) 9) : (-1 : Int32) = S_bits gs p := by
  rw [S_bits]
  split
  · rename_i q
    rw [Sb, ← h q]
    rfl
  · rfl
theorem bits_ge {gs : Nat → Int32} {p : Int32} (h : 0 ≤ S_bits gs p) : ∃ a b, a < 256 ∧ p = nI a ∧ b < 9 ∧ Sb gs a 9 = b + 1 := by
  cases q : isAd p with
  | false =>
    rw [S_bits, q, if_neg (by decide)] at h
    exact absurd h (by decide)
  | true =>
    obtain ⟨a, ha, rfl⟩ := isAd_of q
    rw [S_bits_nI ha] at h
    obtain ⟨b, e⟩ := ge0_pred h
    have := Sb_le gs a 9
    exact ⟨a, b, ha, rfl, by omega, e⟩
theorem bits_neg {gs : Nat → Int32} {p : Int32} (h : ¬ 0 ≤ S_bits gs p) : (-1 : Int32) = S_goal gs p := by
  cases q : isAd p with
  | false =>
    rw [S_goal, q]
    rfl
  | true =>
    obtain ⟨a, ha, rfl⟩ := isAd_of q
    rw [S_bits_nI ha] at h
    rw [S_goal_nI ha, Sg, if_pos (nge0_pred (Sb_le gs a 9) h)]
theorem shr_tab : ∀ n, n < 9 → ∀ i, i < 256 → nI i >>> ((8 - nI n) &&& 31) = nI (i / 2 ^ (8 - n)) := by decide +kernel
theorem div_eq {i a d : Nat} (hi : i < 256) (ha : a < 256) : nI (i / d) = nI (a / d) ↔ i / d = a / d := nI_eq (Nat.lt_of_le_of_lt (Nat.div_le_self i d) (by omega)) (Nat.lt_of_le_of_lt (Nat.div_le_self a d) (by omega))
theorem not_true_false {b : Bool} (h1 : b = false) (h2 : b = true) : False := by rw [h1] at h2; exact absurd h2 (by decide)
set_option maxHeartbeats 4000000 in
set_option maxRecDepth 100000 in
/-- beginning(address, bits) -/
theorem met_X1_beginning (l : Launch) (D : va_G) (h0 q1 q2 : Nat) (k1 k2 : ClassId) (gs bf : Nat → Int32) (p0 p1 : Int32) : Met l yX1_beginning (ws_ yX1_beginning cX1_beginning 3 (some .boolean)) ({ frames := 0, cells := 0, slots := 0, locals := 0 }) (rdP D (W1 h0 q1 q2 k1 k2 gs bf) (K1 k1 k2) [.ref h0, .int p0, .int p1]) (QcRead (b2i (isBeg p0 p1))) 0 0 (fun _ => False) := by
  refine Met.ofW (cc := cX1_beginning) (maxL := 3) (ret := (some .boolean)) (by decide) rfl ?_
  intro p e s m args below meth c s₁ B hml hv
  obtain ⟨rfl, hP, hK⟩ := hv
  have hx := B.exec
  have hb := B.bytes
  have hr := B.returns
  have hts := atoms_spec (ws := (ws_ yX1_beginning cX1_beginning 3 (some .boolean))) B.pre
  have hts : ∀ w ∈ lw_all, w.before _ s = true := fun w h => hts w (List.mem_cons_of_mem _ h)
  have hown : s.vm.findClass RX1 = some m.cls := findClass_of_methodNamed B.named
  have hlocks := B.notSynchronized
  have hl := lv_entry ([.ref h0, .int p0, .int p1]) (n := 3) (Nat.le_of_ble_eq_true rfl)
  rw [lg_entry_eq]
  generalize (lg_sl ([.ref h0, .int p0, .int p1]) ++ List.replicate (3 - (lg_sl ([.ref h0, .int p0, .int p1])).length) Slot.unset).toArray = ls at hl ⊢
  have hl : lv_has ls 3 [(0, .ref h0), (1, .int p0), (2, .int p1)] := hl
  have S0 : CallFix p m c cX1_beginning 3 s _ lw_all RX1 := ⟨hx, hb, hml, hown, hts⟩
  refine lv_iload_n hx hb dX1_beginning_0 rfl (lv_at hl 2 rfl) ?_
  refine lv_if_lt (tgt := 38) hx hb dX1_beginning_1 (by decide) (fun c1 => ?_) (fun c1 => ?_)
  · refine lv_iconst (v := 0) hx hb dX1_beginning_38 (by decide) ?_
    exact rd_zret (v := (0 : Int32)) hx hb hr hlocks rfl (b2i_f (by rw [isBeg, yes_dec c1] <;> rfl)) dX1_beginning_39
  · refine lv_iload_n hx hb dX1_beginning_4 rfl (lv_at hl 2 rfl) ?_
    refine lv_bipush (v := 8) hx hb dX1_beginning_5 (by decide) ?_
    refine lv_icmp_gt (tgt := 38) hx hb dX1_beginning_7 (by decide) (fun c2 => ?_) (fun c2 => ?_)
    · refine lv_iconst (v := 0) hx hb dX1_beginning_38 (by decide) ?_
      exact rd_zret (v := (0 : Int32)) hx hb hr hlocks rfl (b2i_f (by rw [isBeg, not_dec c1, yes_dec c2] <;> rfl)) dX1_beginning_39
    · refine lv_iload_n hx hb dX1_beginning_10 rfl (lv_at hl 1 rfl) ?_
      refine lv_if_lt (tgt := 38) hx hb dX1_beginning_11 (by decide) (fun c3 => ?_) (fun c3 => ?_)
      · refine lv_iconst (v := 0) hx hb dX1_beginning_38 (by decide) ?_
        exact rd_zret (v := (0 : Int32)) hx hb hr hlocks rfl (b2i_f (by rw [isBeg, not_dec c1, not_dec c2, isAd_neg c3] <;> rfl)) dX1_beginning_39
      · refine lv_iload_n hx hb dX1_beginning_14 rfl (lv_at hl 1 rfl) ?_
        refine lv_sipush (v := 255) hx hb dX1_beginning_15 (by decide) ?_
        refine lv_icmp_gt (tgt := 38) hx hb dX1_beginning_18 (by decide) (fun c4 => ?_) (fun c4 => ?_)
        · refine lv_iconst (v := 0) hx hb dX1_beginning_38 (by decide) ?_
          exact rd_zret (v := (0 : Int32)) hx hb hr hlocks rfl (b2i_f (by rw [isBeg, not_dec c1, not_dec c2, isAd_big c4] <;> rfl)) dX1_beginning_39
        · refine lv_iload_n hx hb dX1_beginning_21 rfl (lv_at hl 1 rfl) ?_
          refine lv_iconst (v := 1) hx hb dX1_beginning_22 (by decide) ?_
          refine lv_bipush (v := 8) hx hb dX1_beginning_23 (by decide) ?_
          refine lv_iload_n hx hb dX1_beginning_25 rfl (lv_at hl 2 rfl) ?_
          refine lv_isub hx hb dX1_beginning_26 ?_
          refine lv_ishl hx hb dX1_beginning_27 ?_
          refine lv_iconst (v := 1) hx hb dX1_beginning_28 (by decide) ?_
          refine lv_isub hx hb dX1_beginning_29 ?_
          refine lv_iand hx hb dX1_beginning_30 ?_
          refine lv_tope (show p0 &&& (((1 : Int32) <<< (((8 : Int32) - p1) &&& 31)) - (1 : Int32)) = p0 &&& ((255 : Int32) >>> (p1 &&& 31)) from (by rw [mask_eq c1 c2])) ?_
          refine lv_if_ne (tgt := 38) hx hb dX1_beginning_31 (by decide) (fun c5 => ?_) (fun c5 => ?_)
          · refine lv_iconst (v := 0) hx hb dX1_beginning_38 (by decide) ?_
            exact rd_zret (v := (0 : Int32)) hx hb hr hlocks rfl (b2i_f (by rw [isBeg, not_dec c1, not_dec c2, isAd_ok c3 c4, not_dec c5] <;> rfl)) dX1_beginning_39
          · refine lv_iconst (v := 1) hx hb dX1_beginning_34 (by decide) ?_
            refine lv_goto (tgt := 39) hx hb dX1_beginning_35 (by decide) ?_
            exact rd_zret (v := (1 : Int32)) hx hb hr hlocks rfl (b2i_t (by rw [isBeg, not_dec c1, not_dec c2, isAd_ok c3 c4, yes_dec c5] <;> rfl)) dX1_beginning_39
set_option maxHeartbeats 4000000 in
set_option maxRecDepth 100000 in
/-- cell(address, bits) -/
theorem met_X1_cell (l : Launch) (D : va_G) (h0 q1 q2 : Nat) (k1 k2 : ClassId) (gs bf : Nat → Int32) (a n : Nat) (ha : a < 256) (hn : n ≤ 8) : Met l yX1_cell (ws_ yX1_cell cX1_cell 3 (some .int)) ({ frames := 0, cells := 0, slots := 0, locals := 0 }) (rdP D (W1 h0 q1 q2 k1 k2 gs bf) (K1 k1 k2) [.ref h0, .int (nI a), .int (nI n)]) (QcRead (nI (cel a n))) 0 0 (fun _ => False) := by
  refine Met.ofW (cc := cX1_cell) (maxL := 3) (ret := (some .int)) (by decide) rfl ?_
  intro p e s m args below meth c s₁ B hml hv
  obtain ⟨rfl, hP, hK⟩ := hv
  have hx := B.exec
  have hb := B.bytes
  have hr := B.returns
  have hts := atoms_spec (ws := (ws_ yX1_cell cX1_cell 3 (some .int))) B.pre
  have hts : ∀ w ∈ lw_all, w.before _ s = true := fun w h => hts w (List.mem_cons_of_mem _ h)
  have hown : s.vm.findClass RX1 = some m.cls := findClass_of_methodNamed B.named
  have hlocks := B.notSynchronized
  have hl := lv_entry ([.ref h0, .int (nI a), .int (nI n)]) (n := 3) (Nat.le_of_ble_eq_true rfl)
  rw [lg_entry_eq]
  generalize (lg_sl ([.ref h0, .int (nI a), .int (nI n)]) ++ List.replicate (3 - (lg_sl ([.ref h0, .int (nI a), .int (nI n)])).length) Slot.unset).toArray = ls at hl ⊢
  have hl : lv_has ls 3 [(0, .ref h0), (1, .int (nI a)), (2, .int (nI n))] := hl
  have S0 : CallFix p m c cX1_cell 3 s _ lw_all RX1 := ⟨hx, hb, hml, hown, hts⟩
  refine lv_iconst (v := 1) hx hb dX1_cell_0 (by decide) ?_
  refine lv_iload_n hx hb dX1_cell_1 rfl (lv_at hl 2 rfl) ?_
  refine lv_ishl hx hb dX1_cell_2 ?_
  refine lv_iconst (v := 1) hx hb dX1_cell_3 (by decide) ?_
  refine lv_isub hx hb dX1_cell_4 ?_
  refine lv_iload_n hx hb dX1_cell_5 rfl (lv_at hl 1 rfl) ?_
  refine lv_bipush (v := 8) hx hb dX1_cell_6 (by decide) ?_
  refine lv_iload_n hx hb dX1_cell_8 rfl (lv_at hl 2 rfl) ?_
  refine lv_isub hx hb dX1_cell_9 ?_
  refine lv_ishr hx hb dX1_cell_10 ?_
  refine lv_iadd hx hb dX1_cell_11 ?_
  exact rd_iret (v := (((1 : Int32) <<< ((nI n) &&& 31)) - (1 : Int32)) + ((nI a) >>> (((8 : Int32) - (nI n)) &&& 31))) hx hb hr hlocks (celB_tab n (by omega) a ha) dX1_cell_12
set_option maxHeartbeats 4000000 in
set_option maxRecDepth 100000 in
/-- is(address, bits) -/
theorem met_X1_is (l : Launch) (D : va_G) (h0 q1 q2 : Nat) (k1 k2 : ClassId) (gs bf : Nat → Int32) (p0 p1 : Int32) : Met l yX1_is (ws_ yX1_is cX1_is 3 (some .boolean)) ({ frames := 1, cells := 0, slots := 0, locals := 22 }) (rdP D (W1 h0 q1 q2 k1 k2 gs bf) (K1 k1 k2) [.ref h0, .int p0, .int p1]) (QcRead (b2i (S_has gs p0 p1))) 0 0 (fun _ => False) := by
  refine Met.ofW (cc := cX1_is) (maxL := 3) (ret := (some .boolean)) (by decide) rfl ?_
  intro p e s m args below meth c s₁ B hml hv
  obtain ⟨rfl, hP, hK⟩ := hv
  have hx := B.exec
  have hb := B.bytes
  have hr := B.returns
  have hts := atoms_spec (ws := (ws_ yX1_is cX1_is 3 (some .boolean))) B.pre
  have hts : ∀ w ∈ lw_all, w.before _ s = true := fun w h => hts w (List.mem_cons_of_mem _ h)
  have hown : s.vm.findClass RX1 = some m.cls := findClass_of_methodNamed B.named
  have hlocks := B.notSynchronized
  have hl := lv_entry ([.ref h0, .int p0, .int p1]) (n := 3) (Nat.le_of_ble_eq_true rfl)
  rw [lg_entry_eq]
  generalize (lg_sl ([.ref h0, .int p0, .int p1]) ++ List.replicate (3 - (lg_sl ([.ref h0, .int p0, .int p1])).length) Slot.unset).toArray = ls at hl ⊢
  have hl : lv_has ls 3 [(0, .ref h0), (1, .int p0), (2, .int p1)] := hl
  have S0 : CallFix p m c cX1_is 3 s _ lw_all RX1 := ⟨hx, hb, hml, hown, hts⟩
  refine lv_aload_n hx hb dX1_is_0 rfl (lv_at hl 0 rfl) ?_
  refine lv_iload_n hx hb dX1_is_1 rfl (lv_at hl 1 rfl) ?_
  refine lv_iload_n hx hb dX1_is_2 rfl (lv_at hl 2 rfl) ?_
  refine rd_callV (As := [.int p0, .int p1]) (rest := []) (b := h0) (ci := 1) (q0 := 0) S0 (met_X1_beginning l D h0 q1 q2 k1 k2 gs bf p0 p1) (cwV 2 hts (lw_V q161 q163 qs5 q12 q164) rfl rfl rfl (by decide +kernel) ⟨Nat.le_of_ble_eq_true rfl, Nat.le_of_ble_eq_true rfl⟩) hP hK rfl rfl rfl hl.1 rfl (Nat.le_of_ble_eq_true rfl) dX1_is_3 ⟨Nat.zero_le _, Nat.zero_le _⟩ ?_
  refine lv_if_eq (tgt := 27) hx hb dX1_is_6 (by decide) (fun c1 => ?_) (fun c1 => ?_)
  · have c1 := b2i_0 c1
    refine lv_iconst (v := 0) hx hb dX1_is_27 (by decide) ?_
    exact rd_zret (v := (0 : Int32)) hx hb hr hlocks rfl (b2i_f (S_has_no c1)) dX1_is_28
  · have c1 := b2i_n0 c1
    obtain ⟨a, n, ha, hn, ea, en, hd⟩ := isBeg_of c1
    subst ea
    subst en
    refine lv_aload_n hx hb dX1_is_9 rfl (lv_at hl 0 rfl) ?_
    refine va_get (D := D) (ci := 1) (v := .ref q1) (C := RX1) (T := TX1) (N := 2) hx hb hts in_X1 hown hK hP 0 rfl rfl 0 (by decide) (hts _ q150) (fun _ h9 => h9) rfl dX1_is_10 ?_
    refine lv_aload_n hx hb dX1_is_13 rfl (lv_at hl 0 rfl) ?_
    refine lv_iload_n hx hb dX1_is_14 rfl (lv_at hl 1 rfl) ?_
    refine lv_iload_n hx hb dX1_is_15 rfl (lv_at hl 2 rfl) ?_
    refine rd_callV (As := [.int (nI a), .int (nI n)]) (rest := [.ref q1]) (b := h0) (ci := 1) (q0 := 0) S0 (met_X1_cell l D h0 q1 q2 k1 k2 gs bf a n ha hn) (cwV 2 hts (lw_V q165 q167 qs6 q12 q168) rfl rfl rfl (by decide +kernel) ⟨Nat.le_of_ble_eq_true rfl, Nat.le_of_ble_eq_true rfl⟩) hP hK rfl rfl rfl hl.1 rfl (Nat.le_of_ble_eq_true rfl) dX1_is_16 ⟨Nat.zero_le _, Nat.zero_le _⟩ ?_
    refine rd_iald hx hb hK hP 1 0 rfl rfl (i := (cel a n)) (cel_lt n (by omega) a ha) (by decide) dX1_is_19 ?_
    refine lv_if_lt (tgt := 27) hx hb dX1_is_20 (by decide) (fun c2 => ?_) (fun c2 => ?_)
    · refine lv_iconst (v := 0) hx hb dX1_is_27 (by decide) ?_
      exact rd_zret (v := (0 : Int32)) hx hb hr hlocks rfl (b2i_f (by rw [S_has_nI ha hn c1, hs, yes_dec c2] <;> rfl)) dX1_is_28
    · refine lv_iconst (v := 1) hx hb dX1_is_23 (by decide) ?_
      refine lv_goto (tgt := 28) hx hb dX1_is_24 (by decide) ?_
      exact rd_zret (v := (1 : Int32)) hx hb hr hlocks rfl (b2i_t (by rw [S_has_nI ha hn c1, hs, not_dec c2] <;> rfl)) dX1_is_28
set_option maxHeartbeats 4000000 in
set_option maxRecDepth 100000 in
/-- routes() -/
theorem met_X1_routes (l : Launch) (D : va_G) (h0 q1 q2 : Nat) (k1 k2 : ClassId) (gs bf : Nat → Int32)  : Met l yX1_routes (ws_ yX1_routes cX1_routes 3 (some .int)) ({ frames := 0, cells := 0, slots := 0, locals := 0 }) (rdP D (W1 h0 q1 q2 k1 k2 gs bf) (K1 k1 k2) [.ref h0]) (QcRead (S_routes gs)) 0 0 (fun _ => False) := by
  refine Met.ofW (cc := cX1_routes) (maxL := 3) (ret := (some .int)) (by decide) rfl ?_
  intro p e s m args below meth c s₁ B hml hv
  obtain ⟨rfl, hP, hK⟩ := hv
  have hx := B.exec
  have hb := B.bytes
  have hr := B.returns
  have hts := atoms_spec (ws := (ws_ yX1_routes cX1_routes 3 (some .int))) B.pre
  have hts : ∀ w ∈ lw_all, w.before _ s = true := fun w h => hts w (List.mem_cons_of_mem _ h)
  have hown : s.vm.findClass RX1 = some m.cls := findClass_of_methodNamed B.named
  have hlocks := B.notSynchronized
  have hl := lv_entry ([.ref h0]) (n := 3) (Nat.le_of_ble_eq_true rfl)
  rw [lg_entry_eq]
  generalize (lg_sl ([.ref h0]) ++ List.replicate (3 - (lg_sl ([.ref h0])).length) Slot.unset).toArray = ls at hl ⊢
  have hl : lv_has ls 3 [(0, .ref h0)] := hl
  have S0 : CallFix p m c cX1_routes 3 s _ lw_all RX1 := ⟨hx, hb, hml, hown, hts⟩
  refine lv_iconst (v := 0) hx hb dX1_routes_0 (by decide) ?_
  refine lv_istore_n (lv' := [(1, .int (0 : Int32)), (0, .ref h0)]) hx hb dX1_routes_1 rfl hl (by decide) rfl (fun ls hl => ?_)
  refine lv_iconst (v := 0) hx hb dX1_routes_2 (by decide) ?_
  refine lv_istore_n (lv' := [(2, .int (0 : Int32)), (1, .int (0 : Int32)), (0, .ref h0)]) hx hb dX1_routes_3 rfl hl (by decide) rfl (fun ls hl => ?_)
  have loop4 : ∀ (k : Nat) (i : Nat), i ≤ 511 → 512 ≤ i + k → ∀ (ls : Array Slot), lv_has ls 3 [(0, .ref h0), (1, .int (nI (fb_ct (P_routes gs) i))), (2, .int (nI i))] → WR p l e (headSpec (ws_ yX1_routes cX1_routes 3 (some .int)) ({ frames := 0, cells := 0, slots := 0, locals := 0 })).room s m ([.ref h0] : List Value).toArray below meth c (S_routes gs) (F0 m 4 ls []) := by
    intro k
    induction k with
    | zero =>
      intro i h1 h2 ls hl
      exact absurd h2 (by omega)
    | succ k ih4 =>
      intro i h1 h2 ls hl
      refine lv_iload_n hx hb dX1_routes_4 rfl (lv_at hl 2 rfl) ?_
      refine lv_sipush (v := 511) hx hb dX1_routes_5 (by decide) ?_
      refine lv_icmp_ge (tgt := 34) hx hb dX1_routes_8 (by decide) (fun c1 => ?_) (fun c1 => ?_)
      · have c1 : i = 511 := ge_N (N := 511) (by decide) h1 c1
        refine lv_iload_n hx hb dX1_routes_34 rfl (lv_at hl 1 rfl) ?_
        exact rd_iret (v := nI (fb_ct (P_routes gs) i)) hx hb hr hlocks (by rw [c1]; rfl) dX1_routes_35
      · have c1 : i < 511 := lt_N (N := 511) (by decide) h1 c1
        refine lv_aload_n hx hb dX1_routes_11 rfl (lv_at hl 0 rfl) ?_
        refine va_get (D := D) (ci := 1) (v := .ref q1) (C := RX1) (T := TX1) (N := 2) hx hb hts in_X1 hown hK hP 0 rfl rfl 0 (by decide) (hts _ q150) (fun _ h9 => h9) rfl dX1_routes_12 ?_
        refine lv_iload_n hx hb dX1_routes_15 rfl (lv_at hl 2 rfl) ?_
        refine rd_iald hx hb hK hP 1 0 rfl rfl (i := i) c1 (by decide) dX1_routes_16 ?_
        refine lv_if_lt (tgt := 26) hx hb dX1_routes_17 (by decide) (fun c2 => ?_) (fun c2 => ?_)
        · refine lv_iload_n hx hb dX1_routes_26 rfl (lv_at hl 1 rfl) ?_
          refine lv_tope (show nI (fb_ct (P_routes gs) i) = nI (fb_ct (P_routes gs) (i + 1)) from ct_n (P := P_routes gs) (by unfold P_routes; rw [yes_dec c2] <;> rfl)) ?_
          refine lv_istore_n (lv' := [(1, .int (nI (fb_ct (P_routes gs) (i + 1)))), (0, .ref h0), (2, .int (nI i))]) hx hb dX1_routes_27 rfl hl (by decide) rfl (fun ls hl => ?_)
          refine lv_iinc (v := nI (i + 1)) (lv' := [(2, .int (nI (i + 1))), (1, .int (nI (fb_ct (P_routes gs) (i + 1)))), (0, .ref h0)]) hx hb dX1_routes_28 hl (k := 2) rfl (inc_1 i) (by decide) rfl (fun ls hl => ?_)
          refine lv_goto (tgt := 4) hx hb dX1_routes_31 (by decide) ?_
          exact ih4 (i + 1) (by omega) (by omega) ls (lv_sub hl [2, 1, 0] rfl)
        · refine lv_iload_n hx hb dX1_routes_20 rfl (lv_at hl 1 rfl) ?_
          refine lv_iconst (v := 1) hx hb dX1_routes_21 (by decide) ?_
          refine lv_iadd hx hb dX1_routes_22 ?_
          refine lv_goto (tgt := 27) hx hb dX1_routes_23 (by decide) ?_
          refine lv_tope (show (nI (fb_ct (P_routes gs) i)) + (1 : Int32) = nI (fb_ct (P_routes gs) (i + 1)) from ct_1 (P := P_routes gs) (by unfold P_routes; rw [not_dec c2] <;> rfl)) ?_
          refine lv_istore_n (lv' := [(1, .int (nI (fb_ct (P_routes gs) (i + 1)))), (0, .ref h0), (2, .int (nI i))]) hx hb dX1_routes_27 rfl hl (by decide) rfl (fun ls hl => ?_)
          refine lv_iinc (v := nI (i + 1)) (lv' := [(2, .int (nI (i + 1))), (1, .int (nI (fb_ct (P_routes gs) (i + 1)))), (0, .ref h0)]) hx hb dX1_routes_28 hl (k := 2) rfl (inc_1 i) (by decide) rfl (fun ls hl => ?_)
          refine lv_goto (tgt := 4) hx hb dX1_routes_31 (by decide) ?_
          exact ih4 (i + 1) (by omega) (by omega) ls (lv_sub hl [2, 1, 0] rfl)
  exact loop4 512 0 (by decide) (by decide) ls (lv_sub hl [2, 1, 0] rfl)
set_option maxHeartbeats 4000000 in
set_option maxRecDepth 100000 in
/-- exact(address, bits) -/
theorem met_X1_exact (l : Launch) (D : va_G) (h0 q1 q2 : Nat) (k1 k2 : ClassId) (gs bf : Nat → Int32) (p0 p1 : Int32) : Met l yX1_exact (ws_ yX1_exact cX1_exact 3 (some .int)) ({ frames := 2, cells := 0, slots := 0, locals := 44 }) (rdP D (W1 h0 q1 q2 k1 k2 gs bf) (K1 k1 k2) [.ref h0, .int p0, .int p1]) (QcRead (S_exact gs p0 p1)) 0 0 (fun _ => False) := by
  refine Met.ofW (cc := cX1_exact) (maxL := 3) (ret := (some .int)) (by decide) rfl ?_
  intro p e s m args below meth c s₁ B hml hv
  obtain ⟨rfl, hP, hK⟩ := hv
  have hx := B.exec
  have hb := B.bytes
  have hr := B.returns
  have hts := atoms_spec (ws := (ws_ yX1_exact cX1_exact 3 (some .int))) B.pre
  have hts : ∀ w ∈ lw_all, w.before _ s = true := fun w h => hts w (List.mem_cons_of_mem _ h)
  have hown : s.vm.findClass RX1 = some m.cls := findClass_of_methodNamed B.named
  have hlocks := B.notSynchronized
  have hl := lv_entry ([.ref h0, .int p0, .int p1]) (n := 3) (Nat.le_of_ble_eq_true rfl)
  rw [lg_entry_eq]
  generalize (lg_sl ([.ref h0, .int p0, .int p1]) ++ List.replicate (3 - (lg_sl ([.ref h0, .int p0, .int p1])).length) Slot.unset).toArray = ls at hl ⊢
  have hl : lv_has ls 3 [(0, .ref h0), (1, .int p0), (2, .int p1)] := hl
  have S0 : CallFix p m c cX1_exact 3 s _ lw_all RX1 := ⟨hx, hb, hml, hown, hts⟩
  refine lv_aload_n hx hb dX1_exact_0 rfl (lv_at hl 0 rfl) ?_
  refine lv_iload_n hx hb dX1_exact_1 rfl (lv_at hl 1 rfl) ?_
  refine lv_iload_n hx hb dX1_exact_2 rfl (lv_at hl 2 rfl) ?_
  refine rd_callV (As := [.int p0, .int p1]) (rest := []) (b := h0) (ci := 1) (q0 := 0) S0 (met_X1_is l D h0 q1 q2 k1 k2 gs bf p0 p1) (cwV 2 hts (lw_V q173 q175 qs7 q12 q176) rfl rfl rfl (by decide +kernel) ⟨Nat.le_of_ble_eq_true rfl, Nat.le_of_ble_eq_true rfl⟩) hP hK rfl rfl rfl hl.1 rfl (Nat.le_of_ble_eq_true rfl) dX1_exact_3 ⟨Nat.zero_le _, Nat.zero_le _⟩ ?_
  refine lv_if_eq (tgt := 23) hx hb dX1_exact_6 (by decide) (fun c1 => ?_) (fun c1 => ?_)
  · have c1 := b2i_0 c1
    refine lv_iconst (v := (-1)) hx hb dX1_exact_23 (by decide) ?_
    exact rd_iret (v := (-1 : Int32)) hx hb hr hlocks (by rw [S_exact, c1]; rfl) dX1_exact_24
  · have c1 := b2i_n0 c1
    have hb1 := S_has_beg c1
    obtain ⟨a, n, ha, hn, ea, en, hd⟩ := isBeg_of hb1
    subst ea
    subst en
    have hh : hs gs a n = true := by rw [← S_has_nI ha hn hb1]; exact c1
    refine lv_aload_n hx hb dX1_exact_9 rfl (lv_at hl 0 rfl) ?_
    refine va_get (D := D) (ci := 1) (v := .ref q1) (C := RX1) (T := TX1) (N := 2) hx hb hts in_X1 hown hK hP 0 rfl rfl 0 (by decide) (hts _ q150) (fun _ h9 => h9) rfl dX1_exact_10 ?_
    refine lv_aload_n hx hb dX1_exact_13 rfl (lv_at hl 0 rfl) ?_
    refine lv_iload_n hx hb dX1_exact_14 rfl (lv_at hl 1 rfl) ?_
    refine lv_iload_n hx hb dX1_exact_15 rfl (lv_at hl 2 rfl) ?_
    refine rd_callV (As := [.int (nI a), .int (nI n)]) (rest := [.ref q1]) (b := h0) (ci := 1) (q0 := 0) S0 (met_X1_cell l D h0 q1 q2 k1 k2 gs bf a n ha hn) (cwV 2 hts (lw_V q165 q167 qs6 q12 q168) rfl rfl rfl (by decide +kernel) ⟨Nat.le_of_ble_eq_true rfl, Nat.le_of_ble_eq_true rfl⟩) hP hK rfl rfl rfl hl.1 rfl (Nat.le_of_ble_eq_true rfl) dX1_exact_16 ⟨Nat.zero_le _, Nat.zero_le _⟩ ?_
    refine rd_iald hx hb hK hP 1 0 rfl rfl (i := (cel a n)) (cel_lt n (by omega) a ha) (by decide) dX1_exact_19 ?_
    refine lv_goto (tgt := 24) hx hb dX1_exact_20 (by decide) ?_
    exact rd_iret (v := gs (cel a n)) hx hb hr hlocks (by rw [S_exact, c1, clN ha, clN8 hn]; rfl) dX1_exact_24
set_option maxHeartbeats 4000000 in
set_option maxRecDepth 100000 in
/-- address(a) -/
theorem met_X1_address (l : Launch) (D : va_G) (h0 q1 q2 : Nat) (k1 k2 : ClassId) (gs bf : Nat → Int32) (p0 : Int32) : Met l yX1_address (ws_ yX1_address cX1_address 2 (some .boolean)) ({ frames := 0, cells := 0, slots := 0, locals := 0 }) (rdP D (W1 h0 q1 q2 k1 k2 gs bf) (K1 k1 k2) [.ref h0, .int p0]) (QcRead (b2i (isAd p0))) 0 0 (fun _ => False) := by
  refine Met.ofW (cc := cX1_address) (maxL := 2) (ret := (some .boolean)) (by decide) rfl ?_
  intro p e s m args below meth c s₁ B hml hv
  obtain ⟨rfl, hP, hK⟩ := hv
  have hx := B.exec
  have hb := B.bytes
  have hr := B.returns
  have hts := atoms_spec (ws := (ws_ yX1_address cX1_address 2 (some .boolean))) B.pre
  have hts : ∀ w ∈ lw_all, w.before _ s = true := fun w h => hts w (List.mem_cons_of_mem _ h)
  have hown : s.vm.findClass RX1 = some m.cls := findClass_of_methodNamed B.named
  have hlocks := B.notSynchronized
  have hl := lv_entry ([.ref h0, .int p0]) (n := 2) (Nat.le_of_ble_eq_true rfl)
  rw [lg_entry_eq]
  generalize (lg_sl ([.ref h0, .int p0]) ++ List.replicate (2 - (lg_sl ([.ref h0, .int p0])).length) Slot.unset).toArray = ls at hl ⊢
  have hl : lv_has ls 2 [(0, .ref h0), (1, .int p0)] := hl
  have S0 : CallFix p m c cX1_address 2 s _ lw_all RX1 := ⟨hx, hb, hml, hown, hts⟩
  refine lv_iload_n hx hb dX1_address_0 rfl (lv_at hl 1 rfl) ?_
  refine lv_if_lt (tgt := 15) hx hb dX1_address_1 (by decide) (fun c1 => ?_) (fun c1 => ?_)
  · refine lv_iconst (v := 0) hx hb dX1_address_15 (by decide) ?_
    exact rd_zret (v := (0 : Int32)) hx hb hr hlocks rfl (b2i_f (isAd_neg c1)) dX1_address_16
  · refine lv_iload_n hx hb dX1_address_4 rfl (lv_at hl 1 rfl) ?_
    refine lv_sipush (v := 255) hx hb dX1_address_5 (by decide) ?_
    refine lv_icmp_gt (tgt := 15) hx hb dX1_address_8 (by decide) (fun c2 => ?_) (fun c2 => ?_)
    · refine lv_iconst (v := 0) hx hb dX1_address_15 (by decide) ?_
      exact rd_zret (v := (0 : Int32)) hx hb hr hlocks rfl (b2i_f (isAd_big c2)) dX1_address_16
    · refine lv_iconst (v := 1) hx hb dX1_address_11 (by decide) ?_
      refine lv_goto (tgt := 16) hx hb dX1_address_12 (by decide) ?_
      exact rd_zret (v := (1 : Int32)) hx hb hr hlocks rfl (b2i_t (isAd_ok c1 c2)) dX1_address_16
set_option maxHeartbeats 4000000 in
set_option maxRecDepth 100000 in
/-- bits(address) -/
theorem met_X1_bits (l : Launch) (D : va_G) (h0 q1 q2 : Nat) (k1 k2 : ClassId) (gs bf : Nat → Int32) (p0 : Int32) : Met l yX1_bits (ws_ yX1_bits cX1_bits 3 (some .int)) ({ frames := 1, cells := 0, slots := 0, locals := 22 }) (rdP D (W1 h0 q1 q2 k1 k2 gs bf) (K1 k1 k2) [.ref h0, .int p0]) (QcRead (S_bits gs p0)) 0 0 (fun _ => False) := by
  refine Met.ofW (cc := cX1_bits) (maxL := 3) (ret := (some .int)) (by decide) rfl ?_
  intro p e s m args below meth c s₁ B hml hv
  obtain ⟨rfl, hP, hK⟩ := hv
  have hx := B.exec
  have hb := B.bytes
  have hr := B.returns
  have hts := atoms_spec (ws := (ws_ yX1_bits cX1_bits 3 (some .int))) B.pre
  have hts : ∀ w ∈ lw_all, w.before _ s = true := fun w h => hts w (List.mem_cons_of_mem _ h)
  have hown : s.vm.findClass RX1 = some m.cls := findClass_of_methodNamed B.named
  have hlocks := B.notSynchronized
  have hl := lv_entry ([.ref h0, .int p0]) (n := 3) (Nat.le_of_ble_eq_true rfl)
  rw [lg_entry_eq]
  generalize (lg_sl ([.ref h0, .int p0]) ++ List.replicate (3 - (lg_sl ([.ref h0, .int p0])).length) Slot.unset).toArray = ls at hl ⊢
  have hl : lv_has ls 3 [(0, .ref h0), (1, .int p0)] := hl
  have S0 : CallFix p m c cX1_bits 3 s _ lw_all RX1 := ⟨hx, hb, hml, hown, hts⟩
  refine lv_bipush (v := 8) hx hb dX1_bits_0 (by decide) ?_
  refine lv_tope (show (8 : Int32) = nI 9 - 1 from (by decide)) ?_
  refine lv_istore_n (lv' := [(2, .int (nI 9 - 1)), (0, .ref h0), (1, .int p0)]) hx hb dX1_bits_2 rfl hl (by decide) rfl (fun ls hl => ?_)
  have loop3 : ∀ (k : Nat) (b : Nat), b ≤ 9 → b < k → (isAd p0 = true → bsN (hs gs p0.toNatClampNeg) b = bsN (hs gs p0.toNatClampNeg) 9) → ∀ (ls : Array Slot), lv_has ls 3 [(0, .ref h0), (1, .int p0), (2, .int (nI b - 1))] → WR p l e (headSpec (ws_ yX1_bits cX1_bits 3 (some .int)) ({ frames := 1, cells := 0, slots := 0, locals := 22 })).room s m ([.ref h0, .int p0] : List Value).toArray below meth c (S_bits gs p0) (F0 m 3 ls []) := by
    intro k
    induction k with
    | zero =>
      intro b h1 h2 h3 ls hl
      exact absurd h2 (by omega)
    | succ k ih3 =>
      intro b h1 h2 h3 ls hl
      refine lv_iload_n hx hb dX1_bits_3 rfl (lv_at hl 2 rfl) ?_
      refine lv_if_lt (tgt := 37) hx hb dX1_bits_4 (by decide) (fun c1 => ?_) (fun c1 => ?_)
      · have c1 := neg_pred h1 c1
        subst c1
        refine lv_iconst (v := (-1)) hx hb dX1_bits_37 (by decide) ?_
        exact rd_iret (v := (-1 : Int32)) hx hb hr hlocks (bits_none h3) dX1_bits_38
      · obtain ⟨d, e1⟩ := nneg_pred c1
        subst e1
        refine lv_aload_n hx hb dX1_bits_7 rfl (lv_at hl 0 rfl) ?_
        refine lv_iload_n hx hb dX1_bits_8 rfl (lv_at hl 1 rfl) ?_
        refine rd_callV (As := [.int p0]) (rest := []) (b := h0) (ci := 1) (q0 := 0) S0 (met_X1_address l D h0 q1 q2 k1 k2 gs bf p0) (cwV 1 hts (lw_V q194 q196 qs8 q12 q197) rfl rfl rfl (by decide +kernel) ⟨Nat.le_of_ble_eq_true rfl, Nat.le_of_ble_eq_true rfl⟩) hP hK rfl rfl rfl hl.1 rfl (Nat.le_of_ble_eq_true rfl) dX1_bits_9 ⟨Nat.zero_le _, Nat.zero_le _⟩ ?_
        refine lv_if_eq (tgt := 37) hx hb dX1_bits_12 (by decide) (fun c2 => ?_) (fun c2 => ?_)
        · have c2 := b2i_0 c2
          refine lv_iconst (v := (-1)) hx hb dX1_bits_37 (by decide) ?_
          exact rd_iret (v := (-1 : Int32)) hx hb hr hlocks (by rw [S_bits, c2]; rfl) dX1_bits_38
        · have c2 := b2i_n0 c2
          obtain ⟨a, ha, ea⟩ := isAd_of c2
          subst ea
          have h4 := h3 c2
          rw [clN ha] at h4
          refine lv_aload_n hx hb dX1_bits_15 rfl (lv_at hl 0 rfl) ?_
          refine va_get (D := D) (ci := 1) (v := .ref q1) (C := RX1) (T := TX1) (N := 2) hx hb hts in_X1 hown hK hP 0 rfl rfl 0 (by decide) (hts _ q150) (fun _ h9 => h9) rfl dX1_bits_16 ?_
          refine lv_aload_n hx hb dX1_bits_19 rfl (lv_at hl 0 rfl) ?_
          refine lv_iload_n hx hb dX1_bits_20 rfl (lv_at hl 1 rfl) ?_
          refine lv_iload_n hx hb dX1_bits_21 rfl (lv_at hl 2 rfl) ?_
          refine lv_tope (show nI (d + 1) - 1 = nI d from nI_pred d) ?_
          refine rd_callV (As := [.int (nI a), .int (nI d)]) (rest := [.ref q1]) (b := h0) (ci := 1) (q0 := 0) S0 (met_X1_cell l D h0 q1 q2 k1 k2 gs bf a d ha (by omega)) (cwV 2 hts (lw_V q165 q167 qs6 q12 q168) rfl rfl rfl (by decide +kernel) ⟨Nat.le_of_ble_eq_true rfl, Nat.le_of_ble_eq_true rfl⟩) hP hK rfl rfl rfl hl.1 rfl (Nat.le_of_ble_eq_true rfl) dX1_bits_22 ⟨Nat.zero_le _, Nat.zero_le _⟩ ?_
          refine rd_iald hx hb hK hP 1 0 rfl rfl (i := (cel a d)) (cel_lt d (by omega) a ha) (by decide) dX1_bits_25 ?_
          refine lv_if_lt (tgt := 31) hx hb dX1_bits_26 (by decide) (fun c3 => ?_) (fun c3 => ?_)
          · refine lv_iinc (v := nI d - 1) (lv' := [(2, .int (nI d - 1)), (0, .ref h0), (1, .int (nI a))]) hx hb dX1_bits_31 hl (k := 2) rfl (dec_pred d) (by decide) rfl (fun ls hl => ?_)
            refine lv_goto (tgt := 3) hx hb dX1_bits_34 (by decide) ?_
            exact ih3 d (by omega) (by omega) (fun _ => by rw [clN ha, ← h4, bsN_no (by rw [hs, yes_dec c3] <;> rfl)]) ls (lv_sub hl [1, 2, 0] rfl)
          · refine lv_iload_n hx hb dX1_bits_29 rfl (lv_at hl 2 rfl) ?_
            exact rd_iret (v := nI (d + 1) - 1) hx hb hr hlocks (by rw [S_bits_nI ha, Sb, ← h4, bsN_yes (by rw [hs, not_dec c3] <;> rfl)]) dX1_bits_30
  exact loop3 10 9 (by decide) (by decide) (fun _ => rfl) ls (lv_sub hl [1, 2, 0] rfl)
set_option maxHeartbeats 4000000 in
set_option maxRecDepth 100000 in
/-- goal(address) -/
theorem met_X1_goal (l : Launch) (D : va_G) (h0 q1 q2 : Nat) (k1 k2 : ClassId) (gs bf : Nat → Int32) (p0 : Int32) : Met l yX1_goal (ws_ yX1_goal cX1_goal 3 (some .int)) ({ frames := 2, cells := 0, slots := 0, locals := 44 }) (rdP D (W1 h0 q1 q2 k1 k2 gs bf) (K1 k1 k2) [.ref h0, .int p0]) (QcRead (S_goal gs p0)) 0 0 (fun _ => False) := by
  refine Met.ofW (cc := cX1_goal) (maxL := 3) (ret := (some .int)) (by decide) rfl ?_
  intro p e s m args below meth c s₁ B hml hv
  obtain ⟨rfl, hP, hK⟩ := hv
  have hx := B.exec
  have hb := B.bytes
  have hr := B.returns
  have hts := atoms_spec (ws := (ws_ yX1_goal cX1_goal 3 (some .int))) B.pre
  have hts : ∀ w ∈ lw_all, w.before _ s = true := fun w h => hts w (List.mem_cons_of_mem _ h)
  have hown : s.vm.findClass RX1 = some m.cls := findClass_of_methodNamed B.named
  have hlocks := B.notSynchronized
  have hl := lv_entry ([.ref h0, .int p0]) (n := 3) (Nat.le_of_ble_eq_true rfl)
  rw [lg_entry_eq]
  generalize (lg_sl ([.ref h0, .int p0]) ++ List.replicate (3 - (lg_sl ([.ref h0, .int p0])).length) Slot.unset).toArray = ls at hl ⊢
  have hl : lv_has ls 3 [(0, .ref h0), (1, .int p0)] := hl
  have S0 : CallFix p m c cX1_goal 3 s _ lw_all RX1 := ⟨hx, hb, hml, hown, hts⟩
  refine lv_aload_n hx hb dX1_goal_0 rfl (lv_at hl 0 rfl) ?_
  refine lv_iload_n hx hb dX1_goal_1 rfl (lv_at hl 1 rfl) ?_
  refine rd_callV (As := [.int p0]) (rest := []) (b := h0) (ci := 1) (q0 := 0) S0 (met_X1_bits l D h0 q1 q2 k1 k2 gs bf p0) (cwV 1 hts (lw_V q190 q191 q192 q12 q193) rfl rfl rfl (by decide +kernel) ⟨Nat.le_of_ble_eq_true rfl, Nat.le_of_ble_eq_true rfl⟩) hP hK rfl rfl rfl hl.1 rfl (Nat.le_of_ble_eq_true rfl) dX1_goal_2 ⟨Nat.zero_le _, Nat.zero_le _⟩ ?_
  refine lv_istore_n (lv' := [(2, .int (S_bits gs p0)), (0, .ref h0), (1, .int p0)]) hx hb dX1_goal_5 rfl hl (by decide) rfl (fun ls hl => ?_)
  refine lv_iload_n hx hb dX1_goal_6 rfl (lv_at hl 0 rfl) ?_
  refine lv_if_ge (tgt := 14) hx hb dX1_goal_7 (by decide) (fun c1 => ?_) (fun c1 => ?_)
  · obtain ⟨a, b, ha, ea, hb9, eb⟩ := bits_ge c1
    subst ea
    refine lv_aload_n hx hb dX1_goal_14 rfl (lv_at hl 1 rfl) ?_
    refine va_get (D := D) (ci := 1) (v := .ref q1) (C := RX1) (T := TX1) (N := 2) hx hb hts in_X1 hown hK hP 0 rfl rfl 0 (by decide) (hts _ q150) (fun _ h9 => h9) rfl dX1_goal_15 ?_
    refine lv_aload_n hx hb dX1_goal_18 rfl (lv_at hl 1 rfl) ?_
    refine lv_iload_n hx hb dX1_goal_19 rfl (lv_at hl 2 rfl) ?_
    refine lv_iload_n hx hb dX1_goal_20 rfl (lv_at hl 0 rfl) ?_
    refine lv_tope (show S_bits gs (nI a) = nI b from (by rw [S_bits_nI ha, eb, nI_pred])) ?_
    refine rd_callV (As := [.int (nI a), .int (nI b)]) (rest := [.ref q1]) (b := h0) (ci := 1) (q0 := 0) S0 (met_X1_cell l D h0 q1 q2 k1 k2 gs bf a b ha (by omega)) (cwV 2 hts (lw_V q165 q167 qs6 q12 q168) rfl rfl rfl (by decide +kernel) ⟨Nat.le_of_ble_eq_true rfl, Nat.le_of_ble_eq_true rfl⟩) hP hK rfl rfl rfl hl.1 rfl (Nat.le_of_ble_eq_true rfl) dX1_goal_21 ⟨Nat.zero_le _, Nat.zero_le _⟩ ?_
    refine rd_iald hx hb hK hP 1 0 rfl rfl (i := (cel a b)) (cel_lt b hb9 a ha) (by decide) dX1_goal_24 ?_
    exact rd_iret (v := gs (cel a b)) hx hb hr hlocks (by rw [S_goal_nI ha, Sg, eb, if_neg (by omega)]; rfl) dX1_goal_25
  · refine lv_iconst (v := (-1)) hx hb dX1_goal_10 (by decide) ?_
    refine lv_goto (tgt := 25) hx hb dX1_goal_11 (by decide) ?_
    exact rd_iret (v := (-1 : Int32)) hx hb hr hlocks (bits_neg c1) dX1_goal_25
set_option maxHeartbeats 4000000 in
set_option maxRecDepth 100000 in
/-- matching(address) -/
theorem met_X1_matching (l : Launch) (D : va_G) (h0 q1 q2 : Nat) (k1 k2 : ClassId) (gs bf : Nat → Int32) (p0 : Int32) : Met l yX1_matching (ws_ yX1_matching cX1_matching 4 (some .int)) ({ frames := 1, cells := 0, slots := 0, locals := 22 }) (rdP D (W1 h0 q1 q2 k1 k2 gs bf) (K1 k1 k2) [.ref h0, .int p0]) (QcRead (S_match gs p0)) 0 0 (fun _ => False) := by
  refine Met.ofW (cc := cX1_matching) (maxL := 4) (ret := (some .int)) (by decide) rfl ?_
  intro p e s m args below meth c s₁ B hml hv
  obtain ⟨rfl, hP, hK⟩ := hv
  have hx := B.exec
  have hb := B.bytes
  have hr := B.returns
  have hts := atoms_spec (ws := (ws_ yX1_matching cX1_matching 4 (some .int))) B.pre
  have hts : ∀ w ∈ lw_all, w.before _ s = true := fun w h => hts w (List.mem_cons_of_mem _ h)
  have hown : s.vm.findClass RX1 = some m.cls := findClass_of_methodNamed B.named
  have hlocks := B.notSynchronized
  have hl := lv_entry ([.ref h0, .int p0]) (n := 4) (Nat.le_of_ble_eq_true rfl)
  rw [lg_entry_eq]
  generalize (lg_sl ([.ref h0, .int p0]) ++ List.replicate (4 - (lg_sl ([.ref h0, .int p0])).length) Slot.unset).toArray = ls at hl ⊢
  have hl : lv_has ls 4 [(0, .ref h0), (1, .int p0)] := hl
  have S0 : CallFix p m c cX1_matching 4 s _ lw_all RX1 := ⟨hx, hb, hml, hown, hts⟩
  refine lv_iconst (v := 0) hx hb dX1_matching_0 (by decide) ?_
  refine lv_istore_n (lv' := [(2, .int (0 : Int32)), (0, .ref h0), (1, .int p0)]) hx hb dX1_matching_1 rfl hl (by decide) rfl (fun ls hl => ?_)
  refine lv_iconst (v := 0) hx hb dX1_matching_2 (by decide) ?_
  refine lv_istore_n (lv' := [(3, .int (0 : Int32)), (2, .int (0 : Int32)), (0, .ref h0), (1, .int p0)]) hx hb dX1_matching_3 rfl hl (by decide) rfl (fun ls hl => ?_)
  have loop4 : ∀ (k : Nat) (i : Nat), i ≤ 9 → 10 ≤ i + k → (isAd p0 = false → i = 0) → ∀ (ls : Array Slot), lv_has ls 4 [(0, .ref h0), (1, .int p0), (2, .int (nI (fb_ct (hs gs p0.toNatClampNeg) i))), (3, .int (nI i))] → WR p l e (headSpec (ws_ yX1_matching cX1_matching 4 (some .int)) ({ frames := 1, cells := 0, slots := 0, locals := 22 })).room s m ([.ref h0, .int p0] : List Value).toArray below meth c (S_match gs p0) (F0 m 4 ls []) := by
    intro k
    induction k with
    | zero =>
      intro i h1 h2 h3 ls hl
      exact absurd h2 (by omega)
    | succ k ih4 =>
      intro i h1 h2 h3 ls hl
      refine lv_iload_n hx hb dX1_matching_4 rfl (lv_at hl 3 rfl) ?_
      refine lv_bipush (v := 8) hx hb dX1_matching_5 (by decide) ?_
      refine lv_icmp_gt (tgt := 46) hx hb dX1_matching_7 (by decide) (fun c1 => ?_) (fun c1 => ?_)
      · have c1 : 8 < i := (nI_ltI (a := 8) (b := i) (by decide) (by omega)).mp c1
        have c1 : i = 9 := by omega
        have c2 : isAd p0 = true := by
          cases q : isAd p0 with
          | true => rfl
          | false => exact absurd (h3 q) (by omega)
        refine lv_iload_n hx hb dX1_matching_46 rfl (lv_at hl 2 rfl) ?_
        exact rd_iret (v := nI (fb_ct (hs gs p0.toNatClampNeg) i)) hx hb hr hlocks (by rw [S_match, c2, if_pos rfl, c1]) dX1_matching_47
      · have c1 : i ≤ 8 := Nat.not_lt.mp fun q => c1 ((nI_ltI (a := 8) (b := i) (by decide) (by omega)).mpr q)
        refine lv_aload_n hx hb dX1_matching_10 rfl (lv_at hl 0 rfl) ?_
        refine lv_iload_n hx hb dX1_matching_11 rfl (lv_at hl 1 rfl) ?_
        refine rd_callV (As := [.int p0]) (rest := []) (b := h0) (ci := 1) (q0 := 0) S0 (met_X1_address l D h0 q1 q2 k1 k2 gs bf p0) (cwV 1 hts (lw_V q194 q196 qs8 q12 q197) rfl rfl rfl (by decide +kernel) ⟨Nat.le_of_ble_eq_true rfl, Nat.le_of_ble_eq_true rfl⟩) hP hK rfl rfl rfl hl.1 rfl (Nat.le_of_ble_eq_true rfl) dX1_matching_12 ⟨Nat.zero_le _, Nat.zero_le _⟩ ?_
        refine lv_if_eq (tgt := 46) hx hb dX1_matching_15 (by decide) (fun c2 => ?_) (fun c2 => ?_)
        · have c2 := b2i_0 c2
          refine lv_iload_n hx hb dX1_matching_46 rfl (lv_at hl 2 rfl) ?_
          exact rd_iret (v := nI (fb_ct (hs gs p0.toNatClampNeg) i)) hx hb hr hlocks (by rw [S_match, c2, h3 c2]; rfl) dX1_matching_47
        · have c2 := b2i_n0 c2
          obtain ⟨a, ha, ea⟩ := isAd_of c2
          subst ea
          refine lv_aload_n hx hb dX1_matching_18 rfl (lv_at hl 0 rfl) ?_
          refine va_get (D := D) (ci := 1) (v := .ref q1) (C := RX1) (T := TX1) (N := 2) hx hb hts in_X1 hown hK hP 0 rfl rfl 0 (by decide) (hts _ q150) (fun _ h9 => h9) rfl dX1_matching_19 ?_
          refine lv_aload_n hx hb dX1_matching_22 rfl (lv_at hl 0 rfl) ?_
          refine lv_iload_n hx hb dX1_matching_23 rfl (lv_at hl 1 rfl) ?_
          refine lv_iload_n hx hb dX1_matching_24 rfl (lv_at hl 3 rfl) ?_
          refine rd_callV (As := [.int (nI a), .int (nI i)]) (rest := [.ref q1]) (b := h0) (ci := 1) (q0 := 0) S0 (met_X1_cell l D h0 q1 q2 k1 k2 gs bf a i ha (by omega)) (cwV 2 hts (lw_V q165 q167 qs6 q12 q168) rfl rfl rfl (by decide +kernel) ⟨Nat.le_of_ble_eq_true rfl, Nat.le_of_ble_eq_true rfl⟩) hP hK rfl rfl rfl hl.1 rfl (Nat.le_of_ble_eq_true rfl) dX1_matching_25 ⟨Nat.zero_le _, Nat.zero_le _⟩ ?_
          refine rd_iald hx hb hK hP 1 0 rfl rfl (i := (cel a i)) (cel_lt i (by omega) a ha) (by decide) dX1_matching_28 ?_
          refine lv_if_lt (tgt := 38) hx hb dX1_matching_29 (by decide) (fun c3 => ?_) (fun c3 => ?_)
          · refine lv_iload_n hx hb dX1_matching_38 rfl (lv_at hl 2 rfl) ?_
            refine lv_tope (show nI (fb_ct (hs gs (nI a).toNatClampNeg) i) = nI (fb_ct (hs gs (nI a).toNatClampNeg) (i + 1)) from ct_n (by rw [clN ha, hs, yes_dec c3] <;> rfl)) ?_
            refine lv_istore_n (lv' := [(2, .int (nI (fb_ct (hs gs (nI a).toNatClampNeg) (i + 1)))), (0, .ref h0), (1, .int (nI a)), (3, .int (nI i))]) hx hb dX1_matching_39 rfl hl (by decide) rfl (fun ls hl => ?_)
            refine lv_iinc (v := nI (i + 1)) (lv' := [(3, .int (nI (i + 1))), (2, .int (nI (fb_ct (hs gs (nI a).toNatClampNeg) (i + 1)))), (0, .ref h0), (1, .int (nI a))]) hx hb dX1_matching_40 hl (k := 3) rfl (inc_1 i) (by decide) rfl (fun ls hl => ?_)
            refine lv_goto (tgt := 4) hx hb dX1_matching_43 (by decide) ?_
            exact ih4 (i + 1) (by omega) (by omega) (fun q => (not_true_false q c2).elim) ls (lv_sub hl [2, 3, 1, 0] rfl)
          · refine lv_iload_n hx hb dX1_matching_32 rfl (lv_at hl 2 rfl) ?_
            refine lv_iconst (v := 1) hx hb dX1_matching_33 (by decide) ?_
            refine lv_iadd hx hb dX1_matching_34 ?_
            refine lv_goto (tgt := 39) hx hb dX1_matching_35 (by decide) ?_
            refine lv_tope (show (nI (fb_ct (hs gs (nI a).toNatClampNeg) i)) + (1 : Int32) = nI (fb_ct (hs gs (nI a).toNatClampNeg) (i + 1)) from ct_1 (by rw [clN ha, hs, not_dec c3] <;> rfl)) ?_
            refine lv_istore_n (lv' := [(2, .int (nI (fb_ct (hs gs (nI a).toNatClampNeg) (i + 1)))), (0, .ref h0), (1, .int (nI a)), (3, .int (nI i))]) hx hb dX1_matching_39 rfl hl (by decide) rfl (fun ls hl => ?_)
            refine lv_iinc (v := nI (i + 1)) (lv' := [(3, .int (nI (i + 1))), (2, .int (nI (fb_ct (hs gs (nI a).toNatClampNeg) (i + 1)))), (0, .ref h0), (1, .int (nI a))]) hx hb dX1_matching_40 hl (k := 3) rfl (inc_1 i) (by decide) rfl (fun ls hl => ?_)
            refine lv_goto (tgt := 4) hx hb dX1_matching_43 (by decide) ?_
            exact ih4 (i + 1) (by omega) (by omega) (fun q => (not_true_false q c2).elim) ls (lv_sub hl [2, 3, 1, 0] rfl)
  exact loop4 10 0 (by decide) (by decide) (fun _ => rfl) ls (lv_sub hl [2, 3, 1, 0] rfl)
set_option maxHeartbeats 4000000 in
set_option maxRecDepth 100000 in
/-- next(from, goal) -/
theorem met_X1_next (l : Launch) (D : va_G) (h0 q1 q2 : Nat) (k1 k2 : ClassId) (gs bf : Nat → Int32) (f g : Int32) : Met l yX1_next (ws_ yX1_next cX1_next 4 (some .int)) ({ frames := 3, cells := 0, slots := 0, locals := 66 }) (rdP D (W1 h0 q1 q2 k1 k2 gs bf) (K1 k1 k2) [.ref h0, .int f, .int g]) (QcRead (S_next gs f g)) 0 0 (fun _ => False) := by
  refine Met.ofW (cc := cX1_next) (maxL := 4) (ret := (some .int)) (by decide) rfl ?_
  intro p e s m args below meth c s₁ B hml hv
  obtain ⟨rfl, hP, hK⟩ := hv
  have hx := B.exec
  have hb := B.bytes
  have hr := B.returns
  have hts := atoms_spec (ws := (ws_ yX1_next cX1_next 4 (some .int))) B.pre
  have hts : ∀ w ∈ lw_all, w.before _ s = true := fun w h => hts w (List.mem_cons_of_mem _ h)
  have hown : s.vm.findClass RX1 = some m.cls := findClass_of_methodNamed B.named
  have hlocks := B.notSynchronized
  have hl := lv_entry ([.ref h0, .int f, .int g]) (n := 4) (Nat.le_of_ble_eq_true rfl)
  rw [lg_entry_eq]
  generalize (lg_sl ([.ref h0, .int f, .int g]) ++ List.replicate (4 - (lg_sl ([.ref h0, .int f, .int g])).length) Slot.unset).toArray = ls at hl ⊢
  have hl : lv_has ls 4 [(0, .ref h0), (1, .int f), (2, .int g)] := hl
  have S0 : CallFix p m c cX1_next 4 s _ lw_all RX1 := ⟨hx, hb, hml, hown, hts⟩
  refine lv_iconst (v := 0) hx hb dX1_next_0 (by decide) ?_
  refine lv_istore_n (lv' := [(3, .int (0 : Int32)), (0, .ref h0), (1, .int f), (2, .int g)]) hx hb dX1_next_1 rfl hl (by decide) rfl (fun ls hl => ?_)
  have loop2 : ∀ (k : Nat) (i : Nat), i ≤ 256 → 257 ≤ i + k → fstF (P_next gs f g) (256 - i) i = S_next gs f g → ∀ (ls : Array Slot), lv_has ls 4 [(0, .ref h0), (1, .int f), (2, .int g), (3, .int (nI i))] → WR p l e (headSpec (ws_ yX1_next cX1_next 4 (some .int)) ({ frames := 3, cells := 0, slots := 0, locals := 66 })).room s m ([.ref h0, .int f, .int g] : List Value).toArray below meth c (S_next gs f g) (F0 m 2 ls []) := by
    intro k
    induction k with
    | zero =>
      intro i h1 h2 h3 ls hl
      exact absurd h2 (by omega)
    | succ k ih2 =>
      intro i h1 h2 h3 ls hl
      refine lv_iload_n hx hb dX1_next_2 rfl (lv_at hl 3 rfl) ?_
      refine lv_sipush (v := 256) hx hb dX1_next_3 (by decide) ?_
      refine lv_icmp_ge (tgt := 35) hx hb dX1_next_6 (by decide) (fun c1 => ?_) (fun c1 => ?_)
      · have c1 : i = 256 := ge_N (N := 256) (by decide) h1 c1
        refine lv_iconst (v := (-1)) hx hb dX1_next_35 (by decide) ?_
        exact rd_iret (v := (-1 : Int32)) hx hb hr hlocks (by rw [← h3, show 256 - i = 0 by omega]; rfl) dX1_next_36
      · have c1 : i < 256 := lt_N (N := 256) (by decide) h1 c1
        refine lv_iload_n hx hb dX1_next_9 rfl (lv_at hl 3 rfl) ?_
        refine lv_iload_n hx hb dX1_next_10 rfl (lv_at hl 1 rfl) ?_
        refine lv_icmp_lt (tgt := 29) hx hb dX1_next_11 (by decide) (fun c2 => ?_) (fun c2 => ?_)
        · refine lv_iinc (v := nI (i + 1)) (lv' := [(3, .int (nI (i + 1))), (0, .ref h0), (1, .int f), (2, .int g)]) hx hb dX1_next_29 hl (k := 3) rfl (inc_1 i) (by decide) rfl (fun ls hl => ?_)
          refine lv_goto (tgt := 2) hx hb dX1_next_32 (by decide) ?_
          exact ih2 (i + 1) (by omega) (by omega) (by rw [← h3]; exact (fst_nx c1 (by unfold P_next; rw [yes_dec c2] <;> rfl)).symm) ls (lv_sub hl [1, 2, 3, 0] rfl)
        · refine lv_iload_n hx hb dX1_next_14 rfl (lv_at hl 2 rfl) ?_
          refine lv_if_lt (tgt := 29) hx hb dX1_next_15 (by decide) (fun c3 => ?_) (fun c3 => ?_)
          · refine lv_iinc (v := nI (i + 1)) (lv' := [(3, .int (nI (i + 1))), (0, .ref h0), (1, .int f), (2, .int g)]) hx hb dX1_next_29 hl (k := 3) rfl (inc_1 i) (by decide) rfl (fun ls hl => ?_)
            refine lv_goto (tgt := 2) hx hb dX1_next_32 (by decide) ?_
            exact ih2 (i + 1) (by omega) (by omega) (by rw [← h3]; exact (fst_nx c1 (by unfold P_next; rw [not_dec c2, yes_dec c3] <;> rfl)).symm) ls (lv_sub hl [1, 2, 3, 0] rfl)
          · refine lv_aload_n hx hb dX1_next_18 rfl (lv_at hl 0 rfl) ?_
            refine lv_iload_n hx hb dX1_next_19 rfl (lv_at hl 3 rfl) ?_
            refine rd_callV (As := [.int (nI i)]) (rest := []) (b := h0) (ci := 1) (q0 := 0) S0 (met_X1_goal l D h0 q1 q2 k1 k2 gs bf (nI i)) (cwV 1 hts (lw_V q207 q187 q188 q12 q189) rfl rfl rfl (by decide +kernel) ⟨Nat.le_of_ble_eq_true rfl, Nat.le_of_ble_eq_true rfl⟩) hP hK rfl rfl rfl hl.1 rfl (Nat.le_of_ble_eq_true rfl) dX1_next_20 ⟨Nat.zero_le _, Nat.zero_le _⟩ ?_
            refine lv_tope (show S_goal gs (nI i) = Sg gs i 9 from S_goal_nI c1) ?_
            refine lv_iload_n hx hb dX1_next_23 rfl (lv_at hl 2 rfl) ?_
            refine lv_icmp_ne (tgt := 29) hx hb dX1_next_24 (by decide) (fun c4 => ?_) (fun c4 => ?_)
            · refine lv_iinc (v := nI (i + 1)) (lv' := [(3, .int (nI (i + 1))), (0, .ref h0), (1, .int f), (2, .int g)]) hx hb dX1_next_29 hl (k := 3) rfl (inc_1 i) (by decide) rfl (fun ls hl => ?_)
              refine lv_goto (tgt := 2) hx hb dX1_next_32 (by decide) ?_
              exact ih2 (i + 1) (by omega) (by omega) (by rw [← h3]; exact (fst_nx c1 (by unfold P_next; rw [not_dec c2, not_dec c3, not_dec c4] <;> rfl)).symm) ls (lv_sub hl [1, 2, 3, 0] rfl)
            · refine lv_iload_n hx hb dX1_next_27 rfl (lv_at hl 3 rfl) ?_
              exact rd_iret (v := nI i) hx hb hr hlocks (by rw [← h3]; exact (fst_at c1 (by unfold P_next; rw [not_dec c2, not_dec c3, yes_dec c4] <;> rfl)).symm) dX1_next_28
  exact loop2 257 0 (by decide) (by decide) rfl ls (lv_sub hl [1, 2, 3, 0] rfl)
set_option maxHeartbeats 4000000 in
set_option maxRecDepth 100000 in
/-- load(address, bits) -/
theorem met_X1_load (l : Launch) (D : va_G) (h0 q1 q2 : Nat) (k1 k2 : ClassId) (gs bf : Nat → Int32) (p0 p1 : Int32) : Met l yX1_load (ws_ yX1_load cX1_load 6 (some .int)) ({ frames := 2, cells := 0, slots := 0, locals := 44 }) (rdP D (W1 h0 q1 q2 k1 k2 gs bf) (K1 k1 k2) [.ref h0, .int p0, .int p1]) (QcRead (S_load gs p0 p1)) 0 0 (fun _ => False) := by
  refine Met.ofW (cc := cX1_load) (maxL := 6) (ret := (some .int)) (by decide) rfl ?_
  intro p e s m args below meth c s₁ B hml hv
  obtain ⟨rfl, hP, hK⟩ := hv
  have hx := B.exec
  have hb := B.bytes
  have hr := B.returns
  have hts := atoms_spec (ws := (ws_ yX1_load cX1_load 6 (some .int))) B.pre
  have hts : ∀ w ∈ lw_all, w.before _ s = true := fun w h => hts w (List.mem_cons_of_mem _ h)
  have hown : s.vm.findClass RX1 = some m.cls := findClass_of_methodNamed B.named
  have hlocks := B.notSynchronized
  have hl := lv_entry ([.ref h0, .int p0, .int p1]) (n := 6) (Nat.le_of_ble_eq_true rfl)
  rw [lg_entry_eq]
  generalize (lg_sl ([.ref h0, .int p0, .int p1]) ++ List.replicate (6 - (lg_sl ([.ref h0, .int p0, .int p1])).length) Slot.unset).toArray = ls at hl ⊢
  have hl : lv_has ls 6 [(0, .ref h0), (1, .int p0), (2, .int p1)] := hl
  have S0 : CallFix p m c cX1_load 6 s _ lw_all RX1 := ⟨hx, hb, hml, hown, hts⟩
  refine lv_aload_n hx hb dX1_load_0 rfl (lv_at hl 0 rfl) ?_
  refine lv_iload_n hx hb dX1_load_1 rfl (lv_at hl 1 rfl) ?_
  refine lv_iload_n hx hb dX1_load_2 rfl (lv_at hl 2 rfl) ?_
  refine rd_callV (As := [.int p0, .int p1]) (rest := []) (b := h0) (ci := 1) (q0 := 0) S0 (met_X1_is l D h0 q1 q2 k1 k2 gs bf p0 p1) (cwV 2 hts (lw_V q173 q175 qs7 q12 q176) rfl rfl rfl (by decide +kernel) ⟨Nat.le_of_ble_eq_true rfl, Nat.le_of_ble_eq_true rfl⟩) hP hK rfl rfl rfl hl.1 rfl (Nat.le_of_ble_eq_true rfl) dX1_load_3 ⟨Nat.zero_le _, Nat.zero_le _⟩ ?_
  refine lv_if_ne (tgt := 11) hx hb dX1_load_6 (by decide) (fun c1 => ?_) (fun c1 => ?_)
  · have c1 := b2i_n0 c1
    have hb1 := S_has_beg c1
    obtain ⟨a, n, ha, hn, ea, en, hd⟩ := isBeg_of hb1
    subst ea
    subst en
    have hh : hs gs a n = true := by rw [← S_has_nI ha hn hb1]; exact c1
    refine lv_iconst (v := 0) hx hb dX1_load_11 (by decide) ?_
    refine lv_istore_n (lv' := [(3, .int (0 : Int32)), (0, .ref h0), (1, .int (nI a)), (2, .int (nI n))]) hx hb dX1_load_12 rfl hl (by decide) rfl (fun ls hl => ?_)
    refine lv_iconst (v := 0) hx hb dX1_load_13 (by decide) ?_
    refine lv_istore (lv' := [(4, .int (0 : Int32)), (3, .int (0 : Int32)), (0, .ref h0), (1, .int (nI a)), (2, .int (nI n))]) hx hb dX1_load_14 hl (by decide) rfl (fun ls hl => ?_)
    have loop16 : ∀ (k : Nat) (i : Nat), i ≤ 256 → 257 ≤ i + k → ∀ (ls : Array Slot), lv_has ls 6 [(0, .ref h0), (1, .int (nI a)), (2, .int (nI n)), (3, .int (nI (fb_ct (P_load gs a n) i))), (4, .int (nI i))] → WR p l e (headSpec (ws_ yX1_load cX1_load 6 (some .int)) ({ frames := 2, cells := 0, slots := 0, locals := 44 })).room s m ([.ref h0, .int (nI a), .int (nI n)] : List Value).toArray below meth c (S_load gs (nI a) (nI n)) (F0 m 16 ls []) := by
      intro k
      induction k with
      | zero =>
        intro i h1 h2 ls hl
        exact absurd h2 (by omega)
      | succ k ih16 =>
        intro i h1 h2 ls hl
        refine lv_iload hx hb dX1_load_16 (lv_at hl 4 rfl) ?_
        refine lv_sipush (v := 256) hx hb dX1_load_18 (by decide) ?_
        refine lv_icmp_ge (tgt := 76) hx hb dX1_load_21 (by decide) (fun c2 => ?_) (fun c2 => ?_)
        · have c2 : i = 256 := ge_N (N := 256) (by decide) h1 c2
          refine lv_iload_n hx hb dX1_load_76 rfl (lv_at hl 3 rfl) ?_
          exact rd_iret (v := nI (fb_ct (P_load gs a n) i)) hx hb hr hlocks (by rw [S_load_nI ha hn hb1 hh, c2]) dX1_load_77
        · have c2 : i < 256 := lt_N (N := 256) (by decide) h1 c2
          refine lv_iload hx hb dX1_load_24 (lv_at hl 4 rfl) ?_
          refine lv_bipush (v := 8) hx hb dX1_load_26 (by decide) ?_
          refine lv_iload_n hx hb dX1_load_28 rfl (lv_at hl 2 rfl) ?_
          refine lv_isub hx hb dX1_load_29 ?_
          refine lv_ishr hx hb dX1_load_30 ?_
          refine lv_tope (show (nI i) >>> (((8 : Int32) - (nI n)) &&& 31) = nI (i / 2 ^ (8 - n)) from shr_tab n (by omega) i c2) ?_
          refine lv_iload_n hx hb dX1_load_31 rfl (lv_at hl 1 rfl) ?_
          refine lv_bipush (v := 8) hx hb dX1_load_32 (by decide) ?_
          refine lv_iload_n hx hb dX1_load_34 rfl (lv_at hl 2 rfl) ?_
          refine lv_isub hx hb dX1_load_35 ?_
          refine lv_ishr hx hb dX1_load_36 ?_
          refine lv_tope (show (nI a) >>> (((8 : Int32) - (nI n)) &&& 31) = nI (a / 2 ^ (8 - n)) from shr_tab n (by omega) a ha) ?_
          refine lv_icmp_ne (tgt := 44) hx hb dX1_load_37 (by decide) (fun c3 => ?_) (fun c3 => ?_)
          · have c3 := fun q => c3 ((div_eq (d := 2 ^ (8 - n)) c2 ha).mpr q)
            refine lv_iconst (v := 0) hx hb dX1_load_44 (by decide) ?_
            refine lv_istore (lv' := [(5, .int (0 : Int32)), (0, .ref h0), (1, .int (nI a)), (2, .int (nI n)), (3, .int (nI (fb_ct (P_load gs a n) i))), (4, .int (nI i))]) hx hb dX1_load_45 hl (by decide) rfl (fun ls hl => ?_)
            refine lv_iload hx hb dX1_load_47 (lv_at hl 0 rfl) ?_
            refine lv_if_eq (tgt := 68) hx hb dX1_load_49 (by decide) (fun c4 => ?_) (fun c4 => ?_)
            · refine lv_iload_n hx hb dX1_load_68 rfl (lv_at hl 4 rfl) ?_
              refine lv_tope (show nI (fb_ct (P_load gs a n) i) = nI (fb_ct (P_load gs a n) (i + 1)) from ct_n (P := P_load gs a n) (by unfold P_load; rw [not_dec c3] <;> rfl)) ?_
              refine lv_istore_n (lv' := [(3, .int (nI (fb_ct (P_load gs a n) (i + 1)))), (5, .int (0 : Int32)), (0, .ref h0), (1, .int (nI a)), (2, .int (nI n)), (4, .int (nI i))]) hx hb dX1_load_69 rfl hl (by decide) rfl (fun ls hl => ?_)
              refine lv_iinc (v := nI (i + 1)) (lv' := [(4, .int (nI (i + 1))), (3, .int (nI (fb_ct (P_load gs a n) (i + 1)))), (5, .int (0 : Int32)), (0, .ref h0), (1, .int (nI a)), (2, .int (nI n))]) hx hb dX1_load_70 hl (k := 5) rfl (inc_1 i) (by decide) rfl (fun ls hl => ?_)
              refine lv_goto (tgt := 16) hx hb dX1_load_73 (by decide) ?_
              exact ih16 (i + 1) (by omega) (by omega) ls (lv_sub hl [3, 4, 5, 1, 0] rfl)
            · exact absurd rfl c4
          · have c3 := (div_eq (d := 2 ^ (8 - n)) c2 ha).mp c3
            refine lv_iconst (v := 1) hx hb dX1_load_40 (by decide) ?_
            refine lv_goto (tgt := 45) hx hb dX1_load_41 (by decide) ?_
            refine lv_istore (lv' := [(5, .int (1 : Int32)), (0, .ref h0), (1, .int (nI a)), (2, .int (nI n)), (3, .int (nI (fb_ct (P_load gs a n) i))), (4, .int (nI i))]) hx hb dX1_load_45 hl (by decide) rfl (fun ls hl => ?_)
            refine lv_iload hx hb dX1_load_47 (lv_at hl 0 rfl) ?_
            refine lv_if_eq (tgt := 68) hx hb dX1_load_49 (by decide) (fun c4 => ?_) (fun c4 => ?_)
            · exact absurd c4 (by decide)
            · refine lv_aload_n hx hb dX1_load_52 rfl (lv_at hl 1 rfl) ?_
              refine lv_iload hx hb dX1_load_53 (lv_at hl 5 rfl) ?_
              refine rd_callV (As := [.int (nI i)]) (rest := []) (b := h0) (ci := 1) (q0 := 0) S0 (met_X1_bits l D h0 q1 q2 k1 k2 gs bf (nI i)) (cwV 1 hts (lw_V q190 q191 q192 q12 q193) rfl rfl rfl (by decide +kernel) ⟨Nat.le_of_ble_eq_true rfl, Nat.le_of_ble_eq_true rfl⟩) hP hK rfl rfl rfl hl.1 rfl (Nat.le_of_ble_eq_true rfl) dX1_load_55 ⟨Nat.zero_le _, Nat.zero_le _⟩ ?_
              refine lv_tope (show S_bits gs (nI i) = nI (Sb gs i 9) - 1 from S_bits_nI c2) ?_
              refine lv_iload_n hx hb dX1_load_58 rfl (lv_at hl 3 rfl) ?_
              refine lv_icmp_ne (tgt := 68) hx hb dX1_load_59 (by decide) (fun c5 => ?_) (fun c5 => ?_)
              · have c5 := fun q => c5 ((pred_eq (Sb_le gs i 9) hn).mpr q)
                refine lv_iload_n hx hb dX1_load_68 rfl (lv_at hl 4 rfl) ?_
                refine lv_tope (show nI (fb_ct (P_load gs a n) i) = nI (fb_ct (P_load gs a n) (i + 1)) from ct_n (P := P_load gs a n) (by unfold P_load; rw [yes_dec c3, not_dec c5] <;> rfl)) ?_
                refine lv_istore_n (lv' := [(3, .int (nI (fb_ct (P_load gs a n) (i + 1)))), (5, .int (1 : Int32)), (0, .ref h0), (1, .int (nI a)), (2, .int (nI n)), (4, .int (nI i))]) hx hb dX1_load_69 rfl hl (by decide) rfl (fun ls hl => ?_)
                refine lv_iinc (v := nI (i + 1)) (lv' := [(4, .int (nI (i + 1))), (3, .int (nI (fb_ct (P_load gs a n) (i + 1)))), (5, .int (1 : Int32)), (0, .ref h0), (1, .int (nI a)), (2, .int (nI n))]) hx hb dX1_load_70 hl (k := 5) rfl (inc_1 i) (by decide) rfl (fun ls hl => ?_)
                refine lv_goto (tgt := 16) hx hb dX1_load_73 (by decide) ?_
                exact ih16 (i + 1) (by omega) (by omega) ls (lv_sub hl [3, 4, 5, 1, 0] rfl)
              · have c5 := (pred_eq (Sb_le gs i 9) hn).mp c5
                refine lv_iload_n hx hb dX1_load_62 rfl (lv_at hl 4 rfl) ?_
                refine lv_iconst (v := 1) hx hb dX1_load_63 (by decide) ?_
                refine lv_iadd hx hb dX1_load_64 ?_
                refine lv_goto (tgt := 69) hx hb dX1_load_65 (by decide) ?_
                refine lv_tope (show (nI (fb_ct (P_load gs a n) i)) + (1 : Int32) = nI (fb_ct (P_load gs a n) (i + 1)) from ct_1 (P := P_load gs a n) (by unfold P_load; rw [yes_dec c3, yes_dec c5] <;> rfl)) ?_
                refine lv_istore_n (lv' := [(3, .int (nI (fb_ct (P_load gs a n) (i + 1)))), (5, .int (1 : Int32)), (0, .ref h0), (1, .int (nI a)), (2, .int (nI n)), (4, .int (nI i))]) hx hb dX1_load_69 rfl hl (by decide) rfl (fun ls hl => ?_)
                refine lv_iinc (v := nI (i + 1)) (lv' := [(4, .int (nI (i + 1))), (3, .int (nI (fb_ct (P_load gs a n) (i + 1)))), (5, .int (1 : Int32)), (0, .ref h0), (1, .int (nI a)), (2, .int (nI n))]) hx hb dX1_load_70 hl (k := 5) rfl (inc_1 i) (by decide) rfl (fun ls hl => ?_)
                refine lv_goto (tgt := 16) hx hb dX1_load_73 (by decide) ?_
                exact ih16 (i + 1) (by omega) (by omega) ls (lv_sub hl [3, 4, 5, 1, 0] rfl)
    exact loop16 257 0 (by decide) (by decide) ls (lv_sub hl [2, 3, 4, 1, 0] rfl)
  · have c1 := b2i_0 c1
    refine lv_iconst (v := (-1)) hx hb dX1_load_9 (by decide) ?_
    exact rd_iret (v := (-1 : Int32)) hx hb hr hlocks (by rw [S_load, c1]; rfl) dX1_load_10
set_option maxHeartbeats 4000000 in
set_option maxRecDepth 100000 in
/-- sent(goal) -/
theorem met_X1_sent (l : Launch) (D : va_G) (h0 q1 q2 : Nat) (k1 k2 : ClassId) (gs bf : Nat → Int32) (g : Int32) : Met l yX1_sent (ws_ yX1_sent cX1_sent 4 (some .int)) ({ frames := 3, cells := 0, slots := 0, locals := 66 }) (rdP D (W1 h0 q1 q2 k1 k2 gs bf) (K1 k1 k2) [.ref h0, .int g]) (QcRead (S_sent gs g)) 0 0 (fun _ => False) := by
  refine Met.ofW (cc := cX1_sent) (maxL := 4) (ret := (some .int)) (by decide) rfl ?_
  intro p e s m args below meth c s₁ B hml hv
  obtain ⟨rfl, hP, hK⟩ := hv
  have hx := B.exec
  have hb := B.bytes
  have hr := B.returns
  have hts := atoms_spec (ws := (ws_ yX1_sent cX1_sent 4 (some .int))) B.pre
  have hts : ∀ w ∈ lw_all, w.before _ s = true := fun w h => hts w (List.mem_cons_of_mem _ h)
  have hown : s.vm.findClass RX1 = some m.cls := findClass_of_methodNamed B.named
  have hlocks := B.notSynchronized
  have hl := lv_entry ([.ref h0, .int g]) (n := 4) (Nat.le_of_ble_eq_true rfl)
  rw [lg_entry_eq]
  generalize (lg_sl ([.ref h0, .int g]) ++ List.replicate (4 - (lg_sl ([.ref h0, .int g])).length) Slot.unset).toArray = ls at hl ⊢
  have hl : lv_has ls 4 [(0, .ref h0), (1, .int g)] := hl
  have S0 : CallFix p m c cX1_sent 4 s _ lw_all RX1 := ⟨hx, hb, hml, hown, hts⟩
  refine lv_iconst (v := 0) hx hb dX1_sent_0 (by decide) ?_
  refine lv_istore_n (lv' := [(2, .int (0 : Int32)), (0, .ref h0), (1, .int g)]) hx hb dX1_sent_1 rfl hl (by decide) rfl (fun ls hl => ?_)
  refine lv_iconst (v := 0) hx hb dX1_sent_2 (by decide) ?_
  refine lv_istore_n (lv' := [(3, .int (0 : Int32)), (2, .int (0 : Int32)), (0, .ref h0), (1, .int g)]) hx hb dX1_sent_3 rfl hl (by decide) rfl (fun ls hl => ?_)
  have loop4 : ∀ (k : Nat) (i : Nat), i ≤ 256 → 257 ≤ i + k → ∀ (ls : Array Slot), lv_has ls 4 [(0, .ref h0), (1, .int g), (2, .int (nI (fb_ct (P_sent gs g) i))), (3, .int (nI i))] → WR p l e (headSpec (ws_ yX1_sent cX1_sent 4 (some .int)) ({ frames := 3, cells := 0, slots := 0, locals := 66 })).room s m ([.ref h0, .int g] : List Value).toArray below meth c (S_sent gs g) (F0 m 4 ls []) := by
    intro k
    induction k with
    | zero =>
      intro i h1 h2 ls hl
      exact absurd h2 (by omega)
    | succ k ih4 =>
      intro i h1 h2 ls hl
      refine lv_iload_n hx hb dX1_sent_4 rfl (lv_at hl 3 rfl) ?_
      refine lv_sipush (v := 256) hx hb dX1_sent_5 (by decide) ?_
      refine lv_icmp_ge (tgt := 34) hx hb dX1_sent_8 (by decide) (fun c1 => ?_) (fun c1 => ?_)
      · have c1 : i = 256 := ge_N (N := 256) (by decide) h1 c1
        refine lv_iload_n hx hb dX1_sent_34 rfl (lv_at hl 2 rfl) ?_
        exact rd_iret (v := nI (fb_ct (P_sent gs g) i)) hx hb hr hlocks (by rw [c1]; rfl) dX1_sent_35
      · have c1 : i < 256 := lt_N (N := 256) (by decide) h1 c1
        refine lv_aload_n hx hb dX1_sent_11 rfl (lv_at hl 0 rfl) ?_
        refine lv_iload_n hx hb dX1_sent_12 rfl (lv_at hl 3 rfl) ?_
        refine rd_callV (As := [.int (nI i)]) (rest := []) (b := h0) (ci := 1) (q0 := 0) S0 (met_X1_goal l D h0 q1 q2 k1 k2 gs bf (nI i)) (cwV 1 hts (lw_V q207 q187 q188 q12 q189) rfl rfl rfl (by decide +kernel) ⟨Nat.le_of_ble_eq_true rfl, Nat.le_of_ble_eq_true rfl⟩) hP hK rfl rfl rfl hl.1 rfl (Nat.le_of_ble_eq_true rfl) dX1_sent_13 ⟨Nat.zero_le _, Nat.zero_le _⟩ ?_
        refine lv_tope (show S_goal gs (nI i) = Sg gs i 9 from S_goal_nI c1) ?_
        refine lv_iload_n hx hb dX1_sent_16 rfl (lv_at hl 1 rfl) ?_
        refine lv_icmp_ne (tgt := 26) hx hb dX1_sent_17 (by decide) (fun c2 => ?_) (fun c2 => ?_)
        · refine lv_iload_n hx hb dX1_sent_26 rfl (lv_at hl 2 rfl) ?_
          refine lv_tope (show nI (fb_ct (P_sent gs g) i) = nI (fb_ct (P_sent gs g) (i + 1)) from ct_n (P := P_sent gs g) (not_dec c2)) ?_
          refine lv_istore_n (lv' := [(2, .int (nI (fb_ct (P_sent gs g) (i + 1)))), (0, .ref h0), (1, .int g), (3, .int (nI i))]) hx hb dX1_sent_27 rfl hl (by decide) rfl (fun ls hl => ?_)
          refine lv_iinc (v := nI (i + 1)) (lv' := [(3, .int (nI (i + 1))), (2, .int (nI (fb_ct (P_sent gs g) (i + 1)))), (0, .ref h0), (1, .int g)]) hx hb dX1_sent_28 hl (k := 3) rfl (inc_1 i) (by decide) rfl (fun ls hl => ?_)
          refine lv_goto (tgt := 4) hx hb dX1_sent_31 (by decide) ?_
          exact ih4 (i + 1) (by omega) (by omega) ls (lv_sub hl [2, 3, 1, 0] rfl)
        · refine lv_iload_n hx hb dX1_sent_20 rfl (lv_at hl 2 rfl) ?_
          refine lv_iconst (v := 1) hx hb dX1_sent_21 (by decide) ?_
          refine lv_iadd hx hb dX1_sent_22 ?_
          refine lv_goto (tgt := 27) hx hb dX1_sent_23 (by decide) ?_
          refine lv_tope (show (nI (fb_ct (P_sent gs g) i)) + (1 : Int32) = nI (fb_ct (P_sent gs g) (i + 1)) from ct_1 (P := P_sent gs g) (yes_dec c2)) ?_
          refine lv_istore_n (lv' := [(2, .int (nI (fb_ct (P_sent gs g) (i + 1)))), (0, .ref h0), (1, .int g), (3, .int (nI i))]) hx hb dX1_sent_27 rfl hl (by decide) rfl (fun ls hl => ?_)
          refine lv_iinc (v := nI (i + 1)) (lv' := [(3, .int (nI (i + 1))), (2, .int (nI (fb_ct (P_sent gs g) (i + 1)))), (0, .ref h0), (1, .int g)]) hx hb dX1_sent_28 hl (k := 3) rfl (inc_1 i) (by decide) rfl (fun ls hl => ?_)
          refine lv_goto (tgt := 4) hx hb dX1_sent_31 (by decide) ?_
          exact ih4 (i + 1) (by omega) (by omega) ls (lv_sub hl [2, 3, 1, 0] rfl)
  exact loop4 257 0 (by decide) (by decide) ls (lv_sub hl [2, 3, 1, 0] rfl)
set_option maxHeartbeats 4000000 in
set_option maxRecDepth 100000 in
/-- begins(a) -/
theorem met_X1_begins (l : Launch) (D : va_G) (h0 q1 q2 : Nat) (k1 k2 : ClassId) (gs bf : Nat → Int32) (a : Nat) (ha : a < 256) : Met l yX1_begins (ws_ yX1_begins cX1_begins 2 (some .boolean)) ({ frames := 3, cells := 0, slots := 0, locals := 66 }) (rdP D (W1 h0 q1 q2 k1 k2 gs bf) (K1 k1 k2) [.ref h0, .int (nI a)]) (QcRead (b2i (S_begins gs a))) 0 0 (fun _ => False) := by
  refine Met.ofW (cc := cX1_begins) (maxL := 2) (ret := (some .boolean)) (by decide) rfl ?_
  intro p e s m args below meth c s₁ B hml hv
  obtain ⟨rfl, hP, hK⟩ := hv
  have hx := B.exec
  have hb := B.bytes
  have hr := B.returns
  have hts := atoms_spec (ws := (ws_ yX1_begins cX1_begins 2 (some .boolean))) B.pre
  have hts : ∀ w ∈ lw_all, w.before _ s = true := fun w h => hts w (List.mem_cons_of_mem _ h)
  have hown : s.vm.findClass RX1 = some m.cls := findClass_of_methodNamed B.named
  have hlocks := B.notSynchronized
  have hl := lv_entry ([.ref h0, .int (nI a)]) (n := 2) (Nat.le_of_ble_eq_true rfl)
  rw [lg_entry_eq]
  generalize (lg_sl ([.ref h0, .int (nI a)]) ++ List.replicate (2 - (lg_sl ([.ref h0, .int (nI a)])).length) Slot.unset).toArray = ls at hl ⊢
  have hl : lv_has ls 2 [(0, .ref h0), (1, .int (nI a))] := hl
  have S0 : CallFix p m c cX1_begins 2 s _ lw_all RX1 := ⟨hx, hb, hml, hown, hts⟩
  refine lv_iload_n hx hb dX1_begins_0 rfl (lv_at hl 1 rfl) ?_
  refine lv_if_eq (tgt := 19) hx hb dX1_begins_1 (by decide) (fun c1 => ?_) (fun c1 => ?_)
  · have c1 := nI0_eq ha c1
    refine lv_iconst (v := 1) hx hb dX1_begins_19 (by decide) ?_
    refine lv_goto (tgt := 24) hx hb dX1_begins_20 (by decide) ?_
    exact rd_zret (v := (1 : Int32)) hx hb hr hlocks rfl (b2i_t (by unfold S_begins; rw [yes_dec c1] <;> rfl)) dX1_begins_24
  · have c1 : 0 < a := Nat.pos_of_ne_zero fun q => c1 (by rw [q]; rfl)
    refine lv_aload_n hx hb dX1_begins_4 rfl (lv_at hl 0 rfl) ?_
    refine lv_iload_n hx hb dX1_begins_5 rfl (lv_at hl 1 rfl) ?_
    refine rd_callV (As := [.int (nI a)]) (rest := []) (b := h0) (ci := 1) (q0 := 0) S0 (met_X1_goal l D h0 q1 q2 k1 k2 gs bf (nI a)) (cwV 1 hts (lw_V q207 q187 q188 q12 q189) rfl rfl rfl (by decide +kernel) ⟨Nat.le_of_ble_eq_true rfl, Nat.le_of_ble_eq_true rfl⟩) hP hK rfl rfl rfl hl.1 rfl (Nat.le_of_ble_eq_true rfl) dX1_begins_6 ⟨Nat.zero_le _, Nat.zero_le _⟩ ?_
    refine lv_tope (show S_goal gs (nI a) = Sg gs a 9 from S_goal_nI ha) ?_
    refine lv_aload_n hx hb dX1_begins_9 rfl (lv_at hl 0 rfl) ?_
    refine lv_iload_n hx hb dX1_begins_10 rfl (lv_at hl 1 rfl) ?_
    refine lv_iconst (v := 1) hx hb dX1_begins_11 (by decide) ?_
    refine lv_isub hx hb dX1_begins_12 ?_
    refine lv_tope (show (nI a) - (1 : Int32) = nI (a - 1) from pk_sub (a := a) (b := 1) c1) ?_
    refine rd_callV (As := [.int (nI (a - 1))]) (rest := [.int (Sg gs a 9)]) (b := h0) (ci := 1) (q0 := 0) S0 (met_X1_goal l D h0 q1 q2 k1 k2 gs bf (nI (a - 1))) (cwV 1 hts (lw_V q207 q187 q188 q12 q189) rfl rfl rfl (by decide +kernel) ⟨Nat.le_of_ble_eq_true rfl, Nat.le_of_ble_eq_true rfl⟩) hP hK rfl rfl rfl hl.1 rfl (Nat.le_of_ble_eq_true rfl) dX1_begins_13 ⟨Nat.zero_le _, Nat.zero_le _⟩ ?_
    refine lv_tope (show S_goal gs (nI (a - 1)) = Sg gs (a - 1) 9 from S_goal_nI (by omega)) ?_
    refine lv_icmp_eq (tgt := 23) hx hb dX1_begins_16 (by decide) (fun c2 => ?_) (fun c2 => ?_)
    · refine lv_iconst (v := 0) hx hb dX1_begins_23 (by decide) ?_
      exact rd_zret (v := (0 : Int32)) hx hb hr hlocks rfl (b2i_f (by unfold S_begins; rw [not_dec (show ¬ a = 0 by omega), yes_dec c2] <;> rfl)) dX1_begins_24
    · refine lv_iconst (v := 1) hx hb dX1_begins_19 (by decide) ?_
      refine lv_goto (tgt := 24) hx hb dX1_begins_20 (by decide) ?_
      exact rd_zret (v := (1 : Int32)) hx hb hr hlocks rfl (b2i_t (by unfold S_begins; rw [not_dec (show ¬ a = 0 by omega), not_dec c2] <;> rfl)) dX1_begins_24
set_option maxHeartbeats 4000000 in
set_option maxRecDepth 100000 in
/-- spans() -/
theorem met_X1_spans (l : Launch) (D : va_G) (h0 q1 q2 : Nat) (k1 k2 : ClassId) (gs bf : Nat → Int32)  : Met l yX1_spans (ws_ yX1_spans cX1_spans 3 (some .int)) ({ frames := 4, cells := 0, slots := 0, locals := 87 }) (rdP D (W1 h0 q1 q2 k1 k2 gs bf) (K1 k1 k2) [.ref h0]) (QcRead (S_spans gs)) 0 0 (fun _ => False) := by
  refine Met.ofW (cc := cX1_spans) (maxL := 3) (ret := (some .int)) (by decide) rfl ?_
  intro p e s m args below meth c s₁ B hml hv
  obtain ⟨rfl, hP, hK⟩ := hv
  have hx := B.exec
  have hb := B.bytes
  have hr := B.returns
  have hts := atoms_spec (ws := (ws_ yX1_spans cX1_spans 3 (some .int))) B.pre
  have hts : ∀ w ∈ lw_all, w.before _ s = true := fun w h => hts w (List.mem_cons_of_mem _ h)
  have hown : s.vm.findClass RX1 = some m.cls := findClass_of_methodNamed B.named
  have hlocks := B.notSynchronized
  have hl := lv_entry ([.ref h0]) (n := 3) (Nat.le_of_ble_eq_true rfl)
  rw [lg_entry_eq]
  generalize (lg_sl ([.ref h0]) ++ List.replicate (3 - (lg_sl ([.ref h0])).length) Slot.unset).toArray = ls at hl ⊢
  have hl : lv_has ls 3 [(0, .ref h0)] := hl
  have S0 : CallFix p m c cX1_spans 3 s _ lw_all RX1 := ⟨hx, hb, hml, hown, hts⟩
  refine lv_iconst (v := 0) hx hb dX1_spans_0 (by decide) ?_
  refine lv_istore_n (lv' := [(1, .int (0 : Int32)), (0, .ref h0)]) hx hb dX1_spans_1 rfl hl (by decide) rfl (fun ls hl => ?_)
  refine lv_iconst (v := 0) hx hb dX1_spans_2 (by decide) ?_
  refine lv_istore_n (lv' := [(2, .int (0 : Int32)), (1, .int (0 : Int32)), (0, .ref h0)]) hx hb dX1_spans_3 rfl hl (by decide) rfl (fun ls hl => ?_)
  have loop4 : ∀ (k : Nat) (i : Nat), i ≤ 256 → 257 ≤ i + k → ∀ (ls : Array Slot), lv_has ls 3 [(0, .ref h0), (1, .int (nI (fb_ct (S_begins gs) i))), (2, .int (nI i))] → WR p l e (headSpec (ws_ yX1_spans cX1_spans 3 (some .int)) ({ frames := 4, cells := 0, slots := 0, locals := 87 })).room s m ([.ref h0] : List Value).toArray below meth c (S_spans gs) (F0 m 4 ls []) := by
    intro k
    induction k with
    | zero =>
      intro i h1 h2 ls hl
      exact absurd h2 (by omega)
    | succ k ih4 =>
      intro i h1 h2 ls hl
      refine lv_iload_n hx hb dX1_spans_4 rfl (lv_at hl 2 rfl) ?_
      refine lv_sipush (v := 256) hx hb dX1_spans_5 (by decide) ?_
      refine lv_icmp_ge (tgt := 33) hx hb dX1_spans_8 (by decide) (fun c1 => ?_) (fun c1 => ?_)
      · have c1 : i = 256 := ge_N (N := 256) (by decide) h1 c1
        refine lv_iload_n hx hb dX1_spans_33 rfl (lv_at hl 1 rfl) ?_
        exact rd_iret (v := nI (fb_ct (S_begins gs) i)) hx hb hr hlocks (by rw [c1]; rfl) dX1_spans_34
      · have c1 : i < 256 := lt_N (N := 256) (by decide) h1 c1
        refine lv_aload_n hx hb dX1_spans_11 rfl (lv_at hl 0 rfl) ?_
        refine lv_iload_n hx hb dX1_spans_12 rfl (lv_at hl 2 rfl) ?_
        refine rd_callV (As := [.int (nI i)]) (rest := []) (b := h0) (ci := 1) (q0 := 0) S0 (met_X1_begins l D h0 q1 q2 k1 k2 gs bf i c1) (cwV 1 hts (lw_V q227 q229 qs9 q12 q230) rfl rfl rfl (by decide +kernel) ⟨Nat.le_of_ble_eq_true rfl, Nat.le_of_ble_eq_true rfl⟩) hP hK rfl rfl rfl hl.1 rfl (Nat.le_of_ble_eq_true rfl) dX1_spans_13 ⟨Nat.zero_le _, Nat.zero_le _⟩ ?_
        refine lv_if_eq (tgt := 25) hx hb dX1_spans_16 (by decide) (fun c2 => ?_) (fun c2 => ?_)
        · have c2 := b2i_0 c2
          refine lv_iload_n hx hb dX1_spans_25 rfl (lv_at hl 1 rfl) ?_
          refine lv_tope (show nI (fb_ct (S_begins gs) i) = nI (fb_ct (S_begins gs) (i + 1)) from ct_n c2) ?_
          refine lv_istore_n (lv' := [(1, .int (nI (fb_ct (S_begins gs) (i + 1)))), (0, .ref h0), (2, .int (nI i))]) hx hb dX1_spans_26 rfl hl (by decide) rfl (fun ls hl => ?_)
          refine lv_iinc (v := nI (i + 1)) (lv' := [(2, .int (nI (i + 1))), (1, .int (nI (fb_ct (S_begins gs) (i + 1)))), (0, .ref h0)]) hx hb dX1_spans_27 hl (k := 2) rfl (inc_1 i) (by decide) rfl (fun ls hl => ?_)
          refine lv_goto (tgt := 4) hx hb dX1_spans_30 (by decide) ?_
          exact ih4 (i + 1) (by omega) (by omega) ls (lv_sub hl [2, 1, 0] rfl)
        · have c2 := b2i_n0 c2
          refine lv_iload_n hx hb dX1_spans_19 rfl (lv_at hl 1 rfl) ?_
          refine lv_iconst (v := 1) hx hb dX1_spans_20 (by decide) ?_
          refine lv_iadd hx hb dX1_spans_21 ?_
          refine lv_goto (tgt := 26) hx hb dX1_spans_22 (by decide) ?_
          refine lv_tope (show (nI (fb_ct (S_begins gs) i)) + (1 : Int32) = nI (fb_ct (S_begins gs) (i + 1)) from ct_1 c2) ?_
          refine lv_istore_n (lv' := [(1, .int (nI (fb_ct (S_begins gs) (i + 1)))), (0, .ref h0), (2, .int (nI i))]) hx hb dX1_spans_26 rfl hl (by decide) rfl (fun ls hl => ?_)
          refine lv_iinc (v := nI (i + 1)) (lv' := [(2, .int (nI (i + 1))), (1, .int (nI (fb_ct (S_begins gs) (i + 1)))), (0, .ref h0)]) hx hb dX1_spans_27 hl (k := 2) rfl (inc_1 i) (by decide) rfl (fun ls hl => ?_)
          refine lv_goto (tgt := 4) hx hb dX1_spans_30 (by decide) ?_
          exact ih4 (i + 1) (by omega) (by omega) ls (lv_sub hl [2, 1, 0] rfl)
  exact loop4 257 0 (by decide) (by decide) ls (lv_sub hl [2, 1, 0] rfl)
set_option maxHeartbeats 4000000 in
set_option maxRecDepth 100000 in
/-- spanStart(i) -/
theorem met_X1_spanStart (l : Launch) (D : va_G) (h0 q1 q2 : Nat) (k1 k2 : ClassId) (gs bf : Nat → Int32) (j : Int32) : Met l yX1_spanStart (ws_ yX1_spanStart cX1_spanStart 4 (some .int)) ({ frames := 4, cells := 0, slots := 0, locals := 87 }) (rdP D (W1 h0 q1 q2 k1 k2 gs bf) (K1 k1 k2) [.ref h0, .int j]) (QcRead (S_spanStart gs j)) 0 0 (fun _ => False) := by
  refine Met.ofW (cc := cX1_spanStart) (maxL := 4) (ret := (some .int)) (by decide) rfl ?_
  intro p e s m args below meth c s₁ B hml hv
  obtain ⟨rfl, hP, hK⟩ := hv
  have hx := B.exec
  have hb := B.bytes
  have hr := B.returns
  have hts := atoms_spec (ws := (ws_ yX1_spanStart cX1_spanStart 4 (some .int))) B.pre
  have hts : ∀ w ∈ lw_all, w.before _ s = true := fun w h => hts w (List.mem_cons_of_mem _ h)
  have hown : s.vm.findClass RX1 = some m.cls := findClass_of_methodNamed B.named
  have hlocks := B.notSynchronized
  have hl := lv_entry ([.ref h0, .int j]) (n := 4) (Nat.le_of_ble_eq_true rfl)
  rw [lg_entry_eq]
  generalize (lg_sl ([.ref h0, .int j]) ++ List.replicate (4 - (lg_sl ([.ref h0, .int j])).length) Slot.unset).toArray = ls at hl ⊢
  have hl : lv_has ls 4 [(0, .ref h0), (1, .int j)] := hl
  have S0 : CallFix p m c cX1_spanStart 4 s _ lw_all RX1 := ⟨hx, hb, hml, hown, hts⟩
  refine lv_iconst (v := 0) hx hb dX1_spanStart_0 (by decide) ?_
  refine lv_istore_n (lv' := [(2, .int (0 : Int32)), (0, .ref h0), (1, .int j)]) hx hb dX1_spanStart_1 rfl hl (by decide) rfl (fun ls hl => ?_)
  refine lv_iconst (v := 0) hx hb dX1_spanStart_2 (by decide) ?_
  refine lv_istore_n (lv' := [(3, .int (0 : Int32)), (2, .int (0 : Int32)), (0, .ref h0), (1, .int j)]) hx hb dX1_spanStart_3 rfl hl (by decide) rfl (fun ls hl => ?_)
  have loop4 : ∀ (k : Nat) (i : Nat) (n : Int32), i ≤ 256 → 257 ≤ i + k → spF (S_begins gs) j (256 - i) i n = S_spanStart gs j → ∀ (ls : Array Slot), lv_has ls 4 [(0, .ref h0), (1, .int j), (2, .int n), (3, .int (nI i))] → WR p l e (headSpec (ws_ yX1_spanStart cX1_spanStart 4 (some .int)) ({ frames := 4, cells := 0, slots := 0, locals := 87 })).room s m ([.ref h0, .int j] : List Value).toArray below meth c (S_spanStart gs j) (F0 m 4 ls []) := by
    intro k
    induction k with
    | zero =>
      intro i n h1 h2 h3 ls hl
      exact absurd h2 (by omega)
    | succ k ih4 =>
      intro i n h1 h2 h3 ls hl
      refine lv_iload_n hx hb dX1_spanStart_4 rfl (lv_at hl 3 rfl) ?_
      refine lv_sipush (v := 256) hx hb dX1_spanStart_5 (by decide) ?_
      refine lv_icmp_ge (tgt := 35) hx hb dX1_spanStart_8 (by decide) (fun c1 => ?_) (fun c1 => ?_)
      · have c1 : i = 256 := ge_N (N := 256) (by decide) h1 c1
        refine lv_iconst (v := (-1)) hx hb dX1_spanStart_35 (by decide) ?_
        exact rd_iret (v := (-1 : Int32)) hx hb hr hlocks (by rw [← h3, show 256 - i = 0 by omega]; rfl) dX1_spanStart_36
      · have c1 : i < 256 := lt_N (N := 256) (by decide) h1 c1
        refine lv_aload_n hx hb dX1_spanStart_11 rfl (lv_at hl 0 rfl) ?_
        refine lv_iload_n hx hb dX1_spanStart_12 rfl (lv_at hl 3 rfl) ?_
        refine rd_callV (As := [.int (nI i)]) (rest := []) (b := h0) (ci := 1) (q0 := 0) S0 (met_X1_begins l D h0 q1 q2 k1 k2 gs bf i c1) (cwV 1 hts (lw_V q227 q229 qs9 q12 q230) rfl rfl rfl (by decide +kernel) ⟨Nat.le_of_ble_eq_true rfl, Nat.le_of_ble_eq_true rfl⟩) hP hK rfl rfl rfl hl.1 rfl (Nat.le_of_ble_eq_true rfl) dX1_spanStart_13 ⟨Nat.zero_le _, Nat.zero_le _⟩ ?_
        refine lv_if_eq (tgt := 29) hx hb dX1_spanStart_16 (by decide) (fun c2 => ?_) (fun c2 => ?_)
        · have c2 := b2i_0 c2
          refine lv_iinc (v := nI (i + 1)) (lv' := [(3, .int (nI (i + 1))), (0, .ref h0), (1, .int j), (2, .int n)]) hx hb dX1_spanStart_29 hl (k := 3) rfl (inc_1 i) (by decide) rfl (fun ls hl => ?_)
          refine lv_goto (tgt := 4) hx hb dX1_spanStart_32 (by decide) ?_
          exact ih4 (i + 1) n (by omega) (by omega) (by rw [← h3, sp_no c1 c2]) ls (lv_sub hl [1, 2, 3, 0] rfl)
        · have c2 := b2i_n0 c2
          refine lv_iload_n hx hb dX1_spanStart_19 rfl (lv_at hl 2 rfl) ?_
          refine lv_iload_n hx hb dX1_spanStart_20 rfl (lv_at hl 1 rfl) ?_
          refine lv_icmp_ne (tgt := 26) hx hb dX1_spanStart_21 (by decide) (fun c3 => ?_) (fun c3 => ?_)
          · refine lv_iinc (v := n + 1) (lv' := [(2, .int (n + 1)), (0, .ref h0), (1, .int j), (3, .int (nI i))]) hx hb dX1_spanStart_26 hl (k := 2) rfl rfl (by decide) rfl (fun ls hl => ?_)
            refine lv_iinc (v := nI (i + 1)) (lv' := [(3, .int (nI (i + 1))), (2, .int (n + 1)), (0, .ref h0), (1, .int j)]) hx hb dX1_spanStart_29 hl (k := 3) rfl (inc_1 i) (by decide) rfl (fun ls hl => ?_)
            refine lv_goto (tgt := 4) hx hb dX1_spanStart_32 (by decide) ?_
            exact ih4 (i + 1) (n + 1) (by omega) (by omega) (by rw [← h3, sp_next c1 c2 c3]) ls (lv_sub hl [2, 3, 1, 0] rfl)
          · refine lv_iload_n hx hb dX1_spanStart_24 rfl (lv_at hl 3 rfl) ?_
            exact rd_iret (v := nI i) hx hb hr hlocks (by rw [← h3, sp_hit c1 c2 c3]) dX1_spanStart_25
  exact loop4 257 0 0 (by decide) (by decide) rfl ls (lv_sub hl [2, 3, 1, 0] rfl)
end
section
/-! ===== the methods that write ===== -/
abbrev wrP (D : va_G) (cs : va_W) (tys : List (ClassId × FieldType)) (sz : Nat) (av : List Value) : Array Value → State → Prop := va_Pc av (fun U => U.heap.size = sz ∧ va_P D vwCl cs U.heap ∧ va_K D vwCl tys U ∧ va_D (fun _ => True) cs)
theorem wrP_blind {D : va_G} {cs : va_W} {tys : List (ClassId × FieldType)} {sz : Nat} {av : List Value} : FrameBlind (wrP D cs tys sz av) := fun a U g mk q => ⟨q.1, q.2.1, q.2.2.1, va_K.moved (u := U) (U := U.calling g mk a) (Vm.Alike.refl U.vm) q.2.2.2.1, q.2.2.2.2⟩
abbrev U0 : Type := Int32 × Int32 × (Nat → Int32) × (Nat → Int32) × (Nat → Int32)
abbrev RelU (u : U0) (gs : Nat → Int32) : Prop := Rel u.1 u.2.1 u.2.2.1 u.2.2.2.1 u.2.2.2.2 gs
abbrev B0 (D : va_G) (A : Nat → Prop) (h0 q1 q2 q3 : Nat) (k1 k2 k3 : ClassId) (u : U0) (t : State) : Prop := va_P D vwCl (W0 h0 q1 q2 q3 k1 k2 k3 u.1 u.2.1 u.2.2.1 u.2.2.2.1 u.2.2.2.2) t.heap ∧ va_K D vwCl (K0 k1 k2 k3) t ∧ va_D A (W0 h0 q1 q2 q3 k1 k2 k3 u.1 u.2.1 u.2.2.1 u.2.2.2.1 u.2.2.2.2)
abbrev B1 (D : va_G) (A : Nat → Prop) (h0 q1 q2 : Nat) (k1 k2 : ClassId) (gs bf : Nat → Int32) (t : State) : Prop := va_P D vwCl (W1 h0 q1 q2 k1 k2 gs bf) t.heap ∧ va_K D vwCl (K1 k1 k2) t ∧ va_D A (W1 h0 q1 q2 k1 k2 gs bf)
theorem byte_ok {g : Int32} (h0 : ¬ g < 0) (h9 : g ≤ 99) : g.toInt8.toInt32 = g := by
  obtain ⟨j, hj, rfl⟩ := nI_of2 (x := g) (M := 99) (n := 99) (by decide) h0 h9
  exact fa_byte_small (by omega)
theorem nar_ok {g : Int32} (h0 : ¬ g < 0) (h9 : g ≤ 99) : vp_nar .byte g = g := by rw [vp_nar_byte, byte_ok h0 h9]
theorem le_nlt {a b : Int32} (h : a ≤ b) : ¬ b < a := fun q => (fa_of_lt q).2.1 h
theorem put_no {gs : Nat → Int32} {a b g : Int32} (h : S_put a b g = false) : gs_put gs a b g = gs := by rw [gs_put, h]; rfl
theorem put_yes {gs : Nat → Int32} {a n : Nat} {g : Int32} (ha : a < 256) (hn : n ≤ 8) (h : S_put (nI a) (nI n) g = true) : gs_put gs (nI a) (nI n) g = upd gs (cel a n) g := by rw [gs_put, h, clN ha, clN8 hn]; rfl
theorem drop_no {gs : Nat → Int32} {a b : Int32} (h : S_has gs a b = false) : gs_drop gs a b = gs := by rw [gs_drop, h]; rfl
theorem put_beg {a b g : Int32} (h : isBeg a b = false) : S_put a b g = false := by rw [S_put, h]; rfl
theorem put_neg {a b g : Int32} (h : g < 0) : S_put a b g = false := by rw [S_put, yes_dec h]; cases isBeg a b <;> rfl
theorem put_big {a b g : Int32} (h : ¬ g ≤ 99) : S_put a b g = false := by
  rw [S_put, yes_dec (fa_of_nle h)]
  cases isBeg a b <;> cases decide (g < 0) <;> rfl
theorem put_ok {a b g : Int32} (h : isBeg a b = true) (h0 : ¬ g < 0) (h9 : g ≤ 99) : S_put a b g = true := by rw [S_put, h, not_dec h0, not_dec (le_nlt h9)]; rfl
set_option maxHeartbeats 4000000 in
set_option maxRecDepth 100000 in
/-- put(address, bits, goal) -/
theorem met_X0_put (l : Launch) (D : va_G) (h0 q1 q2 q3 : Nat) (k1 k2 k3 : ClassId) (tb ct : Int32) (tg lb lg gs : Nat → Int32) (hR : Rel tb ct tg lb lg gs) (sz : Nat) (p0 p1 p2 : Int32) : Met l yX0_put (ws_ yX0_put cX0_put 6 (some .boolean)) ({ frames := 2, cells := 0, slots := 0, locals := 46 }) (wrP D (W0 h0 q1 q2 q3 k1 k2 k3 tb ct tg lb lg) (K0 k1 k2 k3) sz [.ref h0, .int p0, .int p1, .int p2]) (va_Qi (fun (r : Int32) (u : U0) => r = b2i (S_put p0 p1 p2) ∧ RelU u (gs_put gs p0 p1 p2)) (B0 D (va_A (W0 h0 q1 q2 q3 k1 k2 k3 tb ct tg lb lg) sz) h0 q1 q2 q3 k1 k2 k3) (va_A (W0 h0 q1 q2 q3 k1 k2 k3 tb ct tg lb lg) sz)) 0 0 (va_A (W0 h0 q1 q2 q3 k1 k2 k3 tb ct tg lb lg) sz) := by
  refine Met.ofW (cc := cX0_put) (maxL := 6) (ret := (some .boolean)) (by decide) rfl ?_
  intro p e s m args below meth c s₁ B hml hv
  obtain ⟨rfl, hsz, hP, hK, hD0⟩ := hv
  have hx := B.exec
  have hb := B.bytes
  have hr := B.returns
  have hts := atoms_spec (ws := (ws_ yX0_put cX0_put 6 (some .boolean))) B.pre
  have hts : ∀ w ∈ lw_all, w.before _ s = true := fun w h => hts w (List.mem_cons_of_mem _ h)
  have hown : s.vm.findClass RX0 = some m.cls := findClass_of_methodNamed B.named
  have hlocks := B.notSynchronized
  subst hsz
  have hD := hD0.self (sz := s.heap.size)
  generalize hAe : va_A (W0 h0 q1 q2 q3 k1 k2 k3 tb ct tg lb lg) s.heap.size = A at hD ⊢
  have hA : ∀ q : Nat, s.heap.size ≤ q → A q := fun q h => by rw [← hAe]; exact Or.inr h
  have hS : va_S A s.heap s.heap [] := va_S.rf
  have hP : va_P D vwCl (W0 h0 q1 q2 q3 k1 k2 k3 tb ct tg lb lg) s.heap := hP
  have hl := lv_entry ([.ref h0, .int p0, .int p1, .int p2]) (n := 6) (Nat.le_of_ble_eq_true rfl)
  rw [lg_entry_eq]
  generalize (lg_sl ([.ref h0, .int p0, .int p1, .int p2]) ++ List.replicate (6 - (lg_sl ([.ref h0, .int p0, .int p1, .int p2])).length) Slot.unset).toArray = ls at hl ⊢
  have hl : lv_has ls 6 [(0, .ref h0), (1, .int p0), (2, .int p1), (3, .int p2)] := hl
  have S0 : CallFix p m c cX0_put 6 s _ lw_all RX0 := ⟨hx, hb, hml, hown, hts⟩
  refine lv_iload_n hx hb dX0_put_0 rfl (lv_at hl 1 rfl) ?_
  refine lv_iload_n hx hb dX0_put_1 rfl (lv_at hl 2 rfl) ?_
  refine rd_callS (As := [.int p0, .int p1]) (rest := []) S0 (met_X0_isBeginning l p0 p1) (va_cwS 2 hts (lw_S q43 q44 q11 q45) rfl rfl rfl (by decide +kernel) ⟨Nat.le_of_ble_eq_true rfl, Nat.le_of_ble_eq_true rfl⟩) rfl hl.1 rfl (Nat.le_of_ble_eq_true rfl) dX0_put_2 ⟨Nat.zero_le _, Nat.zero_le _⟩ ?_
  refine lv_if_eq (tgt := 18) hx hb dX0_put_5 (by decide) (fun c1 => ?_) (fun c1 => ?_)
  · have c1 := b2i_0 c1
    refine lv_iconst (v := 0) hx hb dX0_put_18 (by decide) ?_
    exact W.zret (v := (0 : Int32)) hx hb hr rfl (fun t ht hW => ⟨⟨(0 : Int32), (tb, ct, tg, lb, lg), rfl, ⟨b2i_f (put_beg c1), by rw [put_no (put_beg c1)]; exact hR⟩, by rw [ht]; exact hP, va_K.moved hW.alike hK, hD⟩, hS.F ht⟩) hS.2.2 dX0_put_19 hlocks
  · have c1 := b2i_n0 c1
    refine lv_iload_n hx hb dX0_put_8 rfl (lv_at hl 3 rfl) ?_
    refine lv_if_lt (tgt := 18) hx hb dX0_put_9 (by decide) (fun c2 => ?_) (fun c2 => ?_)
    · refine lv_iconst (v := 0) hx hb dX0_put_18 (by decide) ?_
      exact W.zret (v := (0 : Int32)) hx hb hr rfl (fun t ht hW => ⟨⟨(0 : Int32), (tb, ct, tg, lb, lg), rfl, ⟨b2i_f (put_neg c2), by rw [put_no (put_neg c2)]; exact hR⟩, by rw [ht]; exact hP, va_K.moved hW.alike hK, hD⟩, hS.F ht⟩) hS.2.2 dX0_put_19 hlocks
    · refine lv_iload_n hx hb dX0_put_12 rfl (lv_at hl 3 rfl) ?_
      refine lv_bipush (v := 99) hx hb dX0_put_13 (by decide) ?_
      refine lv_icmp_le (tgt := 20) hx hb dX0_put_15 (by decide) (fun c3 => ?_) (fun c3 => ?_)
      · obtain ⟨a, n, ha, hn, ea, en, hd⟩ := isBeg_of c1
        subst ea
        subst en
        refine lv_aload_n hx hb dX0_put_20 rfl (lv_at hl 0 rfl) ?_
        refine lv_dup hx hb dX0_put_21 rfl ?_
        refine va_get (D := D) (ci := 0) (v := .int ct) (C := RX0) (T := TX0) (N := 5) hx hb hts in_X0 hown hK hP 0 rfl rfl 4 (by decide) (hts _ q25) (fun _ h9 => h9) rfl dX0_put_22 ?_
        refine lv_aload_n hx hb dX0_put_25 rfl (lv_at hl 0 rfl) ?_
        refine lv_iload_n hx hb dX0_put_26 rfl (lv_at hl 1 rfl) ?_
        refine lv_iload_n hx hb dX0_put_27 rfl (lv_at hl 2 rfl) ?_
        refine rd_callV (As := [.int (nI a), .int (nI n)]) (rest := [.int ct, .ref h0]) (b := h0) (ci := 0) (q0 := 0) S0 (met_X0_has l D h0 q1 q2 q3 k1 k2 k3 tb ct tg lb lg gs hR a n ha hn) (cwV 2 hts (lw_V q49 q51 qs0 q11 q52) rfl rfl rfl (by decide +kernel) ⟨Nat.le_of_ble_eq_true rfl, Nat.le_of_ble_eq_true rfl⟩) hP hK rfl rfl rfl hl.1 rfl (Nat.le_of_ble_eq_true rfl) dX0_put_28 ⟨Nat.zero_le _, Nat.zero_le _⟩ ?_
        refine lv_if_eq (tgt := 38) hx hb dX0_put_31 (by decide) (fun c4 => ?_) (fun c4 => ?_)
        · have c4 := b2i_0 c4
          refine lv_iconst (v := 1) hx hb dX0_put_38 (by decide) ?_
          refine lv_iadd hx hb dX0_put_39 ?_
          refine lv_tope (show ct + (1 : Int32) = ct + (if hs gs a n then 0 else 1) from (by rw [c4]; rfl)) ?_
          refine va_put (D := D) (ci := 0) (v := .int (ct + (if hs gs a n then 0 else 1))) (ty := .int) (C := RX0) (T := TX0) (N := 5) hx hb hts in_X0 tyX0 tyX0_ok nmX0 hown hK hP hD hS 0 rfl rfl 4 (by decide) (hts _ q25) (fun _ h9 => h9) rfl (by decide +kernel) rfl rfl (Nat.le_of_ble_eq_true rfl) dX0_put_40 (fun H locs hP hD hS => ?_)
          have hP : va_P D vwCl (W0 h0 q1 q2 q3 k1 k2 k3 tb (ct + (if hs gs a n then 0 else 1)) tg lb lg) H := hP
          have hD : va_D A (W0 h0 q1 q2 q3 k1 k2 k3 tb (ct + (if hs gs a n then 0 else 1)) tg lb lg) := hD
          refine lv_iload_n hx hb dX0_put_43 rfl (lv_at hl 1 rfl) ?_
          refine lv_iload_n hx hb dX0_put_44 rfl (lv_at hl 2 rfl) ?_
          refine rd_callS (As := [.int (nI a), .int (nI n)]) (rest := []) S0 (met_X0_place l a n ha hn) (va_cwS 2 hts (lw_S q53 q54 q11 q55) rfl rfl rfl (by decide +kernel) ⟨Nat.le_of_ble_eq_true rfl, Nat.le_of_ble_eq_true rfl⟩) rfl hl.1 rfl (Nat.le_of_ble_eq_true rfl) dX0_put_45 ⟨Nat.zero_le _, Nat.zero_le _⟩ ?_
          refine lv_istore (lv' := [(4, .int (nI (plc a n))), (0, .ref h0), (1, .int (nI a)), (2, .int (nI n)), (3, .int p2)]) hx hb dX0_put_48 hl (by decide) rfl (fun ls hl => ?_)
          refine lv_iload_n hx hb dX0_put_50 rfl (lv_at hl 3 rfl) ?_
          refine lv_iconst (v := 4) hx hb dX0_put_51 (by decide) ?_
          refine lv_icmp_ge (tgt := 80) hx hb dX0_put_52 (by decide) (fun c5 => ?_) (fun c5 => ?_)
          · have c5 : ¬ n < 4 := Nat.not_lt.mpr (nI_4le (by omega) c5)
            refine lv_iload_n hx hb dX0_put_80 rfl (lv_at hl 2 rfl) ?_
            refine lv_iconst (v := 4) hx hb dX0_put_81 (by decide) ?_
            refine lv_ishr hx hb dX0_put_82 ?_
            refine lv_tope (show (nI a) >>> ((4 : Int32) &&& 31) = nI (a / 16) from shr4 ha) ?_
            refine lv_istore (lv' := [(5, .int (nI (a / 16))), (4, .int (nI (plc a n))), (0, .ref h0), (1, .int (nI a)), (2, .int (nI n)), (3, .int p2)]) hx hb dX0_put_83 hl (by decide) rfl (fun ls hl => ?_)
            refine lv_aload_n hx hb dX0_put_85 rfl (lv_at hl 2 rfl) ?_
            refine va_get (D := D) (ci := 0) (v := .ref q2) (C := RX0) (T := TX0) (N := 5) hx hb hts in_X0 hown hK hP 0 rfl rfl 2 (by decide) (hts _ q23) (fun _ h9 => h9) rfl dX0_put_86 ?_
            refine lv_iload hx hb dX0_put_89 (lv_at hl 0 rfl) ?_
            refine lv_dup2_11 hx hb dX0_put_91 rfl rfl ?_
            refine rd_iald hx hb hK hP 2 1 rfl rfl (i := (a / 16)) (by omega) (by decide) dX0_put_92 ?_
            refine lv_iconst (v := 1) hx hb dX0_put_93 (by decide) ?_
            refine lv_iload hx hb dX0_put_94 (lv_at hl 1 rfl) ?_
            refine lv_ishl hx hb dX0_put_96 ?_
            refine lv_ior hx hb dX0_put_97 ?_
            refine wr_iast hx hb hK hP hD hS 2 1 rfl rfl (i := (a / 16)) (x := (lb (a / 16)) ||| ((1 : Int32) <<< ((nI (plc a n)) &&& 31))) (by omega) (by decide) dX0_put_98 (fun H locs hP hD hS => ?_)
            have hP : va_P D vwCl (W0 h0 q1 q2 q3 k1 k2 k3 tb (ct + (if hs gs a n then 0 else 1)) tg (upd lb (a / 16) ((lb (a / 16)) ||| ((1 : Int32) <<< ((nI (plc a n)) &&& 31)))) lg) H := hP
            have hD : va_D A (W0 h0 q1 q2 q3 k1 k2 k3 tb (ct + (if hs gs a n then 0 else 1)) tg (upd lb (a / 16) ((lb (a / 16)) ||| ((1 : Int32) <<< ((nI (plc a n)) &&& 31)))) lg) := hD
            refine lv_aload_n hx hb dX0_put_99 rfl (lv_at hl 2 rfl) ?_
            refine va_get (D := D) (ci := 0) (v := .ref q3) (C := RX0) (T := TX0) (N := 5) hx hb hts in_X0 hown hK hP 0 rfl rfl 3 (by decide) (hts _ q24) (fun _ h9 => h9) rfl dX0_put_100 ?_
            refine lv_iload hx hb dX0_put_103 (lv_at hl 0 rfl) ?_
            refine lv_bipush (v := 31) hx hb dX0_put_105 (by decide) ?_
            refine lv_imul hx hb dX0_put_107 ?_
            refine lv_tope (show (nI (a / 16)) * (31 : Int32) = nI (a / 16 * 31) from pk_mul _ 31) ?_
            refine lv_iload hx hb dX0_put_108 (lv_at hl 1 rfl) ?_
            refine lv_iadd hx hb dX0_put_110 ?_
            refine lv_tope (show (nI (a / 16 * 31)) + (nI (plc a n)) = nI (a / 16 * 31 + plc a n) from nI_add _ _) ?_
            refine lv_iload_n hx hb dX0_put_111 rfl (lv_at hl 5 rfl) ?_
            refine lv_i2b (v := p2) hx hb dX0_put_112 (byte_ok c2 c3) ?_
            refine wr_bast hx hb hK hP hD hS 3 2 rfl rfl (i := (a / 16 * 31 + plc a n)) (x := p2) (by have := plc_lt ha hn; omega) (by decide) (nar_ok c2 c3) dX0_put_113 (fun H locs hP hD hS => ?_)
            have hP : va_P D vwCl (W0 h0 q1 q2 q3 k1 k2 k3 tb (ct + (if hs gs a n then 0 else 1)) tg (upd lb (a / 16) ((lb (a / 16)) ||| ((1 : Int32) <<< ((nI (plc a n)) &&& 31)))) (upd lg (a / 16 * 31 + plc a n) p2)) H := hP
            have hD : va_D A (W0 h0 q1 q2 q3 k1 k2 k3 tb (ct + (if hs gs a n then 0 else 1)) tg (upd lb (a / 16) ((lb (a / 16)) ||| ((1 : Int32) <<< ((nI (plc a n)) &&& 31)))) (upd lg (a / 16 * 31 + plc a n) p2)) := hD
            refine lv_iconst (v := 1) hx hb dX0_put_114 (by decide) ?_
            exact W.zret (v := (1 : Int32)) hx hb hr rfl (fun t ht hW => ⟨⟨(1 : Int32), (tb, ct + (if hs gs a n then 0 else 1), tg, upd lb (a / 16) ((lb (a / 16)) ||| ((1 : Int32) <<< ((nI (plc a n)) &&& 31))), upd lg (a / 16 * 31 + plc a n) p2), rfl, ⟨b2i_t (put_ok c1 c2 c3), by rw [put_yes ha hn (put_ok c1 c2 c3)]; exact hR.put_low ha c5 hn c2 (le_nlt c3)⟩, by rw [ht]; exact hP, va_K.moved hW.alike hK, hD⟩, hS.F ht⟩) hS.2.2 dX0_put_115 hlocks
          · have c5 := nI_4gt (by omega) c5
            refine lv_aload_n hx hb dX0_put_55 rfl (lv_at hl 1 rfl) ?_
            refine lv_dup hx hb dX0_put_56 rfl ?_
            refine va_get (D := D) (ci := 0) (v := .int tb) (C := RX0) (T := TX0) (N := 5) hx hb hts in_X0 hown hK hP 0 rfl rfl 0 (by decide) (hts _ q21) (fun _ h9 => h9) rfl dX0_put_57 ?_
            refine lv_iconst (v := 1) hx hb dX0_put_60 (by decide) ?_
            refine lv_iload hx hb dX0_put_61 (lv_at hl 0 rfl) ?_
            refine lv_ishl hx hb dX0_put_63 ?_
            refine lv_ior hx hb dX0_put_64 ?_
            refine va_put (D := D) (ci := 0) (v := .int (tb ||| ((1 : Int32) <<< ((nI (plc a n)) &&& 31)))) (ty := .int) (C := RX0) (T := TX0) (N := 5) hx hb hts in_X0 tyX0 tyX0_ok nmX0 hown hK hP hD hS 0 rfl rfl 0 (by decide) (hts _ q21) (fun _ h9 => h9) rfl (by decide +kernel) rfl rfl (Nat.le_of_ble_eq_true rfl) dX0_put_65 (fun H locs hP hD hS => ?_)
            have hP : va_P D vwCl (W0 h0 q1 q2 q3 k1 k2 k3 (tb ||| ((1 : Int32) <<< ((nI (plc a n)) &&& 31))) (ct + (if hs gs a n then 0 else 1)) tg lb lg) H := hP
            have hD : va_D A (W0 h0 q1 q2 q3 k1 k2 k3 (tb ||| ((1 : Int32) <<< ((nI (plc a n)) &&& 31))) (ct + (if hs gs a n then 0 else 1)) tg lb lg) := hD
            refine lv_aload_n hx hb dX0_put_68 rfl (lv_at hl 1 rfl) ?_
            refine va_get (D := D) (ci := 0) (v := .ref q1) (C := RX0) (T := TX0) (N := 5) hx hb hts in_X0 hown hK hP 0 rfl rfl 1 (by decide) (hts _ q22) (fun _ h9 => h9) rfl dX0_put_69 ?_
            refine lv_iload hx hb dX0_put_72 (lv_at hl 0 rfl) ?_
            refine lv_iload_n hx hb dX0_put_74 rfl (lv_at hl 4 rfl) ?_
            refine lv_i2b (v := p2) hx hb dX0_put_75 (byte_ok c2 c3) ?_
            refine wr_bast hx hb hK hP hD hS 1 0 rfl rfl (i := (plc a n)) (x := p2) (plc_lt4 ha c5) (by decide) (nar_ok c2 c3) dX0_put_76 (fun H locs hP hD hS => ?_)
            have hP : va_P D vwCl (W0 h0 q1 q2 q3 k1 k2 k3 (tb ||| ((1 : Int32) <<< ((nI (plc a n)) &&& 31))) (ct + (if hs gs a n then 0 else 1)) (upd tg (plc a n) p2) lb lg) H := hP
            have hD : va_D A (W0 h0 q1 q2 q3 k1 k2 k3 (tb ||| ((1 : Int32) <<< ((nI (plc a n)) &&& 31))) (ct + (if hs gs a n then 0 else 1)) (upd tg (plc a n) p2) lb lg) := hD
            refine lv_goto (tgt := 114) hx hb dX0_put_77 (by decide) ?_
            refine lv_iconst (v := 1) hx hb dX0_put_114 (by decide) ?_
            exact W.zret (v := (1 : Int32)) hx hb hr rfl (fun t ht hW => ⟨⟨(1 : Int32), (tb ||| ((1 : Int32) <<< ((nI (plc a n)) &&& 31)), ct + (if hs gs a n then 0 else 1), upd tg (plc a n) p2, lb, lg), rfl, ⟨b2i_t (put_ok c1 c2 c3), by rw [put_yes ha hn (put_ok c1 c2 c3)]; exact hR.put_top ha c5 c2 (le_nlt c3)⟩, by rw [ht]; exact hP, va_K.moved hW.alike hK, hD⟩, hS.F ht⟩) hS.2.2 dX0_put_115 hlocks
        · have c4 := b2i_n0 c4
          refine lv_iconst (v := 0) hx hb dX0_put_34 (by decide) ?_
          refine lv_goto (tgt := 39) hx hb dX0_put_35 (by decide) ?_
          refine lv_iadd hx hb dX0_put_39 ?_
          refine lv_tope (show ct + (0 : Int32) = ct + (if hs gs a n then 0 else 1) from (by rw [c4]; rfl)) ?_
          refine va_put (D := D) (ci := 0) (v := .int (ct + (if hs gs a n then 0 else 1))) (ty := .int) (C := RX0) (T := TX0) (N := 5) hx hb hts in_X0 tyX0 tyX0_ok nmX0 hown hK hP hD hS 0 rfl rfl 4 (by decide) (hts _ q25) (fun _ h9 => h9) rfl (by decide +kernel) rfl rfl (Nat.le_of_ble_eq_true rfl) dX0_put_40 (fun H locs hP hD hS => ?_)
          have hP : va_P D vwCl (W0 h0 q1 q2 q3 k1 k2 k3 tb (ct + (if hs gs a n then 0 else 1)) tg lb lg) H := hP
          have hD : va_D A (W0 h0 q1 q2 q3 k1 k2 k3 tb (ct + (if hs gs a n then 0 else 1)) tg lb lg) := hD
          refine lv_iload_n hx hb dX0_put_43 rfl (lv_at hl 1 rfl) ?_
          refine lv_iload_n hx hb dX0_put_44 rfl (lv_at hl 2 rfl) ?_
          refine rd_callS (As := [.int (nI a), .int (nI n)]) (rest := []) S0 (met_X0_place l a n ha hn) (va_cwS 2 hts (lw_S q53 q54 q11 q55) rfl rfl rfl (by decide +kernel) ⟨Nat.le_of_ble_eq_true rfl, Nat.le_of_ble_eq_true rfl⟩) rfl hl.1 rfl (Nat.le_of_ble_eq_true rfl) dX0_put_45 ⟨Nat.zero_le _, Nat.zero_le _⟩ ?_
          refine lv_istore (lv' := [(4, .int (nI (plc a n))), (0, .ref h0), (1, .int (nI a)), (2, .int (nI n)), (3, .int p2)]) hx hb dX0_put_48 hl (by decide) rfl (fun ls hl => ?_)
          refine lv_iload_n hx hb dX0_put_50 rfl (lv_at hl 3 rfl) ?_
          refine lv_iconst (v := 4) hx hb dX0_put_51 (by decide) ?_
          refine lv_icmp_ge (tgt := 80) hx hb dX0_put_52 (by decide) (fun c5 => ?_) (fun c5 => ?_)
          · have c5 : ¬ n < 4 := Nat.not_lt.mpr (nI_4le (by omega) c5)
            refine lv_iload_n hx hb dX0_put_80 rfl (lv_at hl 2 rfl) ?_
            refine lv_iconst (v := 4) hx hb dX0_put_81 (by decide) ?_
            refine lv_ishr hx hb dX0_put_82 ?_
            refine lv_tope (show (nI a) >>> ((4 : Int32) &&& 31) = nI (a / 16) from shr4 ha) ?_
            refine lv_istore (lv' := [(5, .int (nI (a / 16))), (4, .int (nI (plc a n))), (0, .ref h0), (1, .int (nI a)), (2, .int (nI n)), (3, .int p2)]) hx hb dX0_put_83 hl (by decide) rfl (fun ls hl => ?_)
            refine lv_aload_n hx hb dX0_put_85 rfl (lv_at hl 2 rfl) ?_
            refine va_get (D := D) (ci := 0) (v := .ref q2) (C := RX0) (T := TX0) (N := 5) hx hb hts in_X0 hown hK hP 0 rfl rfl 2 (by decide) (hts _ q23) (fun _ h9 => h9) rfl dX0_put_86 ?_
            refine lv_iload hx hb dX0_put_89 (lv_at hl 0 rfl) ?_
            refine lv_dup2_11 hx hb dX0_put_91 rfl rfl ?_
            refine rd_iald hx hb hK hP 2 1 rfl rfl (i := (a / 16)) (by omega) (by decide) dX0_put_92 ?_
            refine lv_iconst (v := 1) hx hb dX0_put_93 (by decide) ?_
            refine lv_iload hx hb dX0_put_94 (lv_at hl 1 rfl) ?_
            refine lv_ishl hx hb dX0_put_96 ?_
            refine lv_ior hx hb dX0_put_97 ?_
            refine wr_iast hx hb hK hP hD hS 2 1 rfl rfl (i := (a / 16)) (x := (lb (a / 16)) ||| ((1 : Int32) <<< ((nI (plc a n)) &&& 31))) (by omega) (by decide) dX0_put_98 (fun H locs hP hD hS => ?_)
            have hP : va_P D vwCl (W0 h0 q1 q2 q3 k1 k2 k3 tb (ct + (if hs gs a n then 0 else 1)) tg (upd lb (a / 16) ((lb (a / 16)) ||| ((1 : Int32) <<< ((nI (plc a n)) &&& 31)))) lg) H := hP
            have hD : va_D A (W0 h0 q1 q2 q3 k1 k2 k3 tb (ct + (if hs gs a n then 0 else 1)) tg (upd lb (a / 16) ((lb (a / 16)) ||| ((1 : Int32) <<< ((nI (plc a n)) &&& 31)))) lg) := hD
            refine lv_aload_n hx hb dX0_put_99 rfl (lv_at hl 2 rfl) ?_
            refine va_get (D := D) (ci := 0) (v := .ref q3) (C := RX0) (T := TX0) (N := 5) hx hb hts in_X0 hown hK hP 0 rfl rfl 3 (by decide) (hts _ q24) (fun _ h9 => h9) rfl dX0_put_100 ?_
            refine lv_iload hx hb dX0_put_103 (lv_at hl 0 rfl) ?_
            refine lv_bipush (v := 31) hx hb dX0_put_105 (by decide) ?_
            refine lv_imul hx hb dX0_put_107 ?_
            refine lv_tope (show (nI (a / 16)) * (31 : Int32) = nI (a / 16 * 31) from pk_mul _ 31) ?_
            refine lv_iload hx hb dX0_put_108 (lv_at hl 1 rfl) ?_
            refine lv_iadd hx hb dX0_put_110 ?_
            refine lv_tope (show (nI (a / 16 * 31)) + (nI (plc a n)) = nI (a / 16 * 31 + plc a n) from nI_add _ _) ?_
            refine lv_iload_n hx hb dX0_put_111 rfl (lv_at hl 5 rfl) ?_
            refine lv_i2b (v := p2) hx hb dX0_put_112 (byte_ok c2 c3) ?_
            refine wr_bast hx hb hK hP hD hS 3 2 rfl rfl (i := (a / 16 * 31 + plc a n)) (x := p2) (by have := plc_lt ha hn; omega) (by decide) (nar_ok c2 c3) dX0_put_113 (fun H locs hP hD hS => ?_)
            have hP : va_P D vwCl (W0 h0 q1 q2 q3 k1 k2 k3 tb (ct + (if hs gs a n then 0 else 1)) tg (upd lb (a / 16) ((lb (a / 16)) ||| ((1 : Int32) <<< ((nI (plc a n)) &&& 31)))) (upd lg (a / 16 * 31 + plc a n) p2)) H := hP
            have hD : va_D A (W0 h0 q1 q2 q3 k1 k2 k3 tb (ct + (if hs gs a n then 0 else 1)) tg (upd lb (a / 16) ((lb (a / 16)) ||| ((1 : Int32) <<< ((nI (plc a n)) &&& 31)))) (upd lg (a / 16 * 31 + plc a n) p2)) := hD
            refine lv_iconst (v := 1) hx hb dX0_put_114 (by decide) ?_
            exact W.zret (v := (1 : Int32)) hx hb hr rfl (fun t ht hW => ⟨⟨(1 : Int32), (tb, ct + (if hs gs a n then 0 else 1), tg, upd lb (a / 16) ((lb (a / 16)) ||| ((1 : Int32) <<< ((nI (plc a n)) &&& 31))), upd lg (a / 16 * 31 + plc a n) p2), rfl, ⟨b2i_t (put_ok c1 c2 c3), by rw [put_yes ha hn (put_ok c1 c2 c3)]; exact hR.put_low ha c5 hn c2 (le_nlt c3)⟩, by rw [ht]; exact hP, va_K.moved hW.alike hK, hD⟩, hS.F ht⟩) hS.2.2 dX0_put_115 hlocks
          · have c5 := nI_4gt (by omega) c5
            refine lv_aload_n hx hb dX0_put_55 rfl (lv_at hl 1 rfl) ?_
            refine lv_dup hx hb dX0_put_56 rfl ?_
            refine va_get (D := D) (ci := 0) (v := .int tb) (C := RX0) (T := TX0) (N := 5) hx hb hts in_X0 hown hK hP 0 rfl rfl 0 (by decide) (hts _ q21) (fun _ h9 => h9) rfl dX0_put_57 ?_
            refine lv_iconst (v := 1) hx hb dX0_put_60 (by decide) ?_
            refine lv_iload hx hb dX0_put_61 (lv_at hl 0 rfl) ?_
            refine lv_ishl hx hb dX0_put_63 ?_
            refine lv_ior hx hb dX0_put_64 ?_
            refine va_put (D := D) (ci := 0) (v := .int (tb ||| ((1 : Int32) <<< ((nI (plc a n)) &&& 31)))) (ty := .int) (C := RX0) (T := TX0) (N := 5) hx hb hts in_X0 tyX0 tyX0_ok nmX0 hown hK hP hD hS 0 rfl rfl 0 (by decide) (hts _ q21) (fun _ h9 => h9) rfl (by decide +kernel) rfl rfl (Nat.le_of_ble_eq_true rfl) dX0_put_65 (fun H locs hP hD hS => ?_)
            have hP : va_P D vwCl (W0 h0 q1 q2 q3 k1 k2 k3 (tb ||| ((1 : Int32) <<< ((nI (plc a n)) &&& 31))) (ct + (if hs gs a n then 0 else 1)) tg lb lg) H := hP
            have hD : va_D A (W0 h0 q1 q2 q3 k1 k2 k3 (tb ||| ((1 : Int32) <<< ((nI (plc a n)) &&& 31))) (ct + (if hs gs a n then 0 else 1)) tg lb lg) := hD
            refine lv_aload_n hx hb dX0_put_68 rfl (lv_at hl 1 rfl) ?_
            refine va_get (D := D) (ci := 0) (v := .ref q1) (C := RX0) (T := TX0) (N := 5) hx hb hts in_X0 hown hK hP 0 rfl rfl 1 (by decide) (hts _ q22) (fun _ h9 => h9) rfl dX0_put_69 ?_
            refine lv_iload hx hb dX0_put_72 (lv_at hl 0 rfl) ?_
            refine lv_iload_n hx hb dX0_put_74 rfl (lv_at hl 4 rfl) ?_
            refine lv_i2b (v := p2) hx hb dX0_put_75 (byte_ok c2 c3) ?_
            refine wr_bast hx hb hK hP hD hS 1 0 rfl rfl (i := (plc a n)) (x := p2) (plc_lt4 ha c5) (by decide) (nar_ok c2 c3) dX0_put_76 (fun H locs hP hD hS => ?_)
            have hP : va_P D vwCl (W0 h0 q1 q2 q3 k1 k2 k3 (tb ||| ((1 : Int32) <<< ((nI (plc a n)) &&& 31))) (ct + (if hs gs a n then 0 else 1)) (upd tg (plc a n) p2) lb lg) H := hP
            have hD : va_D A (W0 h0 q1 q2 q3 k1 k2 k3 (tb ||| ((1 : Int32) <<< ((nI (plc a n)) &&& 31))) (ct + (if hs gs a n then 0 else 1)) (upd tg (plc a n) p2) lb lg) := hD
            refine lv_goto (tgt := 114) hx hb dX0_put_77 (by decide) ?_
            refine lv_iconst (v := 1) hx hb dX0_put_114 (by decide) ?_
            exact W.zret (v := (1 : Int32)) hx hb hr rfl (fun t ht hW => ⟨⟨(1 : Int32), (tb ||| ((1 : Int32) <<< ((nI (plc a n)) &&& 31)), ct + (if hs gs a n then 0 else 1), upd tg (plc a n) p2, lb, lg), rfl, ⟨b2i_t (put_ok c1 c2 c3), by rw [put_yes ha hn (put_ok c1 c2 c3)]; exact hR.put_top ha c5 c2 (le_nlt c3)⟩, by rw [ht]; exact hP, va_K.moved hW.alike hK, hD⟩, hS.F ht⟩) hS.2.2 dX0_put_115 hlocks
      · refine lv_iconst (v := 0) hx hb dX0_put_18 (by decide) ?_
        exact W.zret (v := (0 : Int32)) hx hb hr rfl (fun t ht hW => ⟨⟨(0 : Int32), (tb, ct, tg, lb, lg), rfl, ⟨b2i_f (put_big c3), by rw [put_no (put_big c3)]; exact hR⟩, by rw [ht]; exact hP, va_K.moved hW.alike hK, hD⟩, hS.F ht⟩) hS.2.2 dX0_put_19 hlocks
set_option maxHeartbeats 4000000 in
set_option maxRecDepth 100000 in
/-- drop(address, bits) -/
theorem met_X0_drop (l : Launch) (D : va_G) (h0 q1 q2 q3 : Nat) (k1 k2 k3 : ClassId) (tb ct : Int32) (tg lb lg gs : Nat → Int32) (hR : Rel tb ct tg lb lg gs) (sz : Nat) (p0 p1 : Int32) : Met l yX0_drop (ws_ yX0_drop cX0_drop 4 (some .boolean)) ({ frames := 2, cells := 0, slots := 0, locals := 46 }) (wrP D (W0 h0 q1 q2 q3 k1 k2 k3 tb ct tg lb lg) (K0 k1 k2 k3) sz [.ref h0, .int p0, .int p1]) (va_Qi (fun (r : Int32) (u : U0) => r = b2i (S_has gs p0 p1) ∧ RelU u (gs_drop gs p0 p1)) (B0 D (va_A (W0 h0 q1 q2 q3 k1 k2 k3 tb ct tg lb lg) sz) h0 q1 q2 q3 k1 k2 k3) (va_A (W0 h0 q1 q2 q3 k1 k2 k3 tb ct tg lb lg) sz)) 0 0 (va_A (W0 h0 q1 q2 q3 k1 k2 k3 tb ct tg lb lg) sz) := by
  refine Met.ofW (cc := cX0_drop) (maxL := 4) (ret := (some .boolean)) (by decide) rfl ?_
  intro p e s m args below meth c s₁ B hml hv
  obtain ⟨rfl, hsz, hP, hK, hD0⟩ := hv
  have hx := B.exec
  have hb := B.bytes
  have hr := B.returns
  have hts := atoms_spec (ws := (ws_ yX0_drop cX0_drop 4 (some .boolean))) B.pre
  have hts : ∀ w ∈ lw_all, w.before _ s = true := fun w h => hts w (List.mem_cons_of_mem _ h)
  have hown : s.vm.findClass RX0 = some m.cls := findClass_of_methodNamed B.named
  have hlocks := B.notSynchronized
  subst hsz
  have hD := hD0.self (sz := s.heap.size)
  generalize hAe : va_A (W0 h0 q1 q2 q3 k1 k2 k3 tb ct tg lb lg) s.heap.size = A at hD ⊢
  have hA : ∀ q : Nat, s.heap.size ≤ q → A q := fun q h => by rw [← hAe]; exact Or.inr h
  have hS : va_S A s.heap s.heap [] := va_S.rf
  have hP : va_P D vwCl (W0 h0 q1 q2 q3 k1 k2 k3 tb ct tg lb lg) s.heap := hP
  have hl := lv_entry ([.ref h0, .int p0, .int p1]) (n := 4) (Nat.le_of_ble_eq_true rfl)
  rw [lg_entry_eq]
  generalize (lg_sl ([.ref h0, .int p0, .int p1]) ++ List.replicate (4 - (lg_sl ([.ref h0, .int p0, .int p1])).length) Slot.unset).toArray = ls at hl ⊢
  have hl : lv_has ls 4 [(0, .ref h0), (1, .int p0), (2, .int p1)] := hl
  have S0 : CallFix p m c cX0_drop 4 s _ lw_all RX0 := ⟨hx, hb, hml, hown, hts⟩
  refine lv_iload_n hx hb dX0_drop_0 rfl (lv_at hl 1 rfl) ?_
  refine lv_iload_n hx hb dX0_drop_1 rfl (lv_at hl 2 rfl) ?_
  refine rd_callS (As := [.int p0, .int p1]) (rest := []) S0 (met_X0_isBeginning l p0 p1) (va_cwS 2 hts (lw_S q43 q44 q11 q45) rfl rfl rfl (by decide +kernel) ⟨Nat.le_of_ble_eq_true rfl, Nat.le_of_ble_eq_true rfl⟩) rfl hl.1 rfl (Nat.le_of_ble_eq_true rfl) dX0_drop_2 ⟨Nat.zero_le _, Nat.zero_le _⟩ ?_
  refine lv_if_eq (tgt := 17) hx hb dX0_drop_5 (by decide) (fun c1 => ?_) (fun c1 => ?_)
  · have c1 := b2i_0 c1
    refine lv_iconst (v := 0) hx hb dX0_drop_17 (by decide) ?_
    exact W.zret (v := (0 : Int32)) hx hb hr rfl (fun t ht hW => ⟨⟨(0 : Int32), (tb, ct, tg, lb, lg), rfl, ⟨b2i_f (S_has_no c1), by rw [drop_no (S_has_no c1)]; exact hR⟩, by rw [ht]; exact hP, va_K.moved hW.alike hK, hD⟩, hS.F ht⟩) hS.2.2 dX0_drop_18 hlocks
  · have c1 := b2i_n0 c1
    obtain ⟨a, n, ha, hn, ea, en, hd⟩ := isBeg_of c1
    subst ea
    subst en
    refine lv_aload_n hx hb dX0_drop_8 rfl (lv_at hl 0 rfl) ?_
    refine lv_iload_n hx hb dX0_drop_9 rfl (lv_at hl 1 rfl) ?_
    refine lv_iload_n hx hb dX0_drop_10 rfl (lv_at hl 2 rfl) ?_
    refine rd_callV (As := [.int (nI a), .int (nI n)]) (rest := []) (b := h0) (ci := 0) (q0 := 0) S0 (met_X0_has l D h0 q1 q2 q3 k1 k2 k3 tb ct tg lb lg gs hR a n ha hn) (cwV 2 hts (lw_V q49 q51 qs0 q11 q52) rfl rfl rfl (by decide +kernel) ⟨Nat.le_of_ble_eq_true rfl, Nat.le_of_ble_eq_true rfl⟩) hP hK rfl rfl rfl hl.1 rfl (Nat.le_of_ble_eq_true rfl) dX0_drop_11 ⟨Nat.zero_le _, Nat.zero_le _⟩ ?_
    refine lv_if_ne (tgt := 19) hx hb dX0_drop_14 (by decide) (fun c2 => ?_) (fun c2 => ?_)
    · have c2 := b2i_n0 c2
      refine lv_iload_n hx hb dX0_drop_19 rfl (lv_at hl 1 rfl) ?_
      refine lv_iload_n hx hb dX0_drop_20 rfl (lv_at hl 2 rfl) ?_
      refine rd_callS (As := [.int (nI a), .int (nI n)]) (rest := []) S0 (met_X0_place l a n ha hn) (va_cwS 2 hts (lw_S q53 q54 q11 q55) rfl rfl rfl (by decide +kernel) ⟨Nat.le_of_ble_eq_true rfl, Nat.le_of_ble_eq_true rfl⟩) rfl hl.1 rfl (Nat.le_of_ble_eq_true rfl) dX0_drop_21 ⟨Nat.zero_le _, Nat.zero_le _⟩ ?_
      refine lv_istore_n (lv' := [(3, .int (nI (plc a n))), (0, .ref h0), (1, .int (nI a)), (2, .int (nI n))]) hx hb dX0_drop_24 rfl hl (by decide) rfl (fun ls hl => ?_)
      refine lv_iload_n hx hb dX0_drop_25 rfl (lv_at hl 3 rfl) ?_
      refine lv_iconst (v := 4) hx hb dX0_drop_26 (by decide) ?_
      refine lv_icmp_ge (tgt := 47) hx hb dX0_drop_27 (by decide) (fun c3 => ?_) (fun c3 => ?_)
      · have c3 : ¬ n < 4 := Nat.not_lt.mpr (nI_4le (by omega) c3)
        refine lv_aload_n hx hb dX0_drop_47 rfl (lv_at hl 1 rfl) ?_
        refine va_get (D := D) (ci := 0) (v := .ref q2) (C := RX0) (T := TX0) (N := 5) hx hb hts in_X0 hown hK hP 0 rfl rfl 2 (by decide) (hts _ q23) (fun _ h9 => h9) rfl dX0_drop_48 ?_
        refine lv_iload_n hx hb dX0_drop_51 rfl (lv_at hl 2 rfl) ?_
        refine lv_iconst (v := 4) hx hb dX0_drop_52 (by decide) ?_
        refine lv_ishr hx hb dX0_drop_53 ?_
        refine lv_tope (show (nI a) >>> ((4 : Int32) &&& 31) = nI (a / 16) from shr4 ha) ?_
        refine lv_dup2_11 hx hb dX0_drop_54 rfl rfl ?_
        refine rd_iald hx hb hK hP 2 1 rfl rfl (i := (a / 16)) (by omega) (by decide) dX0_drop_55 ?_
        refine lv_iconst (v := 1) hx hb dX0_drop_56 (by decide) ?_
        refine lv_iload_n hx hb dX0_drop_57 rfl (lv_at hl 0 rfl) ?_
        refine lv_ishl hx hb dX0_drop_58 ?_
        refine lv_iconst (v := (-1)) hx hb dX0_drop_59 (by decide) ?_
        refine lv_ixor hx hb dX0_drop_60 ?_
        refine lv_iand hx hb dX0_drop_61 ?_
        refine wr_iast hx hb hK hP hD hS 2 1 rfl rfl (i := (a / 16)) (x := (lb (a / 16)) &&& (((1 : Int32) <<< ((nI (plc a n)) &&& 31)) ^^^ (-1 : Int32))) (by omega) (by decide) dX0_drop_62 (fun H locs hP hD hS => ?_)
        have hP : va_P D vwCl (W0 h0 q1 q2 q3 k1 k2 k3 tb ct tg (upd lb (a / 16) ((lb (a / 16)) &&& (((1 : Int32) <<< ((nI (plc a n)) &&& 31)) ^^^ (-1 : Int32)))) lg) H := hP
        have hD : va_D A (W0 h0 q1 q2 q3 k1 k2 k3 tb ct tg (upd lb (a / 16) ((lb (a / 16)) &&& (((1 : Int32) <<< ((nI (plc a n)) &&& 31)) ^^^ (-1 : Int32)))) lg) := hD
        refine lv_aload_n hx hb dX0_drop_63 rfl (lv_at hl 1 rfl) ?_
        refine lv_dup hx hb dX0_drop_64 rfl ?_
        refine va_get (D := D) (ci := 0) (v := .int ct) (C := RX0) (T := TX0) (N := 5) hx hb hts in_X0 hown hK hP 0 rfl rfl 4 (by decide) (hts _ q25) (fun _ h9 => h9) rfl dX0_drop_65 ?_
        refine lv_iconst (v := 1) hx hb dX0_drop_68 (by decide) ?_
        refine lv_isub hx hb dX0_drop_69 ?_
        refine va_put (D := D) (ci := 0) (v := .int (ct - (1 : Int32))) (ty := .int) (C := RX0) (T := TX0) (N := 5) hx hb hts in_X0 tyX0 tyX0_ok nmX0 hown hK hP hD hS 0 rfl rfl 4 (by decide) (hts _ q25) (fun _ h9 => h9) rfl (by decide +kernel) rfl rfl (Nat.le_of_ble_eq_true rfl) dX0_drop_70 (fun H locs hP hD hS => ?_)
        have hP : va_P D vwCl (W0 h0 q1 q2 q3 k1 k2 k3 tb (ct - (1 : Int32)) tg (upd lb (a / 16) ((lb (a / 16)) &&& (((1 : Int32) <<< ((nI (plc a n)) &&& 31)) ^^^ (-1 : Int32)))) lg) H := hP
        have hD : va_D A (W0 h0 q1 q2 q3 k1 k2 k3 tb (ct - (1 : Int32)) tg (upd lb (a / 16) ((lb (a / 16)) &&& (((1 : Int32) <<< ((nI (plc a n)) &&& 31)) ^^^ (-1 : Int32)))) lg) := hD
        refine lv_iconst (v := 1) hx hb dX0_drop_73 (by decide) ?_
        exact W.zret (v := (1 : Int32)) hx hb hr rfl (fun t ht hW => ⟨⟨(1 : Int32), (tb, ct - (1 : Int32), tg, upd lb (a / 16) ((lb (a / 16)) &&& (((1 : Int32) <<< ((nI (plc a n)) &&& 31)) ^^^ (-1 : Int32))), lg), rfl, ⟨b2i_t ((S_has_nI ha hn c1).trans c2), by rw [gs_drop_nI ha hn c1 c2]; exact hR.drop_low ha c3 hn c2⟩, by rw [ht]; exact hP, va_K.moved hW.alike hK, hD⟩, hS.F ht⟩) hS.2.2 dX0_drop_74 hlocks
      · have c3 := nI_4gt (by omega) c3
        refine lv_aload_n hx hb dX0_drop_30 rfl (lv_at hl 1 rfl) ?_
        refine lv_dup hx hb dX0_drop_31 rfl ?_
        refine va_get (D := D) (ci := 0) (v := .int tb) (C := RX0) (T := TX0) (N := 5) hx hb hts in_X0 hown hK hP 0 rfl rfl 0 (by decide) (hts _ q21) (fun _ h9 => h9) rfl dX0_drop_32 ?_
        refine lv_iconst (v := 1) hx hb dX0_drop_35 (by decide) ?_
        refine lv_iload_n hx hb dX0_drop_36 rfl (lv_at hl 0 rfl) ?_
        refine lv_ishl hx hb dX0_drop_37 ?_
        refine lv_iconst (v := (-1)) hx hb dX0_drop_38 (by decide) ?_
        refine lv_ixor hx hb dX0_drop_39 ?_
        refine lv_iand hx hb dX0_drop_40 ?_
        refine va_put (D := D) (ci := 0) (v := .int (tb &&& (((1 : Int32) <<< ((nI (plc a n)) &&& 31)) ^^^ (-1 : Int32)))) (ty := .int) (C := RX0) (T := TX0) (N := 5) hx hb hts in_X0 tyX0 tyX0_ok nmX0 hown hK hP hD hS 0 rfl rfl 0 (by decide) (hts _ q21) (fun _ h9 => h9) rfl (by decide +kernel) rfl rfl (Nat.le_of_ble_eq_true rfl) dX0_drop_41 (fun H locs hP hD hS => ?_)
        have hP : va_P D vwCl (W0 h0 q1 q2 q3 k1 k2 k3 (tb &&& (((1 : Int32) <<< ((nI (plc a n)) &&& 31)) ^^^ (-1 : Int32))) ct tg lb lg) H := hP
        have hD : va_D A (W0 h0 q1 q2 q3 k1 k2 k3 (tb &&& (((1 : Int32) <<< ((nI (plc a n)) &&& 31)) ^^^ (-1 : Int32))) ct tg lb lg) := hD
        refine lv_goto (tgt := 63) hx hb dX0_drop_44 (by decide) ?_
        refine lv_aload_n hx hb dX0_drop_63 rfl (lv_at hl 1 rfl) ?_
        refine lv_dup hx hb dX0_drop_64 rfl ?_
        refine va_get (D := D) (ci := 0) (v := .int ct) (C := RX0) (T := TX0) (N := 5) hx hb hts in_X0 hown hK hP 0 rfl rfl 4 (by decide) (hts _ q25) (fun _ h9 => h9) rfl dX0_drop_65 ?_
        refine lv_iconst (v := 1) hx hb dX0_drop_68 (by decide) ?_
        refine lv_isub hx hb dX0_drop_69 ?_
        refine va_put (D := D) (ci := 0) (v := .int (ct - (1 : Int32))) (ty := .int) (C := RX0) (T := TX0) (N := 5) hx hb hts in_X0 tyX0 tyX0_ok nmX0 hown hK hP hD hS 0 rfl rfl 4 (by decide) (hts _ q25) (fun _ h9 => h9) rfl (by decide +kernel) rfl rfl (Nat.le_of_ble_eq_true rfl) dX0_drop_70 (fun H locs hP hD hS => ?_)
        have hP : va_P D vwCl (W0 h0 q1 q2 q3 k1 k2 k3 (tb &&& (((1 : Int32) <<< ((nI (plc a n)) &&& 31)) ^^^ (-1 : Int32))) (ct - (1 : Int32)) tg lb lg) H := hP
        have hD : va_D A (W0 h0 q1 q2 q3 k1 k2 k3 (tb &&& (((1 : Int32) <<< ((nI (plc a n)) &&& 31)) ^^^ (-1 : Int32))) (ct - (1 : Int32)) tg lb lg) := hD
        refine lv_iconst (v := 1) hx hb dX0_drop_73 (by decide) ?_
        exact W.zret (v := (1 : Int32)) hx hb hr rfl (fun t ht hW => ⟨⟨(1 : Int32), (tb &&& (((1 : Int32) <<< ((nI (plc a n)) &&& 31)) ^^^ (-1 : Int32)), ct - (1 : Int32), tg, lb, lg), rfl, ⟨b2i_t ((S_has_nI ha hn c1).trans c2), by rw [gs_drop_nI ha hn c1 c2]; exact hR.drop_top ha c3 c2⟩, by rw [ht]; exact hP, va_K.moved hW.alike hK, hD⟩, hS.F ht⟩) hS.2.2 dX0_drop_74 hlocks
    · have c2 := b2i_0 c2
      refine lv_iconst (v := 0) hx hb dX0_drop_17 (by decide) ?_
      exact W.zret (v := (0 : Int32)) hx hb hr rfl (fun t ht hW => ⟨⟨(0 : Int32), (tb, ct, tg, lb, lg), rfl, ⟨b2i_f ((S_has_nI ha hn c1).trans c2), by rw [drop_no ((S_has_nI ha hn c1).trans c2)]; exact hR⟩, by rw [ht]; exact hP, va_K.moved hW.alike hK, hD⟩, hS.F ht⟩) hS.2.2 dX0_drop_18 hlocks
set_option maxHeartbeats 4000000 in
set_option maxRecDepth 100000 in
/-- clear() -/
theorem met_X0_clear (l : Launch) (D : va_G) (h0 q1 q2 q3 : Nat) (k1 k2 k3 : ClassId) (tb ct : Int32) (tg lb lg gs : Nat → Int32) (hR : Rel tb ct tg lb lg gs) (sz : Nat)  : Met l yX0_clear (ws_ yX0_clear cX0_clear 2 none) ({ frames := 0, cells := 0, slots := 0, locals := 0 }) (wrP D (W0 h0 q1 q2 q3 k1 k2 k3 tb ct tg lb lg) (K0 k1 k2 k3) sz [.ref h0]) (va_Qv (fun u : U0 => RelU u (gs_clear gs)) (B0 D (va_A (W0 h0 q1 q2 q3 k1 k2 k3 tb ct tg lb lg) sz) h0 q1 q2 q3 k1 k2 k3) (va_A (W0 h0 q1 q2 q3 k1 k2 k3 tb ct tg lb lg) sz)) 0 0 (va_A (W0 h0 q1 q2 q3 k1 k2 k3 tb ct tg lb lg) sz) := by
  refine Met.ofW (cc := cX0_clear) (maxL := 2) (ret := none) (by decide) rfl ?_
  intro p e s m args below meth c s₁ B hml hv
  obtain ⟨rfl, hsz, hP, hK, hD0⟩ := hv
  have hx := B.exec
  have hb := B.bytes
  have hr := B.returns
  have hts := atoms_spec (ws := (ws_ yX0_clear cX0_clear 2 none)) B.pre
  have hts : ∀ w ∈ lw_all, w.before _ s = true := fun w h => hts w (List.mem_cons_of_mem _ h)
  have hown : s.vm.findClass RX0 = some m.cls := findClass_of_methodNamed B.named
  have hlocks := B.notSynchronized
  subst hsz
  have hD := hD0.self (sz := s.heap.size)
  generalize hAe : va_A (W0 h0 q1 q2 q3 k1 k2 k3 tb ct tg lb lg) s.heap.size = A at hD ⊢
  have hA : ∀ q : Nat, s.heap.size ≤ q → A q := fun q h => by rw [← hAe]; exact Or.inr h
  have hS : va_S A s.heap s.heap [] := va_S.rf
  have hP : va_P D vwCl (W0 h0 q1 q2 q3 k1 k2 k3 tb ct tg lb lg) s.heap := hP
  have hl := lv_entry ([.ref h0]) (n := 2) (Nat.le_of_ble_eq_true rfl)
  rw [lg_entry_eq]
  generalize (lg_sl ([.ref h0]) ++ List.replicate (2 - (lg_sl ([.ref h0])).length) Slot.unset).toArray = ls at hl ⊢
  have hl : lv_has ls 2 [(0, .ref h0)] := hl
  have S0 : CallFix p m c cX0_clear 2 s _ lw_all RX0 := ⟨hx, hb, hml, hown, hts⟩
  refine lv_aload_n hx hb dX0_clear_0 rfl (lv_at hl 0 rfl) ?_
  refine lv_iconst (v := 0) hx hb dX0_clear_1 (by decide) ?_
  refine va_put (D := D) (ci := 0) (v := .int (0 : Int32)) (ty := .int) (C := RX0) (T := TX0) (N := 5) hx hb hts in_X0 tyX0 tyX0_ok nmX0 hown hK hP hD hS 0 rfl rfl 0 (by decide) (hts _ q21) (fun _ h9 => h9) rfl (by decide +kernel) rfl rfl (Nat.le_of_ble_eq_true rfl) dX0_clear_2 (fun H locs hP hD hS => ?_)
  have hP : va_P D vwCl (W0 h0 q1 q2 q3 k1 k2 k3 (0 : Int32) ct tg lb lg) H := hP
  have hD : va_D A (W0 h0 q1 q2 q3 k1 k2 k3 (0 : Int32) ct tg lb lg) := hD
  refine lv_iconst (v := 0) hx hb dX0_clear_5 (by decide) ?_
  refine lv_istore_n (lv' := [(1, .int (0 : Int32)), (0, .ref h0)]) hx hb dX0_clear_6 rfl hl (by decide) rfl (fun ls hl => ?_)
  have loop7 : ∀ (k : Nat) (i : Nat), i ≤ 16 → 17 ≤ i + k → ∀ (H : Heap) (locs : List Loc), va_P D vwCl (W0 h0 q1 q2 q3 k1 k2 k3 0 ct tg (fa_fill (fun _ => 0) lb i) lg) H → va_D A (W0 h0 q1 q2 q3 k1 k2 k3 0 ct tg (fa_fill (fun _ => 0) lb i) lg) → va_S A s.heap H locs → ∀ (ls : Array Slot), lv_has ls 2 [(0, .ref h0), (1, .int (nI i))] → W p l e (headSpec (ws_ yX0_clear cX0_clear 2 none) ({ frames := 0, cells := 0, slots := 0, locals := 0 })).room s m ([.ref h0] : List Value).toArray below meth c H locs 0 0 (MQ below (va_Qv (fun u : U0 => RelU u (gs_clear gs)) (B0 D A h0 q1 q2 q3 k1 k2 k3) A) ([.ref h0] : List Value).toArray s 0 0 A) (F0 m 7 ls []) := by
    intro k
    induction k with
    | zero =>
      intro i h1 h2 H locs hP hD hS ls hl
      exact absurd h2 (by omega)
    | succ k ih7 =>
      intro i h1 h2 H locs hP hD hS ls hl
      refine lv_iload_n hx hb dX0_clear_7 rfl (lv_at hl 1 rfl) ?_
      refine lv_bipush (v := 16) hx hb dX0_clear_8 (by decide) ?_
      refine lv_icmp_ge (tgt := 26) hx hb dX0_clear_10 (by decide) (fun c1 => ?_) (fun c1 => ?_)
      · have c1 : i = 16 := ge_N (N := 16) (by decide) h1 c1
        subst c1
        refine lv_aload_n hx hb dX0_clear_26 rfl (lv_at hl 0 rfl) ?_
        refine lv_iconst (v := 0) hx hb dX0_clear_27 (by decide) ?_
        refine va_put (D := D) (ci := 0) (v := .int (0 : Int32)) (ty := .int) (C := RX0) (T := TX0) (N := 5) hx hb hts in_X0 tyX0 tyX0_ok nmX0 hown hK hP hD hS 0 rfl rfl 4 (by decide) (hts _ q25) (fun _ h9 => h9) rfl (by decide +kernel) rfl rfl (Nat.le_of_ble_eq_true rfl) dX0_clear_28 (fun H locs hP hD hS => ?_)
        have hP : va_P D vwCl (W0 h0 q1 q2 q3 k1 k2 k3 0 (0 : Int32) tg (fa_fill (fun _ => 0) lb 16) lg) H := hP
        have hD : va_D A (W0 h0 q1 q2 q3 k1 k2 k3 0 (0 : Int32) tg (fa_fill (fun _ => 0) lb 16) lg) := hD
        exact W.vret hx hb hr (fun t ht hW => ⟨⟨(0, (0 : Int32), tg, fa_fill (fun _ => 0) lb 16, lg), rfl, Rel.cleared (lb := fa_fill (fun _ => 0) lb 16) (fun k hk => fa_fill_in (f := fun _ => 0) hk) hR.2.2.2, by rw [ht]; exact hP, va_K.moved hW.alike hK, hD⟩, hS.F ht⟩) hS.2.2 dX0_clear_31 hlocks
      · have c1 : i < 16 := lt_N (N := 16) (by decide) h1 c1
        refine lv_aload_n hx hb dX0_clear_13 rfl (lv_at hl 0 rfl) ?_
        refine va_get (D := D) (ci := 0) (v := .ref q2) (C := RX0) (T := TX0) (N := 5) hx hb hts in_X0 hown hK hP 0 rfl rfl 2 (by decide) (hts _ q23) (fun _ h9 => h9) rfl dX0_clear_14 ?_
        refine lv_iload_n hx hb dX0_clear_17 rfl (lv_at hl 1 rfl) ?_
        refine lv_iconst (v := 0) hx hb dX0_clear_18 (by decide) ?_
        refine wr_iast hx hb hK hP hD hS 2 1 rfl rfl (i := i) (x := (0 : Int32)) c1 (by decide) dX0_clear_19 (fun H locs hP hD hS => ?_)
        have hP : va_P D vwCl (W0 h0 q1 q2 q3 k1 k2 k3 0 ct tg (upd (fa_fill (fun _ => 0) lb i) i (0 : Int32)) lg) H := hP
        have hD : va_D A (W0 h0 q1 q2 q3 k1 k2 k3 0 ct tg (upd (fa_fill (fun _ => 0) lb i) i (0 : Int32)) lg) := hD
        rw [show upd (fa_fill (fun _ => 0) lb i) i (0 : Int32) = fa_fill (fun _ => 0) lb (i + 1) from fa_fill_succ (fun _ => 0) lb i] at hP hD
        refine lv_iinc (v := nI (i + 1)) (lv' := [(1, .int (nI (i + 1))), (0, .ref h0)]) hx hb dX0_clear_20 hl (k := 1) rfl (inc_1 i) (by decide) rfl (fun ls hl => ?_)
        refine lv_goto (tgt := 7) hx hb dX0_clear_23 (by decide) ?_
        exact ih7 (i + 1) (by omega) (by omega) H locs hP hD hS ls (lv_sub hl [1, 0] rfl)
  exact loop7 17 0 (by decide) (by decide) _ _ hP hD hS ls (lv_sub hl [1, 0] rfl)
set_option maxHeartbeats 4000000 in
set_option maxRecDepth 100000 in
/-- put(address, bits, goal) -/
theorem met_X1_put (l : Launch) (D : va_G) (h0 q1 q2 : Nat) (k1 k2 : ClassId) (gs bf : Nat → Int32) (sz : Nat) (p0 p1 p2 : Int32) : Met l yX1_put (ws_ yX1_put cX1_put 5 (some .boolean)) ({ frames := 1, cells := 0, slots := 0, locals := 22 }) (wrP D (W1 h0 q1 q2 k1 k2 gs bf) (K1 k1 k2) sz [.ref h0, .int p0, .int p1, .int p2]) (va_Qi (fun (r : Int32) (_ : Unit) => r = b2i (S_put p0 p1 p2)) (fun _ => B1 D (va_A (W1 h0 q1 q2 k1 k2 gs bf) sz) h0 q1 q2 k1 k2 (gs_put gs p0 p1 p2) bf) (va_A (W1 h0 q1 q2 k1 k2 gs bf) sz)) 0 0 (va_A (W1 h0 q1 q2 k1 k2 gs bf) sz) := by
  refine Met.ofW (cc := cX1_put) (maxL := 5) (ret := (some .boolean)) (by decide) rfl ?_
  intro p e s m args below meth c s₁ B hml hv
  obtain ⟨rfl, hsz, hP, hK, hD0⟩ := hv
  have hx := B.exec
  have hb := B.bytes
  have hr := B.returns
  have hts := atoms_spec (ws := (ws_ yX1_put cX1_put 5 (some .boolean))) B.pre
  have hts : ∀ w ∈ lw_all, w.before _ s = true := fun w h => hts w (List.mem_cons_of_mem _ h)
  have hown : s.vm.findClass RX1 = some m.cls := findClass_of_methodNamed B.named
  have hlocks := B.notSynchronized
  subst hsz
  have hD := hD0.self (sz := s.heap.size)
  generalize hAe : va_A (W1 h0 q1 q2 k1 k2 gs bf) s.heap.size = A at hD ⊢
  have hA : ∀ q : Nat, s.heap.size ≤ q → A q := fun q h => by rw [← hAe]; exact Or.inr h
  have hS : va_S A s.heap s.heap [] := va_S.rf
  have hP : va_P D vwCl (W1 h0 q1 q2 k1 k2 gs bf) s.heap := hP
  have hl := lv_entry ([.ref h0, .int p0, .int p1, .int p2]) (n := 5) (Nat.le_of_ble_eq_true rfl)
  rw [lg_entry_eq]
  generalize (lg_sl ([.ref h0, .int p0, .int p1, .int p2]) ++ List.replicate (5 - (lg_sl ([.ref h0, .int p0, .int p1, .int p2])).length) Slot.unset).toArray = ls at hl ⊢
  have hl : lv_has ls 5 [(0, .ref h0), (1, .int p0), (2, .int p1), (3, .int p2)] := hl
  have S0 : CallFix p m c cX1_put 5 s _ lw_all RX1 := ⟨hx, hb, hml, hown, hts⟩
  refine lv_aload_n hx hb dX1_put_0 rfl (lv_at hl 0 rfl) ?_
  refine lv_iload_n hx hb dX1_put_1 rfl (lv_at hl 1 rfl) ?_
  refine lv_iload_n hx hb dX1_put_2 rfl (lv_at hl 2 rfl) ?_
  refine rd_callV (As := [.int p0, .int p1]) (rest := []) (b := h0) (ci := 1) (q0 := 0) S0 (met_X1_beginning l D h0 q1 q2 k1 k2 gs bf p0 p1) (cwV 2 hts (lw_V q161 q163 qs5 q12 q164) rfl rfl rfl (by decide +kernel) ⟨Nat.le_of_ble_eq_true rfl, Nat.le_of_ble_eq_true rfl⟩) hP hK rfl rfl rfl hl.1 rfl (Nat.le_of_ble_eq_true rfl) dX1_put_3 ⟨Nat.zero_le _, Nat.zero_le _⟩ ?_
  refine lv_if_eq (tgt := 19) hx hb dX1_put_6 (by decide) (fun c1 => ?_) (fun c1 => ?_)
  · have c1 := b2i_0 c1
    refine lv_iconst (v := 0) hx hb dX1_put_19 (by decide) ?_
    rw [put_no (put_beg c1)]
    exact W.zret (v := (0 : Int32)) hx hb hr rfl (fun t ht hW => ⟨⟨(0 : Int32), (), rfl, b2i_f (put_beg c1), by rw [ht]; exact hP, va_K.moved hW.alike hK, hD⟩, hS.F ht⟩) hS.2.2 dX1_put_20 hlocks
  · have c1 := b2i_n0 c1
    refine lv_iload_n hx hb dX1_put_9 rfl (lv_at hl 3 rfl) ?_
    refine lv_if_lt (tgt := 19) hx hb dX1_put_10 (by decide) (fun c2 => ?_) (fun c2 => ?_)
    · refine lv_iconst (v := 0) hx hb dX1_put_19 (by decide) ?_
      rw [put_no (put_neg c2)]
      exact W.zret (v := (0 : Int32)) hx hb hr rfl (fun t ht hW => ⟨⟨(0 : Int32), (), rfl, b2i_f (put_neg c2), by rw [ht]; exact hP, va_K.moved hW.alike hK, hD⟩, hS.F ht⟩) hS.2.2 dX1_put_20 hlocks
    · refine lv_iload_n hx hb dX1_put_13 rfl (lv_at hl 3 rfl) ?_
      refine lv_bipush (v := 99) hx hb dX1_put_14 (by decide) ?_
      refine lv_icmp_le (tgt := 21) hx hb dX1_put_16 (by decide) (fun c3 => ?_) (fun c3 => ?_)
      · obtain ⟨a, n, ha, hn, ea, en, hd⟩ := isBeg_of c1
        subst ea
        subst en
        refine lv_aload_n hx hb dX1_put_21 rfl (lv_at hl 0 rfl) ?_
        refine lv_iload_n hx hb dX1_put_22 rfl (lv_at hl 1 rfl) ?_
        refine lv_iload_n hx hb dX1_put_23 rfl (lv_at hl 2 rfl) ?_
        refine rd_callV (As := [.int (nI a), .int (nI n)]) (rest := []) (b := h0) (ci := 1) (q0 := 0) S0 (met_X1_cell l D h0 q1 q2 k1 k2 gs bf a n ha hn) (cwV 2 hts (lw_V q165 q167 qs6 q12 q168) rfl rfl rfl (by decide +kernel) ⟨Nat.le_of_ble_eq_true rfl, Nat.le_of_ble_eq_true rfl⟩) hP hK rfl rfl rfl hl.1 rfl (Nat.le_of_ble_eq_true rfl) dX1_put_24 ⟨Nat.zero_le _, Nat.zero_le _⟩ ?_
        refine lv_istore (lv' := [(4, .int (nI (cel a n))), (0, .ref h0), (1, .int (nI a)), (2, .int (nI n)), (3, .int p2)]) hx hb dX1_put_27 hl (by decide) rfl (fun ls hl => ?_)
        refine lv_aload_n hx hb dX1_put_29 rfl (lv_at hl 1 rfl) ?_
        refine va_get (D := D) (ci := 1) (v := .ref q1) (C := RX1) (T := TX1) (N := 2) hx hb hts in_X1 hown hK hP 0 rfl rfl 0 (by decide) (hts _ q150) (fun _ h9 => h9) rfl dX1_put_30 ?_
        refine lv_iload hx hb dX1_put_33 (lv_at hl 0 rfl) ?_
        refine lv_iload_n hx hb dX1_put_35 rfl (lv_at hl 4 rfl) ?_
        refine wr_iast hx hb hK hP hD hS 1 0 rfl rfl (i := (cel a n)) (x := p2) (cel_lt n (by omega) a ha) (by decide) dX1_put_36 (fun H locs hP hD hS => ?_)
        have hP : va_P D vwCl (W1 h0 q1 q2 k1 k2 (upd gs (cel a n) p2) bf) H := hP
        have hD : va_D A (W1 h0 q1 q2 k1 k2 (upd gs (cel a n) p2) bf) := hD
        refine lv_iconst (v := 1) hx hb dX1_put_37 (by decide) ?_
        rw [put_yes ha hn (put_ok c1 c2 c3)]
        exact W.zret (v := (1 : Int32)) hx hb hr rfl (fun t ht hW => ⟨⟨(1 : Int32), (), rfl, b2i_t (put_ok c1 c2 c3), by rw [ht]; exact hP, va_K.moved hW.alike hK, hD⟩, hS.F ht⟩) hS.2.2 dX1_put_38 hlocks
      · refine lv_iconst (v := 0) hx hb dX1_put_19 (by decide) ?_
        rw [put_no (put_big c3)]
        exact W.zret (v := (0 : Int32)) hx hb hr rfl (fun t ht hW => ⟨⟨(0 : Int32), (), rfl, b2i_f (put_big c3), by rw [ht]; exact hP, va_K.moved hW.alike hK, hD⟩, hS.F ht⟩) hS.2.2 dX1_put_20 hlocks
set_option maxHeartbeats 4000000 in
set_option maxRecDepth 100000 in
/-- drop(address, bits) -/
theorem met_X1_drop (l : Launch) (D : va_G) (h0 q1 q2 : Nat) (k1 k2 : ClassId) (gs bf : Nat → Int32) (sz : Nat) (p0 p1 : Int32) : Met l yX1_drop (ws_ yX1_drop cX1_drop 4 (some .boolean)) ({ frames := 2, cells := 0, slots := 0, locals := 44 }) (wrP D (W1 h0 q1 q2 k1 k2 gs bf) (K1 k1 k2) sz [.ref h0, .int p0, .int p1]) (va_Qi (fun (r : Int32) (_ : Unit) => r = b2i (S_has gs p0 p1)) (fun _ => B1 D (va_A (W1 h0 q1 q2 k1 k2 gs bf) sz) h0 q1 q2 k1 k2 (gs_drop gs p0 p1) bf) (va_A (W1 h0 q1 q2 k1 k2 gs bf) sz)) 0 0 (va_A (W1 h0 q1 q2 k1 k2 gs bf) sz) := by
  refine Met.ofW (cc := cX1_drop) (maxL := 4) (ret := (some .boolean)) (by decide) rfl ?_
  intro p e s m args below meth c s₁ B hml hv
  obtain ⟨rfl, hsz, hP, hK, hD0⟩ := hv
  have hx := B.exec
  have hb := B.bytes
  have hr := B.returns
  have hts := atoms_spec (ws := (ws_ yX1_drop cX1_drop 4 (some .boolean))) B.pre
  have hts : ∀ w ∈ lw_all, w.before _ s = true := fun w h => hts w (List.mem_cons_of_mem _ h)
  have hown : s.vm.findClass RX1 = some m.cls := findClass_of_methodNamed B.named
  have hlocks := B.notSynchronized
  subst hsz
  have hD := hD0.self (sz := s.heap.size)
  generalize hAe : va_A (W1 h0 q1 q2 k1 k2 gs bf) s.heap.size = A at hD ⊢
  have hA : ∀ q : Nat, s.heap.size ≤ q → A q := fun q h => by rw [← hAe]; exact Or.inr h
  have hS : va_S A s.heap s.heap [] := va_S.rf
  have hP : va_P D vwCl (W1 h0 q1 q2 k1 k2 gs bf) s.heap := hP
  have hl := lv_entry ([.ref h0, .int p0, .int p1]) (n := 4) (Nat.le_of_ble_eq_true rfl)
  rw [lg_entry_eq]
  generalize (lg_sl ([.ref h0, .int p0, .int p1]) ++ List.replicate (4 - (lg_sl ([.ref h0, .int p0, .int p1])).length) Slot.unset).toArray = ls at hl ⊢
  have hl : lv_has ls 4 [(0, .ref h0), (1, .int p0), (2, .int p1)] := hl
  have S0 : CallFix p m c cX1_drop 4 s _ lw_all RX1 := ⟨hx, hb, hml, hown, hts⟩
  refine lv_aload_n hx hb dX1_drop_0 rfl (lv_at hl 0 rfl) ?_
  refine lv_iload_n hx hb dX1_drop_1 rfl (lv_at hl 1 rfl) ?_
  refine lv_iload_n hx hb dX1_drop_2 rfl (lv_at hl 2 rfl) ?_
  refine rd_callV (As := [.int p0, .int p1]) (rest := []) (b := h0) (ci := 1) (q0 := 0) S0 (met_X1_is l D h0 q1 q2 k1 k2 gs bf p0 p1) (cwV 2 hts (lw_V q173 q175 qs7 q12 q176) rfl rfl rfl (by decide +kernel) ⟨Nat.le_of_ble_eq_true rfl, Nat.le_of_ble_eq_true rfl⟩) hP hK rfl rfl rfl hl.1 rfl (Nat.le_of_ble_eq_true rfl) dX1_drop_3 ⟨Nat.zero_le _, Nat.zero_le _⟩ ?_
  refine lv_if_ne (tgt := 11) hx hb dX1_drop_6 (by decide) (fun c1 => ?_) (fun c1 => ?_)
  · have c1 := b2i_n0 c1
    have hb1 := S_has_beg c1
    obtain ⟨a, n, ha, hn, ea, en, hd⟩ := isBeg_of hb1
    subst ea
    subst en
    have hh : hs gs a n = true := by rw [← S_has_nI ha hn hb1]; exact c1
    refine lv_aload_n hx hb dX1_drop_11 rfl (lv_at hl 0 rfl) ?_
    refine lv_iload_n hx hb dX1_drop_12 rfl (lv_at hl 1 rfl) ?_
    refine lv_iload_n hx hb dX1_drop_13 rfl (lv_at hl 2 rfl) ?_
    refine rd_callV (As := [.int (nI a), .int (nI n)]) (rest := []) (b := h0) (ci := 1) (q0 := 0) S0 (met_X1_cell l D h0 q1 q2 k1 k2 gs bf a n ha hn) (cwV 2 hts (lw_V q165 q167 qs6 q12 q168) rfl rfl rfl (by decide +kernel) ⟨Nat.le_of_ble_eq_true rfl, Nat.le_of_ble_eq_true rfl⟩) hP hK rfl rfl rfl hl.1 rfl (Nat.le_of_ble_eq_true rfl) dX1_drop_14 ⟨Nat.zero_le _, Nat.zero_le _⟩ ?_
    refine lv_istore_n (lv' := [(3, .int (nI (cel a n))), (0, .ref h0), (1, .int (nI a)), (2, .int (nI n))]) hx hb dX1_drop_17 rfl hl (by decide) rfl (fun ls hl => ?_)
    refine lv_aload_n hx hb dX1_drop_18 rfl (lv_at hl 1 rfl) ?_
    refine va_get (D := D) (ci := 1) (v := .ref q1) (C := RX1) (T := TX1) (N := 2) hx hb hts in_X1 hown hK hP 0 rfl rfl 0 (by decide) (hts _ q150) (fun _ h9 => h9) rfl dX1_drop_19 ?_
    refine lv_iload_n hx hb dX1_drop_22 rfl (lv_at hl 0 rfl) ?_
    refine lv_iconst (v := (-1)) hx hb dX1_drop_23 (by decide) ?_
    refine wr_iast hx hb hK hP hD hS 1 0 rfl rfl (i := (cel a n)) (x := (-1 : Int32)) (cel_lt n (by omega) a ha) (by decide) dX1_drop_24 (fun H locs hP hD hS => ?_)
    have hP : va_P D vwCl (W1 h0 q1 q2 k1 k2 (upd gs (cel a n) (-1 : Int32)) bf) H := hP
    have hD : va_D A (W1 h0 q1 q2 k1 k2 (upd gs (cel a n) (-1 : Int32)) bf) := hD
    refine lv_iconst (v := 1) hx hb dX1_drop_25 (by decide) ?_
    rw [gs_drop_nI ha hn hb1 hh]
    exact W.zret (v := (1 : Int32)) hx hb hr rfl (fun t ht hW => ⟨⟨(1 : Int32), (), rfl, b2i_t c1, by rw [ht]; exact hP, va_K.moved hW.alike hK, hD⟩, hS.F ht⟩) hS.2.2 dX1_drop_26 hlocks
  · have c1 := b2i_0 c1
    refine lv_iconst (v := 0) hx hb dX1_drop_9 (by decide) ?_
    rw [drop_no c1]
    exact W.zret (v := (0 : Int32)) hx hb hr rfl (fun t ht hW => ⟨⟨(0 : Int32), (), rfl, b2i_f c1, by rw [ht]; exact hP, va_K.moved hW.alike hK, hD⟩, hS.F ht⟩) hS.2.2 dX1_drop_10 hlocks
set_option maxHeartbeats 4000000 in
set_option maxRecDepth 100000 in
/-- clear() -/
theorem met_X1_clear (l : Launch) (D : va_G) (h0 q1 q2 : Nat) (k1 k2 : ClassId) (gs bf : Nat → Int32) (sz : Nat)  : Met l yX1_clear (ws_ yX1_clear cX1_clear 2 none) ({ frames := 0, cells := 0, slots := 0, locals := 0 }) (wrP D (W1 h0 q1 q2 k1 k2 gs bf) (K1 k1 k2) sz [.ref h0]) (va_Qv (fun _ : Unit => True) (fun _ => B1 D (va_A (W1 h0 q1 q2 k1 k2 gs bf) sz) h0 q1 q2 k1 k2 (gs_clear gs) bf) (va_A (W1 h0 q1 q2 k1 k2 gs bf) sz)) 0 0 (va_A (W1 h0 q1 q2 k1 k2 gs bf) sz) := by
  refine Met.ofW (cc := cX1_clear) (maxL := 2) (ret := none) (by decide) rfl ?_
  intro p e s m args below meth c s₁ B hml hv
  obtain ⟨rfl, hsz, hP, hK, hD0⟩ := hv
  have hx := B.exec
  have hb := B.bytes
  have hr := B.returns
  have hts := atoms_spec (ws := (ws_ yX1_clear cX1_clear 2 none)) B.pre
  have hts : ∀ w ∈ lw_all, w.before _ s = true := fun w h => hts w (List.mem_cons_of_mem _ h)
  have hown : s.vm.findClass RX1 = some m.cls := findClass_of_methodNamed B.named
  have hlocks := B.notSynchronized
  subst hsz
  have hD := hD0.self (sz := s.heap.size)
  generalize hAe : va_A (W1 h0 q1 q2 k1 k2 gs bf) s.heap.size = A at hD ⊢
  have hA : ∀ q : Nat, s.heap.size ≤ q → A q := fun q h => by rw [← hAe]; exact Or.inr h
  have hS : va_S A s.heap s.heap [] := va_S.rf
  have hP : va_P D vwCl (W1 h0 q1 q2 k1 k2 gs bf) s.heap := hP
  have hl := lv_entry ([.ref h0]) (n := 2) (Nat.le_of_ble_eq_true rfl)
  rw [lg_entry_eq]
  generalize (lg_sl ([.ref h0]) ++ List.replicate (2 - (lg_sl ([.ref h0])).length) Slot.unset).toArray = ls at hl ⊢
  have hl : lv_has ls 2 [(0, .ref h0)] := hl
  have S0 : CallFix p m c cX1_clear 2 s _ lw_all RX1 := ⟨hx, hb, hml, hown, hts⟩
  refine lv_iconst (v := 0) hx hb dX1_clear_0 (by decide) ?_
  refine lv_istore_n (lv' := [(1, .int (0 : Int32)), (0, .ref h0)]) hx hb dX1_clear_1 rfl hl (by decide) rfl (fun ls hl => ?_)
  have loop2 : ∀ (k : Nat) (i : Nat), i ≤ 511 → 512 ≤ i + k → ∀ (H : Heap) (locs : List Loc), va_P D vwCl (W1 h0 q1 q2 k1 k2 (fa_fill (fun _ => -1) gs i) bf) H → va_D A (W1 h0 q1 q2 k1 k2 (fa_fill (fun _ => -1) gs i) bf) → va_S A s.heap H locs → ∀ (ls : Array Slot), lv_has ls 2 [(0, .ref h0), (1, .int (nI i))] → W p l e (headSpec (ws_ yX1_clear cX1_clear 2 none) ({ frames := 0, cells := 0, slots := 0, locals := 0 })).room s m ([.ref h0] : List Value).toArray below meth c H locs 0 0 (MQ below (va_Qv (fun _ : Unit => True) (fun _ => B1 D A h0 q1 q2 k1 k2 (gs_clear gs) bf) A) ([.ref h0] : List Value).toArray s 0 0 A) (F0 m 2 ls []) := by
    intro k
    induction k with
    | zero =>
      intro i h1 h2 H locs hP hD hS ls hl
      exact absurd h2 (by omega)
    | succ k ih2 =>
      intro i h1 h2 H locs hP hD hS ls hl
      refine lv_iload_n hx hb dX1_clear_2 rfl (lv_at hl 1 rfl) ?_
      refine lv_sipush (v := 511) hx hb dX1_clear_3 (by decide) ?_
      refine lv_icmp_ge (tgt := 22) hx hb dX1_clear_6 (by decide) (fun c1 => ?_) (fun c1 => ?_)
      · have c1 : i = 511 := ge_N (N := 511) (by decide) h1 c1
        subst c1
        exact W.vret hx hb hr (fun t ht hW => ⟨⟨(), rfl, trivial, by rw [ht]; exact hP, va_K.moved hW.alike hK, hD⟩, hS.F ht⟩) hS.2.2 dX1_clear_22 hlocks
      · have c1 : i < 511 := lt_N (N := 511) (by decide) h1 c1
        refine lv_aload_n hx hb dX1_clear_9 rfl (lv_at hl 0 rfl) ?_
        refine va_get (D := D) (ci := 1) (v := .ref q1) (C := RX1) (T := TX1) (N := 2) hx hb hts in_X1 hown hK hP 0 rfl rfl 0 (by decide) (hts _ q150) (fun _ h9 => h9) rfl dX1_clear_10 ?_
        refine lv_iload_n hx hb dX1_clear_13 rfl (lv_at hl 1 rfl) ?_
        refine lv_iconst (v := (-1)) hx hb dX1_clear_14 (by decide) ?_
        refine wr_iast hx hb hK hP hD hS 1 0 rfl rfl (i := i) (x := (-1 : Int32)) c1 (by decide) dX1_clear_15 (fun H locs hP hD hS => ?_)
        have hP : va_P D vwCl (W1 h0 q1 q2 k1 k2 (upd (fa_fill (fun _ => -1) gs i) i (-1 : Int32)) bf) H := hP
        have hD : va_D A (W1 h0 q1 q2 k1 k2 (upd (fa_fill (fun _ => -1) gs i) i (-1 : Int32)) bf) := hD
        rw [show upd (fa_fill (fun _ => -1) gs i) i (-1 : Int32) = fa_fill (fun _ => -1) gs (i + 1) from fa_fill_succ (fun _ => -1) gs i] at hP hD
        refine lv_iinc (v := nI (i + 1)) (lv' := [(1, .int (nI (i + 1))), (0, .ref h0)]) hx hb dX1_clear_16 hl (k := 1) rfl (inc_1 i) (by decide) rfl (fun ls hl => ?_)
        refine lv_goto (tgt := 2) hx hb dX1_clear_19 (by decide) ?_
        exact ih2 (i + 1) (by omega) (by omega) H locs hP hD hS ls (lv_sub hl [1, 0] rfl)
  exact loop2 512 0 (by decide) (by decide) _ _ hP hD hS ls (lv_sub hl [1, 0] rfl)
end
section
/-! ===== idle of the reference, the constructors ===== -/
theorem idle_back {gs : Nat → Int32} {a n : Nat} (ha : a < 256) (hn : n ≤ 8) (hb : isBeg (nI a) (nI n) = true) (hh : hs gs a n = true) (h9 : ∀ c, gs c ≤ 99) : gs_put (upd gs (cel a n) (-1)) (nI a) (nI n) (gs (cel a n)) = gs := by
  have h0 : ¬ gs (cel a n) < 0 := by
    intro q
    rw [hs, yes_dec q] at hh
    exact absurd hh (by decide)
  rw [put_yes ha hn (put_ok hb h0 (h9 _)), fa_upd_twice]
  exact fa_upd_same rfl
set_option maxHeartbeats 4000000 in
set_option maxRecDepth 100000 in
/-- idle(address, bits) -/
theorem met_X1_idle (l : Launch) (D : va_G) (h0 q1 q2 : Nat) (k1 k2 : ClassId) (gs bf : Nat → Int32) (sz : Nat) (h9 : ∀ c, gs c ≤ 99) (p0 p1 : Int32) : Met l yX1_idle (ws_ yX1_idle cX1_idle 6 (some .boolean)) ({ frames := 3, cells := 0, slots := 0, locals := 67 }) (wrP D (W1 h0 q1 q2 k1 k2 gs bf) (K1 k1 k2) sz [.ref h0, .int p0, .int p1]) (va_Qi (fun (r : Int32) (_ : Nat → Int32) => r = b2i (S_idle gs p0 p1)) (fun u => B1 D (va_A (W1 h0 q1 q2 k1 k2 gs bf) sz) h0 q1 q2 k1 k2 gs u) (va_A (W1 h0 q1 q2 k1 k2 gs bf) sz)) 0 0 (va_A (W1 h0 q1 q2 k1 k2 gs bf) sz) := by
  refine Met.ofW (cc := cX1_idle) (maxL := 6) (ret := (some .boolean)) (by decide) rfl ?_
  intro p e s m args below meth c s₁ B hml hv
  obtain ⟨rfl, hsz, hP, hK, hD0⟩ := hv
  have hx := B.exec
  have hb := B.bytes
  have hr := B.returns
  have hts := atoms_spec (ws := (ws_ yX1_idle cX1_idle 6 (some .boolean))) B.pre
  have hts : ∀ w ∈ lw_all, w.before _ s = true := fun w h => hts w (List.mem_cons_of_mem _ h)
  have hown : s.vm.findClass RX1 = some m.cls := findClass_of_methodNamed B.named
  have hlocks := B.notSynchronized
  subst hsz
  have hD := hD0.self (sz := s.heap.size)
  generalize hAe : va_A (W1 h0 q1 q2 k1 k2 gs bf) s.heap.size = A at hD ⊢
  have hA : ∀ q : Nat, s.heap.size ≤ q → A q := fun q h => by rw [← hAe]; exact Or.inr h
  have hS : va_S A s.heap s.heap [] := va_S.rf
  have hP : va_P D vwCl (W1 h0 q1 q2 k1 k2 gs bf) s.heap := hP
  have hl := lv_entry ([.ref h0, .int p0, .int p1]) (n := 6) (Nat.le_of_ble_eq_true rfl)
  rw [lg_entry_eq]
  generalize (lg_sl ([.ref h0, .int p0, .int p1]) ++ List.replicate (6 - (lg_sl ([.ref h0, .int p0, .int p1])).length) Slot.unset).toArray = ls at hl ⊢
  have hl : lv_has ls 6 [(0, .ref h0), (1, .int p0), (2, .int p1)] := hl
  have S0 : CallFix p m c cX1_idle 6 s _ lw_all RX1 := ⟨hx, hb, hml, hown, hts⟩
  refine lv_aload_n hx hb dX1_idle_0 rfl (lv_at hl 0 rfl) ?_
  refine lv_iload_n hx hb dX1_idle_1 rfl (lv_at hl 1 rfl) ?_
  refine lv_iload_n hx hb dX1_idle_2 rfl (lv_at hl 2 rfl) ?_
  refine rd_callV (As := [.int p0, .int p1]) (rest := []) (b := h0) (ci := 1) (q0 := 0) S0 (met_X1_is l D h0 q1 q2 k1 k2 gs bf p0 p1) (cwV 2 hts (lw_V q173 q175 qs7 q12 q176) rfl rfl rfl (by decide +kernel) ⟨Nat.le_of_ble_eq_true rfl, Nat.le_of_ble_eq_true rfl⟩) hP hK rfl rfl rfl hl.1 rfl (Nat.le_of_ble_eq_true rfl) dX1_idle_3 ⟨Nat.zero_le _, Nat.zero_le _⟩ ?_
  refine lv_if_ne (tgt := 11) hx hb dX1_idle_6 (by decide) (fun c1 => ?_) (fun c1 => ?_)
  · have c1 := b2i_n0 c1
    have hb1 := S_has_beg c1
    obtain ⟨a, n, ha, hn, ea, en, hd⟩ := isBeg_of hb1
    subst ea
    subst en
    have hh : hs gs a n = true := by rw [← S_has_nI ha hn hb1]; exact c1
    refine lv_iconst (v := 0) hx hb dX1_idle_11 (by decide) ?_
    refine lv_istore_n (lv' := [(3, .int (0 : Int32)), (0, .ref h0), (1, .int (nI a)), (2, .int (nI n))]) hx hb dX1_idle_12 rfl hl (by decide) rfl (fun ls hl => ?_)
    have loop13 : ∀ (k : Nat) (i : Nat), i ≤ 256 → 257 ≤ i + k → ∀ (H : Heap) (locs : List Loc), va_P D vwCl (W1 h0 q1 q2 k1 k2 gs (fa_fill (fun x => Sg gs x 9) bf i)) H → va_D A (W1 h0 q1 q2 k1 k2 gs (fa_fill (fun x => Sg gs x 9) bf i)) → va_S A s.heap H locs → ∀ (ls : Array Slot), lv_has ls 6 [(0, .ref h0), (1, .int (nI a)), (2, .int (nI n)), (3, .int (nI i))] → W p l e (headSpec (ws_ yX1_idle cX1_idle 6 (some .boolean)) ({ frames := 3, cells := 0, slots := 0, locals := 67 })).room s m ([.ref h0, .int (nI a), .int (nI n)] : List Value).toArray below meth c H locs 0 0 (MQ below (va_Qi (fun (r : Int32) (_ : Nat → Int32) => r = b2i (S_idle gs (nI a) (nI n))) (fun u => B1 D A h0 q1 q2 k1 k2 gs u) A) ([.ref h0, .int (nI a), .int (nI n)] : List Value).toArray s 0 0 A) (F0 m 13 ls []) := by
      intro k
      induction k with
      | zero =>
        intro i h1 h2 H locs hP hD hS ls hl
        exact absurd h2 (by omega)
      | succ k ih13 =>
        intro i h1 h2 H locs hP hD hS ls hl
        refine lv_iload_n hx hb dX1_idle_13 rfl (lv_at hl 3 rfl) ?_
        refine lv_sipush (v := 256) hx hb dX1_idle_14 (by decide) ?_
        refine lv_icmp_ge (tgt := 37) hx hb dX1_idle_17 (by decide) (fun c2 => ?_) (fun c2 => ?_)
        · have c2 : i = 256 := ge_N (N := 256) (by decide) h1 c2
          subst c2
          refine lv_aload_n hx hb dX1_idle_37 rfl (lv_at hl 0 rfl) ?_
          refine lv_iload_n hx hb dX1_idle_38 rfl (lv_at hl 1 rfl) ?_
          refine lv_iload_n hx hb dX1_idle_39 rfl (lv_at hl 2 rfl) ?_
          refine rd_callV (As := [.int (nI a), .int (nI n)]) (rest := []) (b := h0) (ci := 1) (q0 := 0) S0 (met_X1_exact l D h0 q1 q2 k1 k2 gs (fa_fill (fun x => Sg gs x 9) bf 256) (nI a) (nI n)) (cwV 2 hts (lw_V q220 q183 q184 q12 q185) rfl rfl rfl (by decide +kernel) ⟨Nat.le_of_ble_eq_true rfl, Nat.le_of_ble_eq_true rfl⟩) hP hK rfl rfl rfl hl.1 rfl (Nat.le_of_ble_eq_true rfl) dX1_idle_40 ⟨Nat.zero_le _, Nat.zero_le _⟩ ?_
          refine lv_tope (show S_exact gs (nI a) (nI n) = gs (cel a n) from (by rw [S_exact, c1, clN ha, clN8 hn]; rfl)) ?_
          refine lv_istore_n (lv' := [(3, .int (gs (cel a n))), (0, .ref h0), (1, .int (nI a)), (2, .int (nI n))]) hx hb dX1_idle_43 rfl hl (by decide) rfl (fun ls hl => ?_)
          refine lv_aload_n hx hb dX1_idle_44 rfl (lv_at hl 1 rfl) ?_
          refine lv_iload_n hx hb dX1_idle_45 rfl (lv_at hl 2 rfl) ?_
          refine lv_iload_n hx hb dX1_idle_46 rfl (lv_at hl 3 rfl) ?_
          have hFc := va_free (wc := (W1 h0 q1 q2 k1 k2 gs (fa_fill (fun x => Sg gs x 9) bf 256))) hD hS hA [0, 1, 2] rfl
          refine va_calli (va_runV (As := [.int (nI a), .int (nI n)]) (rest := []) S0 (met_X1_drop l D h0 q1 q2 k1 k2 gs (fa_fill (fun x => Sg gs x 9) bf 256) H.size (nI a) (nI n)) (cwV 2 hts (lw_V q221 q170 q171 q12 q172) rfl rfl rfl (by decide +kernel) ⟨Nat.le_of_ble_eq_true rfl, Nat.le_of_ble_eq_true rfl⟩) ⟨wrP_blind, va_recv hK hP (ci := 1) (q0 := 0) rfl rfl, fun U hU hW => ⟨rfl, by rw [hU], by rw [hU]; exact hP, va_K.moved hW.alike hK, hD.weaken (fun _ _ _ _ => trivial)⟩⟩ rfl rfl hl.1 rfl (lv_room (Nat.le_of_ble_eq_true rfl)) dX1_idle_47 ⟨Nat.le_of_ble_eq_true rfl, Nat.le_of_ble_eq_true rfl⟩) hS (fun q _ h => hFc q h) hFc (fun r1 u t H1 locs ht hvm hw hB hz1 hk1 hS => ?_)
          obtain ⟨hP1, hK1, hD1⟩ := hB
          rw [ht] at hP1
          have hK1 := va_K.moved hvm.symm hK1
          obtain ⟨hP, hD⟩ := va_join (wr := []) (w1 := (W1 h0 q1 q2 k1 k2 (gs_drop gs (nI a) (nI n)) (fa_fill (fun x => Sg gs x 9) bf 256))) hP hD [0, 1, 2] [] rfl rfl (by decide) (by decide) hk1 hFc hP1 hD1
          generalize H1 = H at hP hS ⊢
          have hP : va_P D vwCl (W1 h0 q1 q2 k1 k2 (gs_drop gs (nI a) (nI n)) (fa_fill (fun x => Sg gs x 9) bf 256)) H := hP
          have hD : va_D A (W1 h0 q1 q2 k1 k2 (gs_drop gs (nI a) (nI n)) (fa_fill (fun x => Sg gs x 9) bf 256)) := hD
          refine W.widen (k := 0) (n := 0) (Nat.le_of_ble_eq_true rfl) (Nat.le_of_ble_eq_true rfl) ?_
          rw [gs_drop_nI ha hn hb1 hh] at hP hD
          refine lv_pop hx hb dX1_idle_50 rfl ?_
          refine lv_iconst (v := 1) hx hb dX1_idle_51 (by decide) ?_
          refine lv_istore (lv' := [(4, .int (1 : Int32)), (3, .int (gs (cel a n))), (0, .ref h0), (1, .int (nI a)), (2, .int (nI n))]) hx hb dX1_idle_52 hl (by decide) rfl (fun ls hl => ?_)
          refine lv_iconst (v := 0) hx hb dX1_idle_54 (by decide) ?_
          refine lv_istore (lv' := [(5, .int (0 : Int32)), (4, .int (1 : Int32)), (3, .int (gs (cel a n))), (0, .ref h0), (1, .int (nI a)), (2, .int (nI n))]) hx hb dX1_idle_55 hl (by decide) rfl (fun ls hl => ?_)
          have loop57 : ∀ (k : Nat) (i : Nat), i ≤ 256 → 257 ≤ i + k → ∀ (ls : Array Slot), lv_has ls 6 [(0, .ref h0), (1, .int (nI a)), (2, .int (nI n)), (3, .int (gs (cel a n))), (4, .int (b2i (allF (P_idle gs (upd gs (cel a n) (-1))) i))), (5, .int (nI i))] → W p l e (headSpec (ws_ yX1_idle cX1_idle 6 (some .boolean)) ({ frames := 3, cells := 0, slots := 0, locals := 67 })).room s m ([.ref h0, .int (nI a), .int (nI n)] : List Value).toArray below meth c H locs 0 0 (MQ below (va_Qi (fun (r : Int32) (_ : Nat → Int32) => r = b2i (S_idle gs (nI a) (nI n))) (fun u => B1 D A h0 q1 q2 k1 k2 gs u) A) ([.ref h0, .int (nI a), .int (nI n)] : List Value).toArray s 0 0 A) (F0 m 57 ls []) := by
            intro k
            induction k with
            | zero =>
              intro i h3 h4 ls hl
              exact absurd h4 (by omega)
            | succ k ih57 =>
              intro i h3 h4 ls hl
              refine lv_iload hx hb dX1_idle_57 (lv_at hl 5 rfl) ?_
              refine lv_sipush (v := 256) hx hb dX1_idle_59 (by decide) ?_
              refine lv_icmp_ge (tgt := 99) hx hb dX1_idle_62 (by decide) (fun c3 => ?_) (fun c3 => ?_)
              · have c3 : i = 256 := ge_N (N := 256) (by decide) h3 c3
                subst c3
                refine lv_aload_n hx hb dX1_idle_99 rfl (lv_at hl 0 rfl) ?_
                refine lv_iload_n hx hb dX1_idle_100 rfl (lv_at hl 1 rfl) ?_
                refine lv_iload_n hx hb dX1_idle_101 rfl (lv_at hl 2 rfl) ?_
                refine lv_iload_n hx hb dX1_idle_102 rfl (lv_at hl 3 rfl) ?_
                have hFc := va_free (wc := (W1 h0 q1 q2 k1 k2 (upd gs (cel a n) (-1)) (fa_fill (fun x => Sg gs x 9) bf 256))) hD hS hA [0, 1, 2] rfl
                refine va_calli (va_runV (As := [.int (nI a), .int (nI n), .int (gs (cel a n))]) (rest := []) S0 (met_X1_put l D h0 q1 q2 k1 k2 (upd gs (cel a n) (-1)) (fa_fill (fun x => Sg gs x 9) bf 256) H.size (nI a) (nI n) (gs (cel a n))) (cwV 3 hts (lw_V q222 q158 q159 q12 q160) rfl rfl rfl (by decide +kernel) ⟨Nat.le_of_ble_eq_true rfl, Nat.le_of_ble_eq_true rfl⟩) ⟨wrP_blind, va_recv hK hP (ci := 1) (q0 := 0) rfl rfl, fun U hU hW => ⟨rfl, by rw [hU], by rw [hU]; exact hP, va_K.moved hW.alike hK, hD.weaken (fun _ _ _ _ => trivial)⟩⟩ rfl rfl hl.1 rfl (lv_room (Nat.le_of_ble_eq_true rfl)) dX1_idle_103 ⟨Nat.le_of_ble_eq_true rfl, Nat.le_of_ble_eq_true rfl⟩) hS (fun q _ h => hFc q h) hFc (fun r2 u t H1 locs ht hvm hw hB hz1 hk1 hS => ?_)
                obtain ⟨hP1, hK1, hD1⟩ := hB
                rw [ht] at hP1
                have hK1 := va_K.moved hvm.symm hK1
                obtain ⟨hP, hD⟩ := va_join (wr := []) (w1 := (W1 h0 q1 q2 k1 k2 (gs_put (upd gs (cel a n) (-1)) (nI a) (nI n) (gs (cel a n))) (fa_fill (fun x => Sg gs x 9) bf 256))) hP hD [0, 1, 2] [] rfl rfl (by decide) (by decide) hk1 hFc hP1 hD1
                generalize H1 = H at hP hS ⊢
                have hP : va_P D vwCl (W1 h0 q1 q2 k1 k2 (gs_put (upd gs (cel a n) (-1)) (nI a) (nI n) (gs (cel a n))) (fa_fill (fun x => Sg gs x 9) bf 256)) H := hP
                have hD : va_D A (W1 h0 q1 q2 k1 k2 (gs_put (upd gs (cel a n) (-1)) (nI a) (nI n) (gs (cel a n))) (fa_fill (fun x => Sg gs x 9) bf 256)) := hD
                refine W.widen (k := 0) (n := 0) (Nat.le_of_ble_eq_true rfl) (Nat.le_of_ble_eq_true rfl) ?_
                rw [idle_back ha hn hb1 hh h9] at hP hD
                refine lv_pop hx hb dX1_idle_106 rfl ?_
                refine lv_iload hx hb dX1_idle_107 (lv_at hl 4 rfl) ?_
                exact W.zret (v := b2i (allF (P_idle gs (upd gs (cel a n) (-1))) 256)) hx hb hr (b2i_nar _) (fun t ht hW => ⟨⟨b2i (allF (P_idle gs (upd gs (cel a n) (-1))) 256), fa_fill (fun x => Sg gs x 9) bf 256, rfl, (by rw [S_idle, c1, gs_drop_nI ha hn hb1 hh]; rfl), by rw [ht]; exact hP, va_K.moved hW.alike hK, hD⟩, hS.F ht⟩) hS.2.2 dX1_idle_109 hlocks
              · have c3 : i < 256 := lt_N (N := 256) (by decide) h3 c3
                refine lv_iload hx hb dX1_idle_65 (lv_at hl 4 rfl) ?_
                refine lv_if_eq (tgt := 90) hx hb dX1_idle_67 (by decide) (fun c4 => ?_) (fun c4 => ?_)
                · have c4 := b2i_0 c4
                  refine lv_iconst (v := 0) hx hb dX1_idle_90 (by decide) ?_
                  refine lv_tope (show (0 : Int32) = b2i (allF (P_idle gs (upd gs (cel a n) (-1))) (i + 1)) from b2i_f (by rw [allF, c4] <;> rfl)) ?_
                  refine lv_istore (lv' := [(4, .int (b2i (allF (P_idle gs (upd gs (cel a n) (-1))) (i + 1)))), (0, .ref h0), (1, .int (nI a)), (2, .int (nI n)), (3, .int (gs (cel a n))), (5, .int (nI i))]) hx hb dX1_idle_91 hl (by decide) rfl (fun ls hl => ?_)
                  refine lv_iinc (v := nI (i + 1)) (lv' := [(5, .int (nI (i + 1))), (4, .int (b2i (allF (P_idle gs (upd gs (cel a n) (-1))) (i + 1)))), (0, .ref h0), (1, .int (nI a)), (2, .int (nI n)), (3, .int (gs (cel a n)))]) hx hb dX1_idle_93 hl (k := 5) rfl (inc_1 i) (by decide) rfl (fun ls hl => ?_)
                  refine lv_goto (tgt := 57) hx hb dX1_idle_96 (by decide) ?_
                  exact ih57 (i + 1) (by omega) (by omega) ls (lv_sub hl [2, 3, 4, 5, 1, 0] rfl)
                · have c4 := b2i_n0 c4
                  refine lv_aload_n hx hb dX1_idle_70 rfl (lv_at hl 0 rfl) ?_
                  refine lv_iload hx hb dX1_idle_71 (lv_at hl 5 rfl) ?_
                  refine rd_callV (As := [.int (nI i)]) (rest := []) (b := h0) (ci := 1) (q0 := 0) S0 (met_X1_goal l D h0 q1 q2 k1 k2 (upd gs (cel a n) (-1)) (fa_fill (fun x => Sg gs x 9) bf 256) (nI i)) (cwV 1 hts (lw_V q207 q187 q188 q12 q189) rfl rfl rfl (by decide +kernel) ⟨Nat.le_of_ble_eq_true rfl, Nat.le_of_ble_eq_true rfl⟩) hP hK rfl rfl rfl hl.1 rfl (Nat.le_of_ble_eq_true rfl) dX1_idle_73 ⟨Nat.zero_le _, Nat.zero_le _⟩ ?_
                  refine lv_tope (show S_goal (upd gs (cel a n) (-1)) (nI i) = Sg (upd gs (cel a n) (-1)) i 9 from S_goal_nI c3) ?_
                  refine lv_aload_n hx hb dX1_idle_76 rfl (lv_at hl 0 rfl) ?_
                  refine va_get (D := D) (ci := 1) (v := .ref q2) (C := RX1) (T := TX1) (N := 2) hx hb hts in_X1 hown hK hP 0 rfl rfl 1 (by decide) (hts _ q151) (fun _ h9 => h9) rfl dX1_idle_77 ?_
                  refine lv_iload hx hb dX1_idle_80 (lv_at hl 5 rfl) ?_
                  refine rd_iald hx hb hK hP 2 1 rfl rfl (i := i) c3 (by decide) dX1_idle_82 ?_
                  refine lv_tope (show (fa_fill (fun x => Sg gs x 9) bf 256) i = Sg gs i 9 from fa_fill_in c3) ?_
                  refine lv_icmp_ne (tgt := 90) hx hb dX1_idle_83 (by decide) (fun c5 => ?_) (fun c5 => ?_)
                  · refine lv_iconst (v := 0) hx hb dX1_idle_90 (by decide) ?_
                    refine lv_tope (show (0 : Int32) = b2i (allF (P_idle gs (upd gs (cel a n) (-1))) (i + 1)) from b2i_f (by rw [allF, c4]; exact not_dec c5)) ?_
                    refine lv_istore (lv' := [(4, .int (b2i (allF (P_idle gs (upd gs (cel a n) (-1))) (i + 1)))), (0, .ref h0), (1, .int (nI a)), (2, .int (nI n)), (3, .int (gs (cel a n))), (5, .int (nI i))]) hx hb dX1_idle_91 hl (by decide) rfl (fun ls hl => ?_)
                    refine lv_iinc (v := nI (i + 1)) (lv' := [(5, .int (nI (i + 1))), (4, .int (b2i (allF (P_idle gs (upd gs (cel a n) (-1))) (i + 1)))), (0, .ref h0), (1, .int (nI a)), (2, .int (nI n)), (3, .int (gs (cel a n)))]) hx hb dX1_idle_93 hl (k := 5) rfl (inc_1 i) (by decide) rfl (fun ls hl => ?_)
                    refine lv_goto (tgt := 57) hx hb dX1_idle_96 (by decide) ?_
                    exact ih57 (i + 1) (by omega) (by omega) ls (lv_sub hl [2, 3, 4, 5, 1, 0] rfl)
                  · refine lv_iconst (v := 1) hx hb dX1_idle_86 (by decide) ?_
                    refine lv_goto (tgt := 91) hx hb dX1_idle_87 (by decide) ?_
                    refine lv_tope (show (1 : Int32) = b2i (allF (P_idle gs (upd gs (cel a n) (-1))) (i + 1)) from b2i_t (by rw [allF, c4]; exact yes_dec c5)) ?_
                    refine lv_istore (lv' := [(4, .int (b2i (allF (P_idle gs (upd gs (cel a n) (-1))) (i + 1)))), (0, .ref h0), (1, .int (nI a)), (2, .int (nI n)), (3, .int (gs (cel a n))), (5, .int (nI i))]) hx hb dX1_idle_91 hl (by decide) rfl (fun ls hl => ?_)
                    refine lv_iinc (v := nI (i + 1)) (lv' := [(5, .int (nI (i + 1))), (4, .int (b2i (allF (P_idle gs (upd gs (cel a n) (-1))) (i + 1)))), (0, .ref h0), (1, .int (nI a)), (2, .int (nI n)), (3, .int (gs (cel a n)))]) hx hb dX1_idle_93 hl (k := 5) rfl (inc_1 i) (by decide) rfl (fun ls hl => ?_)
                    refine lv_goto (tgt := 57) hx hb dX1_idle_96 (by decide) ?_
                    exact ih57 (i + 1) (by omega) (by omega) ls (lv_sub hl [2, 3, 4, 5, 1, 0] rfl)
          exact loop57 257 0 (by decide) (by decide) ls (lv_sub hl [3, 4, 5, 2, 1, 0] rfl)
        · have c2 : i < 256 := lt_N (N := 256) (by decide) h1 c2
          refine lv_aload_n hx hb dX1_idle_20 rfl (lv_at hl 0 rfl) ?_
          refine va_get (D := D) (ci := 1) (v := .ref q2) (C := RX1) (T := TX1) (N := 2) hx hb hts in_X1 hown hK hP 0 rfl rfl 1 (by decide) (hts _ q151) (fun _ h9 => h9) rfl dX1_idle_21 ?_
          refine lv_iload_n hx hb dX1_idle_24 rfl (lv_at hl 3 rfl) ?_
          refine lv_aload_n hx hb dX1_idle_25 rfl (lv_at hl 0 rfl) ?_
          refine lv_iload_n hx hb dX1_idle_26 rfl (lv_at hl 3 rfl) ?_
          refine rd_callV (As := [.int (nI i)]) (rest := [.int (nI i), .ref q2]) (b := h0) (ci := 1) (q0 := 0) S0 (met_X1_goal l D h0 q1 q2 k1 k2 gs (fa_fill (fun x => Sg gs x 9) bf i) (nI i)) (cwV 1 hts (lw_V q207 q187 q188 q12 q189) rfl rfl rfl (by decide +kernel) ⟨Nat.le_of_ble_eq_true rfl, Nat.le_of_ble_eq_true rfl⟩) hP hK rfl rfl rfl hl.1 rfl (Nat.le_of_ble_eq_true rfl) dX1_idle_27 ⟨Nat.zero_le _, Nat.zero_le _⟩ ?_
          refine lv_tope (show S_goal gs (nI i) = Sg gs i 9 from S_goal_nI c2) ?_
          refine wr_iast hx hb hK hP hD hS 2 1 rfl rfl (i := i) (x := Sg gs i 9) c2 (by decide) dX1_idle_30 (fun H locs hP hD hS => ?_)
          have hP : va_P D vwCl (W1 h0 q1 q2 k1 k2 gs (upd (fa_fill (fun x => Sg gs x 9) bf i) i (Sg gs i 9))) H := hP
          have hD : va_D A (W1 h0 q1 q2 k1 k2 gs (upd (fa_fill (fun x => Sg gs x 9) bf i) i (Sg gs i 9))) := hD
          rw [show upd (fa_fill (fun x => Sg gs x 9) bf i) i (Sg gs i 9) = fa_fill (fun x => Sg gs x 9) bf (i + 1) from fa_fill_succ (fun x => Sg gs x 9) bf i] at hP hD
          refine lv_iinc (v := nI (i + 1)) (lv' := [(3, .int (nI (i + 1))), (0, .ref h0), (1, .int (nI a)), (2, .int (nI n))]) hx hb dX1_idle_31 hl (k := 3) rfl (inc_1 i) (by decide) rfl (fun ls hl => ?_)
          refine lv_goto (tgt := 13) hx hb dX1_idle_34 (by decide) ?_
          exact ih13 (i + 1) (by omega) (by omega) H locs hP hD hS ls (lv_sub hl [1, 2, 3, 0] rfl)
    exact loop13 257 0 (by decide) (by decide) _ _ hP hD hS ls (lv_sub hl [1, 2, 3, 0] rfl)
  · have c1 := b2i_0 c1
    refine lv_iconst (v := 0) hx hb dX1_idle_9 (by decide) ?_
    exact W.zret (v := (0 : Int32)) hx hb hr rfl (fun t ht hW => ⟨⟨(0 : Int32), bf, rfl, b2i_f (by rw [S_idle, c1] <;> rfl), by rw [ht]; exact hP, va_K.moved hW.alike hK, hD⟩, hS.F ht⟩) hS.2.2 dX1_idle_10 hlocks
abbrev I0 : Type := Nat × Nat × Nat × ClassId × ClassId × ClassId
abbrev BI0 (D : va_G) (A : Nat → Prop) (h0 : Nat) (u : I0) (t : State) : Prop := va_P D vwCl (W0 h0 u.1 u.2.1 u.2.2.1 u.2.2.2.1 u.2.2.2.2.1 u.2.2.2.2.2 0 0 (fun _ => 0) (fun _ => 0) (fun _ => 0)) t.heap ∧ va_K D vwCl (K0 u.2.2.2.1 u.2.2.2.2.1 u.2.2.2.2.2) t ∧ va_D A (W0 h0 u.1 u.2.1 u.2.2.1 u.2.2.2.1 u.2.2.2.2.1 u.2.2.2.2.2 0 0 (fun _ => 0) (fun _ => 0) (fun _ => 0))
abbrev I1 : Type := Nat × Nat × ClassId × ClassId
abbrev BI1 (D : va_G) (A : Nat → Prop) (h0 : Nat) (u : I1) (t : State) : Prop := va_P D vwCl (W1 h0 u.1 u.2.1 u.2.2.1 u.2.2.2 (gs_clear (fun _ => 0)) (fun _ => 0)) t.heap ∧ va_K D vwCl (K1 u.2.2.1 u.2.2.2) t ∧ va_D A (W1 h0 u.1 u.2.1 u.2.2.1 u.2.2.2 (gs_clear (fun _ => 0)) (fun _ => 0))
set_option maxHeartbeats 4000000 in
set_option maxRecDepth 100000 in
theorem met_X0_init (l : Launch) (D : va_G) (h0 sz : Nat) : Met l yX0_init (ws_ yX0_init cX0_init 1 none) ({ frames := 1, cells := 3, slots := 527, locals := 12 }) (wrP D [(h0, .inr (0, [.int 0, .null, .null, .null, .int 0]))] [] sz [.ref h0]) (va_Qv (fun _ : I0 => True) (BI0 D (va_A [(h0, .inr (0, [.int 0, .null, .null, .null, .int 0]))] sz) h0) (va_A [(h0, .inr (0, [.int 0, .null, .null, .null, .int 0]))] sz)) 3 527 (va_A [(h0, .inr (0, [.int 0, .null, .null, .null, .int 0]))] sz) := by
  refine Met.ofW (cc := cX0_init) (maxL := 1) (ret := none) (by decide) rfl ?_
  intro p e s m args below meth c s₁ B hml hv
  obtain ⟨rfl, hsz, hP, hK, hD0⟩ := hv
  have hx := B.exec
  have hb := B.bytes
  have hr := B.returns
  have hts := atoms_spec (ws := (ws_ yX0_init cX0_init 1 none)) B.pre
  have hts : ∀ w ∈ lw_all, w.before _ s = true := fun w h => hts w (List.mem_cons_of_mem _ h)
  have hown : s.vm.findClass RX0 = some m.cls := findClass_of_methodNamed B.named
  have hlocks := B.notSynchronized
  have hin : meth.name = "<init>" := (name_of_methodNamed B.named B.method).1
  subst hsz
  have hD := hD0.self (sz := s.heap.size)
  generalize hAe : va_A [(h0, .inr (0, [.int 0, .null, .null, .null, .int 0]))] s.heap.size = A at hD ⊢
  have hA : ∀ q : Nat, s.heap.size ≤ q → A q := fun q h => by rw [← hAe]; exact Or.inr h
  have hS : va_S A s.heap s.heap [] := va_S.rf
  have hP : va_P D vwCl [(h0, .inr (0, [.int 0, .null, .null, .null, .int 0]))] s.heap := hP
  have hl := lv_entry ([.ref h0]) (n := 1) (Nat.le_of_ble_eq_true rfl)
  rw [lg_entry_eq]
  generalize (lg_sl ([.ref h0]) ++ List.replicate (1 - (lg_sl ([.ref h0])).length) Slot.unset).toArray = ls at hl ⊢
  have hl : lv_has ls 1 [(0, .ref h0)] := hl
  have S0 : CallFix p m c cX0_init 1 s _ lw_all RX0 := ⟨hx, hb, hml, hown, hts⟩
  refine lv_aload_n hx hb dX0_init_0 rfl (lv_at hl 0 rfl) ?_
  refine W.objInit hx hb hown (hts _ q18) (hts _ q19) (hts _ q20) rfl (by rw [hml]; exact hl.1) rfl dX0_init_1 (Nat.le_of_ble_eq_true rfl) (Nat.le_of_ble_eq_true rfl) ?_
  refine W.eq (g2 := F0 m 4 ls []) rfl ?_
  refine lv_aload_n hx hb dX0_init_4 rfl (lv_at hl 0 rfl) ?_
  refine lv_bipush (v := 15) hx hb dX0_init_5 (by decide) ?_
  refine va_newa (atype := .byte) (ty := .byte) (N' := 15) (a0 := (15, .inl (fun _ => 0))) hx hb (hts _ q37) rfl hK hP hD hS hA (fun _ => rfl) (by decide) (by decide) (by decide) (Nat.le_of_ble_eq_true rfl) (Nat.le_of_ble_eq_true rfl) dX0_init_7 (fun q1 k1 H hK hP hD hS => ?_)
  have hK : va_K D vwCl [(k1, .byte)] s := hK
  have hP : va_P D vwCl [(h0, .inr (0, [.int 0, .null, .null, .null, .int 0])), (q1, .inl (k1, 15, .inl (fun _ => 0)))] H := hP
  have hD : va_D A [(h0, .inr (0, [.int 0, .null, .null, .null, .int 0])), (q1, .inl (k1, 15, .inl (fun _ => 0)))] := hD
  refine W.widen (k := 1) (n := 15) (Nat.le_of_ble_eq_true rfl) (Nat.le_of_ble_eq_true rfl) ?_
  refine va_putF (D := D) (ci := 0) (v := .ref q1) (ty := .array .byte) (C := RX0) (T := TX0) (N := 5) hx hb hts in_X0 tyX0 tyX0_ok nmX0 hown hK hP hD hS 0 rfl rfl 1 (by decide) (hts _ q22) (fun _ h9 => h9) rfl hin rfl (by decide +kernel) rfl rfl (Nat.le_of_ble_eq_true rfl) dX0_init_9 (fun H locs hP hD hS => ?_)
  have hP : va_P D vwCl [(h0, .inr (0, [.int 0, .ref q1, .null, .null, .int 0])), (q1, .inl (k1, 15, .inl (fun _ => 0)))] H := hP
  have hD : va_D A [(h0, .inr (0, [.int 0, .ref q1, .null, .null, .int 0])), (q1, .inl (k1, 15, .inl (fun _ => 0)))] := hD
  refine lv_aload_n hx hb dX0_init_12 rfl (lv_at hl 0 rfl) ?_
  refine lv_bipush (v := 16) hx hb dX0_init_13 (by decide) ?_
  refine va_newa (atype := .int) (ty := .int) (N' := 16) (a0 := (16, .inl (fun _ => 0))) hx hb (hts _ q38) rfl hK hP hD hS hA (fun _ => rfl) (by decide) (by decide) (by decide) (Nat.le_of_ble_eq_true rfl) (Nat.le_of_ble_eq_true rfl) dX0_init_15 (fun q2 k2 H hK hP hD hS => ?_)
  have hK : va_K D vwCl [(k1, .byte), (k2, .int)] s := hK
  have hP : va_P D vwCl [(h0, .inr (0, [.int 0, .ref q1, .null, .null, .int 0])), (q1, .inl (k1, 15, .inl (fun _ => 0))), (q2, .inl (k2, 16, .inl (fun _ => 0)))] H := hP
  have hD : va_D A [(h0, .inr (0, [.int 0, .ref q1, .null, .null, .int 0])), (q1, .inl (k1, 15, .inl (fun _ => 0))), (q2, .inl (k2, 16, .inl (fun _ => 0)))] := hD
  refine W.widen (k := 2) (n := 31) (Nat.le_of_ble_eq_true rfl) (Nat.le_of_ble_eq_true rfl) ?_
  refine va_putF (D := D) (ci := 0) (v := .ref q2) (ty := .array .int) (C := RX0) (T := TX0) (N := 5) hx hb hts in_X0 tyX0 tyX0_ok nmX0 hown hK hP hD hS 0 rfl rfl 2 (by decide) (hts _ q23) (fun _ h9 => h9) rfl hin rfl (by decide +kernel) rfl rfl (Nat.le_of_ble_eq_true rfl) dX0_init_17 (fun H locs hP hD hS => ?_)
  have hP : va_P D vwCl [(h0, .inr (0, [.int 0, .ref q1, .ref q2, .null, .int 0])), (q1, .inl (k1, 15, .inl (fun _ => 0))), (q2, .inl (k2, 16, .inl (fun _ => 0)))] H := hP
  have hD : va_D A [(h0, .inr (0, [.int 0, .ref q1, .ref q2, .null, .int 0])), (q1, .inl (k1, 15, .inl (fun _ => 0))), (q2, .inl (k2, 16, .inl (fun _ => 0)))] := hD
  refine lv_aload_n hx hb dX0_init_20 rfl (lv_at hl 0 rfl) ?_
  refine lv_sipush (v := 496) hx hb dX0_init_21 (by decide) ?_
  refine va_newa (atype := .byte) (ty := .byte) (N' := 496) (a0 := (496, .inl (fun _ => 0))) hx hb (hts _ q37) rfl hK hP hD hS hA (fun _ => rfl) (by decide) (by decide) (by decide) (Nat.le_of_ble_eq_true rfl) (Nat.le_of_ble_eq_true rfl) dX0_init_24 (fun q3 k3 H hK hP hD hS => ?_)
  have hK : va_K D vwCl [(k1, .byte), (k2, .int), (k3, .byte)] s := hK
  have hP : va_P D vwCl [(h0, .inr (0, [.int 0, .ref q1, .ref q2, .null, .int 0])), (q1, .inl (k1, 15, .inl (fun _ => 0))), (q2, .inl (k2, 16, .inl (fun _ => 0))), (q3, .inl (k3, 496, .inl (fun _ => 0)))] H := hP
  have hD : va_D A [(h0, .inr (0, [.int 0, .ref q1, .ref q2, .null, .int 0])), (q1, .inl (k1, 15, .inl (fun _ => 0))), (q2, .inl (k2, 16, .inl (fun _ => 0))), (q3, .inl (k3, 496, .inl (fun _ => 0)))] := hD
  refine W.widen (k := 3) (n := 527) (Nat.le_of_ble_eq_true rfl) (Nat.le_of_ble_eq_true rfl) ?_
  refine va_putF (D := D) (ci := 0) (v := .ref q3) (ty := .array .byte) (C := RX0) (T := TX0) (N := 5) hx hb hts in_X0 tyX0 tyX0_ok nmX0 hown hK hP hD hS 0 rfl rfl 3 (by decide) (hts _ q24) (fun _ h9 => h9) rfl hin rfl (by decide +kernel) rfl rfl (Nat.le_of_ble_eq_true rfl) dX0_init_26 (fun H locs hP hD hS => ?_)
  have hP : va_P D vwCl [(h0, .inr (0, [.int 0, .ref q1, .ref q2, .ref q3, .int 0])), (q1, .inl (k1, 15, .inl (fun _ => 0))), (q2, .inl (k2, 16, .inl (fun _ => 0))), (q3, .inl (k3, 496, .inl (fun _ => 0)))] H := hP
  have hD : va_D A [(h0, .inr (0, [.int 0, .ref q1, .ref q2, .ref q3, .int 0])), (q1, .inl (k1, 15, .inl (fun _ => 0))), (q2, .inl (k2, 16, .inl (fun _ => 0))), (q3, .inl (k3, 496, .inl (fun _ => 0)))] := hD
  exact W.vret hx hb hr (fun t ht hW => ⟨⟨(q1, q2, q3, k1, k2, k3), rfl, trivial, by rw [ht]; exact hP, va_K.moved hW.alike hK, hD⟩, hS.F ht⟩) hS.2.2 dX0_init_29 hlocks
set_option maxHeartbeats 4000000 in
set_option maxRecDepth 100000 in
theorem met_X1_init (l : Launch) (D : va_G) (h0 sz : Nat) : Met l yX1_init (ws_ yX1_init cX1_init 1 none) ({ frames := 1, cells := 2, slots := 767, locals := 21 }) (wrP D [(h0, .inr (1, [.null, .null]))] [] sz [.ref h0]) (va_Qv (fun _ : I1 => True) (BI1 D (va_A [(h0, .inr (1, [.null, .null]))] sz) h0) (va_A [(h0, .inr (1, [.null, .null]))] sz)) 2 767 (va_A [(h0, .inr (1, [.null, .null]))] sz) := by
  refine Met.ofW (cc := cX1_init) (maxL := 1) (ret := none) (by decide) rfl ?_
  intro p e s m args below meth c s₁ B hml hv
  obtain ⟨rfl, hsz, hP, hK, hD0⟩ := hv
  have hx := B.exec
  have hb := B.bytes
  have hr := B.returns
  have hts := atoms_spec (ws := (ws_ yX1_init cX1_init 1 none)) B.pre
  have hts : ∀ w ∈ lw_all, w.before _ s = true := fun w h => hts w (List.mem_cons_of_mem _ h)
  have hown : s.vm.findClass RX1 = some m.cls := findClass_of_methodNamed B.named
  have hlocks := B.notSynchronized
  have hin : meth.name = "<init>" := (name_of_methodNamed B.named B.method).1
  subst hsz
  have hD := hD0.self (sz := s.heap.size)
  generalize hAe : va_A [(h0, .inr (1, [.null, .null]))] s.heap.size = A at hD ⊢
  have hA : ∀ q : Nat, s.heap.size ≤ q → A q := fun q h => by rw [← hAe]; exact Or.inr h
  have hS : va_S A s.heap s.heap [] := va_S.rf
  have hP : va_P D vwCl [(h0, .inr (1, [.null, .null]))] s.heap := hP
  have hl := lv_entry ([.ref h0]) (n := 1) (Nat.le_of_ble_eq_true rfl)
  rw [lg_entry_eq]
  generalize (lg_sl ([.ref h0]) ++ List.replicate (1 - (lg_sl ([.ref h0])).length) Slot.unset).toArray = ls at hl ⊢
  have hl : lv_has ls 1 [(0, .ref h0)] := hl
  have S0 : CallFix p m c cX1_init 1 s _ lw_all RX1 := ⟨hx, hb, hml, hown, hts⟩
  refine lv_aload_n hx hb dX1_init_0 rfl (lv_at hl 0 rfl) ?_
  refine W.objInit hx hb hown (hts _ q145) (hts _ q19) (hts _ q20) rfl (by rw [hml]; exact hl.1) rfl dX1_init_1 (Nat.le_of_ble_eq_true rfl) (Nat.le_of_ble_eq_true rfl) ?_
  refine W.eq (g2 := F0 m 4 ls []) rfl ?_
  refine lv_aload_n hx hb dX1_init_4 rfl (lv_at hl 0 rfl) ?_
  refine lv_sipush (v := 511) hx hb dX1_init_5 (by decide) ?_
  refine va_newa (atype := .int) (ty := .int) (N' := 511) (a0 := (511, .inl (fun _ => 0))) hx hb (hts _ q38) rfl hK hP hD hS hA (fun _ => rfl) (by decide) (by decide) (by decide) (Nat.le_of_ble_eq_true rfl) (Nat.le_of_ble_eq_true rfl) dX1_init_8 (fun q1 k1 H hK hP hD hS => ?_)
  have hK : va_K D vwCl [(k1, .int)] s := hK
  have hP : va_P D vwCl [(h0, .inr (1, [.null, .null])), (q1, .inl (k1, 511, .inl (fun _ => 0)))] H := hP
  have hD : va_D A [(h0, .inr (1, [.null, .null])), (q1, .inl (k1, 511, .inl (fun _ => 0)))] := hD
  refine W.widen (k := 1) (n := 511) (Nat.le_of_ble_eq_true rfl) (Nat.le_of_ble_eq_true rfl) ?_
  refine va_put (D := D) (ci := 1) (v := .ref q1) (ty := .array .int) (C := RX1) (T := TX1) (N := 2) hx hb hts in_X1 tyX1 tyX1_ok nmX1 hown hK hP hD hS 0 rfl rfl 0 (by decide) (hts _ q150) (fun _ h9 => h9) rfl (by decide +kernel) rfl rfl (Nat.le_of_ble_eq_true rfl) dX1_init_10 (fun H locs hP hD hS => ?_)
  have hP : va_P D vwCl [(h0, .inr (1, [.ref q1, .null])), (q1, .inl (k1, 511, .inl (fun _ => 0)))] H := hP
  have hD : va_D A [(h0, .inr (1, [.ref q1, .null])), (q1, .inl (k1, 511, .inl (fun _ => 0)))] := hD
  refine lv_aload_n hx hb dX1_init_13 rfl (lv_at hl 0 rfl) ?_
  refine lv_sipush (v := 256) hx hb dX1_init_14 (by decide) ?_
  refine va_newa (atype := .int) (ty := .int) (N' := 256) (a0 := (256, .inl (fun _ => 0))) hx hb (hts _ q38) rfl hK hP hD hS hA (fun _ => rfl) (by decide) (by decide) (by decide) (Nat.le_of_ble_eq_true rfl) (Nat.le_of_ble_eq_true rfl) dX1_init_17 (fun q2 k2 H hK hP hD hS => ?_)
  have hK : va_K D vwCl [(k1, .int), (k2, .int)] s := hK
  have hP : va_P D vwCl [(h0, .inr (1, [.ref q1, .null])), (q1, .inl (k1, 511, .inl (fun _ => 0))), (q2, .inl (k2, 256, .inl (fun _ => 0)))] H := hP
  have hD : va_D A [(h0, .inr (1, [.ref q1, .null])), (q1, .inl (k1, 511, .inl (fun _ => 0))), (q2, .inl (k2, 256, .inl (fun _ => 0)))] := hD
  refine W.widen (k := 2) (n := 767) (Nat.le_of_ble_eq_true rfl) (Nat.le_of_ble_eq_true rfl) ?_
  refine va_put (D := D) (ci := 1) (v := .ref q2) (ty := .array .int) (C := RX1) (T := TX1) (N := 2) hx hb hts in_X1 tyX1 tyX1_ok nmX1 hown hK hP hD hS 0 rfl rfl 1 (by decide) (hts _ q151) (fun _ h9 => h9) rfl (by decide +kernel) rfl rfl (Nat.le_of_ble_eq_true rfl) dX1_init_19 (fun H locs hP hD hS => ?_)
  have hP : va_P D vwCl [(h0, .inr (1, [.ref q1, .ref q2])), (q1, .inl (k1, 511, .inl (fun _ => 0))), (q2, .inl (k2, 256, .inl (fun _ => 0)))] H := hP
  have hD : va_D A [(h0, .inr (1, [.ref q1, .ref q2])), (q1, .inl (k1, 511, .inl (fun _ => 0))), (q2, .inl (k2, 256, .inl (fun _ => 0)))] := hD
  refine lv_aload_n hx hb dX1_init_22 rfl (lv_at hl 0 rfl) ?_
  have hFc := va_free (wc := (W1 h0 q1 q2 k1 k2 (fun _ => 0) (fun _ => 0))) hD hS hA [0, 1, 2] rfl
  refine va_callv (va_runV (As := []) (rest := []) S0 (met_X1_clear l D h0 q1 q2 k1 k2 (fun _ => 0) (fun _ => 0) H.size) (cwV 0 hts (lw_V q146 q147 q148 q12 q149) rfl rfl rfl (by decide +kernel) ⟨Nat.le_of_ble_eq_true rfl, Nat.le_of_ble_eq_true rfl⟩) ⟨wrP_blind, va_recv hK hP (ci := 1) (q0 := 0) rfl rfl, fun U hU hW => ⟨rfl, by rw [hU], by rw [hU]; exact hP, va_K.moved hW.alike hK, hD.weaken (fun _ _ _ _ => trivial)⟩⟩ rfl rfl hl.1 rfl (lv_room (Nat.le_of_ble_eq_true rfl)) dX1_init_23 ⟨Nat.le_of_ble_eq_true rfl, Nat.le_of_ble_eq_true rfl⟩) hS (fun q _ h => hFc q h) hFc (fun u t H1 locs ht hvm hw hB hz1 hk1 hS => ?_)
  obtain ⟨hP1, hK1, hD1⟩ := hB
  rw [ht] at hP1
  have hK1 := va_K.moved hvm.symm hK1
  obtain ⟨hP, hD⟩ := va_join (wr := []) (w1 := (W1 h0 q1 q2 k1 k2 (gs_clear (fun _ => 0)) (fun _ => 0))) hP hD [0, 1, 2] [] rfl rfl (by decide) (by decide) hk1 hFc hP1 hD1
  generalize H1 = H at hP hS ⊢
  have hP : va_P D vwCl (W1 h0 q1 q2 k1 k2 (gs_clear (fun _ => 0)) (fun _ => 0)) H := hP
  have hD : va_D A (W1 h0 q1 q2 k1 k2 (gs_clear (fun _ => 0)) (fun _ => 0)) := hD
  refine W.widen (k := 2) (n := 767) (Nat.le_of_ble_eq_true rfl) (Nat.le_of_ble_eq_true rfl) ?_
  exact W.vret hx hb hr (fun t ht hW => ⟨⟨(q1, q2, k1, k2), rfl, trivial, by rw [ht]; exact hP, va_K.moved hW.alike hK, hD⟩, hS.F ht⟩) hS.2.2 dX1_init_26 hlocks
end
section
set_option maxRecDepth 100000
/-! THE CLAIM OUT OF ONE WALK OF THE LAW'S BODY. Your part is whole_start (and what it stands on); all else here is the same for every law, but numbers. -/
def R_law : String := "RouteTableLaw"
def lw_P (b : Addr) (xs : List Int32) (args : Array Value) (s : State) : Prop := args = #[.ref b] ∧ s.IntsAt b xs ∧ xs.length ≤ 256 ∧ (Jvm.Cond.and given_1 narrow_1).before args s = true
def lw_Q (_ : Array Value) (s : State) (o : Outcome) (t : State) : Prop := o = .returned (some (.int 1)) ∧ Framed s o t [] 600000 7290000
def lw_Z (below : List Frame) (a : Array Value) (s : State) : State → Prop := fun t => ∃ o, t.status = .running ∧ Ended t below o ∧ lw_Q a s o t
/-- the law's own end, with 1 on the stack, nothing written that was there before, its room as the claim has it -/
theorem lw_ret {p : Program} {l : Launch} {e : Env} {s : State} {m : MethodId} {below : List Frame} {meth : Method} {c : Code} {b : Nat} (hx : p.tables.exec = Jvm.exec) (hb : c.code = code) (hr : meth.sig.returnType = ret) (hlocks : meth.locks = false) {pc : Nat} {H : Heap} {ls : Array Slot} (hdg : decode code pc = .ok (.ireturn, 1)) : W p l e room_1 s m #[Value.ref b] below meth c H [] 600000 7290000 (lw_Z below #[Value.ref b] s) (F0 m pc ls [.int 1]) := by
  intro T hT X
  obtain ⟨fs, hret, hrun, hended, hW, hframe⟩ := X.leave (v := some (.int 1)) (hlocks := hlocks) (fun h => by rw [hr] at h; cases h)
  have hmeth' : T.vm.method? m = some meth := X.method'
  refine ⟨T.setFrames fs, ?_, .returned (some (.int 1)), hrun, hended, rfl, ⟨_, rfl⟩, hW, hframe⟩
  jvm_step X.here [X.here.top, hx, hb, hdg, hmeth', hr, ret, narrow_b1]
  (try refine ⟨rfl, ?_⟩); (try refine ⟨rfl, ?_⟩)
  first | (intro acts; rw [hret _ acts rfl rfl rfl]) | rw [hret _ _ rfl rfl rfl]
  exact Steps.refl _
/-- what holds at the law's entry: the machine, the code, the tables' words (any of lw_tbl by 'hts w (by decide +kernel)'), the script of L ints xs at the cell b, what the Statement gives of the start (any of its parts by flat_of_before) -/
def lw_At (p : Program) (s : State) (m : MethodId) (meth : Method) (c : Code) (b L : Nat) (xs : Nat → Int32) : Prop :=
  p.tables.exec = Jvm.exec ∧ c.code = code ∧ meth.sig.returnType = ret ∧ c.maxLocals = 4 ∧ s.vm.findClass R_law = some m.cls ∧ (∀ w ∈ lw_tbl, w.before #[Value.ref b] s = true) ∧ va_X b L xs s s.heap ∧ b < s.heap.size ∧ meth.locks = false ∧ (Jvm.Cond.and given_1 narrow_1).before #[Value.ref b] s = true
/-! ===== the law's own world ===== -/
abbrev L7 (h0 q1 q2 q3 g0 r1 r2 : Nat) (k1 k2 k3 j1 j2 : ClassId) (tb ct : Int32) (tg lb lg gs bf : Nat → Int32) : va_W := [(h0, .inr (0, [.int tb, .ref q1, .ref q2, .ref q3, .int ct])), (q1, .inl (k1, 15, .inl tg)), (q2, .inl (k2, 16, .inl lb)), (q3, .inl (k3, 496, .inl lg)), (g0, .inr (1, [.ref r1, .ref r2])), (r1, .inl (j1, 511, .inl gs)), (r2, .inl (j2, 256, .inl bf))]
abbrev K7 (k1 k2 k3 j1 j2 : ClassId) : List (ClassId × FieldType) := [(k1, .byte), (k2, .int), (k3, .byte), (j1, .int), (j2, .int)]
abbrev Af (s : State) : Nat → Prop := fun q => s.heap.size ≤ q
/-- the law's walk from pc on, with i ints read, whatever the two objects hold, if they agree -/
def LawAt (p : Program) (l : Launch) (e : Env) (s : State) (m : MethodId) (below : List Frame) (meth : Method) (c : Code) (b : Nat) (D : va_G) (h0 q1 q2 q3 g0 r1 r2 : Nat) (k1 k2 k3 j1 j2 : ClassId) (i pc : Nat) : Prop :=
  ∀ (tb ct : Int32) (tg lb lg gs bf : Nat → Int32), Rel tb ct tg lb lg gs → ∀ (H : Heap) (locs : List Loc), va_P D vwCl (L7 h0 q1 q2 q3 g0 r1 r2 k1 k2 k3 j1 j2 tb ct tg lb lg gs bf) H → va_D (Af s) (L7 h0 q1 q2 q3 g0 r1 r2 k1 k2 k3 j1 j2 tb ct tg lb lg gs bf) → va_S (Af s) s.heap H locs → ∀ (ls : Array Slot), lv_has ls 4 [(0, .ref b), (1, .ref h0), (2, .ref g0), (3, .int (nI i))] → W p l e room_1 s m #[Value.ref b] below meth c H locs 7 1301 (lw_Z below #[Value.ref b] s) (F0 m pc ls [])
theorem rd_sld {p : Program} {l : Launch} {e : Env} {R : Room} {s : State} {m : MethodId} {args : Array Value} {below : List Frame} {meth : Method} {c : Code} {H H0 : Heap} {locs : List Loc} {cells slots : Nat} {Q : State → Prop} {pc : Nat} {ls : Array Slot} {rest : List Value} {cc : ByteArray} {A : Nat → Prop} (hx : p.tables.exec = Jvm.exec) (hb : c.code = cc) {b L : Nat} {xs : Nat → Int32} (hX : va_X b L xs s H0) (hbl : b < H0.size) (hbA : ¬ A b) (hS : va_S A H0 H locs) {i : Nat} (hi : i < L) (hL : L ≤ 256) (hdg : decode cc pc = .ok (.iaload, 1))
    (kk : W p l e R s m args below meth c H locs cells slots Q (F0 m (pc + 1) ls (.int (xs i) :: rest))) : W p l e R s m args below meth c H locs cells slots Q (F0 m pc ls (.int (nI i) :: .ref b :: rest)) :=
  va_sld hx hb hX hbl hbA hS (vp_in_nI hi (by omega)) hdg (by rw [nI_clamp (by omega)]; exact kk)
section LAW
variable {p : Program} {l : Launch} {e : Env} {s : State} {m : MethodId} {below : List Frame} {meth : Method} {c : Code} {b L : Nat} {xs : Nat → Int32} {D : va_G} {h0 q1 q2 q3 g0 r1 r2 : Nat} {k1 k2 k3 j1 j2 : ClassId}
set_option maxHeartbeats 4000000 in
set_option maxRecDepth 100000 in
/-- case 0: put -/
theorem law_c0 (C0 : lw_At p s m meth c b L xs) (hL : L ≤ 256) (hK : va_K D vwCl (K7 k1 k2 k3 j1 j2) s) {i : Nat} (hi : i + 4 ≤ L) (K : LawAt p l e s m below meth c b D h0 q1 q2 q3 g0 r1 r2 k1 k2 k3 j1 j2 i 464) : LawAt p l e s m below meth c b D h0 q1 q2 q3 g0 r1 r2 k1 k2 k3 j1 j2 i 104 := by
  obtain ⟨hx, hb, hr, hml, hown, hts0, hX, hbl, hlocks, hgv⟩ := C0
  have hts : ∀ w ∈ lw_all, w.before #[Value.ref b] s = true := fun w h => hts0 w (lw_all_tbl h)
  have hA : ∀ q : Nat, s.heap.size ≤ q → Af s q := fun _ h => h
  have hbA : ¬ Af s b := Nat.not_le.mpr hbl
  have S0 : CallFix p m c cL_law 4 s #[Value.ref b] lw_all R_law := ⟨hx, hb, hml, hown, hts⟩
  have hK0 : va_K D vwCl (K0 k1 k2 k3) s := hK.sub [0, 1, 2] rfl
  have hK1 : va_K D vwCl (K1 j1 j2) s := hK.sub [3, 4] rfl
  intro tb ct tg lb lg gs bf hR H locs hP hD hS ls hl
  have hP0 : va_P D vwCl (W0 h0 q1 q2 q3 k1 k2 k3 tb ct tg lb lg) H := hP.sub [0, 1, 2, 3] rfl
  have hP1 : va_P D vwCl (W1 g0 r1 r2 j1 j2 gs bf) H := hP.sub [4, 5, 6] rfl
  refine lv_aload_n hx hb dL_law_104 rfl (lv_at hl 1 rfl) ?_
  refine lv_aload_n hx hb dL_law_105 rfl (lv_at hl 0 rfl) ?_
  refine lv_iload_n hx hb dL_law_106 rfl (lv_at hl 3 rfl) ?_
  refine lv_iconst (v := 1) hx hb dL_law_107 (by decide) ?_
  refine lv_iadd hx hb dL_law_108 ?_
  refine lv_tope (show nI i + 1 = nI (i + 1) from nI_add i 1) ?_
  refine rd_sld hx hb hX hbl hbA hS (i := i + 1) (by omega) hL dL_law_109 ?_
  refine lv_aload_n hx hb dL_law_110 rfl (lv_at hl 0 rfl) ?_
  refine lv_iload_n hx hb dL_law_111 rfl (lv_at hl 3 rfl) ?_
  refine lv_iconst (v := 2) hx hb dL_law_112 (by decide) ?_
  refine lv_iadd hx hb dL_law_113 ?_
  refine lv_tope (show nI i + 2 = nI (i + 2) from nI_add i 2) ?_
  refine rd_sld hx hb hX hbl hbA hS (i := i + 2) (by omega) hL dL_law_114 ?_
  refine lv_aload_n hx hb dL_law_115 rfl (lv_at hl 0 rfl) ?_
  refine lv_iload_n hx hb dL_law_116 rfl (lv_at hl 3 rfl) ?_
  refine lv_iconst (v := 3) hx hb dL_law_117 (by decide) ?_
  refine lv_iadd hx hb dL_law_118 ?_
  refine lv_tope (show nI i + 3 = nI (i + 3) from nI_add i 3) ?_
  refine rd_sld hx hb hX hbl hbA hS (i := i + 3) (by omega) hL dL_law_119 ?_
  have hDc := hD.sub (ws' := (W0 h0 q1 q2 q3 k1 k2 k3 tb ct tg lb lg)) [0, 1, 2, 3] (by decide) rfl
  have hFc := va_free (wc := (W0 h0 q1 q2 q3 k1 k2 k3 tb ct tg lb lg)) hD hS hA [0, 1, 2, 3] rfl
  refine va_calli (va_runV (As := [.int (xs (i + 1)), .int (xs (i + 2)), .int (xs (i + 3))]) (rest := []) S0 (met_X0_put l D h0 q1 q2 q3 k1 k2 k3 tb ct tg lb lg gs hR H.size (xs (i + 1)) (xs (i + 2)) (xs (i + 3))) (cwV 3 hts (lw_V q39 q40 q41 q11 q42) rfl rfl rfl (by decide +kernel) ⟨Nat.le_of_ble_eq_true rfl, Nat.le_of_ble_eq_true rfl⟩) ⟨wrP_blind, va_recv hK0 hP0 (ci := 0) (q0 := 0) rfl rfl, fun U hU hW => ⟨rfl, by rw [hU], by rw [hU]; exact hP0, va_K.moved hW.alike hK0, hDc.weaken (fun _ _ _ _ => trivial)⟩⟩ rfl rfl hl.1 rfl (lv_room (Nat.le_of_ble_eq_true rfl)) dL_law_120 ⟨Nat.le_of_ble_eq_true rfl, Nat.le_of_ble_eq_true rfl⟩) hS (fun q _ h => hFc q h) hFc (fun z1 u t H1 locs ht hvm hw hB hz1 hk1 hS => ?_)
  obtain ⟨tb2, ct2, tg2, lb2, lg2⟩ := u
  obtain ⟨e1, hR2⟩ := hw
  have hR2 : Rel tb2 ct2 tg2 lb2 lg2 (gs_put gs (xs (i + 1)) (xs (i + 2)) (xs (i + 3))) := hR2
  obtain ⟨hPn, -, hDn⟩ := hB
  rw [ht] at hPn
  obtain ⟨hP, hD⟩ := va_join (wr := (W1 g0 r1 r2 j1 j2 gs bf)) (w1 := (W0 h0 q1 q2 q3 k1 k2 k3 tb2 ct2 tg2 lb2 lg2)) hP hD [0, 1, 2, 3] [4, 5, 6] rfl rfl (by decide) (by decide) hk1 hFc hPn hDn
  generalize H1 = H at hP hS ⊢
  have hP : va_P D vwCl (L7 h0 q1 q2 q3 g0 r1 r2 k1 k2 k3 j1 j2 tb2 ct2 tg2 lb2 lg2 gs bf) H := hP.sub [3, 4, 5, 6, 0, 1, 2] rfl
  have hD : va_D (Af s) (L7 h0 q1 q2 q3 g0 r1 r2 k1 k2 k3 j1 j2 tb2 ct2 tg2 lb2 lg2 gs bf) := hD.sub [3, 4, 5, 6, 0, 1, 2] (by decide) rfl
  have hP0 : va_P D vwCl (W0 h0 q1 q2 q3 k1 k2 k3 tb2 ct2 tg2 lb2 lg2) H := hP.sub [0, 1, 2, 3] rfl
  have hP1 : va_P D vwCl (W1 g0 r1 r2 j1 j2 gs bf) H := hP.sub [4, 5, 6] rfl
  refine W.widen (k := 7) (n := 1301) (Nat.le_of_ble_eq_true rfl) (Nat.le_of_ble_eq_true rfl) ?_
  refine lv_aload_n hx hb dL_law_123 rfl (lv_at hl 2 rfl) ?_
  refine lv_aload_n hx hb dL_law_124 rfl (lv_at hl 0 rfl) ?_
  refine lv_iload_n hx hb dL_law_125 rfl (lv_at hl 3 rfl) ?_
  refine lv_iconst (v := 1) hx hb dL_law_126 (by decide) ?_
  refine lv_iadd hx hb dL_law_127 ?_
  refine lv_tope (show nI i + 1 = nI (i + 1) from nI_add i 1) ?_
  refine rd_sld hx hb hX hbl hbA hS (i := i + 1) (by omega) hL dL_law_128 ?_
  refine lv_aload_n hx hb dL_law_129 rfl (lv_at hl 0 rfl) ?_
  refine lv_iload_n hx hb dL_law_130 rfl (lv_at hl 3 rfl) ?_
  refine lv_iconst (v := 2) hx hb dL_law_131 (by decide) ?_
  refine lv_iadd hx hb dL_law_132 ?_
  refine lv_tope (show nI i + 2 = nI (i + 2) from nI_add i 2) ?_
  refine rd_sld hx hb hX hbl hbA hS (i := i + 2) (by omega) hL dL_law_133 ?_
  refine lv_aload_n hx hb dL_law_134 rfl (lv_at hl 0 rfl) ?_
  refine lv_iload_n hx hb dL_law_135 rfl (lv_at hl 3 rfl) ?_
  refine lv_iconst (v := 3) hx hb dL_law_136 (by decide) ?_
  refine lv_iadd hx hb dL_law_137 ?_
  refine lv_tope (show nI i + 3 = nI (i + 3) from nI_add i 3) ?_
  refine rd_sld hx hb hX hbl hbA hS (i := i + 3) (by omega) hL dL_law_138 ?_
  have hDc := hD.sub (ws' := (W1 g0 r1 r2 j1 j2 gs bf)) [4, 5, 6] (by decide) rfl
  have hFc := va_free (wc := (W1 g0 r1 r2 j1 j2 gs bf)) hD hS hA [4, 5, 6] rfl
  refine va_calli (va_runV (As := [.int (xs (i + 1)), .int (xs (i + 2)), .int (xs (i + 3))]) (rest := [.int z1]) S0 (met_X1_put l D g0 r1 r2 j1 j2 gs bf H.size (xs (i + 1)) (xs (i + 2)) (xs (i + 3))) (cwV 3 hts (lw_V q157 q158 q159 q12 q160) rfl rfl rfl (by decide +kernel) ⟨Nat.le_of_ble_eq_true rfl, Nat.le_of_ble_eq_true rfl⟩) ⟨wrP_blind, va_recv hK1 hP1 (ci := 1) (q0 := 0) rfl rfl, fun U hU hW => ⟨rfl, by rw [hU], by rw [hU]; exact hP1, va_K.moved hW.alike hK1, hDc.weaken (fun _ _ _ _ => trivial)⟩⟩ rfl rfl hl.1 rfl (lv_room (Nat.le_of_ble_eq_true rfl)) dL_law_139 ⟨Nat.le_of_ble_eq_true rfl, Nat.le_of_ble_eq_true rfl⟩) hS (fun q _ h => hFc q h) hFc (fun z2 u t H1 locs ht hvm hw hB hz1 hk1 hS => ?_)
  obtain ⟨hPn, -, hDn⟩ := hB
  rw [ht] at hPn
  obtain ⟨hP, hD⟩ := va_join (wr := (W0 h0 q1 q2 q3 k1 k2 k3 tb2 ct2 tg2 lb2 lg2)) (w1 := (W1 g0 r1 r2 j1 j2 (gs_put gs (xs (i + 1)) (xs (i + 2)) (xs (i + 3))) bf)) hP hD [4, 5, 6] [0, 1, 2, 3] rfl rfl (by decide) (by decide) hk1 hFc hPn hDn
  generalize H1 = H at hP hS ⊢
  have hP : va_P D vwCl (L7 h0 q1 q2 q3 g0 r1 r2 k1 k2 k3 j1 j2 tb2 ct2 tg2 lb2 lg2 (gs_put gs (xs (i + 1)) (xs (i + 2)) (xs (i + 3))) bf) H := hP.sub [0, 1, 2, 3, 4, 5, 6] rfl
  have hD : va_D (Af s) (L7 h0 q1 q2 q3 g0 r1 r2 k1 k2 k3 j1 j2 tb2 ct2 tg2 lb2 lg2 (gs_put gs (xs (i + 1)) (xs (i + 2)) (xs (i + 3))) bf) := hD.sub [0, 1, 2, 3, 4, 5, 6] (by decide) rfl
  have hP0 : va_P D vwCl (W0 h0 q1 q2 q3 k1 k2 k3 tb2 ct2 tg2 lb2 lg2) H := hP.sub [0, 1, 2, 3] rfl
  have hP1 : va_P D vwCl (W1 g0 r1 r2 j1 j2 (gs_put gs (xs (i + 1)) (xs (i + 2)) (xs (i + 3))) bf) H := hP.sub [4, 5, 6] rfl
  refine W.widen (k := 7) (n := 1301) (Nat.le_of_ble_eq_true rfl) (Nat.le_of_ble_eq_true rfl) ?_
  refine lv_icmp_eq (tgt := 464) hx hb dL_law_142 (by decide) (fun c1 => ?_) (fun c1 => ?_)
  · exact K tb2 ct2 tg2 lb2 lg2 (gs_put gs (xs (i + 1)) (xs (i + 2)) (xs (i + 3))) bf hR2 H locs hP hD hS ls (lv_sub hl [0, 1, 2, 3] rfl)
  · exact absurd ((e1).trans (hw).symm) c1
set_option maxHeartbeats 4000000 in
set_option maxRecDepth 100000 in
/-- case 1: drop -/
theorem law_c1 (C0 : lw_At p s m meth c b L xs) (hL : L ≤ 256) (hK : va_K D vwCl (K7 k1 k2 k3 j1 j2) s) {i : Nat} (hi : i + 4 ≤ L) (K : LawAt p l e s m below meth c b D h0 q1 q2 q3 g0 r1 r2 k1 k2 k3 j1 j2 i 464) : LawAt p l e s m below meth c b D h0 q1 q2 q3 g0 r1 r2 k1 k2 k3 j1 j2 i 147 := by
  obtain ⟨hx, hb, hr, hml, hown, hts0, hX, hbl, hlocks, hgv⟩ := C0
  have hts : ∀ w ∈ lw_all, w.before #[Value.ref b] s = true := fun w h => hts0 w (lw_all_tbl h)
  have hA : ∀ q : Nat, s.heap.size ≤ q → Af s q := fun _ h => h
  have hbA : ¬ Af s b := Nat.not_le.mpr hbl
  have S0 : CallFix p m c cL_law 4 s #[Value.ref b] lw_all R_law := ⟨hx, hb, hml, hown, hts⟩
  have hK0 : va_K D vwCl (K0 k1 k2 k3) s := hK.sub [0, 1, 2] rfl
  have hK1 : va_K D vwCl (K1 j1 j2) s := hK.sub [3, 4] rfl
  intro tb ct tg lb lg gs bf hR H locs hP hD hS ls hl
  have hP0 : va_P D vwCl (W0 h0 q1 q2 q3 k1 k2 k3 tb ct tg lb lg) H := hP.sub [0, 1, 2, 3] rfl
  have hP1 : va_P D vwCl (W1 g0 r1 r2 j1 j2 gs bf) H := hP.sub [4, 5, 6] rfl
  refine lv_aload_n hx hb dL_law_147 rfl (lv_at hl 1 rfl) ?_
  refine lv_aload_n hx hb dL_law_148 rfl (lv_at hl 0 rfl) ?_
  refine lv_iload_n hx hb dL_law_149 rfl (lv_at hl 3 rfl) ?_
  refine lv_iconst (v := 1) hx hb dL_law_150 (by decide) ?_
  refine lv_iadd hx hb dL_law_151 ?_
  refine lv_tope (show nI i + 1 = nI (i + 1) from nI_add i 1) ?_
  refine rd_sld hx hb hX hbl hbA hS (i := i + 1) (by omega) hL dL_law_152 ?_
  refine lv_aload_n hx hb dL_law_153 rfl (lv_at hl 0 rfl) ?_
  refine lv_iload_n hx hb dL_law_154 rfl (lv_at hl 3 rfl) ?_
  refine lv_iconst (v := 2) hx hb dL_law_155 (by decide) ?_
  refine lv_iadd hx hb dL_law_156 ?_
  refine lv_tope (show nI i + 2 = nI (i + 2) from nI_add i 2) ?_
  refine rd_sld hx hb hX hbl hbA hS (i := i + 2) (by omega) hL dL_law_157 ?_
  have hDc := hD.sub (ws' := (W0 h0 q1 q2 q3 k1 k2 k3 tb ct tg lb lg)) [0, 1, 2, 3] (by decide) rfl
  have hFc := va_free (wc := (W0 h0 q1 q2 q3 k1 k2 k3 tb ct tg lb lg)) hD hS hA [0, 1, 2, 3] rfl
  refine va_calli (va_runV (As := [.int (xs (i + 1)), .int (xs (i + 2))]) (rest := []) S0 (met_X0_drop l D h0 q1 q2 q3 k1 k2 k3 tb ct tg lb lg gs hR H.size (xs (i + 1)) (xs (i + 2))) (cwV 2 hts (lw_V q56 q57 q58 q11 q59) rfl rfl rfl (by decide +kernel) ⟨Nat.le_of_ble_eq_true rfl, Nat.le_of_ble_eq_true rfl⟩) ⟨wrP_blind, va_recv hK0 hP0 (ci := 0) (q0 := 0) rfl rfl, fun U hU hW => ⟨rfl, by rw [hU], by rw [hU]; exact hP0, va_K.moved hW.alike hK0, hDc.weaken (fun _ _ _ _ => trivial)⟩⟩ rfl rfl hl.1 rfl (lv_room (Nat.le_of_ble_eq_true rfl)) dL_law_158 ⟨Nat.le_of_ble_eq_true rfl, Nat.le_of_ble_eq_true rfl⟩) hS (fun q _ h => hFc q h) hFc (fun z1 u t H1 locs ht hvm hw hB hz1 hk1 hS => ?_)
  obtain ⟨tb2, ct2, tg2, lb2, lg2⟩ := u
  obtain ⟨e1, hR2⟩ := hw
  have hR2 : Rel tb2 ct2 tg2 lb2 lg2 (gs_drop gs (xs (i + 1)) (xs (i + 2))) := hR2
  obtain ⟨hPn, -, hDn⟩ := hB
  rw [ht] at hPn
  obtain ⟨hP, hD⟩ := va_join (wr := (W1 g0 r1 r2 j1 j2 gs bf)) (w1 := (W0 h0 q1 q2 q3 k1 k2 k3 tb2 ct2 tg2 lb2 lg2)) hP hD [0, 1, 2, 3] [4, 5, 6] rfl rfl (by decide) (by decide) hk1 hFc hPn hDn
  generalize H1 = H at hP hS ⊢
  have hP : va_P D vwCl (L7 h0 q1 q2 q3 g0 r1 r2 k1 k2 k3 j1 j2 tb2 ct2 tg2 lb2 lg2 gs bf) H := hP.sub [3, 4, 5, 6, 0, 1, 2] rfl
  have hD : va_D (Af s) (L7 h0 q1 q2 q3 g0 r1 r2 k1 k2 k3 j1 j2 tb2 ct2 tg2 lb2 lg2 gs bf) := hD.sub [3, 4, 5, 6, 0, 1, 2] (by decide) rfl
  have hP0 : va_P D vwCl (W0 h0 q1 q2 q3 k1 k2 k3 tb2 ct2 tg2 lb2 lg2) H := hP.sub [0, 1, 2, 3] rfl
  have hP1 : va_P D vwCl (W1 g0 r1 r2 j1 j2 gs bf) H := hP.sub [4, 5, 6] rfl
  refine W.widen (k := 7) (n := 1301) (Nat.le_of_ble_eq_true rfl) (Nat.le_of_ble_eq_true rfl) ?_
  refine lv_aload_n hx hb dL_law_161 rfl (lv_at hl 2 rfl) ?_
  refine lv_aload_n hx hb dL_law_162 rfl (lv_at hl 0 rfl) ?_
  refine lv_iload_n hx hb dL_law_163 rfl (lv_at hl 3 rfl) ?_
  refine lv_iconst (v := 1) hx hb dL_law_164 (by decide) ?_
  refine lv_iadd hx hb dL_law_165 ?_
  refine lv_tope (show nI i + 1 = nI (i + 1) from nI_add i 1) ?_
  refine rd_sld hx hb hX hbl hbA hS (i := i + 1) (by omega) hL dL_law_166 ?_
  refine lv_aload_n hx hb dL_law_167 rfl (lv_at hl 0 rfl) ?_
  refine lv_iload_n hx hb dL_law_168 rfl (lv_at hl 3 rfl) ?_
  refine lv_iconst (v := 2) hx hb dL_law_169 (by decide) ?_
  refine lv_iadd hx hb dL_law_170 ?_
  refine lv_tope (show nI i + 2 = nI (i + 2) from nI_add i 2) ?_
  refine rd_sld hx hb hX hbl hbA hS (i := i + 2) (by omega) hL dL_law_171 ?_
  have hDc := hD.sub (ws' := (W1 g0 r1 r2 j1 j2 gs bf)) [4, 5, 6] (by decide) rfl
  have hFc := va_free (wc := (W1 g0 r1 r2 j1 j2 gs bf)) hD hS hA [4, 5, 6] rfl
  refine va_calli (va_runV (As := [.int (xs (i + 1)), .int (xs (i + 2))]) (rest := [.int z1]) S0 (met_X1_drop l D g0 r1 r2 j1 j2 gs bf H.size (xs (i + 1)) (xs (i + 2))) (cwV 2 hts (lw_V q169 q170 q171 q12 q172) rfl rfl rfl (by decide +kernel) ⟨Nat.le_of_ble_eq_true rfl, Nat.le_of_ble_eq_true rfl⟩) ⟨wrP_blind, va_recv hK1 hP1 (ci := 1) (q0 := 0) rfl rfl, fun U hU hW => ⟨rfl, by rw [hU], by rw [hU]; exact hP1, va_K.moved hW.alike hK1, hDc.weaken (fun _ _ _ _ => trivial)⟩⟩ rfl rfl hl.1 rfl (lv_room (Nat.le_of_ble_eq_true rfl)) dL_law_172 ⟨Nat.le_of_ble_eq_true rfl, Nat.le_of_ble_eq_true rfl⟩) hS (fun q _ h => hFc q h) hFc (fun z2 u t H1 locs ht hvm hw hB hz1 hk1 hS => ?_)
  obtain ⟨hPn, -, hDn⟩ := hB
  rw [ht] at hPn
  obtain ⟨hP, hD⟩ := va_join (wr := (W0 h0 q1 q2 q3 k1 k2 k3 tb2 ct2 tg2 lb2 lg2)) (w1 := (W1 g0 r1 r2 j1 j2 (gs_drop gs (xs (i + 1)) (xs (i + 2))) bf)) hP hD [4, 5, 6] [0, 1, 2, 3] rfl rfl (by decide) (by decide) hk1 hFc hPn hDn
  generalize H1 = H at hP hS ⊢
  have hP : va_P D vwCl (L7 h0 q1 q2 q3 g0 r1 r2 k1 k2 k3 j1 j2 tb2 ct2 tg2 lb2 lg2 (gs_drop gs (xs (i + 1)) (xs (i + 2))) bf) H := hP.sub [0, 1, 2, 3, 4, 5, 6] rfl
  have hD : va_D (Af s) (L7 h0 q1 q2 q3 g0 r1 r2 k1 k2 k3 j1 j2 tb2 ct2 tg2 lb2 lg2 (gs_drop gs (xs (i + 1)) (xs (i + 2))) bf) := hD.sub [0, 1, 2, 3, 4, 5, 6] (by decide) rfl
  have hP0 : va_P D vwCl (W0 h0 q1 q2 q3 k1 k2 k3 tb2 ct2 tg2 lb2 lg2) H := hP.sub [0, 1, 2, 3] rfl
  have hP1 : va_P D vwCl (W1 g0 r1 r2 j1 j2 (gs_drop gs (xs (i + 1)) (xs (i + 2))) bf) H := hP.sub [4, 5, 6] rfl
  refine W.widen (k := 7) (n := 1301) (Nat.le_of_ble_eq_true rfl) (Nat.le_of_ble_eq_true rfl) ?_
  refine lv_icmp_eq (tgt := 464) hx hb dL_law_175 (by decide) (fun c1 => ?_) (fun c1 => ?_)
  · exact K tb2 ct2 tg2 lb2 lg2 (gs_drop gs (xs (i + 1)) (xs (i + 2))) bf hR2 H locs hP hD hS ls (lv_sub hl [0, 1, 2, 3] rfl)
  · exact absurd ((e1).trans (hw).symm) c1
set_option maxHeartbeats 4000000 in
set_option maxRecDepth 100000 in
/-- case 2: clear -/
theorem law_c2 (C0 : lw_At p s m meth c b L xs) (hL : L ≤ 256) (hK : va_K D vwCl (K7 k1 k2 k3 j1 j2) s) {i : Nat} (hi : i + 4 ≤ L) (K : LawAt p l e s m below meth c b D h0 q1 q2 q3 g0 r1 r2 k1 k2 k3 j1 j2 i 464) : LawAt p l e s m below meth c b D h0 q1 q2 q3 g0 r1 r2 k1 k2 k3 j1 j2 i 180 := by
  obtain ⟨hx, hb, hr, hml, hown, hts0, hX, hbl, hlocks, hgv⟩ := C0
  have hts : ∀ w ∈ lw_all, w.before #[Value.ref b] s = true := fun w h => hts0 w (lw_all_tbl h)
  have hA : ∀ q : Nat, s.heap.size ≤ q → Af s q := fun _ h => h
  have hbA : ¬ Af s b := Nat.not_le.mpr hbl
  have S0 : CallFix p m c cL_law 4 s #[Value.ref b] lw_all R_law := ⟨hx, hb, hml, hown, hts⟩
  have hK0 : va_K D vwCl (K0 k1 k2 k3) s := hK.sub [0, 1, 2] rfl
  have hK1 : va_K D vwCl (K1 j1 j2) s := hK.sub [3, 4] rfl
  intro tb ct tg lb lg gs bf hR H locs hP hD hS ls hl
  have hP0 : va_P D vwCl (W0 h0 q1 q2 q3 k1 k2 k3 tb ct tg lb lg) H := hP.sub [0, 1, 2, 3] rfl
  have hP1 : va_P D vwCl (W1 g0 r1 r2 j1 j2 gs bf) H := hP.sub [4, 5, 6] rfl
  refine lv_aload_n hx hb dL_law_180 rfl (lv_at hl 1 rfl) ?_
  have hDc := hD.sub (ws' := (W0 h0 q1 q2 q3 k1 k2 k3 tb ct tg lb lg)) [0, 1, 2, 3] (by decide) rfl
  have hFc := va_free (wc := (W0 h0 q1 q2 q3 k1 k2 k3 tb ct tg lb lg)) hD hS hA [0, 1, 2, 3] rfl
  refine va_callv (va_runV (As := []) (rest := []) S0 (met_X0_clear l D h0 q1 q2 q3 k1 k2 k3 tb ct tg lb lg gs hR H.size ) (cwV 0 hts (lw_V q60 q61 q62 q11 q63) rfl rfl rfl (by decide +kernel) ⟨Nat.le_of_ble_eq_true rfl, Nat.le_of_ble_eq_true rfl⟩) ⟨wrP_blind, va_recv hK0 hP0 (ci := 0) (q0 := 0) rfl rfl, fun U hU hW => ⟨rfl, by rw [hU], by rw [hU]; exact hP0, va_K.moved hW.alike hK0, hDc.weaken (fun _ _ _ _ => trivial)⟩⟩ rfl rfl hl.1 rfl (lv_room (Nat.le_of_ble_eq_true rfl)) dL_law_181 ⟨Nat.le_of_ble_eq_true rfl, Nat.le_of_ble_eq_true rfl⟩) hS (fun q _ h => hFc q h) hFc (fun u t H1 locs ht hvm hw hB hz1 hk1 hS => ?_)
  obtain ⟨tb2, ct2, tg2, lb2, lg2⟩ := u
  have hR2 : Rel tb2 ct2 tg2 lb2 lg2 (gs_clear gs) := hw
  obtain ⟨hPn, -, hDn⟩ := hB
  rw [ht] at hPn
  obtain ⟨hP, hD⟩ := va_join (wr := (W1 g0 r1 r2 j1 j2 gs bf)) (w1 := (W0 h0 q1 q2 q3 k1 k2 k3 tb2 ct2 tg2 lb2 lg2)) hP hD [0, 1, 2, 3] [4, 5, 6] rfl rfl (by decide) (by decide) hk1 hFc hPn hDn
  generalize H1 = H at hP hS ⊢
  have hP : va_P D vwCl (L7 h0 q1 q2 q3 g0 r1 r2 k1 k2 k3 j1 j2 tb2 ct2 tg2 lb2 lg2 gs bf) H := hP.sub [3, 4, 5, 6, 0, 1, 2] rfl
  have hD : va_D (Af s) (L7 h0 q1 q2 q3 g0 r1 r2 k1 k2 k3 j1 j2 tb2 ct2 tg2 lb2 lg2 gs bf) := hD.sub [3, 4, 5, 6, 0, 1, 2] (by decide) rfl
  have hP0 : va_P D vwCl (W0 h0 q1 q2 q3 k1 k2 k3 tb2 ct2 tg2 lb2 lg2) H := hP.sub [0, 1, 2, 3] rfl
  have hP1 : va_P D vwCl (W1 g0 r1 r2 j1 j2 gs bf) H := hP.sub [4, 5, 6] rfl
  refine W.widen (k := 7) (n := 1301) (Nat.le_of_ble_eq_true rfl) (Nat.le_of_ble_eq_true rfl) ?_
  refine lv_aload_n hx hb dL_law_184 rfl (lv_at hl 2 rfl) ?_
  have hDc := hD.sub (ws' := (W1 g0 r1 r2 j1 j2 gs bf)) [4, 5, 6] (by decide) rfl
  have hFc := va_free (wc := (W1 g0 r1 r2 j1 j2 gs bf)) hD hS hA [4, 5, 6] rfl
  refine va_callv (va_runV (As := []) (rest := []) S0 (met_X1_clear l D g0 r1 r2 j1 j2 gs bf H.size ) (cwV 0 hts (lw_V q177 q147 q148 q12 q149) rfl rfl rfl (by decide +kernel) ⟨Nat.le_of_ble_eq_true rfl, Nat.le_of_ble_eq_true rfl⟩) ⟨wrP_blind, va_recv hK1 hP1 (ci := 1) (q0 := 0) rfl rfl, fun U hU hW => ⟨rfl, by rw [hU], by rw [hU]; exact hP1, va_K.moved hW.alike hK1, hDc.weaken (fun _ _ _ _ => trivial)⟩⟩ rfl rfl hl.1 rfl (lv_room (Nat.le_of_ble_eq_true rfl)) dL_law_185 ⟨Nat.le_of_ble_eq_true rfl, Nat.le_of_ble_eq_true rfl⟩) hS (fun q _ h => hFc q h) hFc (fun u t H1 locs ht hvm hw hB hz1 hk1 hS => ?_)
  obtain ⟨hPn, -, hDn⟩ := hB
  rw [ht] at hPn
  obtain ⟨hP, hD⟩ := va_join (wr := (W0 h0 q1 q2 q3 k1 k2 k3 tb2 ct2 tg2 lb2 lg2)) (w1 := (W1 g0 r1 r2 j1 j2 (gs_clear gs) bf)) hP hD [4, 5, 6] [0, 1, 2, 3] rfl rfl (by decide) (by decide) hk1 hFc hPn hDn
  generalize H1 = H at hP hS ⊢
  have hP : va_P D vwCl (L7 h0 q1 q2 q3 g0 r1 r2 k1 k2 k3 j1 j2 tb2 ct2 tg2 lb2 lg2 (gs_clear gs) bf) H := hP.sub [0, 1, 2, 3, 4, 5, 6] rfl
  have hD : va_D (Af s) (L7 h0 q1 q2 q3 g0 r1 r2 k1 k2 k3 j1 j2 tb2 ct2 tg2 lb2 lg2 (gs_clear gs) bf) := hD.sub [0, 1, 2, 3, 4, 5, 6] (by decide) rfl
  have hP0 : va_P D vwCl (W0 h0 q1 q2 q3 k1 k2 k3 tb2 ct2 tg2 lb2 lg2) H := hP.sub [0, 1, 2, 3] rfl
  have hP1 : va_P D vwCl (W1 g0 r1 r2 j1 j2 (gs_clear gs) bf) H := hP.sub [4, 5, 6] rfl
  refine W.widen (k := 7) (n := 1301) (Nat.le_of_ble_eq_true rfl) (Nat.le_of_ble_eq_true rfl) ?_
  refine lv_goto (tgt := 464) hx hb dL_law_188 (by decide) ?_
  exact K tb2 ct2 tg2 lb2 lg2 (gs_clear gs) bf hR2 H locs hP hD hS ls (lv_sub hl [0, 1, 2, 3] rfl)
set_option maxHeartbeats 4000000 in
set_option maxRecDepth 100000 in
/-- case 3: routes -/
theorem law_c3 (C0 : lw_At p s m meth c b L xs) (hL : L ≤ 256) (hK : va_K D vwCl (K7 k1 k2 k3 j1 j2) s) {i : Nat} (hi : i + 4 ≤ L) (K : LawAt p l e s m below meth c b D h0 q1 q2 q3 g0 r1 r2 k1 k2 k3 j1 j2 i 464) : LawAt p l e s m below meth c b D h0 q1 q2 q3 g0 r1 r2 k1 k2 k3 j1 j2 i 191 := by
  obtain ⟨hx, hb, hr, hml, hown, hts0, hX, hbl, hlocks, hgv⟩ := C0
  have hts : ∀ w ∈ lw_all, w.before #[Value.ref b] s = true := fun w h => hts0 w (lw_all_tbl h)
  have hA : ∀ q : Nat, s.heap.size ≤ q → Af s q := fun _ h => h
  have hbA : ¬ Af s b := Nat.not_le.mpr hbl
  have S0 : CallFix p m c cL_law 4 s #[Value.ref b] lw_all R_law := ⟨hx, hb, hml, hown, hts⟩
  have hK0 : va_K D vwCl (K0 k1 k2 k3) s := hK.sub [0, 1, 2] rfl
  have hK1 : va_K D vwCl (K1 j1 j2) s := hK.sub [3, 4] rfl
  intro tb ct tg lb lg gs bf hR H locs hP hD hS ls hl
  have hP0 : va_P D vwCl (W0 h0 q1 q2 q3 k1 k2 k3 tb ct tg lb lg) H := hP.sub [0, 1, 2, 3] rfl
  have hP1 : va_P D vwCl (W1 g0 r1 r2 j1 j2 gs bf) H := hP.sub [4, 5, 6] rfl
  refine lv_aload_n hx hb dL_law_191 rfl (lv_at hl 1 rfl) ?_
  refine rd_callV (As := []) (rest := []) (b := h0) (ci := 0) (q0 := 0) S0 (met_X0_routes l D h0 q1 q2 q3 k1 k2 k3 tb ct tg lb lg gs hR ) (cwV 0 hts (lw_V q64 q65 q66 q11 q67) rfl rfl rfl (by decide +kernel) ⟨Nat.le_of_ble_eq_true rfl, Nat.le_of_ble_eq_true rfl⟩) hP0 hK0 rfl rfl rfl hl.1 rfl (Nat.le_of_ble_eq_true rfl) dL_law_192 ⟨Nat.le_of_ble_eq_true rfl, Nat.le_of_ble_eq_true rfl⟩ ?_
  refine lv_aload_n hx hb dL_law_195 rfl (lv_at hl 2 rfl) ?_
  refine rd_callV (As := []) (rest := [.int (S_routes gs)]) (b := g0) (ci := 1) (q0 := 0) S0 (met_X1_routes l D g0 r1 r2 j1 j2 gs bf ) (cwV 0 hts (lw_V q178 q179 q180 q12 q181) rfl rfl rfl (by decide +kernel) ⟨Nat.le_of_ble_eq_true rfl, Nat.le_of_ble_eq_true rfl⟩) hP1 hK1 rfl rfl rfl hl.1 rfl (Nat.le_of_ble_eq_true rfl) dL_law_196 ⟨Nat.le_of_ble_eq_true rfl, Nat.le_of_ble_eq_true rfl⟩ ?_
  refine lv_icmp_eq (tgt := 464) hx hb dL_law_199 (by decide) (fun c1 => ?_) (fun c1 => ?_)
  · exact K tb ct tg lb lg gs bf hR H locs hP hD hS ls (lv_sub hl [0, 1, 2, 3] rfl)
  · exact absurd ((rfl : S_routes gs = _).trans (rfl : S_routes gs = _).symm) c1
set_option maxHeartbeats 4000000 in
set_option maxRecDepth 100000 in
/-- case 4: exact -/
theorem law_c4 (C0 : lw_At p s m meth c b L xs) (hL : L ≤ 256) (hK : va_K D vwCl (K7 k1 k2 k3 j1 j2) s) {i : Nat} (hi : i + 4 ≤ L) (K : LawAt p l e s m below meth c b D h0 q1 q2 q3 g0 r1 r2 k1 k2 k3 j1 j2 i 464) : LawAt p l e s m below meth c b D h0 q1 q2 q3 g0 r1 r2 k1 k2 k3 j1 j2 i 204 := by
  obtain ⟨hx, hb, hr, hml, hown, hts0, hX, hbl, hlocks, hgv⟩ := C0
  have hts : ∀ w ∈ lw_all, w.before #[Value.ref b] s = true := fun w h => hts0 w (lw_all_tbl h)
  have hA : ∀ q : Nat, s.heap.size ≤ q → Af s q := fun _ h => h
  have hbA : ¬ Af s b := Nat.not_le.mpr hbl
  have S0 : CallFix p m c cL_law 4 s #[Value.ref b] lw_all R_law := ⟨hx, hb, hml, hown, hts⟩
  have hK0 : va_K D vwCl (K0 k1 k2 k3) s := hK.sub [0, 1, 2] rfl
  have hK1 : va_K D vwCl (K1 j1 j2) s := hK.sub [3, 4] rfl
  intro tb ct tg lb lg gs bf hR H locs hP hD hS ls hl
  have hP0 : va_P D vwCl (W0 h0 q1 q2 q3 k1 k2 k3 tb ct tg lb lg) H := hP.sub [0, 1, 2, 3] rfl
  have hP1 : va_P D vwCl (W1 g0 r1 r2 j1 j2 gs bf) H := hP.sub [4, 5, 6] rfl
  refine lv_aload_n hx hb dL_law_204 rfl (lv_at hl 1 rfl) ?_
  refine lv_aload_n hx hb dL_law_205 rfl (lv_at hl 0 rfl) ?_
  refine lv_iload_n hx hb dL_law_206 rfl (lv_at hl 3 rfl) ?_
  refine lv_iconst (v := 1) hx hb dL_law_207 (by decide) ?_
  refine lv_iadd hx hb dL_law_208 ?_
  refine lv_tope (show nI i + 1 = nI (i + 1) from nI_add i 1) ?_
  refine rd_sld hx hb hX hbl hbA hS (i := i + 1) (by omega) hL dL_law_209 ?_
  refine lv_aload_n hx hb dL_law_210 rfl (lv_at hl 0 rfl) ?_
  refine lv_iload_n hx hb dL_law_211 rfl (lv_at hl 3 rfl) ?_
  refine lv_iconst (v := 2) hx hb dL_law_212 (by decide) ?_
  refine lv_iadd hx hb dL_law_213 ?_
  refine lv_tope (show nI i + 2 = nI (i + 2) from nI_add i 2) ?_
  refine rd_sld hx hb hX hbl hbA hS (i := i + 2) (by omega) hL dL_law_214 ?_
  refine rd_callV (As := [.int (xs (i + 1)), .int (xs (i + 2))]) (rest := []) (b := h0) (ci := 0) (q0 := 0) S0 (met_X0_exact l D h0 q1 q2 q3 k1 k2 k3 tb ct tg lb lg gs hR (xs (i + 1)) (xs (i + 2))) (cwV 2 hts (lw_V q68 q69 q70 q11 q71) rfl rfl rfl (by decide +kernel) ⟨Nat.le_of_ble_eq_true rfl, Nat.le_of_ble_eq_true rfl⟩) hP0 hK0 rfl rfl rfl hl.1 rfl (Nat.le_of_ble_eq_true rfl) dL_law_215 ⟨Nat.le_of_ble_eq_true rfl, Nat.le_of_ble_eq_true rfl⟩ ?_
  refine lv_aload_n hx hb dL_law_218 rfl (lv_at hl 2 rfl) ?_
  refine lv_aload_n hx hb dL_law_219 rfl (lv_at hl 0 rfl) ?_
  refine lv_iload_n hx hb dL_law_220 rfl (lv_at hl 3 rfl) ?_
  refine lv_iconst (v := 1) hx hb dL_law_221 (by decide) ?_
  refine lv_iadd hx hb dL_law_222 ?_
  refine lv_tope (show nI i + 1 = nI (i + 1) from nI_add i 1) ?_
  refine rd_sld hx hb hX hbl hbA hS (i := i + 1) (by omega) hL dL_law_223 ?_
  refine lv_aload_n hx hb dL_law_224 rfl (lv_at hl 0 rfl) ?_
  refine lv_iload_n hx hb dL_law_225 rfl (lv_at hl 3 rfl) ?_
  refine lv_iconst (v := 2) hx hb dL_law_226 (by decide) ?_
  refine lv_iadd hx hb dL_law_227 ?_
  refine lv_tope (show nI i + 2 = nI (i + 2) from nI_add i 2) ?_
  refine rd_sld hx hb hX hbl hbA hS (i := i + 2) (by omega) hL dL_law_228 ?_
  refine rd_callV (As := [.int (xs (i + 1)), .int (xs (i + 2))]) (rest := [.int (S_exact gs (xs (i + 1)) (xs (i + 2)))]) (b := g0) (ci := 1) (q0 := 0) S0 (met_X1_exact l D g0 r1 r2 j1 j2 gs bf (xs (i + 1)) (xs (i + 2))) (cwV 2 hts (lw_V q182 q183 q184 q12 q185) rfl rfl rfl (by decide +kernel) ⟨Nat.le_of_ble_eq_true rfl, Nat.le_of_ble_eq_true rfl⟩) hP1 hK1 rfl rfl rfl hl.1 rfl (Nat.le_of_ble_eq_true rfl) dL_law_229 ⟨Nat.le_of_ble_eq_true rfl, Nat.le_of_ble_eq_true rfl⟩ ?_
  refine lv_icmp_eq (tgt := 464) hx hb dL_law_232 (by decide) (fun c1 => ?_) (fun c1 => ?_)
  · exact K tb ct tg lb lg gs bf hR H locs hP hD hS ls (lv_sub hl [0, 1, 2, 3] rfl)
  · exact absurd ((rfl : S_exact gs (xs (i + 1)) (xs (i + 2)) = _).trans (rfl : S_exact gs (xs (i + 1)) (xs (i + 2)) = _).symm) c1
set_option maxHeartbeats 4000000 in
set_option maxRecDepth 100000 in
/-- case 5: goal -/
theorem law_c5 (C0 : lw_At p s m meth c b L xs) (hL : L ≤ 256) (hK : va_K D vwCl (K7 k1 k2 k3 j1 j2) s) {i : Nat} (hi : i + 4 ≤ L) (K : LawAt p l e s m below meth c b D h0 q1 q2 q3 g0 r1 r2 k1 k2 k3 j1 j2 i 464) : LawAt p l e s m below meth c b D h0 q1 q2 q3 g0 r1 r2 k1 k2 k3 j1 j2 i 237 := by
  obtain ⟨hx, hb, hr, hml, hown, hts0, hX, hbl, hlocks, hgv⟩ := C0
  have hts : ∀ w ∈ lw_all, w.before #[Value.ref b] s = true := fun w h => hts0 w (lw_all_tbl h)
  have hA : ∀ q : Nat, s.heap.size ≤ q → Af s q := fun _ h => h
  have hbA : ¬ Af s b := Nat.not_le.mpr hbl
  have S0 : CallFix p m c cL_law 4 s #[Value.ref b] lw_all R_law := ⟨hx, hb, hml, hown, hts⟩
  have hK0 : va_K D vwCl (K0 k1 k2 k3) s := hK.sub [0, 1, 2] rfl
  have hK1 : va_K D vwCl (K1 j1 j2) s := hK.sub [3, 4] rfl
  intro tb ct tg lb lg gs bf hR H locs hP hD hS ls hl
  have hP0 : va_P D vwCl (W0 h0 q1 q2 q3 k1 k2 k3 tb ct tg lb lg) H := hP.sub [0, 1, 2, 3] rfl
  have hP1 : va_P D vwCl (W1 g0 r1 r2 j1 j2 gs bf) H := hP.sub [4, 5, 6] rfl
  refine lv_aload_n hx hb dL_law_237 rfl (lv_at hl 1 rfl) ?_
  refine lv_aload_n hx hb dL_law_238 rfl (lv_at hl 0 rfl) ?_
  refine lv_iload_n hx hb dL_law_239 rfl (lv_at hl 3 rfl) ?_
  refine lv_iconst (v := 1) hx hb dL_law_240 (by decide) ?_
  refine lv_iadd hx hb dL_law_241 ?_
  refine lv_tope (show nI i + 1 = nI (i + 1) from nI_add i 1) ?_
  refine rd_sld hx hb hX hbl hbA hS (i := i + 1) (by omega) hL dL_law_242 ?_
  refine rd_callV (As := [.int (xs (i + 1))]) (rest := []) (b := h0) (ci := 0) (q0 := 0) S0 (met_X0_goal l D h0 q1 q2 q3 k1 k2 k3 tb ct tg lb lg gs hR (xs (i + 1))) (cwV 1 hts (lw_V q76 q77 q78 q11 q79) rfl rfl rfl (by decide +kernel) ⟨Nat.le_of_ble_eq_true rfl, Nat.le_of_ble_eq_true rfl⟩) hP0 hK0 rfl rfl rfl hl.1 rfl (Nat.le_of_ble_eq_true rfl) dL_law_243 ⟨Nat.le_of_ble_eq_true rfl, Nat.le_of_ble_eq_true rfl⟩ ?_
  refine lv_aload_n hx hb dL_law_246 rfl (lv_at hl 2 rfl) ?_
  refine lv_aload_n hx hb dL_law_247 rfl (lv_at hl 0 rfl) ?_
  refine lv_iload_n hx hb dL_law_248 rfl (lv_at hl 3 rfl) ?_
  refine lv_iconst (v := 1) hx hb dL_law_249 (by decide) ?_
  refine lv_iadd hx hb dL_law_250 ?_
  refine lv_tope (show nI i + 1 = nI (i + 1) from nI_add i 1) ?_
  refine rd_sld hx hb hX hbl hbA hS (i := i + 1) (by omega) hL dL_law_251 ?_
  refine rd_callV (As := [.int (xs (i + 1))]) (rest := [.int (S_goal gs (xs (i + 1)))]) (b := g0) (ci := 1) (q0 := 0) S0 (met_X1_goal l D g0 r1 r2 j1 j2 gs bf (xs (i + 1))) (cwV 1 hts (lw_V q186 q187 q188 q12 q189) rfl rfl rfl (by decide +kernel) ⟨Nat.le_of_ble_eq_true rfl, Nat.le_of_ble_eq_true rfl⟩) hP1 hK1 rfl rfl rfl hl.1 rfl (Nat.le_of_ble_eq_true rfl) dL_law_252 ⟨Nat.le_of_ble_eq_true rfl, Nat.le_of_ble_eq_true rfl⟩ ?_
  refine lv_icmp_eq (tgt := 464) hx hb dL_law_255 (by decide) (fun c1 => ?_) (fun c1 => ?_)
  · exact K tb ct tg lb lg gs bf hR H locs hP hD hS ls (lv_sub hl [0, 1, 2, 3] rfl)
  · exact absurd ((rfl : S_goal gs (xs (i + 1)) = _).trans (rfl : S_goal gs (xs (i + 1)) = _).symm) c1
set_option maxHeartbeats 4000000 in
set_option maxRecDepth 100000 in
/-- case 6: bits -/
theorem law_c6 (C0 : lw_At p s m meth c b L xs) (hL : L ≤ 256) (hK : va_K D vwCl (K7 k1 k2 k3 j1 j2) s) {i : Nat} (hi : i + 4 ≤ L) (K : LawAt p l e s m below meth c b D h0 q1 q2 q3 g0 r1 r2 k1 k2 k3 j1 j2 i 464) : LawAt p l e s m below meth c b D h0 q1 q2 q3 g0 r1 r2 k1 k2 k3 j1 j2 i 260 := by
  obtain ⟨hx, hb, hr, hml, hown, hts0, hX, hbl, hlocks, hgv⟩ := C0
  have hts : ∀ w ∈ lw_all, w.before #[Value.ref b] s = true := fun w h => hts0 w (lw_all_tbl h)
  have hA : ∀ q : Nat, s.heap.size ≤ q → Af s q := fun _ h => h
  have hbA : ¬ Af s b := Nat.not_le.mpr hbl
  have S0 : CallFix p m c cL_law 4 s #[Value.ref b] lw_all R_law := ⟨hx, hb, hml, hown, hts⟩
  have hK0 : va_K D vwCl (K0 k1 k2 k3) s := hK.sub [0, 1, 2] rfl
  have hK1 : va_K D vwCl (K1 j1 j2) s := hK.sub [3, 4] rfl
  intro tb ct tg lb lg gs bf hR H locs hP hD hS ls hl
  have hP0 : va_P D vwCl (W0 h0 q1 q2 q3 k1 k2 k3 tb ct tg lb lg) H := hP.sub [0, 1, 2, 3] rfl
  have hP1 : va_P D vwCl (W1 g0 r1 r2 j1 j2 gs bf) H := hP.sub [4, 5, 6] rfl
  refine lv_aload_n hx hb dL_law_260 rfl (lv_at hl 1 rfl) ?_
  refine lv_aload_n hx hb dL_law_261 rfl (lv_at hl 0 rfl) ?_
  refine lv_iload_n hx hb dL_law_262 rfl (lv_at hl 3 rfl) ?_
  refine lv_iconst (v := 1) hx hb dL_law_263 (by decide) ?_
  refine lv_iadd hx hb dL_law_264 ?_
  refine lv_tope (show nI i + 1 = nI (i + 1) from nI_add i 1) ?_
  refine rd_sld hx hb hX hbl hbA hS (i := i + 1) (by omega) hL dL_law_265 ?_
  refine rd_callV (As := [.int (xs (i + 1))]) (rest := []) (b := h0) (ci := 0) (q0 := 0) S0 (met_X0_bits l D h0 q1 q2 q3 k1 k2 k3 tb ct tg lb lg gs hR (xs (i + 1))) (cwV 1 hts (lw_V q100 q101 q102 q11 q103) rfl rfl rfl (by decide +kernel) ⟨Nat.le_of_ble_eq_true rfl, Nat.le_of_ble_eq_true rfl⟩) hP0 hK0 rfl rfl rfl hl.1 rfl (Nat.le_of_ble_eq_true rfl) dL_law_266 ⟨Nat.le_of_ble_eq_true rfl, Nat.le_of_ble_eq_true rfl⟩ ?_
  refine lv_aload_n hx hb dL_law_269 rfl (lv_at hl 2 rfl) ?_
  refine lv_aload_n hx hb dL_law_270 rfl (lv_at hl 0 rfl) ?_
  refine lv_iload_n hx hb dL_law_271 rfl (lv_at hl 3 rfl) ?_
  refine lv_iconst (v := 1) hx hb dL_law_272 (by decide) ?_
  refine lv_iadd hx hb dL_law_273 ?_
  refine lv_tope (show nI i + 1 = nI (i + 1) from nI_add i 1) ?_
  refine rd_sld hx hb hX hbl hbA hS (i := i + 1) (by omega) hL dL_law_274 ?_
  refine rd_callV (As := [.int (xs (i + 1))]) (rest := [.int (S_bits gs (xs (i + 1)))]) (b := g0) (ci := 1) (q0 := 0) S0 (met_X1_bits l D g0 r1 r2 j1 j2 gs bf (xs (i + 1))) (cwV 1 hts (lw_V q198 q191 q192 q12 q193) rfl rfl rfl (by decide +kernel) ⟨Nat.le_of_ble_eq_true rfl, Nat.le_of_ble_eq_true rfl⟩) hP1 hK1 rfl rfl rfl hl.1 rfl (Nat.le_of_ble_eq_true rfl) dL_law_275 ⟨Nat.le_of_ble_eq_true rfl, Nat.le_of_ble_eq_true rfl⟩ ?_
  refine lv_icmp_eq (tgt := 464) hx hb dL_law_278 (by decide) (fun c1 => ?_) (fun c1 => ?_)
  · exact K tb ct tg lb lg gs bf hR H locs hP hD hS ls (lv_sub hl [0, 1, 2, 3] rfl)
  · exact absurd ((rfl : S_bits gs (xs (i + 1)) = _).trans (rfl : S_bits gs (xs (i + 1)) = _).symm) c1
set_option maxHeartbeats 4000000 in
set_option maxRecDepth 100000 in
/-- case 7: matching -/
theorem law_c7 (C0 : lw_At p s m meth c b L xs) (hL : L ≤ 256) (hK : va_K D vwCl (K7 k1 k2 k3 j1 j2) s) {i : Nat} (hi : i + 4 ≤ L) (K : LawAt p l e s m below meth c b D h0 q1 q2 q3 g0 r1 r2 k1 k2 k3 j1 j2 i 464) : LawAt p l e s m below meth c b D h0 q1 q2 q3 g0 r1 r2 k1 k2 k3 j1 j2 i 283 := by
  obtain ⟨hx, hb, hr, hml, hown, hts0, hX, hbl, hlocks, hgv⟩ := C0
  have hts : ∀ w ∈ lw_all, w.before #[Value.ref b] s = true := fun w h => hts0 w (lw_all_tbl h)
  have hA : ∀ q : Nat, s.heap.size ≤ q → Af s q := fun _ h => h
  have hbA : ¬ Af s b := Nat.not_le.mpr hbl
  have S0 : CallFix p m c cL_law 4 s #[Value.ref b] lw_all R_law := ⟨hx, hb, hml, hown, hts⟩
  have hK0 : va_K D vwCl (K0 k1 k2 k3) s := hK.sub [0, 1, 2] rfl
  have hK1 : va_K D vwCl (K1 j1 j2) s := hK.sub [3, 4] rfl
  intro tb ct tg lb lg gs bf hR H locs hP hD hS ls hl
  have hP0 : va_P D vwCl (W0 h0 q1 q2 q3 k1 k2 k3 tb ct tg lb lg) H := hP.sub [0, 1, 2, 3] rfl
  have hP1 : va_P D vwCl (W1 g0 r1 r2 j1 j2 gs bf) H := hP.sub [4, 5, 6] rfl
  refine lv_aload_n hx hb dL_law_283 rfl (lv_at hl 1 rfl) ?_
  refine lv_aload_n hx hb dL_law_284 rfl (lv_at hl 0 rfl) ?_
  refine lv_iload_n hx hb dL_law_285 rfl (lv_at hl 3 rfl) ?_
  refine lv_iconst (v := 1) hx hb dL_law_286 (by decide) ?_
  refine lv_iadd hx hb dL_law_287 ?_
  refine lv_tope (show nI i + 1 = nI (i + 1) from nI_add i 1) ?_
  refine rd_sld hx hb hX hbl hbA hS (i := i + 1) (by omega) hL dL_law_288 ?_
  refine rd_callV (As := [.int (xs (i + 1))]) (rest := []) (b := h0) (ci := 0) (q0 := 0) S0 (met_X0_matching l D h0 q1 q2 q3 k1 k2 k3 tb ct tg lb lg gs hR (xs (i + 1))) (cwV 1 hts (lw_V q104 q105 q106 q11 q107) rfl rfl rfl (by decide +kernel) ⟨Nat.le_of_ble_eq_true rfl, Nat.le_of_ble_eq_true rfl⟩) hP0 hK0 rfl rfl rfl hl.1 rfl (Nat.le_of_ble_eq_true rfl) dL_law_289 ⟨Nat.le_of_ble_eq_true rfl, Nat.le_of_ble_eq_true rfl⟩ ?_
  refine lv_aload_n hx hb dL_law_292 rfl (lv_at hl 2 rfl) ?_
  refine lv_aload_n hx hb dL_law_293 rfl (lv_at hl 0 rfl) ?_
  refine lv_iload_n hx hb dL_law_294 rfl (lv_at hl 3 rfl) ?_
  refine lv_iconst (v := 1) hx hb dL_law_295 (by decide) ?_
  refine lv_iadd hx hb dL_law_296 ?_
  refine lv_tope (show nI i + 1 = nI (i + 1) from nI_add i 1) ?_
  refine rd_sld hx hb hX hbl hbA hS (i := i + 1) (by omega) hL dL_law_297 ?_
  refine rd_callV (As := [.int (xs (i + 1))]) (rest := [.int (S_match gs (xs (i + 1)))]) (b := g0) (ci := 1) (q0 := 0) S0 (met_X1_matching l D g0 r1 r2 j1 j2 gs bf (xs (i + 1))) (cwV 1 hts (lw_V q199 q200 q201 q12 q202) rfl rfl rfl (by decide +kernel) ⟨Nat.le_of_ble_eq_true rfl, Nat.le_of_ble_eq_true rfl⟩) hP1 hK1 rfl rfl rfl hl.1 rfl (Nat.le_of_ble_eq_true rfl) dL_law_298 ⟨Nat.le_of_ble_eq_true rfl, Nat.le_of_ble_eq_true rfl⟩ ?_
  refine lv_icmp_eq (tgt := 464) hx hb dL_law_301 (by decide) (fun c1 => ?_) (fun c1 => ?_)
  · exact K tb ct tg lb lg gs bf hR H locs hP hD hS ls (lv_sub hl [0, 1, 2, 3] rfl)
  · exact absurd ((rfl : S_match gs (xs (i + 1)) = _).trans (rfl : S_match gs (xs (i + 1)) = _).symm) c1
set_option maxHeartbeats 4000000 in
set_option maxRecDepth 100000 in
/-- case 8: next -/
theorem law_c8 (C0 : lw_At p s m meth c b L xs) (hL : L ≤ 256) (hK : va_K D vwCl (K7 k1 k2 k3 j1 j2) s) {i : Nat} (hi : i + 4 ≤ L) (K : LawAt p l e s m below meth c b D h0 q1 q2 q3 g0 r1 r2 k1 k2 k3 j1 j2 i 464) : LawAt p l e s m below meth c b D h0 q1 q2 q3 g0 r1 r2 k1 k2 k3 j1 j2 i 306 := by
  obtain ⟨hx, hb, hr, hml, hown, hts0, hX, hbl, hlocks, hgv⟩ := C0
  have hts : ∀ w ∈ lw_all, w.before #[Value.ref b] s = true := fun w h => hts0 w (lw_all_tbl h)
  have hA : ∀ q : Nat, s.heap.size ≤ q → Af s q := fun _ h => h
  have hbA : ¬ Af s b := Nat.not_le.mpr hbl
  have S0 : CallFix p m c cL_law 4 s #[Value.ref b] lw_all R_law := ⟨hx, hb, hml, hown, hts⟩
  have hK0 : va_K D vwCl (K0 k1 k2 k3) s := hK.sub [0, 1, 2] rfl
  have hK1 : va_K D vwCl (K1 j1 j2) s := hK.sub [3, 4] rfl
  intro tb ct tg lb lg gs bf hR H locs hP hD hS ls hl
  have hP0 : va_P D vwCl (W0 h0 q1 q2 q3 k1 k2 k3 tb ct tg lb lg) H := hP.sub [0, 1, 2, 3] rfl
  have hP1 : va_P D vwCl (W1 g0 r1 r2 j1 j2 gs bf) H := hP.sub [4, 5, 6] rfl
  refine lv_aload_n hx hb dL_law_306 rfl (lv_at hl 1 rfl) ?_
  refine lv_aload_n hx hb dL_law_307 rfl (lv_at hl 0 rfl) ?_
  refine lv_iload_n hx hb dL_law_308 rfl (lv_at hl 3 rfl) ?_
  refine lv_iconst (v := 1) hx hb dL_law_309 (by decide) ?_
  refine lv_iadd hx hb dL_law_310 ?_
  refine lv_tope (show nI i + 1 = nI (i + 1) from nI_add i 1) ?_
  refine rd_sld hx hb hX hbl hbA hS (i := i + 1) (by omega) hL dL_law_311 ?_
  refine lv_aload_n hx hb dL_law_312 rfl (lv_at hl 0 rfl) ?_
  refine lv_iload_n hx hb dL_law_313 rfl (lv_at hl 3 rfl) ?_
  refine lv_iconst (v := 2) hx hb dL_law_314 (by decide) ?_
  refine lv_iadd hx hb dL_law_315 ?_
  refine lv_tope (show nI i + 2 = nI (i + 2) from nI_add i 2) ?_
  refine rd_sld hx hb hX hbl hbA hS (i := i + 2) (by omega) hL dL_law_316 ?_
  refine rd_callV (As := [.int (xs (i + 1)), .int (xs (i + 2))]) (rest := []) (b := h0) (ci := 0) (q0 := 0) S0 (met_X0_next l D h0 q1 q2 q3 k1 k2 k3 tb ct tg lb lg gs hR (xs (i + 1)) (xs (i + 2))) (cwV 2 hts (lw_V q111 q112 q113 q11 q114) rfl rfl rfl (by decide +kernel) ⟨Nat.le_of_ble_eq_true rfl, Nat.le_of_ble_eq_true rfl⟩) hP0 hK0 rfl rfl rfl hl.1 rfl (Nat.le_of_ble_eq_true rfl) dL_law_317 ⟨Nat.le_of_ble_eq_true rfl, Nat.le_of_ble_eq_true rfl⟩ ?_
  refine lv_aload_n hx hb dL_law_320 rfl (lv_at hl 2 rfl) ?_
  refine lv_aload_n hx hb dL_law_321 rfl (lv_at hl 0 rfl) ?_
  refine lv_iload_n hx hb dL_law_322 rfl (lv_at hl 3 rfl) ?_
  refine lv_iconst (v := 1) hx hb dL_law_323 (by decide) ?_
  refine lv_iadd hx hb dL_law_324 ?_
  refine lv_tope (show nI i + 1 = nI (i + 1) from nI_add i 1) ?_
  refine rd_sld hx hb hX hbl hbA hS (i := i + 1) (by omega) hL dL_law_325 ?_
  refine lv_aload_n hx hb dL_law_326 rfl (lv_at hl 0 rfl) ?_
  refine lv_iload_n hx hb dL_law_327 rfl (lv_at hl 3 rfl) ?_
  refine lv_iconst (v := 2) hx hb dL_law_328 (by decide) ?_
  refine lv_iadd hx hb dL_law_329 ?_
  refine lv_tope (show nI i + 2 = nI (i + 2) from nI_add i 2) ?_
  refine rd_sld hx hb hX hbl hbA hS (i := i + 2) (by omega) hL dL_law_330 ?_
  refine rd_callV (As := [.int (xs (i + 1)), .int (xs (i + 2))]) (rest := [.int (S_next gs (xs (i + 1)) (xs (i + 2)))]) (b := g0) (ci := 1) (q0 := 0) S0 (met_X1_next l D g0 r1 r2 j1 j2 gs bf (xs (i + 1)) (xs (i + 2))) (cwV 2 hts (lw_V q203 q204 q205 q12 q206) rfl rfl rfl (by decide +kernel) ⟨Nat.le_of_ble_eq_true rfl, Nat.le_of_ble_eq_true rfl⟩) hP1 hK1 rfl rfl rfl hl.1 rfl (Nat.le_of_ble_eq_true rfl) dL_law_331 ⟨Nat.le_of_ble_eq_true rfl, Nat.le_of_ble_eq_true rfl⟩ ?_
  refine lv_icmp_eq (tgt := 464) hx hb dL_law_334 (by decide) (fun c1 => ?_) (fun c1 => ?_)
  · exact K tb ct tg lb lg gs bf hR H locs hP hD hS ls (lv_sub hl [0, 1, 2, 3] rfl)
  · exact absurd ((rfl : S_next gs (xs (i + 1)) (xs (i + 2)) = _).trans (rfl : S_next gs (xs (i + 1)) (xs (i + 2)) = _).symm) c1
set_option maxHeartbeats 4000000 in
set_option maxRecDepth 100000 in
/-- case 9: load -/
theorem law_c9 (C0 : lw_At p s m meth c b L xs) (hL : L ≤ 256) (hK : va_K D vwCl (K7 k1 k2 k3 j1 j2) s) {i : Nat} (hi : i + 4 ≤ L) (K : LawAt p l e s m below meth c b D h0 q1 q2 q3 g0 r1 r2 k1 k2 k3 j1 j2 i 464) : LawAt p l e s m below meth c b D h0 q1 q2 q3 g0 r1 r2 k1 k2 k3 j1 j2 i 339 := by
  obtain ⟨hx, hb, hr, hml, hown, hts0, hX, hbl, hlocks, hgv⟩ := C0
  have hts : ∀ w ∈ lw_all, w.before #[Value.ref b] s = true := fun w h => hts0 w (lw_all_tbl h)
  have hA : ∀ q : Nat, s.heap.size ≤ q → Af s q := fun _ h => h
  have hbA : ¬ Af s b := Nat.not_le.mpr hbl
  have S0 : CallFix p m c cL_law 4 s #[Value.ref b] lw_all R_law := ⟨hx, hb, hml, hown, hts⟩
  have hK0 : va_K D vwCl (K0 k1 k2 k3) s := hK.sub [0, 1, 2] rfl
  have hK1 : va_K D vwCl (K1 j1 j2) s := hK.sub [3, 4] rfl
  intro tb ct tg lb lg gs bf hR H locs hP hD hS ls hl
  have hP0 : va_P D vwCl (W0 h0 q1 q2 q3 k1 k2 k3 tb ct tg lb lg) H := hP.sub [0, 1, 2, 3] rfl
  have hP1 : va_P D vwCl (W1 g0 r1 r2 j1 j2 gs bf) H := hP.sub [4, 5, 6] rfl
  refine lv_aload_n hx hb dL_law_339 rfl (lv_at hl 1 rfl) ?_
  refine lv_aload_n hx hb dL_law_340 rfl (lv_at hl 0 rfl) ?_
  refine lv_iload_n hx hb dL_law_341 rfl (lv_at hl 3 rfl) ?_
  refine lv_iconst (v := 1) hx hb dL_law_342 (by decide) ?_
  refine lv_iadd hx hb dL_law_343 ?_
  refine lv_tope (show nI i + 1 = nI (i + 1) from nI_add i 1) ?_
  refine rd_sld hx hb hX hbl hbA hS (i := i + 1) (by omega) hL dL_law_344 ?_
  refine lv_aload_n hx hb dL_law_345 rfl (lv_at hl 0 rfl) ?_
  refine lv_iload_n hx hb dL_law_346 rfl (lv_at hl 3 rfl) ?_
  refine lv_iconst (v := 2) hx hb dL_law_347 (by decide) ?_
  refine lv_iadd hx hb dL_law_348 ?_
  refine lv_tope (show nI i + 2 = nI (i + 2) from nI_add i 2) ?_
  refine rd_sld hx hb hX hbl hbA hS (i := i + 2) (by omega) hL dL_law_349 ?_
  refine rd_callV (As := [.int (xs (i + 1)), .int (xs (i + 2))]) (rest := []) (b := h0) (ci := 0) (q0 := 0) S0 (met_X0_load l D h0 q1 q2 q3 k1 k2 k3 tb ct tg lb lg gs hR (xs (i + 1)) (xs (i + 2))) (cwV 2 hts (lw_V q115 q116 q117 q11 q118) rfl rfl rfl (by decide +kernel) ⟨Nat.le_of_ble_eq_true rfl, Nat.le_of_ble_eq_true rfl⟩) hP0 hK0 rfl rfl rfl hl.1 rfl (Nat.le_of_ble_eq_true rfl) dL_law_350 ⟨Nat.le_of_ble_eq_true rfl, Nat.le_of_ble_eq_true rfl⟩ ?_
  refine lv_aload_n hx hb dL_law_353 rfl (lv_at hl 2 rfl) ?_
  refine lv_aload_n hx hb dL_law_354 rfl (lv_at hl 0 rfl) ?_
  refine lv_iload_n hx hb dL_law_355 rfl (lv_at hl 3 rfl) ?_
  refine lv_iconst (v := 1) hx hb dL_law_356 (by decide) ?_
  refine lv_iadd hx hb dL_law_357 ?_
  refine lv_tope (show nI i + 1 = nI (i + 1) from nI_add i 1) ?_
  refine rd_sld hx hb hX hbl hbA hS (i := i + 1) (by omega) hL dL_law_358 ?_
  refine lv_aload_n hx hb dL_law_359 rfl (lv_at hl 0 rfl) ?_
  refine lv_iload_n hx hb dL_law_360 rfl (lv_at hl 3 rfl) ?_
  refine lv_iconst (v := 2) hx hb dL_law_361 (by decide) ?_
  refine lv_iadd hx hb dL_law_362 ?_
  refine lv_tope (show nI i + 2 = nI (i + 2) from nI_add i 2) ?_
  refine rd_sld hx hb hX hbl hbA hS (i := i + 2) (by omega) hL dL_law_363 ?_
  refine rd_callV (As := [.int (xs (i + 1)), .int (xs (i + 2))]) (rest := [.int (S_load gs (xs (i + 1)) (xs (i + 2)))]) (b := g0) (ci := 1) (q0 := 0) S0 (met_X1_load l D g0 r1 r2 j1 j2 gs bf (xs (i + 1)) (xs (i + 2))) (cwV 2 hts (lw_V q208 q209 q210 q12 q211) rfl rfl rfl (by decide +kernel) ⟨Nat.le_of_ble_eq_true rfl, Nat.le_of_ble_eq_true rfl⟩) hP1 hK1 rfl rfl rfl hl.1 rfl (Nat.le_of_ble_eq_true rfl) dL_law_364 ⟨Nat.le_of_ble_eq_true rfl, Nat.le_of_ble_eq_true rfl⟩ ?_
  refine lv_icmp_eq (tgt := 464) hx hb dL_law_367 (by decide) (fun c1 => ?_) (fun c1 => ?_)
  · exact K tb ct tg lb lg gs bf hR H locs hP hD hS ls (lv_sub hl [0, 1, 2, 3] rfl)
  · exact absurd ((rfl : S_load gs (xs (i + 1)) (xs (i + 2)) = _).trans (rfl : S_load gs (xs (i + 1)) (xs (i + 2)) = _).symm) c1
set_option maxHeartbeats 4000000 in
set_option maxRecDepth 100000 in
/-- case 10: sent -/
theorem law_c10 (C0 : lw_At p s m meth c b L xs) (hL : L ≤ 256) (hK : va_K D vwCl (K7 k1 k2 k3 j1 j2) s) {i : Nat} (hi : i + 4 ≤ L) (K : LawAt p l e s m below meth c b D h0 q1 q2 q3 g0 r1 r2 k1 k2 k3 j1 j2 i 464) : LawAt p l e s m below meth c b D h0 q1 q2 q3 g0 r1 r2 k1 k2 k3 j1 j2 i 372 := by
  obtain ⟨hx, hb, hr, hml, hown, hts0, hX, hbl, hlocks, hgv⟩ := C0
  have hts : ∀ w ∈ lw_all, w.before #[Value.ref b] s = true := fun w h => hts0 w (lw_all_tbl h)
  have hA : ∀ q : Nat, s.heap.size ≤ q → Af s q := fun _ h => h
  have hbA : ¬ Af s b := Nat.not_le.mpr hbl
  have S0 : CallFix p m c cL_law 4 s #[Value.ref b] lw_all R_law := ⟨hx, hb, hml, hown, hts⟩
  have hK0 : va_K D vwCl (K0 k1 k2 k3) s := hK.sub [0, 1, 2] rfl
  have hK1 : va_K D vwCl (K1 j1 j2) s := hK.sub [3, 4] rfl
  intro tb ct tg lb lg gs bf hR H locs hP hD hS ls hl
  have hP0 : va_P D vwCl (W0 h0 q1 q2 q3 k1 k2 k3 tb ct tg lb lg) H := hP.sub [0, 1, 2, 3] rfl
  have hP1 : va_P D vwCl (W1 g0 r1 r2 j1 j2 gs bf) H := hP.sub [4, 5, 6] rfl
  refine lv_aload_n hx hb dL_law_372 rfl (lv_at hl 1 rfl) ?_
  refine lv_aload_n hx hb dL_law_373 rfl (lv_at hl 0 rfl) ?_
  refine lv_iload_n hx hb dL_law_374 rfl (lv_at hl 3 rfl) ?_
  refine lv_iconst (v := 1) hx hb dL_law_375 (by decide) ?_
  refine lv_iadd hx hb dL_law_376 ?_
  refine lv_tope (show nI i + 1 = nI (i + 1) from nI_add i 1) ?_
  refine rd_sld hx hb hX hbl hbA hS (i := i + 1) (by omega) hL dL_law_377 ?_
  refine rd_callV (As := [.int (xs (i + 1))]) (rest := []) (b := h0) (ci := 0) (q0 := 0) S0 (met_X0_sent l D h0 q1 q2 q3 k1 k2 k3 tb ct tg lb lg gs hR (xs (i + 1))) (cwV 1 hts (lw_V q119 q120 q121 q11 q122) rfl rfl rfl (by decide +kernel) ⟨Nat.le_of_ble_eq_true rfl, Nat.le_of_ble_eq_true rfl⟩) hP0 hK0 rfl rfl rfl hl.1 rfl (Nat.le_of_ble_eq_true rfl) dL_law_378 ⟨Nat.le_of_ble_eq_true rfl, Nat.le_of_ble_eq_true rfl⟩ ?_
  refine lv_aload_n hx hb dL_law_381 rfl (lv_at hl 2 rfl) ?_
  refine lv_aload_n hx hb dL_law_382 rfl (lv_at hl 0 rfl) ?_
  refine lv_iload_n hx hb dL_law_383 rfl (lv_at hl 3 rfl) ?_
  refine lv_iconst (v := 1) hx hb dL_law_384 (by decide) ?_
  refine lv_iadd hx hb dL_law_385 ?_
  refine lv_tope (show nI i + 1 = nI (i + 1) from nI_add i 1) ?_
  refine rd_sld hx hb hX hbl hbA hS (i := i + 1) (by omega) hL dL_law_386 ?_
  refine rd_callV (As := [.int (xs (i + 1))]) (rest := [.int (S_sent gs (xs (i + 1)))]) (b := g0) (ci := 1) (q0 := 0) S0 (met_X1_sent l D g0 r1 r2 j1 j2 gs bf (xs (i + 1))) (cwV 1 hts (lw_V q212 q213 q214 q12 q215) rfl rfl rfl (by decide +kernel) ⟨Nat.le_of_ble_eq_true rfl, Nat.le_of_ble_eq_true rfl⟩) hP1 hK1 rfl rfl rfl hl.1 rfl (Nat.le_of_ble_eq_true rfl) dL_law_387 ⟨Nat.le_of_ble_eq_true rfl, Nat.le_of_ble_eq_true rfl⟩ ?_
  refine lv_icmp_eq (tgt := 464) hx hb dL_law_390 (by decide) (fun c1 => ?_) (fun c1 => ?_)
  · exact K tb ct tg lb lg gs bf hR H locs hP hD hS ls (lv_sub hl [0, 1, 2, 3] rfl)
  · exact absurd ((rfl : S_sent gs (xs (i + 1)) = _).trans (rfl : S_sent gs (xs (i + 1)) = _).symm) c1
set_option maxHeartbeats 4000000 in
set_option maxRecDepth 100000 in
/-- case 11: idle -/
theorem law_c11 (C0 : lw_At p s m meth c b L xs) (hL : L ≤ 256) (hK : va_K D vwCl (K7 k1 k2 k3 j1 j2) s) {i : Nat} (hi : i + 4 ≤ L) (K : LawAt p l e s m below meth c b D h0 q1 q2 q3 g0 r1 r2 k1 k2 k3 j1 j2 i 464) : LawAt p l e s m below meth c b D h0 q1 q2 q3 g0 r1 r2 k1 k2 k3 j1 j2 i 395 := by
  obtain ⟨hx, hb, hr, hml, hown, hts0, hX, hbl, hlocks, hgv⟩ := C0
  have hts : ∀ w ∈ lw_all, w.before #[Value.ref b] s = true := fun w h => hts0 w (lw_all_tbl h)
  have hA : ∀ q : Nat, s.heap.size ≤ q → Af s q := fun _ h => h
  have hbA : ¬ Af s b := Nat.not_le.mpr hbl
  have S0 : CallFix p m c cL_law 4 s #[Value.ref b] lw_all R_law := ⟨hx, hb, hml, hown, hts⟩
  have hK0 : va_K D vwCl (K0 k1 k2 k3) s := hK.sub [0, 1, 2] rfl
  have hK1 : va_K D vwCl (K1 j1 j2) s := hK.sub [3, 4] rfl
  intro tb ct tg lb lg gs bf hR H locs hP hD hS ls hl
  have hP0 : va_P D vwCl (W0 h0 q1 q2 q3 k1 k2 k3 tb ct tg lb lg) H := hP.sub [0, 1, 2, 3] rfl
  have hP1 : va_P D vwCl (W1 g0 r1 r2 j1 j2 gs bf) H := hP.sub [4, 5, 6] rfl
  refine lv_aload_n hx hb dL_law_395 rfl (lv_at hl 1 rfl) ?_
  refine lv_aload_n hx hb dL_law_396 rfl (lv_at hl 0 rfl) ?_
  refine lv_iload_n hx hb dL_law_397 rfl (lv_at hl 3 rfl) ?_
  refine lv_iconst (v := 1) hx hb dL_law_398 (by decide) ?_
  refine lv_iadd hx hb dL_law_399 ?_
  refine lv_tope (show nI i + 1 = nI (i + 1) from nI_add i 1) ?_
  refine rd_sld hx hb hX hbl hbA hS (i := i + 1) (by omega) hL dL_law_400 ?_
  refine lv_aload_n hx hb dL_law_401 rfl (lv_at hl 0 rfl) ?_
  refine lv_iload_n hx hb dL_law_402 rfl (lv_at hl 3 rfl) ?_
  refine lv_iconst (v := 2) hx hb dL_law_403 (by decide) ?_
  refine lv_iadd hx hb dL_law_404 ?_
  refine lv_tope (show nI i + 2 = nI (i + 2) from nI_add i 2) ?_
  refine rd_sld hx hb hX hbl hbA hS (i := i + 2) (by omega) hL dL_law_405 ?_
  refine rd_callV (As := [.int (xs (i + 1)), .int (xs (i + 2))]) (rest := []) (b := h0) (ci := 0) (q0 := 0) S0 (met_X0_idle l D h0 q1 q2 q3 k1 k2 k3 tb ct tg lb lg gs hR (xs (i + 1)) (xs (i + 2))) (cwV 2 hts (lw_V q123 q124 q125 q11 q126) rfl rfl rfl (by decide +kernel) ⟨Nat.le_of_ble_eq_true rfl, Nat.le_of_ble_eq_true rfl⟩) hP0 hK0 rfl rfl rfl hl.1 rfl (Nat.le_of_ble_eq_true rfl) dL_law_406 ⟨Nat.le_of_ble_eq_true rfl, Nat.le_of_ble_eq_true rfl⟩ ?_
  refine lv_aload_n hx hb dL_law_409 rfl (lv_at hl 2 rfl) ?_
  refine lv_aload_n hx hb dL_law_410 rfl (lv_at hl 0 rfl) ?_
  refine lv_iload_n hx hb dL_law_411 rfl (lv_at hl 3 rfl) ?_
  refine lv_iconst (v := 1) hx hb dL_law_412 (by decide) ?_
  refine lv_iadd hx hb dL_law_413 ?_
  refine lv_tope (show nI i + 1 = nI (i + 1) from nI_add i 1) ?_
  refine rd_sld hx hb hX hbl hbA hS (i := i + 1) (by omega) hL dL_law_414 ?_
  refine lv_aload_n hx hb dL_law_415 rfl (lv_at hl 0 rfl) ?_
  refine lv_iload_n hx hb dL_law_416 rfl (lv_at hl 3 rfl) ?_
  refine lv_iconst (v := 2) hx hb dL_law_417 (by decide) ?_
  refine lv_iadd hx hb dL_law_418 ?_
  refine lv_tope (show nI i + 2 = nI (i + 2) from nI_add i 2) ?_
  refine rd_sld hx hb hX hbl hbA hS (i := i + 2) (by omega) hL dL_law_419 ?_
  have hDc := hD.sub (ws' := (W1 g0 r1 r2 j1 j2 gs bf)) [4, 5, 6] (by decide) rfl
  have hFc := va_free (wc := (W1 g0 r1 r2 j1 j2 gs bf)) hD hS hA [4, 5, 6] rfl
  refine va_calli (va_runV (As := [.int (xs (i + 1)), .int (xs (i + 2))]) (rest := [.int (b2i (S_idle gs (xs (i + 1)) (xs (i + 2))))]) S0 (met_X1_idle l D g0 r1 r2 j1 j2 gs bf H.size hR.2.2.2 (xs (i + 1)) (xs (i + 2))) (cwV 2 hts (lw_V q216 q217 q218 q12 q219) rfl rfl rfl (by decide +kernel) ⟨Nat.le_of_ble_eq_true rfl, Nat.le_of_ble_eq_true rfl⟩) ⟨wrP_blind, va_recv hK1 hP1 (ci := 1) (q0 := 0) rfl rfl, fun U hU hW => ⟨rfl, by rw [hU], by rw [hU]; exact hP1, va_K.moved hW.alike hK1, hDc.weaken (fun _ _ _ _ => trivial)⟩⟩ rfl rfl hl.1 rfl (lv_room (Nat.le_of_ble_eq_true rfl)) dL_law_420 ⟨Nat.le_of_ble_eq_true rfl, Nat.le_of_ble_eq_true rfl⟩) hS (fun q _ h => hFc q h) hFc (fun z1 u t H1 locs ht hvm hw hB hz1 hk1 hS => ?_)
  obtain ⟨hPn, -, hDn⟩ := hB
  rw [ht] at hPn
  obtain ⟨hP, hD⟩ := va_join (wr := (W0 h0 q1 q2 q3 k1 k2 k3 tb ct tg lb lg)) (w1 := (W1 g0 r1 r2 j1 j2 gs u)) hP hD [4, 5, 6] [0, 1, 2, 3] rfl rfl (by decide) (by decide) hk1 hFc hPn hDn
  generalize H1 = H at hP hS ⊢
  have hP : va_P D vwCl (L7 h0 q1 q2 q3 g0 r1 r2 k1 k2 k3 j1 j2 tb ct tg lb lg gs u) H := hP.sub [0, 1, 2, 3, 4, 5, 6] rfl
  have hD : va_D (Af s) (L7 h0 q1 q2 q3 g0 r1 r2 k1 k2 k3 j1 j2 tb ct tg lb lg gs u) := hD.sub [0, 1, 2, 3, 4, 5, 6] (by decide) rfl
  have hP0 : va_P D vwCl (W0 h0 q1 q2 q3 k1 k2 k3 tb ct tg lb lg) H := hP.sub [0, 1, 2, 3] rfl
  have hP1 : va_P D vwCl (W1 g0 r1 r2 j1 j2 gs u) H := hP.sub [4, 5, 6] rfl
  refine W.widen (k := 7) (n := 1301) (Nat.le_of_ble_eq_true rfl) (Nat.le_of_ble_eq_true rfl) ?_
  refine lv_icmp_eq (tgt := 464) hx hb dL_law_423 (by decide) (fun c1 => ?_) (fun c1 => ?_)
  · exact K tb ct tg lb lg gs u hR H locs hP hD hS ls (lv_sub hl [0, 1, 2, 3] rfl)
  · exact absurd ((rfl : b2i (S_idle gs (xs (i + 1)) (xs (i + 2))) = _).trans (hw).symm) c1
set_option maxHeartbeats 4000000 in
set_option maxRecDepth 100000 in
/-- case 12: spans -/
theorem law_c12 (C0 : lw_At p s m meth c b L xs) (hL : L ≤ 256) (hK : va_K D vwCl (K7 k1 k2 k3 j1 j2) s) {i : Nat} (hi : i + 4 ≤ L) (K : LawAt p l e s m below meth c b D h0 q1 q2 q3 g0 r1 r2 k1 k2 k3 j1 j2 i 464) : LawAt p l e s m below meth c b D h0 q1 q2 q3 g0 r1 r2 k1 k2 k3 j1 j2 i 428 := by
  obtain ⟨hx, hb, hr, hml, hown, hts0, hX, hbl, hlocks, hgv⟩ := C0
  have hts : ∀ w ∈ lw_all, w.before #[Value.ref b] s = true := fun w h => hts0 w (lw_all_tbl h)
  have hA : ∀ q : Nat, s.heap.size ≤ q → Af s q := fun _ h => h
  have hbA : ¬ Af s b := Nat.not_le.mpr hbl
  have S0 : CallFix p m c cL_law 4 s #[Value.ref b] lw_all R_law := ⟨hx, hb, hml, hown, hts⟩
  have hK0 : va_K D vwCl (K0 k1 k2 k3) s := hK.sub [0, 1, 2] rfl
  have hK1 : va_K D vwCl (K1 j1 j2) s := hK.sub [3, 4] rfl
  intro tb ct tg lb lg gs bf hR H locs hP hD hS ls hl
  have hP0 : va_P D vwCl (W0 h0 q1 q2 q3 k1 k2 k3 tb ct tg lb lg) H := hP.sub [0, 1, 2, 3] rfl
  have hP1 : va_P D vwCl (W1 g0 r1 r2 j1 j2 gs bf) H := hP.sub [4, 5, 6] rfl
  refine lv_aload_n hx hb dL_law_428 rfl (lv_at hl 1 rfl) ?_
  refine rd_callV (As := []) (rest := []) (b := h0) (ci := 0) (q0 := 0) S0 (met_X0_spans l D h0 q1 q2 q3 k1 k2 k3 tb ct tg lb lg gs hR ) (cwV 0 hts (lw_V q128 q129 q130 q11 q131) rfl rfl rfl (by decide +kernel) ⟨Nat.le_of_ble_eq_true rfl, Nat.le_of_ble_eq_true rfl⟩) hP0 hK0 rfl rfl rfl hl.1 rfl (Nat.le_of_ble_eq_true rfl) dL_law_429 ⟨Nat.le_of_ble_eq_true rfl, Nat.le_of_ble_eq_true rfl⟩ ?_
  refine lv_aload_n hx hb dL_law_432 rfl (lv_at hl 2 rfl) ?_
  refine rd_callV (As := []) (rest := [.int (S_spans gs)]) (b := g0) (ci := 1) (q0 := 0) S0 (met_X1_spans l D g0 r1 r2 j1 j2 gs bf ) (cwV 0 hts (lw_V q223 q224 q225 q12 q226) rfl rfl rfl (by decide +kernel) ⟨Nat.le_of_ble_eq_true rfl, Nat.le_of_ble_eq_true rfl⟩) hP1 hK1 rfl rfl rfl hl.1 rfl (Nat.le_of_ble_eq_true rfl) dL_law_433 ⟨Nat.le_of_ble_eq_true rfl, Nat.le_of_ble_eq_true rfl⟩ ?_
  refine lv_icmp_eq (tgt := 464) hx hb dL_law_436 (by decide) (fun c1 => ?_) (fun c1 => ?_)
  · exact K tb ct tg lb lg gs bf hR H locs hP hD hS ls (lv_sub hl [0, 1, 2, 3] rfl)
  · exact absurd ((rfl : S_spans gs = _).trans (rfl : S_spans gs = _).symm) c1
set_option maxHeartbeats 4000000 in
set_option maxRecDepth 100000 in
/-- case 13: spanStart -/
theorem law_c13 (C0 : lw_At p s m meth c b L xs) (hL : L ≤ 256) (hK : va_K D vwCl (K7 k1 k2 k3 j1 j2) s) {i : Nat} (hi : i + 4 ≤ L) (K : LawAt p l e s m below meth c b D h0 q1 q2 q3 g0 r1 r2 k1 k2 k3 j1 j2 i 464) : LawAt p l e s m below meth c b D h0 q1 q2 q3 g0 r1 r2 k1 k2 k3 j1 j2 i 441 := by
  obtain ⟨hx, hb, hr, hml, hown, hts0, hX, hbl, hlocks, hgv⟩ := C0
  have hts : ∀ w ∈ lw_all, w.before #[Value.ref b] s = true := fun w h => hts0 w (lw_all_tbl h)
  have hA : ∀ q : Nat, s.heap.size ≤ q → Af s q := fun _ h => h
  have hbA : ¬ Af s b := Nat.not_le.mpr hbl
  have S0 : CallFix p m c cL_law 4 s #[Value.ref b] lw_all R_law := ⟨hx, hb, hml, hown, hts⟩
  have hK0 : va_K D vwCl (K0 k1 k2 k3) s := hK.sub [0, 1, 2] rfl
  have hK1 : va_K D vwCl (K1 j1 j2) s := hK.sub [3, 4] rfl
  intro tb ct tg lb lg gs bf hR H locs hP hD hS ls hl
  have hP0 : va_P D vwCl (W0 h0 q1 q2 q3 k1 k2 k3 tb ct tg lb lg) H := hP.sub [0, 1, 2, 3] rfl
  have hP1 : va_P D vwCl (W1 g0 r1 r2 j1 j2 gs bf) H := hP.sub [4, 5, 6] rfl
  refine lv_aload_n hx hb dL_law_441 rfl (lv_at hl 1 rfl) ?_
  refine lv_aload_n hx hb dL_law_442 rfl (lv_at hl 0 rfl) ?_
  refine lv_iload_n hx hb dL_law_443 rfl (lv_at hl 3 rfl) ?_
  refine lv_iconst (v := 1) hx hb dL_law_444 (by decide) ?_
  refine lv_iadd hx hb dL_law_445 ?_
  refine lv_tope (show nI i + 1 = nI (i + 1) from nI_add i 1) ?_
  refine rd_sld hx hb hX hbl hbA hS (i := i + 1) (by omega) hL dL_law_446 ?_
  refine rd_callV (As := [.int (xs (i + 1))]) (rest := []) (b := h0) (ci := 0) (q0 := 0) S0 (met_X0_spanStart l D h0 q1 q2 q3 k1 k2 k3 tb ct tg lb lg gs hR (xs (i + 1))) (cwV 1 hts (lw_V q136 q137 q138 q11 q139) rfl rfl rfl (by decide +kernel) ⟨Nat.le_of_ble_eq_true rfl, Nat.le_of_ble_eq_true rfl⟩) hP0 hK0 rfl rfl rfl hl.1 rfl (Nat.le_of_ble_eq_true rfl) dL_law_447 ⟨Nat.le_of_ble_eq_true rfl, Nat.le_of_ble_eq_true rfl⟩ ?_
  refine lv_aload_n hx hb dL_law_450 rfl (lv_at hl 2 rfl) ?_
  refine lv_aload_n hx hb dL_law_451 rfl (lv_at hl 0 rfl) ?_
  refine lv_iload_n hx hb dL_law_452 rfl (lv_at hl 3 rfl) ?_
  refine lv_iconst (v := 1) hx hb dL_law_453 (by decide) ?_
  refine lv_iadd hx hb dL_law_454 ?_
  refine lv_tope (show nI i + 1 = nI (i + 1) from nI_add i 1) ?_
  refine rd_sld hx hb hX hbl hbA hS (i := i + 1) (by omega) hL dL_law_455 ?_
  refine rd_callV (As := [.int (xs (i + 1))]) (rest := [.int (S_spanStart gs (xs (i + 1)))]) (b := g0) (ci := 1) (q0 := 0) S0 (met_X1_spanStart l D g0 r1 r2 j1 j2 gs bf (xs (i + 1))) (cwV 1 hts (lw_V q231 q232 q233 q12 q234) rfl rfl rfl (by decide +kernel) ⟨Nat.le_of_ble_eq_true rfl, Nat.le_of_ble_eq_true rfl⟩) hP1 hK1 rfl rfl rfl hl.1 rfl (Nat.le_of_ble_eq_true rfl) dL_law_456 ⟨Nat.le_of_ble_eq_true rfl, Nat.le_of_ble_eq_true rfl⟩ ?_
  refine lv_icmp_eq (tgt := 464) hx hb dL_law_459 (by decide) (fun c1 => ?_) (fun c1 => ?_)
  · exact K tb ct tg lb lg gs bf hR H locs hP hD hS ls (lv_sub hl [0, 1, 2, 3] rfl)
  · exact absurd ((rfl : S_spanStart gs (xs (i + 1)) = _).trans (rfl : S_spanStart gs (xs (i + 1)) = _).symm) c1
end LAW
end
section
set_option maxRecDepth 100000
theorem law_more {i L : Nat} (hL : L ≤ 256) (hi : i ≤ L) (h : ¬ nI L - 4 < nI i) : i + 4 ≤ L := by
  rw [fa_lt, show nI L - 4 = nI L - nI 4 from rfl, pk_sub_toInt (by omega) (by decide), nI_toInt (by omega)] at h
  omega
set_option maxHeartbeats 4000000 in
set_option maxRecDepth 100000 in
/-- the law's loop, at its head -/
theorem law_loop {p : Program} {l : Launch} {e : Env} {s : State} {m : MethodId} {below : List Frame} {meth : Method} {c : Code} {b L : Nat} {xs : Nat → Int32} {D : va_G} {h0 q1 q2 q3 g0 r1 r2 : Nat} {k1 k2 k3 j1 j2 : ClassId} (C0 : lw_At p s m meth c b L xs) (hL : L ≤ 256) (hK : va_K D vwCl (K7 k1 k2 k3 j1 j2) s) : ∀ (k i : Nat), i ≤ L → L < i + k → LawAt p l e s m below meth c b D h0 q1 q2 q3 g0 r1 r2 k1 k2 k3 j1 j2 i 18 := by
  obtain ⟨hx, hb, hr, hml, hown, hts0, hX, hbl, hlocks, hgv⟩ := id C0
  have hbA : ¬ Af s b := Nat.not_le.mpr hbl
  intro k
  induction k with
  | zero =>
    intro i h1 h2
    exact absurd h2 (by omega)
  | succ k ih =>
    intro i h1 h2 tb ct tg lb lg gs bf hR H locs hP hD hS ls hl
    refine lv_iload_n hx hb dL_law_18 rfl (lv_at hl 3 rfl) ?_
    refine lv_aload_n hx hb dL_law_19 rfl (lv_at hl 0 rfl) ?_
    refine va_slen hx hb hX hbl hbA hS dL_law_20 ?_
    refine lv_iconst (v := 4) hx hb dL_law_21 (by decide) ?_
    refine lv_isub hx hb dL_law_22 ?_
    refine lv_icmp_gt (tgt := 470) hx hb dL_law_23 (by decide) (fun c1 => ?_) (fun c1 => ?_)
    · refine lv_iconst (v := 1) hx hb dL_law_470 (by decide) ?_
      refine va_forget (fun q hq => hS.2.2 q hq) ?_
      refine W.widen (k := 600000) (n := 7290000) (Nat.le_of_ble_eq_true rfl) (Nat.le_of_ble_eq_true rfl) ?_
      exact lw_ret hx hb hr hlocks dL_law_471
    · have hi : i + 4 ≤ L := law_more hL h1 c1
      have K : LawAt p l e s m below meth c b D h0 q1 q2 q3 g0 r1 r2 k1 k2 k3 j1 j2 i 464 := by
        intro tb ct tg lb lg gs bf hR H locs hP hD hS ls hl
        refine lv_iinc (v := nI (i + 4)) (lv' := [(3, .int (nI (i + 4))), (0, .ref b), (1, .ref h0), (2, .ref g0)]) hx hb dL_law_464 hl (k := 3) rfl (nI_add i 4) (by decide) rfl (fun ls hl => ?_)
        refine lv_goto (tgt := 18) hx hb dL_law_467 (by decide) ?_
        exact ih (i + 4) hi (by omega) tb ct tg lb lg gs bf hR H locs hP hD hS ls (lv_sub hl [1, 2, 3, 0] rfl)
      refine lv_aload_n hx hb dL_law_26 rfl (lv_at hl 0 rfl) ?_
      refine lv_iload_n hx hb dL_law_27 rfl (lv_at hl 3 rfl) ?_
      refine rd_sld hx hb hX hbl hbA hS (i := i) (by omega) hL dL_law_28 ?_
      refine lv_bipush (v := 15) hx hb dL_law_29 (by decide) ?_
      refine lv_iand hx hb dL_law_31 ?_
      obtain ⟨j, hj, ej⟩ := pk_andE (xs i) (m := 15) 4 (by decide)
      refine lv_tope ej ?_
      rcases (show j = 0 ∨ j = 1 ∨ j = 2 ∨ j = 3 ∨ j = 4 ∨ j = 5 ∨ j = 6 ∨ j = 7 ∨ j = 8 ∨ j = 9 ∨ j = 10 ∨ j = 11 ∨ j = 12 ∨ j = 13 ∨ j = 14 ∨ j = 15 by omega) with rfl | rfl | rfl | rfl | rfl | rfl | rfl | rfl | rfl | rfl | rfl | rfl | rfl | rfl | rfl | rfl
      · exact lv_tableIn (off := 72) (tgt := 104) hx hb dL_law_32 (by decide) (by decide) (by decide +kernel) (by decide) (law_c0 C0 hL hK hi K tb ct tg lb lg gs bf hR H locs hP hD hS ls hl)
      · exact lv_tableIn (off := 115) (tgt := 147) hx hb dL_law_32 (by decide) (by decide) (by decide +kernel) (by decide) (law_c1 C0 hL hK hi K tb ct tg lb lg gs bf hR H locs hP hD hS ls hl)
      · exact lv_tableIn (off := 148) (tgt := 180) hx hb dL_law_32 (by decide) (by decide) (by decide +kernel) (by decide) (law_c2 C0 hL hK hi K tb ct tg lb lg gs bf hR H locs hP hD hS ls hl)
      · exact lv_tableIn (off := 159) (tgt := 191) hx hb dL_law_32 (by decide) (by decide) (by decide +kernel) (by decide) (law_c3 C0 hL hK hi K tb ct tg lb lg gs bf hR H locs hP hD hS ls hl)
      · exact lv_tableIn (off := 172) (tgt := 204) hx hb dL_law_32 (by decide) (by decide) (by decide +kernel) (by decide) (law_c4 C0 hL hK hi K tb ct tg lb lg gs bf hR H locs hP hD hS ls hl)
      · exact lv_tableIn (off := 205) (tgt := 237) hx hb dL_law_32 (by decide) (by decide) (by decide +kernel) (by decide) (law_c5 C0 hL hK hi K tb ct tg lb lg gs bf hR H locs hP hD hS ls hl)
      · exact lv_tableIn (off := 228) (tgt := 260) hx hb dL_law_32 (by decide) (by decide) (by decide +kernel) (by decide) (law_c6 C0 hL hK hi K tb ct tg lb lg gs bf hR H locs hP hD hS ls hl)
      · exact lv_tableIn (off := 251) (tgt := 283) hx hb dL_law_32 (by decide) (by decide) (by decide +kernel) (by decide) (law_c7 C0 hL hK hi K tb ct tg lb lg gs bf hR H locs hP hD hS ls hl)
      · exact lv_tableIn (off := 274) (tgt := 306) hx hb dL_law_32 (by decide) (by decide) (by decide +kernel) (by decide) (law_c8 C0 hL hK hi K tb ct tg lb lg gs bf hR H locs hP hD hS ls hl)
      · exact lv_tableIn (off := 307) (tgt := 339) hx hb dL_law_32 (by decide) (by decide) (by decide +kernel) (by decide) (law_c9 C0 hL hK hi K tb ct tg lb lg gs bf hR H locs hP hD hS ls hl)
      · exact lv_tableIn (off := 340) (tgt := 372) hx hb dL_law_32 (by decide) (by decide) (by decide +kernel) (by decide) (law_c10 C0 hL hK hi K tb ct tg lb lg gs bf hR H locs hP hD hS ls hl)
      · exact lv_tableIn (off := 363) (tgt := 395) hx hb dL_law_32 (by decide) (by decide) (by decide +kernel) (by decide) (law_c11 C0 hL hK hi K tb ct tg lb lg gs bf hR H locs hP hD hS ls hl)
      · exact lv_tableIn (off := 396) (tgt := 428) hx hb dL_law_32 (by decide) (by decide) (by decide +kernel) (by decide) (law_c12 C0 hL hK hi K tb ct tg lb lg gs bf hR H locs hP hD hS ls hl)
      · exact lv_tableIn (off := 409) (tgt := 441) hx hb dL_law_32 (by decide) (by decide) (by decide +kernel) (by decide) (law_c13 C0 hL hK hi K tb ct tg lb lg gs bf hR H locs hP hD hS ls hl)
      · exact lv_tableOut (tgt := 464) hx hb dL_law_32 (by decide) (by decide) (K tb ct tg lb lg gs bf hR H locs hP hD hS ls hl)
      · exact lv_tableOut (tgt := 464) hx hb dL_law_32 (by decide) (by decide) (K tb ct tg lb lg gs bf hR H locs hP hD hS ls hl)
set_option maxHeartbeats 4000000 in
set_option maxRecDepth 100000 in
/-- THE LAW, from its entry -/
theorem whole_start {p : Program} {e : Env} {s : State} {m : MethodId} {below : List Frame} {meth : Method} {c : Code} (l : Launch) {b L : Nat} {xs : Nat → Int32} (hL : L ≤ 256) (C0 : lw_At p s m meth c b L xs) : W p l e room_1 s m #[Value.ref b] below meth c s.heap [] 0 0 (lw_Z below #[Value.ref b] s) (entryFrame m ([Value.ref b] : List Value).toArray 4) := by
  obtain ⟨hx, hb, hr, hml, hown, hts0, hX, hbl, hlocks, hgv⟩ := id C0
  have hts : ∀ w ∈ lw_all, w.before #[Value.ref b] s = true := fun w h => hts0 w (lw_all_tbl h)
  have hA : ∀ q : Nat, s.heap.size ≤ q → Af s q := fun _ h => h
  have S0 : CallFix p m c cL_law 4 s #[Value.ref b] lw_all R_law := ⟨hx, hb, hml, hown, hts⟩
  obtain ⟨cA, iA, hKA⟩ := u_known (C := RX0) (T := TX0) (N := 5) (n := 5) hts0 (fun w h => lw_all_tbl (in_X0 w h)) (hts _ q14)
  obtain ⟨cB, iB, hKB⟩ := u_known (C := RX1) (T := TX1) (N := 2) (n := 2) hts0 (fun w h => lw_all_tbl (in_X1 w h)) (hts _ q141)
  obtain ⟨D, hKD⟩ : ∃ D : va_G, ∀ (k : Nat) (q : vw_C), vwCl[k]? = some q → u_Kn s q.1 q.2.1 q.2.2 (D.1 k) (D.2 k) := by
    refine ⟨(fun k => if k = 0 then cA else cB, fun k => if k = 0 then iA else iB), ?_⟩
    intro k q hq
    match k, hq with
    | 0, hq => cases hq; exact hKA
    | 1, hq => cases hq; exact hKB
    | k + 2, hq => simp [vwCl] at hq
  have hS : va_S (Af s) s.heap s.heap [] := va_S.rf
  have hK : va_K D vwCl [] s := ⟨hKD, fun k q h => by simp at h⟩
  have hP : va_P D vwCl [] s.heap := fun k q h => by simp at h
  have hD : va_D (Af s) [] := ⟨fun i j p q h => by simp at h, fun k q h => by simp at h⟩
  have hl := lv_entry ([.ref b]) (n := 4) (Nat.le_of_ble_eq_true rfl)
  rw [lg_entry_eq]
  generalize (lg_sl ([.ref b]) ++ List.replicate (4 - (lg_sl ([.ref b])).length) Slot.unset).toArray = ls at hl ⊢
  have hl : lv_has ls 4 [(0, .ref b)] := hl
  refine va_new (ci := 0) (fs := [.int 0, .null, .null, .null, .int 0]) (C := RX0) (T := TX0) (N := 5) hx hb hts in_X0 tyX0 tyX0_ok hown (hts _ q13) (hts _ q14) (hts _ q11) hK hP hD hS hA rfl (fun j hj => by rcases (show j = 0 ∨ j = 1 ∨ j = 2 ∨ j = 3 ∨ j = 4 by omega) with rfl | rfl | rfl | rfl | rfl <;> rfl) (Nat.le_of_ble_eq_true rfl) (Nat.le_of_ble_eq_true rfl) dL_law_0 (fun h0 H hP hD hS => ?_)
  have hP : va_P D vwCl [(h0, .inr (0, [.int 0, .null, .null, .null, .int 0]))] H := hP
  have hD : va_D (Af s) [(h0, .inr (0, [.int 0, .null, .null, .null, .int 0]))] := hD
  refine W.widen (k := 1) (n := 5) (Nat.le_of_ble_eq_true rfl) (Nat.le_of_ble_eq_true rfl) ?_
  refine lv_dup hx hb dL_law_3 rfl ?_
  have hPc := hP.sub (ws' := [(h0, .inr (0, [.int 0, .null, .null, .null, .int 0]))]) [0] rfl
  have hDc := hD.sub (ws' := [(h0, .inr (0, [.int 0, .null, .null, .null, .int 0]))]) [0] (by decide) rfl
  have hKc := hK.sub (tys' := []) [] rfl
  have hFc := va_free (wc := [(h0, .inr (0, [.int 0, .null, .null, .null, .int 0]))]) hD hS hA [0] rfl
  refine va_callv (va_runI (As := []) (rest := [.ref h0]) S0 (met_X0_init l D h0 H.size) (cwI 0 hts (lw_meth q17) rfl rfl rfl (hts _ q11) (hts _ q15) (hts _ q16) rfl (by decide +kernel) ⟨Nat.le_of_ble_eq_true rfl, Nat.le_of_ble_eq_true rfl⟩) ⟨wrP_blind, fun U hU hW => ⟨rfl, by rw [hU], by rw [hU]; exact hPc, va_K.moved hW.alike hKc, hDc.weaken (fun _ _ _ _ => trivial)⟩⟩ rfl rfl hl.1 rfl (lv_room (Nat.le_of_ble_eq_true rfl)) dL_law_4 ⟨Nat.le_of_ble_eq_true rfl, Nat.le_of_ble_eq_true rfl⟩) hS (fun q _ h => hFc q h) hFc (fun u t H1 locs ht hvm hw hB hz1 hk1 hS => ?_)
  obtain ⟨q1, q2, q3, k1, k2, k3⟩ := u
  obtain ⟨hPn, hKn, hDn⟩ := hB
  rw [ht] at hPn
  have hKn := va_K.moved hvm.symm hKn
  obtain ⟨hP, hD⟩ := va_join (wr := []) (w1 := (W0 h0 q1 q2 q3 k1 k2 k3 0 0 (fun _ => 0) (fun _ => 0) (fun _ => 0))) hP hD [0] [] rfl rfl (by decide) (by decide) hk1 hFc hPn hDn
  generalize H1 = H at hP hS ⊢
  have hP : va_P D vwCl (W0 h0 q1 q2 q3 k1 k2 k3 0 0 (fun _ => 0) (fun _ => 0) (fun _ => 0)) H := hP
  have hD : va_D (Af s) (W0 h0 q1 q2 q3 k1 k2 k3 0 0 (fun _ => 0) (fun _ => 0) (fun _ => 0)) := hD
  have hK : va_K D vwCl (K0 k1 k2 k3) s := hKn
  refine W.widen (k := 4) (n := 532) (Nat.le_of_ble_eq_true rfl) (Nat.le_of_ble_eq_true rfl) ?_
  refine lv_astore_n (lv' := [(1, .ref h0), (0, .ref b)]) hx hb dL_law_7 rfl hl (by decide) rfl (fun ls hl => ?_)
  refine va_new (ci := 1) (fs := [.null, .null]) (C := RX1) (T := TX1) (N := 2) hx hb hts in_X1 tyX1 tyX1_ok hown (hts _ q140) (hts _ q141) (hts _ q12) hK hP hD hS hA rfl (fun j hj => by rcases (show j = 0 ∨ j = 1 by omega) with rfl | rfl <;> rfl) (Nat.le_of_ble_eq_true rfl) (Nat.le_of_ble_eq_true rfl) dL_law_8 (fun g0 H hP hD hS => ?_)
  have hP : va_P D vwCl [(h0, .inr (0, [.int 0, .ref q1, .ref q2, .ref q3, .int 0])), (q1, .inl (k1, 15, .inl (fun _ => 0))), (q2, .inl (k2, 16, .inl (fun _ => 0))), (q3, .inl (k3, 496, .inl (fun _ => 0))), (g0, .inr (1, [.null, .null]))] H := hP
  have hD : va_D (Af s) [(h0, .inr (0, [.int 0, .ref q1, .ref q2, .ref q3, .int 0])), (q1, .inl (k1, 15, .inl (fun _ => 0))), (q2, .inl (k2, 16, .inl (fun _ => 0))), (q3, .inl (k3, 496, .inl (fun _ => 0))), (g0, .inr (1, [.null, .null]))] := hD
  refine W.widen (k := 5) (n := 534) (Nat.le_of_ble_eq_true rfl) (Nat.le_of_ble_eq_true rfl) ?_
  refine lv_dup hx hb dL_law_11 rfl ?_
  have hPc := hP.sub (ws' := [(g0, .inr (1, [.null, .null]))]) [4] rfl
  have hDc := hD.sub (ws' := [(g0, .inr (1, [.null, .null]))]) [4] (by decide) rfl
  have hKc := hK.sub (tys' := []) [] rfl
  have hFc := va_free (wc := [(g0, .inr (1, [.null, .null]))]) hD hS hA [4] rfl
  refine va_callv (va_runI (As := []) (rest := [.ref g0]) S0 (met_X1_init l D g0 H.size) (cwI 0 hts (lw_meth q144) rfl rfl rfl (hts _ q12) (hts _ q142) (hts _ q143) rfl (by decide +kernel) ⟨Nat.le_of_ble_eq_true rfl, Nat.le_of_ble_eq_true rfl⟩) ⟨wrP_blind, fun U hU hW => ⟨rfl, by rw [hU], by rw [hU]; exact hPc, va_K.moved hW.alike hKc, hDc.weaken (fun _ _ _ _ => trivial)⟩⟩ rfl rfl hl.1 rfl (lv_room (Nat.le_of_ble_eq_true rfl)) dL_law_12 ⟨Nat.le_of_ble_eq_true rfl, Nat.le_of_ble_eq_true rfl⟩) hS (fun q _ h => hFc q h) hFc (fun u t H1 locs ht hvm hw hB hz1 hk1 hS => ?_)
  obtain ⟨r1, r2, j1, j2⟩ := u
  obtain ⟨hPn, hKn, hDn⟩ := hB
  rw [ht] at hPn
  have hKn := va_K.moved hvm.symm hKn
  obtain ⟨hP, hD⟩ := va_join (wr := (W0 h0 q1 q2 q3 k1 k2 k3 0 0 (fun _ => 0) (fun _ => 0) (fun _ => 0))) (w1 := (W1 g0 r1 r2 j1 j2 (gs_clear (fun _ => 0)) (fun _ => 0))) hP hD [4] [0, 1, 2, 3] rfl rfl (by decide) (by decide) hk1 hFc hPn hDn
  generalize H1 = H at hP hS ⊢
  have hP : va_P D vwCl (L7 h0 q1 q2 q3 g0 r1 r2 k1 k2 k3 j1 j2 0 0 (fun _ => 0) (fun _ => 0) (fun _ => 0) (gs_clear (fun _ => 0)) (fun _ => 0)) H := hP
  have hD : va_D (Af s) (L7 h0 q1 q2 q3 g0 r1 r2 k1 k2 k3 j1 j2 0 0 (fun _ => 0) (fun _ => 0) (fun _ => 0) (gs_clear (fun _ => 0)) (fun _ => 0)) := hD
  have hK : va_K D vwCl (K7 k1 k2 k3 j1 j2) s := hK.app hKn
  refine W.widen (k := 7) (n := 1301) (Nat.le_of_ble_eq_true rfl) (Nat.le_of_ble_eq_true rfl) ?_
  refine lv_astore_n (lv' := [(2, .ref g0), (1, .ref h0), (0, .ref b)]) hx hb dL_law_15 rfl hl (by decide) rfl (fun ls hl => ?_)
  refine lv_iconst (v := 0) hx hb dL_law_16 (by decide) ?_
  refine lv_istore_n (lv' := [(3, .int 0), (2, .ref g0), (1, .ref h0), (0, .ref b)]) hx hb dL_law_17 rfl hl (by decide) rfl (fun ls hl => ?_)
  exact law_loop C0 hL hK (L + 1) 0 (Nat.zero_le L) (by omega) 0 0 (fun _ => 0) (fun _ => 0) (fun _ => 0) (gs_clear (fun _ => 0)) (fun _ => 0) (Rel.cleared (fun _ _ => rfl) (fun _ => by decide)) H _ hP hD hS ls (lv_sub hl [3, 2, 1, 0] rfl)
set_option maxHeartbeats 4000000 in
theorem lw_walk (l : Launch) (b : Addr) (xs : List Int32) : MetFree l x (headSpec (Jvm.Cond.code x code maxLocals ret :: tables_1) room_1) (lw_P b xs) (fun _ _ _ _ _ => True) lw_Q := by
  refine MetFree.of_bodyS (code := code) (maxLocals := maxLocals) (ret := ret) (by decide) ?_ ?_
  · intro args s m h hn
    obtain ⟨meth, c, h1, h2, h3, h4, h5, h6, -, -⟩ := Cond.code_spec hn (atoms_spec (ws := Jvm.Cond.code x code maxLocals ret :: tables_1) h _ List.mem_cons_self)
    exact ⟨meth, c, h1, h2, h3, h4, h5, h6⟩
  · intro p e s m args below meth c s₁ B hml0 hP _
    obtain ⟨rfl, hx, hbd, hgv⟩ := hP
    obtain ⟨scr, harrAt, hlist, hof, hsmall⟩ := hx
    obtain ⟨hcb, hkn, -, -⟩ := State.arrayAt?_spec harrAt
    have hown : s.vm.findClass R_law = some m.cls := findClass_of_methodNamed B.named
    have hts0 : ∀ c ∈ (Jvm.Cond.code x code maxLocals ret :: tables_1), c.before #[Value.ref b] s = true := atoms_spec (ws := Jvm.Cond.code x code maxLocals ret :: tables_1) B.pre
    have hts : ∀ w ∈ lw_tbl, w.before #[Value.ref b] s = true := k2_hts_sels lw_privs (fun w hw => hts0 w (List.mem_cons_of_mem _ hw)) lw_privs_ok
    have hml : c.maxLocals = 4 := B.maxLocals_eq (hts0 _ List.mem_cons_self)
    have X₀ : Stand p l e room_1 s m #[Value.ref b] below meth c s₁ [] 0 0 := Stand.of_body B
    have hh0 : s₁.heap = s.heap := by rw [B.state]; rfl
    have hsz : scr.slots.size = xs.length := by rw [← Array.length_toList, hlist, List.length_map]
    have hval : ∀ j : Nat, j < xs.length → scr.slots[j]? = some (.int (xs.getD j 0)) := fun j hj => by
      rw [← Array.getElem?_toList, hlist]
      simp [hj]
    have hbl : b < s.heap.size := (Array.getElem?_eq_some_iff.mp hcb).1
    have hX : va_X b xs.length (fun j => xs.getD j 0) s s.heap := ⟨scr, hcb, hof, hkn, hsz, hval⟩
    have K : W p l e room_1 s m #[Value.ref b] below meth c s₁.heap [] 0 0 (lw_Z below #[Value.ref b] s) (entryFrame m ([Value.ref b] : List Value).toArray 4) := by
      rw [hh0]
      exact whole_start l hbd ⟨B.exec, B.bytes, B.returns, hml, hown, hts, hX, hbl, B.notSynchronized, hgv⟩
    obtain ⟨t, a1, o, b1, b2, b3⟩ := K s₁ rfl X₀
    exact ⟨t, o, a1, b1, b2, b3⟩
theorem lw_pre_spec {args : Array Value} {s : State} (h : (Jvm.Cond.and given_1 narrow_1).before args s = true) (hr : rest_1_c.before args s = true) : ∃ (b : Addr) (xs : List Int32), lw_P b xs args s := by
  have hs := flat_of_before _ h
  have hq := flat_of_before _ hr
  have hc : (Cond.count 1).before args s = true := hs _ (by decide +kernel)
  have harr : (Cond.arrayOf (.arg 0) .int).before args s = true := hs _ (by decide +kernel)
  have hle : (Cond.le (.length (.arg 0)) (.int 256)).before args s = true := hs _ (by decide +kernel)
  have hlen : (Cond.isInt (.length (.arg 0))).before args s = true := hq _ (by decide +kernel)
  have hall : (Cond.all (.arg 0) (.isInt (.elem (.arg 0) (.index 0)))).before args s = true := hq _ (by decide +kernel)
  obtain ⟨b, xs, hb, hx⟩ := State.ints_of_pre rfl harr hlen hall
  have hsm : xs.length < 2 ^ 31 := hx.choose_spec.2.2.2
  have hev : (Term.length (.arg 0)).eval args s none [] s = some (.int xs.length.toInt32) := hx.length_eval hb
  have hv := Cond.le_ints hev (show (Term.int 256).eval args s none [] s = some (.int 256) from rfl)
  have hd : xs.length.toInt32 ≤ 256 := by
    simpa [Cond.before, Cond.holds, hv] using hle
  have hN : xs.length ≤ 256 := (Int32.ofNat_le_ofNat hsm (by decide)).mp (show Int32.ofNat xs.length ≤ Int32.ofNat 256 from hd)
  exact ⟨b, xs, Cond.one_arg hc (show args[0]? = some (.ref b) from hb), hx, hN, h⟩
theorem lw_comes (l : Launch) : Comes l x (Jvm.Cond.code x code maxLocals ret :: tables_1) room_1 (fun tb e args s => Calls_1 tb e args s ∧ rest_1 tb e args s ∧ Pre_1 tb e args s)
    (fun _ _ args s o t => lw_Q args s o t) := by
  intro p e ha hc hk s m args below hf hfit hheap happ hpre
  obtain ⟨b, xs, hP⟩ := lw_pre_spec hpre.2.2 hpre.2.1
  obtain ⟨k, o, h1, h2, h3, hQ⟩ := lw_walk l b xs p e ha hc hk s m args below hf ((Spec.applies_iff_loose hf).mp happ).1 hP trivial
  exact ⟨k, o, h1, h2, h3, hQ⟩
theorem lw_frame {s t : State} {o : Outcome} {args : Array Value} (h : Framed s o t [] 600000 7290000) :
    Framed s o t (fieldLocs frame_1_writes args s ++ arrayLocs frame_1_arrays args s ++ staticLocs frame_1_statics s) 600000 7290000 := h
theorem lw_limb (L : Cond) (hL : ∀ (args : Array Value) (s t : State), L.after args s (.returned (some (.int 1))) t = true) :
    ArmFor flags0 classFile x code maxLocals ret World_1 tables_1 room_1 Calls_1 rest_1 Pre_1
      (fun tb e a s o t => postC L tb e a s o t ∧ Framed s o t (fieldLocs frame_1_writes a s ++ arrayLocs frame_1_arrays a s ++ staticLocs frame_1_statics s) 600000 7290000) := by
  intro l _ _ _ p e ha hc hk s m args below hf hfit hheap happ hpre
  obtain ⟨k, o, h1, h2, h3, rfl, hF⟩ := lw_comes l p e ha hc hk s m args below hf hfit hheap happ hpre
  exact ⟨k, _, h1, h2, h3, hL args s _, lw_frame hF⟩
theorem i_vc : Claimed_1_1 ∧ Claimed_1_2 := ⟨lw_limb limb_1_1 (fun args s t => by simp [limb_1_1, Cond.after, Cond.holds, Cond.value]), lw_limb limb_1_2 (fun args s t => Cond.after_iff.mpr (by
  first | (rw [show limb_1_2 = Cond.eq .result (.int 1) from rfl, Cond.eq_ints (x := 1) (y := 1) rfl rfl]; simp; done) | (simp [limb_1_2, Cond.value, Term.eval]; done)))⟩
end
