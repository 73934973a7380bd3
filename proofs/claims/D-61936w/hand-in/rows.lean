section
-- ===== PART A: goes FIRST, ahead of the names: the tables' words, and 'selects' of the private methods out of them =====
/-- a private method of a class that the tables say can be made, by its rows of tables_1 -/
def lw_okq (q : MethodName × Nat) : Prop := (q.1.cls ≠ "java/lang/invoke/MethodHandle" ∧ q.1.cls ≠ "java/lang/invoke/VarHandle") ∧ Cond.instantiable q.1.cls q.2 ∈ tables_1 ∧ Cond.privateMethod q.1 ∈ tables_1 ∧ Cond.instanceMethod q.1 ∈ tables_1
set_option maxRecDepth 100000
theorem lw_p0 : lw_okq (⟨"CardFlash", "findCurrent", "()V"⟩, 9) := ⟨⟨by decide +kernel, by decide +kernel⟩, List.mem_of_getElem? (i := 4) rfl, List.mem_of_getElem? (i := 16) rfl, List.mem_of_getElem? (i := 17) rfl⟩
theorem lw_p1 : lw_okq (⟨"CardFlash", "program", "(IIII)V"⟩, 9) := ⟨⟨by decide +kernel, by decide +kernel⟩, List.mem_of_getElem? (i := 4) rfl, List.mem_of_getElem? (i := 70) rfl, List.mem_of_getElem? (i := 71) rfl⟩
theorem lw_p2 : lw_okq (⟨"CardFlash", "freeBlock", "()I"⟩, 9) := ⟨⟨by decide +kernel, by decide +kernel⟩, List.mem_of_getElem? (i := 4) rfl, List.mem_of_getElem? (i := 74) rfl, List.mem_of_getElem? (i := 75) rfl⟩
theorem lw_p3 : lw_okq (⟨"CardFlash", "leastLive", "()I"⟩, 9) := ⟨⟨by decide +kernel, by decide +kernel⟩, List.mem_of_getElem? (i := 4) rfl, List.mem_of_getElem? (i := 78) rfl, List.mem_of_getElem? (i := 79) rfl⟩
theorem lw_p4 : lw_okq (⟨"CardFlash", "livePages", "(I)I"⟩, 9) := ⟨⟨by decide +kernel, by decide +kernel⟩, List.mem_of_getElem? (i := 4) rfl, List.mem_of_getElem? (i := 82) rfl, List.mem_of_getElem? (i := 83) rfl⟩
theorem lw_p5 : lw_okq (⟨"CardFlash", "gather", "(I)V"⟩, 9) := ⟨⟨by decide +kernel, by decide +kernel⟩, List.mem_of_getElem? (i := 4) rfl, List.mem_of_getElem? (i := 86) rfl, List.mem_of_getElem? (i := 87) rfl⟩
theorem lw_p6 : lw_okq (⟨"CardFlash", "put", "(IIII)V"⟩, 9) := ⟨⟨by decide +kernel, by decide +kernel⟩, List.mem_of_getElem? (i := 4) rfl, List.mem_of_getElem? (i := 90) rfl, List.mem_of_getElem? (i := 91) rfl⟩
theorem lw_p7 : lw_okq (⟨"CardFlash", "isWritten", "(I)Z"⟩, 9) := ⟨⟨by decide +kernel, by decide +kernel⟩, List.mem_of_getElem? (i := 4) rfl, List.mem_of_getElem? (i := 105) rfl, List.mem_of_getElem? (i := 106) rfl⟩
theorem lw_p8 : lw_okq (⟨"CardFlashModel", "turns", "(I)I"⟩, 3) := ⟨⟨by decide +kernel, by decide +kernel⟩, List.mem_of_getElem? (i := 136) rfl, List.mem_of_getElem? (i := 165) rfl, List.mem_of_getElem? (i := 166) rfl⟩
def lw_privs_1 : List (MethodName × Nat) := [(⟨"CardFlash", "findCurrent", "()V"⟩, 9), (⟨"CardFlash", "program", "(IIII)V"⟩, 9), (⟨"CardFlash", "freeBlock", "()I"⟩, 9), (⟨"CardFlash", "leastLive", "()I"⟩, 9), (⟨"CardFlash", "livePages", "(I)I"⟩, 9), (⟨"CardFlash", "gather", "(I)V"⟩, 9), (⟨"CardFlash", "put", "(IIII)V"⟩, 9), (⟨"CardFlash", "isWritten", "(I)Z"⟩, 9), (⟨"CardFlashModel", "turns", "(I)I"⟩, 3)]
theorem lw_r1 : ∀ q ∈ lw_privs_1, lw_okq q := List.forall_mem_cons.mpr ⟨lw_p0, List.forall_mem_cons.mpr ⟨lw_p1, List.forall_mem_cons.mpr ⟨lw_p2, List.forall_mem_cons.mpr ⟨lw_p3, List.forall_mem_cons.mpr ⟨lw_p4, List.forall_mem_cons.mpr ⟨lw_p5, List.forall_mem_cons.mpr ⟨lw_p6, List.forall_mem_cons.mpr ⟨lw_p7, List.forall_mem_cons.mpr ⟨lw_p8, fun _ h => absurd h List.not_mem_nil⟩⟩⟩⟩⟩⟩⟩⟩⟩
def lw_privs : List (MethodName × Nat) := lw_privs_1
def lw_tbl : List Cond := k2_sels lw_privs ++ tables_1
theorem lw_privs_ok : ∀ q ∈ lw_privs, lw_okq q := lw_r1
-- ===== ONE list of words for every method: the tables' words that hold all through a run =====
def lw_all : List Cond := lw_tbl.filter goodWord
/-- a word of the tables by its place: claim/WORDS.tsv -/
theorem lw_w {w : Cond} (i : Nat) (h : lw_tbl[i]? = some w) (g : goodWord w = true) : w ∈ lw_all := List.mem_filter.mpr ⟨List.mem_of_getElem? h, g⟩
theorem lw_all_tbl {w : Cond} (h : w ∈ lw_all) : w ∈ lw_tbl := (List.mem_filter.mp h).1
theorem lw_self : GoodIn lw_all lw_all := fun w h => ⟨h, good_of_word (List.mem_filter.mp h).2⟩
/-- a class's field words, by their places -/
theorem lw_in (ws : List Cond) (ps : List Nat) (hp : ws = ps.filterMap (fun i => lw_tbl[i]?)) (hg : ws.all goodWord = true) : ∀ w ∈ ws, w ∈ lw_all := by
  intro w h
  have h1 := List.all_eq_true.mp hg w h
  rw [hp] at h
  obtain ⟨i, -, hi⟩ := List.mem_filterMap.mp h
  exact lw_w i hi h1
/-- the words of a contract for the method y with code b, L locals, answer r -/
abbrev ws_ (y : MethodName) (b : ByteArray) (L : Nat) (r : Option FieldType) : List Cond := Cond.code y b L r :: lw_all
theorem lw_meth {y : MethodName} {b : ByteArray} {L : Nat} {r : Option FieldType} (h : Cond.code y b L r ∈ lw_all) : GoodIn lw_all (ws_ y b L r) := by
  intro w hw
  rcases List.mem_cons.mp hw with e | e
  · rw [e]
    exact lw_self _ h
  · exact lw_self _ e
theorem lw_app {a c : List Cond} (ha : ∀ w ∈ a, w ∈ lw_all) (hc : GoodIn lw_all c) : GoodIn lw_all (a ++ c) := by
  intro w hw
  rcases List.mem_append.mp hw with e | e
  · exact lw_self w (ha w e)
  · exact hc w e
/-- what a call through an object asks: cwV n hts (lw_V ..) -/
theorem lw_V {own : String} {idx : Nat} {C : String} {y : MethodName} {b : ByteArray} {L : Nat} {r : Option FieldType} (h1 : Cond.methodLink own idx y ∈ lw_all) (h2 : Cond.instanceMethod y ∈ lw_all) (h3 : Cond.selects C y y ∈ lw_all) (h4 : Cond.initialized C ∈ lw_all) (h5 : Cond.code y b L r ∈ lw_all) : GoodIn lw_all (wsV own idx C y (ws_ y b L r)) := by
  refine lw_app ?_ (lw_meth h5)
  intro w hw
  simp only [List.mem_cons, List.not_mem_nil, or_false] at hw
  rcases hw with e | e | e | e
  · rw [e]; exact h1
  · rw [e]; exact h2
  · rw [e]; exact h3
  · rw [e]; exact h4
/-- what a static call asks: va_cwS n hts (lw_S ..) -/
theorem lw_S {own : String} {idx : Nat} {y : MethodName} {b : ByteArray} {L : Nat} {r : Option FieldType} (h1 : Cond.methodLink own idx y ∈ lw_all) (h2 : Cond.static y ∈ lw_all) (h3 : Cond.initialized y.cls ∈ lw_all) (h4 : Cond.code y b L r ∈ lw_all) : GoodIn lw_all (va_wsS own idx y (ws_ y b L r)) := by
  refine lw_app ?_ (lw_meth h4)
  intro w hw
  simp only [List.mem_cons, List.not_mem_nil, or_false] at hw
  rcases hw with e | e | e
  · rw [e]; exact h1
  · rw [e]; exact h2
  · rw [e]; exact h3
/-- the words of a contract for a method WITH HANDLERS (hh: its table) -/
abbrev wsW_ (y : MethodName) (b : ByteArray) (L : Nat) (r : Option FieldType) (hh : List (Nat × Nat × Nat × Nat)) : List Cond := Cond.codeWith y b L r hh :: lw_all
theorem lw_methW {y : MethodName} {b : ByteArray} {L : Nat} {r : Option FieldType} {hh : List (Nat × Nat × Nat × Nat)} (h : Cond.codeWith y b L r hh ∈ lw_all) : GoodIn lw_all (wsW_ y b L r hh) := by
  intro w hw
  rcases List.mem_cons.mp hw with e | e
  · rw [e]
    exact lw_self _ h
  · exact lw_self _ e
/-- any list of words by their places (lw_in), good -/
theorem lw_good {ws : List Cond} (h : ∀ w ∈ ws, w ∈ lw_all) : GoodIn lw_all ws := fun w hw => lw_self w (h w hw)
/-- what a call of a method with handlers asks: vx_cwVW n hts (lw_VW ..), vx_cwSW n hts (lw_SW ..) -/
theorem lw_VW {own : String} {idx : Nat} {C : String} {y : MethodName} {b : ByteArray} {L : Nat} {r : Option FieldType} {hh : List (Nat × Nat × Nat × Nat)} (h1 : Cond.methodLink own idx y ∈ lw_all) (h2 : Cond.instanceMethod y ∈ lw_all) (h3 : Cond.selects C y y ∈ lw_all) (h4 : Cond.initialized C ∈ lw_all) (h5 : Cond.codeWith y b L r hh ∈ lw_all) : GoodIn lw_all (wsV own idx C y (wsW_ y b L r hh)) := by
  refine lw_app ?_ (lw_methW h5)
  intro w hw
  simp only [List.mem_cons, List.not_mem_nil, or_false] at hw
  rcases hw with e | e | e | e
  · rw [e]; exact h1
  · rw [e]; exact h2
  · rw [e]; exact h3
  · rw [e]; exact h4
theorem lw_SW {own : String} {idx : Nat} {y : MethodName} {b : ByteArray} {L : Nat} {r : Option FieldType} {hh : List (Nat × Nat × Nat × Nat)} (h1 : Cond.methodLink own idx y ∈ lw_all) (h2 : Cond.static y ∈ lw_all) (h3 : Cond.initialized y.cls ∈ lw_all) (h4 : Cond.codeWith y b L r hh ∈ lw_all) : GoodIn lw_all (va_wsS own idx y (wsW_ y b L r hh)) := by
  refine lw_app ?_ (lw_methW h4)
  intro w hw
  simp only [List.mem_cons, List.not_mem_nil, or_false] at hw
  rcases hw with e | e | e
  · rw [e]; exact h1
  · rw [e]; exact h2
  · rw [e]; exact h3
/-- a word by its place in its run of the tables -/
theorem lw_at {r : List Cond} (hr : ∀ w ∈ r, w ∈ lw_tbl) {w : Cond} (i : Nat) (h : r[i]? = some w) : w ∈ lw_tbl := hr w (List.mem_of_getElem? h)
theorem lw_g {w : Cond} (h : w ∈ lw_tbl) (g : goodWord w = true) : w ∈ lw_all := List.mem_filter.mpr ⟨h, g⟩
theorem lw_ms : ∀ w ∈ k2_sels lw_privs, w ∈ lw_tbl := fun w h => show w ∈ k2_sels lw_privs ++ tables_1 from List.mem_append_left _ h
theorem lw_m0 : ∀ w ∈ tables_1, w ∈ lw_tbl := fun w h => show w ∈ k2_sels lw_privs ++ tables_1 from List.mem_append_right (k2_sels lw_privs) h
theorem qs0 : (Cond.selects "CardFlash" ⟨"CardFlash", "findCurrent", "()V"⟩ ⟨"CardFlash", "findCurrent", "()V"⟩) ∈ lw_all := lw_g (lw_at lw_ms 0 rfl) rfl
theorem qs1 : (Cond.selects "CardFlash" ⟨"CardFlash", "program", "(IIII)V"⟩ ⟨"CardFlash", "program", "(IIII)V"⟩) ∈ lw_all := lw_g (lw_at lw_ms 1 rfl) rfl
theorem qs2 : (Cond.selects "CardFlash" ⟨"CardFlash", "freeBlock", "()I"⟩ ⟨"CardFlash", "freeBlock", "()I"⟩) ∈ lw_all := lw_g (lw_at lw_ms 2 rfl) rfl
theorem qs3 : (Cond.selects "CardFlash" ⟨"CardFlash", "leastLive", "()I"⟩ ⟨"CardFlash", "leastLive", "()I"⟩) ∈ lw_all := lw_g (lw_at lw_ms 3 rfl) rfl
theorem qs4 : (Cond.selects "CardFlash" ⟨"CardFlash", "livePages", "(I)I"⟩ ⟨"CardFlash", "livePages", "(I)I"⟩) ∈ lw_all := lw_g (lw_at lw_ms 4 rfl) rfl
theorem qs5 : (Cond.selects "CardFlash" ⟨"CardFlash", "gather", "(I)V"⟩ ⟨"CardFlash", "gather", "(I)V"⟩) ∈ lw_all := lw_g (lw_at lw_ms 5 rfl) rfl
theorem qs6 : (Cond.selects "CardFlash" ⟨"CardFlash", "put", "(IIII)V"⟩ ⟨"CardFlash", "put", "(IIII)V"⟩) ∈ lw_all := lw_g (lw_at lw_ms 6 rfl) rfl
theorem qs7 : (Cond.selects "CardFlash" ⟨"CardFlash", "isWritten", "(I)Z"⟩ ⟨"CardFlash", "isWritten", "(I)Z"⟩) ∈ lw_all := lw_g (lw_at lw_ms 7 rfl) rfl
theorem qs8 : (Cond.selects "CardFlashModel" ⟨"CardFlashModel", "turns", "(I)I"⟩ ⟨"CardFlashModel", "turns", "(I)I"⟩) ∈ lw_all := lw_g (lw_at lw_ms 8 rfl) rfl
end
section
/-! CardFlash -/
set_option maxRecDepth 100000
def RX0 : String := "CardFlash"
def TX0 : u_T := fun k => match k with
  | 0 => ("CardFlash", "kind", "[I", true)
  | 1 => ("CardFlash", "owner", "[I", true)
  | 2 => ("CardFlash", "serial", "[J", true)
  | 3 => ("CardFlash", "word", "[I", true)
  | 4 => ("CardFlash", "turned", "[I", true)
  | 5 => ("CardFlash", "newest", "[I", true)
  | 6 => ("CardFlash", "current", "I", false)
  | 7 => ("CardFlash", "filled", "I", false)
  | _ => ("CardFlash", "nextSerial", "J", false)
def tyX0 : Nat → FieldType := fun k => match k with
  | 0 => .array .int
  | 1 => .array .int
  | 2 => .array .long
  | 3 => .array .int
  | 4 => .array .int
  | 5 => .array .int
  | 6 => .int
  | 7 => .int
  | _ => .long
abbrev wsX00 : List Cond := u_ws RX0 TX0 9
theorem nmX0 : ∀ a, a < 9 → ∀ b, b < 9 → a ≠ b → (TX0 a).2.1 ≠ (TX0 b).2.1 := by decide +kernel
theorem tyX0_ok : ∀ k, k < 9 → parseFieldDescriptor (TX0 k).2.2.1 = some (tyX0 k) := by decide +kernel
abbrev cX0_init : ByteArray := prog_1_method_1_code
def yX0_init : MethodName := ⟨RX0, "<init>", "()V"⟩
theorem dX0_init_0 : decode cX0_init 0 = .ok (.aload_n 0, 1) := by decide +kernel
theorem dX0_init_1 : decode cX0_init 1 = .ok (.invokespecial 1, 3) := by decide +kernel
theorem dX0_init_4 : decode cX0_init 4 = .ok (.aload_n 0, 1) := by decide +kernel
theorem dX0_init_5 : decode cX0_init 5 = .ok (.bipush 32, 2) := by decide +kernel
theorem dX0_init_7 : decode cX0_init 7 = .ok (.newarray .int, 2) := by decide +kernel
theorem dX0_init_9 : decode cX0_init 9 = .ok (.putfield 7, 3) := by decide +kernel
theorem dX0_init_12 : decode cX0_init 12 = .ok (.aload_n 0, 1) := by decide +kernel
theorem dX0_init_13 : decode cX0_init 13 = .ok (.bipush 32, 2) := by decide +kernel
theorem dX0_init_15 : decode cX0_init 15 = .ok (.newarray .int, 2) := by decide +kernel
theorem dX0_init_17 : decode cX0_init 17 = .ok (.putfield 13, 3) := by decide +kernel
theorem dX0_init_20 : decode cX0_init 20 = .ok (.aload_n 0, 1) := by decide +kernel
theorem dX0_init_21 : decode cX0_init 21 = .ok (.bipush 32, 2) := by decide +kernel
theorem dX0_init_23 : decode cX0_init 23 = .ok (.newarray .long, 2) := by decide +kernel
theorem dX0_init_25 : decode cX0_init 25 = .ok (.putfield 16, 3) := by decide +kernel
theorem dX0_init_28 : decode cX0_init 28 = .ok (.aload_n 0, 1) := by decide +kernel
theorem dX0_init_29 : decode cX0_init 29 = .ok (.bipush 32, 2) := by decide +kernel
theorem dX0_init_31 : decode cX0_init 31 = .ok (.newarray .int, 2) := by decide +kernel
theorem dX0_init_33 : decode cX0_init 33 = .ok (.putfield 20, 3) := by decide +kernel
theorem dX0_init_36 : decode cX0_init 36 = .ok (.aload_n 0, 1) := by decide +kernel
theorem dX0_init_37 : decode cX0_init 37 = .ok (.bipush 32, 2) := by decide +kernel
theorem dX0_init_39 : decode cX0_init 39 = .ok (.newarray .int, 2) := by decide +kernel
theorem dX0_init_41 : decode cX0_init 41 = .ok (.putfield 23, 3) := by decide +kernel
theorem dX0_init_44 : decode cX0_init 44 = .ok (.aload_n 0, 1) := by decide +kernel
theorem dX0_init_45 : decode cX0_init 45 = .ok (.bipush 16, 2) := by decide +kernel
theorem dX0_init_47 : decode cX0_init 47 = .ok (.newarray .int, 2) := by decide +kernel
theorem dX0_init_49 : decode cX0_init 49 = .ok (.putfield 26, 3) := by decide +kernel
theorem dX0_init_52 : decode cX0_init 52 = .ok (.aload_n 0, 1) := by decide +kernel
theorem dX0_init_53 : decode cX0_init 53 = .ok (.invokevirtual 29, 3) := by decide +kernel
theorem dX0_init_56 : decode cX0_init 56 = .ok (.return_, 1) := by decide +kernel
abbrev cX0_power : ByteArray := prog_1_method_7_code
def yX0_power : MethodName := ⟨RX0, "power", "()V"⟩
theorem dX0_power_0 : decode cX0_power 0 = .ok (.aload_n 0, 1) := by decide +kernel
theorem dX0_power_1 : decode cX0_power 1 = .ok (.lconst 1, 1) := by decide +kernel
theorem dX0_power_2 : decode cX0_power 2 = .ok (.putfield 61, 3) := by decide +kernel
theorem dX0_power_5 : decode cX0_power 5 = .ok (.iconst 0, 1) := by decide +kernel
theorem dX0_power_6 : decode cX0_power 6 = .ok (.istore_n 1, 1) := by decide +kernel
theorem dX0_power_7 : decode cX0_power 7 = .ok (.iload_n 1, 1) := by decide +kernel
theorem dX0_power_8 : decode cX0_power 8 = .ok (.bipush 16, 2) := by decide +kernel
theorem dX0_power_10 : decode cX0_power 10 = .ok (.if_icmp .ge 16, 3) := by decide +kernel
theorem dX0_power_13 : decode cX0_power 13 = .ok (.aload_n 0, 1) := by decide +kernel
theorem dX0_power_14 : decode cX0_power 14 = .ok (.getfield 26, 3) := by decide +kernel
theorem dX0_power_17 : decode cX0_power 17 = .ok (.iload_n 1, 1) := by decide +kernel
theorem dX0_power_18 : decode cX0_power 18 = .ok (.iconst (-1), 1) := by decide +kernel
theorem dX0_power_19 : decode cX0_power 19 = .ok (.iastore, 1) := by decide +kernel
theorem dX0_power_20 : decode cX0_power 20 = .ok (.iinc 1 1, 3) := by decide +kernel
theorem dX0_power_23 : decode cX0_power 23 = .ok (.goto (-16), 3) := by decide +kernel
theorem dX0_power_26 : decode cX0_power 26 = .ok (.iconst 0, 1) := by decide +kernel
theorem dX0_power_27 : decode cX0_power 27 = .ok (.istore_n 1, 1) := by decide +kernel
theorem dX0_power_28 : decode cX0_power 28 = .ok (.iload_n 1, 1) := by decide +kernel
theorem dX0_power_29 : decode cX0_power 29 = .ok (.bipush 32, 2) := by decide +kernel
theorem dX0_power_31 : decode cX0_power 31 = .ok (.if_icmp .ge 95, 3) := by decide +kernel
theorem dX0_power_34 : decode cX0_power 34 = .ok (.aload_n 0, 1) := by decide +kernel
theorem dX0_power_35 : decode cX0_power 35 = .ok (.getfield 7, 3) := by decide +kernel
theorem dX0_power_38 : decode cX0_power 38 = .ok (.iload_n 1, 1) := by decide +kernel
theorem dX0_power_39 : decode cX0_power 39 = .ok (.iaload, 1) := by decide +kernel
theorem dX0_power_40 : decode cX0_power 40 = .ok (.ifCond .eq 80, 3) := by decide +kernel
theorem dX0_power_43 : decode cX0_power 43 = .ok (.aload_n 0, 1) := by decide +kernel
theorem dX0_power_44 : decode cX0_power 44 = .ok (.getfield 13, 3) := by decide +kernel
theorem dX0_power_47 : decode cX0_power 47 = .ok (.iload_n 1, 1) := by decide +kernel
theorem dX0_power_48 : decode cX0_power 48 = .ok (.iaload, 1) := by decide +kernel
theorem dX0_power_49 : decode cX0_power 49 = .ok (.istore_n 2, 1) := by decide +kernel
theorem dX0_power_50 : decode cX0_power 50 = .ok (.aload_n 0, 1) := by decide +kernel
theorem dX0_power_51 : decode cX0_power 51 = .ok (.getfield 26, 3) := by decide +kernel
theorem dX0_power_54 : decode cX0_power 54 = .ok (.iload_n 2, 1) := by decide +kernel
theorem dX0_power_55 : decode cX0_power 55 = .ok (.iaload, 1) := by decide +kernel
theorem dX0_power_56 : decode cX0_power 56 = .ok (.ifCond .lt 24, 3) := by decide +kernel
theorem dX0_power_59 : decode cX0_power 59 = .ok (.aload_n 0, 1) := by decide +kernel
theorem dX0_power_60 : decode cX0_power 60 = .ok (.getfield 16, 3) := by decide +kernel
theorem dX0_power_63 : decode cX0_power 63 = .ok (.iload_n 1, 1) := by decide +kernel
theorem dX0_power_64 : decode cX0_power 64 = .ok (.laload, 1) := by decide +kernel
theorem dX0_power_65 : decode cX0_power 65 = .ok (.aload_n 0, 1) := by decide +kernel
theorem dX0_power_66 : decode cX0_power 66 = .ok (.getfield 16, 3) := by decide +kernel
theorem dX0_power_69 : decode cX0_power 69 = .ok (.aload_n 0, 1) := by decide +kernel
theorem dX0_power_70 : decode cX0_power 70 = .ok (.getfield 26, 3) := by decide +kernel
theorem dX0_power_73 : decode cX0_power 73 = .ok (.iload_n 2, 1) := by decide +kernel
theorem dX0_power_74 : decode cX0_power 74 = .ok (.iaload, 1) := by decide +kernel
theorem dX0_power_75 : decode cX0_power 75 = .ok (.laload, 1) := by decide +kernel
theorem dX0_power_76 : decode cX0_power 76 = .ok (.lcmp, 1) := by decide +kernel
theorem dX0_power_77 : decode cX0_power 77 = .ok (.ifCond .le 10, 3) := by decide +kernel
theorem dX0_power_80 : decode cX0_power 80 = .ok (.aload_n 0, 1) := by decide +kernel
theorem dX0_power_81 : decode cX0_power 81 = .ok (.getfield 26, 3) := by decide +kernel
theorem dX0_power_84 : decode cX0_power 84 = .ok (.iload_n 2, 1) := by decide +kernel
theorem dX0_power_85 : decode cX0_power 85 = .ok (.iload_n 1, 1) := by decide +kernel
theorem dX0_power_86 : decode cX0_power 86 = .ok (.iastore, 1) := by decide +kernel
theorem dX0_power_87 : decode cX0_power 87 = .ok (.aload_n 0, 1) := by decide +kernel
theorem dX0_power_88 : decode cX0_power 88 = .ok (.aload_n 0, 1) := by decide +kernel
theorem dX0_power_89 : decode cX0_power 89 = .ok (.getfield 16, 3) := by decide +kernel
theorem dX0_power_92 : decode cX0_power 92 = .ok (.iload_n 1, 1) := by decide +kernel
theorem dX0_power_93 : decode cX0_power 93 = .ok (.laload, 1) := by decide +kernel
theorem dX0_power_94 : decode cX0_power 94 = .ok (.aload_n 0, 1) := by decide +kernel
theorem dX0_power_95 : decode cX0_power 95 = .ok (.getfield 61, 3) := by decide +kernel
theorem dX0_power_98 : decode cX0_power 98 = .ok (.lcmp, 1) := by decide +kernel
theorem dX0_power_99 : decode cX0_power 99 = .ok (.ifCond .lt 14, 3) := by decide +kernel
theorem dX0_power_102 : decode cX0_power 102 = .ok (.aload_n 0, 1) := by decide +kernel
theorem dX0_power_103 : decode cX0_power 103 = .ok (.getfield 16, 3) := by decide +kernel
theorem dX0_power_106 : decode cX0_power 106 = .ok (.iload_n 1, 1) := by decide +kernel
theorem dX0_power_107 : decode cX0_power 107 = .ok (.laload, 1) := by decide +kernel
theorem dX0_power_108 : decode cX0_power 108 = .ok (.lconst 1, 1) := by decide +kernel
theorem dX0_power_109 : decode cX0_power 109 = .ok (.ladd, 1) := by decide +kernel
theorem dX0_power_110 : decode cX0_power 110 = .ok (.goto 7, 3) := by decide +kernel
theorem dX0_power_113 : decode cX0_power 113 = .ok (.aload_n 0, 1) := by decide +kernel
theorem dX0_power_114 : decode cX0_power 114 = .ok (.getfield 61, 3) := by decide +kernel
theorem dX0_power_117 : decode cX0_power 117 = .ok (.putfield 61, 3) := by decide +kernel
theorem dX0_power_120 : decode cX0_power 120 = .ok (.iinc 1 1, 3) := by decide +kernel
theorem dX0_power_123 : decode cX0_power 123 = .ok (.goto (-95), 3) := by decide +kernel
theorem dX0_power_126 : decode cX0_power 126 = .ok (.aload_n 0, 1) := by decide +kernel
theorem dX0_power_127 : decode cX0_power 127 = .ok (.invokevirtual 65, 3) := by decide +kernel
theorem dX0_power_130 : decode cX0_power 130 = .ok (.return_, 1) := by decide +kernel
abbrev cX0_findCurrent : ByteArray := prog_1_method_20_code
def yX0_findCurrent : MethodName := ⟨RX0, "findCurrent", "()V"⟩
theorem dX0_findCurrent_0 : decode cX0_findCurrent 0 = .ok (.aload_n 0, 1) := by decide +kernel
theorem dX0_findCurrent_1 : decode cX0_findCurrent 1 = .ok (.iconst 0, 1) := by decide +kernel
theorem dX0_findCurrent_2 : decode cX0_findCurrent 2 = .ok (.putfield 86, 3) := by decide +kernel
theorem dX0_findCurrent_5 : decode cX0_findCurrent 5 = .ok (.aload_n 0, 1) := by decide +kernel
theorem dX0_findCurrent_6 : decode cX0_findCurrent 6 = .ok (.iconst 0, 1) := by decide +kernel
theorem dX0_findCurrent_7 : decode cX0_findCurrent 7 = .ok (.putfield 75, 3) := by decide +kernel
theorem dX0_findCurrent_10 : decode cX0_findCurrent 10 = .ok (.iconst 0, 1) := by decide +kernel
theorem dX0_findCurrent_11 : decode cX0_findCurrent 11 = .ok (.istore_n 1, 1) := by decide +kernel
theorem dX0_findCurrent_12 : decode cX0_findCurrent 12 = .ok (.iload_n 1, 1) := by decide +kernel
theorem dX0_findCurrent_13 : decode cX0_findCurrent 13 = .ok (.bipush 8, 2) := by decide +kernel
theorem dX0_findCurrent_15 : decode cX0_findCurrent 15 = .ok (.if_icmp .ge 32, 3) := by decide +kernel
theorem dX0_findCurrent_18 : decode cX0_findCurrent 18 = .ok (.aload_n 0, 1) := by decide +kernel
theorem dX0_findCurrent_19 : decode cX0_findCurrent 19 = .ok (.aload_n 0, 1) := by decide +kernel
theorem dX0_findCurrent_20 : decode cX0_findCurrent 20 = .ok (.getfield 7, 3) := by decide +kernel
theorem dX0_findCurrent_23 : decode cX0_findCurrent 23 = .ok (.iconst 4, 1) := by decide +kernel
theorem dX0_findCurrent_24 : decode cX0_findCurrent 24 = .ok (.iload_n 1, 1) := by decide +kernel
theorem dX0_findCurrent_25 : decode cX0_findCurrent 25 = .ok (.imul, 1) := by decide +kernel
theorem dX0_findCurrent_26 : decode cX0_findCurrent 26 = .ok (.iaload, 1) := by decide +kernel
theorem dX0_findCurrent_27 : decode cX0_findCurrent 27 = .ok (.ifCond .eq 7, 3) := by decide +kernel
theorem dX0_findCurrent_30 : decode cX0_findCurrent 30 = .ok (.iload_n 1, 1) := by decide +kernel
theorem dX0_findCurrent_31 : decode cX0_findCurrent 31 = .ok (.goto 7, 3) := by decide +kernel
theorem dX0_findCurrent_34 : decode cX0_findCurrent 34 = .ok (.aload_n 0, 1) := by decide +kernel
theorem dX0_findCurrent_35 : decode cX0_findCurrent 35 = .ok (.getfield 86, 3) := by decide +kernel
theorem dX0_findCurrent_38 : decode cX0_findCurrent 38 = .ok (.putfield 86, 3) := by decide +kernel
theorem dX0_findCurrent_41 : decode cX0_findCurrent 41 = .ok (.iinc 1 1, 3) := by decide +kernel
theorem dX0_findCurrent_44 : decode cX0_findCurrent 44 = .ok (.goto (-32), 3) := by decide +kernel
theorem dX0_findCurrent_47 : decode cX0_findCurrent 47 = .ok (.iconst 0, 1) := by decide +kernel
theorem dX0_findCurrent_48 : decode cX0_findCurrent 48 = .ok (.istore_n 1, 1) := by decide +kernel
theorem dX0_findCurrent_49 : decode cX0_findCurrent 49 = .ok (.iload_n 1, 1) := by decide +kernel
theorem dX0_findCurrent_50 : decode cX0_findCurrent 50 = .ok (.bipush 8, 2) := by decide +kernel
theorem dX0_findCurrent_52 : decode cX0_findCurrent 52 = .ok (.if_icmp .ge 38, 3) := by decide +kernel
theorem dX0_findCurrent_55 : decode cX0_findCurrent 55 = .ok (.aload_n 0, 1) := by decide +kernel
theorem dX0_findCurrent_56 : decode cX0_findCurrent 56 = .ok (.getfield 7, 3) := by decide +kernel
theorem dX0_findCurrent_59 : decode cX0_findCurrent 59 = .ok (.iconst 4, 1) := by decide +kernel
theorem dX0_findCurrent_60 : decode cX0_findCurrent 60 = .ok (.iload_n 1, 1) := by decide +kernel
theorem dX0_findCurrent_61 : decode cX0_findCurrent 61 = .ok (.imul, 1) := by decide +kernel
theorem dX0_findCurrent_62 : decode cX0_findCurrent 62 = .ok (.iaload, 1) := by decide +kernel
theorem dX0_findCurrent_63 : decode cX0_findCurrent 63 = .ok (.ifCond .eq 21, 3) := by decide +kernel
theorem dX0_findCurrent_66 : decode cX0_findCurrent 66 = .ok (.aload_n 0, 1) := by decide +kernel
theorem dX0_findCurrent_67 : decode cX0_findCurrent 67 = .ok (.getfield 7, 3) := by decide +kernel
theorem dX0_findCurrent_70 : decode cX0_findCurrent 70 = .ok (.iconst 4, 1) := by decide +kernel
theorem dX0_findCurrent_71 : decode cX0_findCurrent 71 = .ok (.iload_n 1, 1) := by decide +kernel
theorem dX0_findCurrent_72 : decode cX0_findCurrent 72 = .ok (.imul, 1) := by decide +kernel
theorem dX0_findCurrent_73 : decode cX0_findCurrent 73 = .ok (.iconst 3, 1) := by decide +kernel
theorem dX0_findCurrent_74 : decode cX0_findCurrent 74 = .ok (.iadd, 1) := by decide +kernel
theorem dX0_findCurrent_75 : decode cX0_findCurrent 75 = .ok (.iaload, 1) := by decide +kernel
theorem dX0_findCurrent_76 : decode cX0_findCurrent 76 = .ok (.ifCond .ne 8, 3) := by decide +kernel
theorem dX0_findCurrent_79 : decode cX0_findCurrent 79 = .ok (.aload_n 0, 1) := by decide +kernel
theorem dX0_findCurrent_80 : decode cX0_findCurrent 80 = .ok (.iload_n 1, 1) := by decide +kernel
theorem dX0_findCurrent_81 : decode cX0_findCurrent 81 = .ok (.putfield 86, 3) := by decide +kernel
theorem dX0_findCurrent_84 : decode cX0_findCurrent 84 = .ok (.iinc 1 1, 3) := by decide +kernel
theorem dX0_findCurrent_87 : decode cX0_findCurrent 87 = .ok (.goto (-38), 3) := by decide +kernel
theorem dX0_findCurrent_90 : decode cX0_findCurrent 90 = .ok (.iconst 4, 1) := by decide +kernel
theorem dX0_findCurrent_91 : decode cX0_findCurrent 91 = .ok (.aload_n 0, 1) := by decide +kernel
theorem dX0_findCurrent_92 : decode cX0_findCurrent 92 = .ok (.getfield 86, 3) := by decide +kernel
theorem dX0_findCurrent_95 : decode cX0_findCurrent 95 = .ok (.imul, 1) := by decide +kernel
theorem dX0_findCurrent_96 : decode cX0_findCurrent 96 = .ok (.istore_n 1, 1) := by decide +kernel
theorem dX0_findCurrent_97 : decode cX0_findCurrent 97 = .ok (.iload_n 1, 1) := by decide +kernel
theorem dX0_findCurrent_98 : decode cX0_findCurrent 98 = .ok (.iconst 4, 1) := by decide +kernel
theorem dX0_findCurrent_99 : decode cX0_findCurrent 99 = .ok (.aload_n 0, 1) := by decide +kernel
theorem dX0_findCurrent_100 : decode cX0_findCurrent 100 = .ok (.getfield 86, 3) := by decide +kernel
theorem dX0_findCurrent_103 : decode cX0_findCurrent 103 = .ok (.imul, 1) := by decide +kernel
theorem dX0_findCurrent_104 : decode cX0_findCurrent 104 = .ok (.iconst 4, 1) := by decide +kernel
theorem dX0_findCurrent_105 : decode cX0_findCurrent 105 = .ok (.iadd, 1) := by decide +kernel
theorem dX0_findCurrent_106 : decode cX0_findCurrent 106 = .ok (.if_icmp .ge 32, 3) := by decide +kernel
theorem dX0_findCurrent_109 : decode cX0_findCurrent 109 = .ok (.aload_n 0, 1) := by decide +kernel
theorem dX0_findCurrent_110 : decode cX0_findCurrent 110 = .ok (.dup, 1) := by decide +kernel
theorem dX0_findCurrent_111 : decode cX0_findCurrent 111 = .ok (.getfield 75, 3) := by decide +kernel
theorem dX0_findCurrent_114 : decode cX0_findCurrent 114 = .ok (.aload_n 0, 1) := by decide +kernel
theorem dX0_findCurrent_115 : decode cX0_findCurrent 115 = .ok (.getfield 7, 3) := by decide +kernel
theorem dX0_findCurrent_118 : decode cX0_findCurrent 118 = .ok (.iload_n 1, 1) := by decide +kernel
theorem dX0_findCurrent_119 : decode cX0_findCurrent 119 = .ok (.iaload, 1) := by decide +kernel
theorem dX0_findCurrent_120 : decode cX0_findCurrent 120 = .ok (.ifCond .eq 7, 3) := by decide +kernel
theorem dX0_findCurrent_123 : decode cX0_findCurrent 123 = .ok (.iconst 1, 1) := by decide +kernel
theorem dX0_findCurrent_124 : decode cX0_findCurrent 124 = .ok (.goto 4, 3) := by decide +kernel
theorem dX0_findCurrent_127 : decode cX0_findCurrent 127 = .ok (.iconst 0, 1) := by decide +kernel
theorem dX0_findCurrent_128 : decode cX0_findCurrent 128 = .ok (.iadd, 1) := by decide +kernel
theorem dX0_findCurrent_129 : decode cX0_findCurrent 129 = .ok (.putfield 75, 3) := by decide +kernel
theorem dX0_findCurrent_132 : decode cX0_findCurrent 132 = .ok (.iinc 1 1, 3) := by decide +kernel
theorem dX0_findCurrent_135 : decode cX0_findCurrent 135 = .ok (.goto (-38), 3) := by decide +kernel
theorem dX0_findCurrent_138 : decode cX0_findCurrent 138 = .ok (.return_, 1) := by decide +kernel
abbrev cX0_write : ByteArray := prog_1_method_2_code
def yX0_write : MethodName := ⟨RX0, "write", "(II)I"⟩
theorem dX0_write_0 : decode cX0_write 0 = .ok (.iload_n 1, 1) := by decide +kernel
theorem dX0_write_1 : decode cX0_write 1 = .ok (.invokestatic 32, 3) := by decide +kernel
theorem dX0_write_4 : decode cX0_write 4 = .ok (.ifCond .ne 5, 3) := by decide +kernel
theorem dX0_write_7 : decode cX0_write 7 = .ok (.iconst (-1), 1) := by decide +kernel
theorem dX0_write_8 : decode cX0_write 8 = .ok (.ireturn, 1) := by decide +kernel
theorem dX0_write_9 : decode cX0_write 9 = .ok (.iload_n 2, 1) := by decide +kernel
theorem dX0_write_10 : decode cX0_write 10 = .ok (.ldc 36, 2) := by decide +kernel
theorem dX0_write_12 : decode cX0_write 12 = .ok (.iand, 1) := by decide +kernel
theorem dX0_write_13 : decode cX0_write 13 = .ok (.invokestatic 37, 3) := by decide +kernel
theorem dX0_write_16 : decode cX0_write 16 = .ok (.istore_n 3, 1) := by decide +kernel
theorem dX0_write_17 : decode cX0_write 17 = .ok (.aload_n 0, 1) := by decide +kernel
theorem dX0_write_18 : decode cX0_write 18 = .ok (.iload_n 1, 1) := by decide +kernel
theorem dX0_write_19 : decode cX0_write 19 = .ok (.iconst 1, 1) := by decide +kernel
theorem dX0_write_20 : decode cX0_write 20 = .ok (.iload_n 3, 1) := by decide +kernel
theorem dX0_write_21 : decode cX0_write 21 = .ok (.iconst 0, 1) := by decide +kernel
theorem dX0_write_22 : decode cX0_write 22 = .ok (.invokevirtual 41, 3) := by decide +kernel
theorem dX0_write_25 : decode cX0_write 25 = .ok (.iconst 0, 1) := by decide +kernel
theorem dX0_write_26 : decode cX0_write 26 = .ok (.ireturn, 1) := by decide +kernel
abbrev cX0_isSector : ByteArray := prog_1_method_12_code
def yX0_isSector : MethodName := ⟨RX0, "isSector", "(I)Z"⟩
theorem dX0_isSector_0 : decode cX0_isSector 0 = .ok (.iload_n 0, 1) := by decide +kernel
theorem dX0_isSector_1 : decode cX0_isSector 1 = .ok (.ifCond .lt 13, 3) := by decide +kernel
theorem dX0_isSector_4 : decode cX0_isSector 4 = .ok (.iload_n 0, 1) := by decide +kernel
theorem dX0_isSector_5 : decode cX0_isSector 5 = .ok (.bipush 15, 2) := by decide +kernel
theorem dX0_isSector_7 : decode cX0_isSector 7 = .ok (.if_icmp .gt 7, 3) := by decide +kernel
theorem dX0_isSector_10 : decode cX0_isSector 10 = .ok (.iconst 1, 1) := by decide +kernel
theorem dX0_isSector_11 : decode cX0_isSector 11 = .ok (.goto 4, 3) := by decide +kernel
theorem dX0_isSector_14 : decode cX0_isSector 14 = .ok (.iconst 0, 1) := by decide +kernel
theorem dX0_isSector_15 : decode cX0_isSector 15 = .ok (.ireturn, 1) := by decide +kernel
abbrev cX0_encode : ByteArray := prog_1_method_24_code
def yX0_encode : MethodName := ⟨RX0, "encode", "(I)I"⟩
theorem dX0_encode_0 : decode cX0_encode 0 = .ok (.iconst 0, 1) := by decide +kernel
theorem dX0_encode_1 : decode cX0_encode 1 = .ok (.istore_n 1, 1) := by decide +kernel
theorem dX0_encode_2 : decode cX0_encode 2 = .ok (.iconst 0, 1) := by decide +kernel
theorem dX0_encode_3 : decode cX0_encode 3 = .ok (.istore_n 2, 1) := by decide +kernel
theorem dX0_encode_4 : decode cX0_encode 4 = .ok (.iconst 1, 1) := by decide +kernel
theorem dX0_encode_5 : decode cX0_encode 5 = .ok (.istore_n 3, 1) := by decide +kernel
theorem dX0_encode_6 : decode cX0_encode 6 = .ok (.iload_n 3, 1) := by decide +kernel
theorem dX0_encode_7 : decode cX0_encode 7 = .ok (.bipush 22, 2) := by decide +kernel
theorem dX0_encode_9 : decode cX0_encode 9 = .ok (.if_icmp .ge 29, 3) := by decide +kernel
theorem dX0_encode_12 : decode cX0_encode 12 = .ok (.iload_n 3, 1) := by decide +kernel
theorem dX0_encode_13 : decode cX0_encode 13 = .ok (.invokestatic 92, 3) := by decide +kernel
theorem dX0_encode_16 : decode cX0_encode 16 = .ok (.ifCond .ne 16, 3) := by decide +kernel
theorem dX0_encode_19 : decode cX0_encode 19 = .ok (.iload_n 1, 1) := by decide +kernel
theorem dX0_encode_20 : decode cX0_encode 20 = .ok (.iload_n 0, 1) := by decide +kernel
theorem dX0_encode_21 : decode cX0_encode 21 = .ok (.iload_n 2, 1) := by decide +kernel
theorem dX0_encode_22 : decode cX0_encode 22 = .ok (.iushr, 1) := by decide +kernel
theorem dX0_encode_23 : decode cX0_encode 23 = .ok (.iconst 1, 1) := by decide +kernel
theorem dX0_encode_24 : decode cX0_encode 24 = .ok (.iand, 1) := by decide +kernel
theorem dX0_encode_25 : decode cX0_encode 25 = .ok (.iload_n 3, 1) := by decide +kernel
theorem dX0_encode_26 : decode cX0_encode 26 = .ok (.ishl, 1) := by decide +kernel
theorem dX0_encode_27 : decode cX0_encode 27 = .ok (.ior, 1) := by decide +kernel
theorem dX0_encode_28 : decode cX0_encode 28 = .ok (.istore_n 1, 1) := by decide +kernel
theorem dX0_encode_29 : decode cX0_encode 29 = .ok (.iinc 2 1, 3) := by decide +kernel
theorem dX0_encode_32 : decode cX0_encode 32 = .ok (.iinc 3 1, 3) := by decide +kernel
theorem dX0_encode_35 : decode cX0_encode 35 = .ok (.goto (-29), 3) := by decide +kernel
theorem dX0_encode_38 : decode cX0_encode 38 = .ok (.iload_n 1, 1) := by decide +kernel
theorem dX0_encode_39 : decode cX0_encode 39 = .ok (.invokestatic 95, 3) := by decide +kernel
theorem dX0_encode_42 : decode cX0_encode 42 = .ok (.istore_n 3, 1) := by decide +kernel
theorem dX0_encode_43 : decode cX0_encode 43 = .ok (.iconst 0, 1) := by decide +kernel
theorem dX0_encode_44 : decode cX0_encode 44 = .ok (.istore 4, 2) := by decide +kernel
theorem dX0_encode_46 : decode cX0_encode 46 = .ok (.iload 4, 2) := by decide +kernel
theorem dX0_encode_48 : decode cX0_encode 48 = .ok (.iconst 5, 1) := by decide +kernel
theorem dX0_encode_49 : decode cX0_encode 49 = .ok (.if_icmp .ge 23, 3) := by decide +kernel
theorem dX0_encode_52 : decode cX0_encode 52 = .ok (.iload_n 1, 1) := by decide +kernel
theorem dX0_encode_53 : decode cX0_encode 53 = .ok (.iload_n 3, 1) := by decide +kernel
theorem dX0_encode_54 : decode cX0_encode 54 = .ok (.iload 4, 2) := by decide +kernel
theorem dX0_encode_56 : decode cX0_encode 56 = .ok (.iushr, 1) := by decide +kernel
theorem dX0_encode_57 : decode cX0_encode 57 = .ok (.iconst 1, 1) := by decide +kernel
theorem dX0_encode_58 : decode cX0_encode 58 = .ok (.iand, 1) := by decide +kernel
theorem dX0_encode_59 : decode cX0_encode 59 = .ok (.iconst 1, 1) := by decide +kernel
theorem dX0_encode_60 : decode cX0_encode 60 = .ok (.iload 4, 2) := by decide +kernel
theorem dX0_encode_62 : decode cX0_encode 62 = .ok (.ishl, 1) := by decide +kernel
theorem dX0_encode_63 : decode cX0_encode 63 = .ok (.ishl, 1) := by decide +kernel
theorem dX0_encode_64 : decode cX0_encode 64 = .ok (.ior, 1) := by decide +kernel
theorem dX0_encode_65 : decode cX0_encode 65 = .ok (.istore_n 1, 1) := by decide +kernel
theorem dX0_encode_66 : decode cX0_encode 66 = .ok (.iinc 4 1, 3) := by decide +kernel
theorem dX0_encode_69 : decode cX0_encode 69 = .ok (.goto (-23), 3) := by decide +kernel
theorem dX0_encode_72 : decode cX0_encode 72 = .ok (.iload_n 1, 1) := by decide +kernel
theorem dX0_encode_73 : decode cX0_encode 73 = .ok (.iload_n 1, 1) := by decide +kernel
theorem dX0_encode_74 : decode cX0_encode 74 = .ok (.invokestatic 51, 3) := by decide +kernel
theorem dX0_encode_77 : decode cX0_encode 77 = .ok (.iconst 1, 1) := by decide +kernel
theorem dX0_encode_78 : decode cX0_encode 78 = .ok (.iand, 1) := by decide +kernel
theorem dX0_encode_79 : decode cX0_encode 79 = .ok (.ior, 1) := by decide +kernel
theorem dX0_encode_80 : decode cX0_encode 80 = .ok (.ireturn, 1) := by decide +kernel
abbrev cX0_isCheck : ByteArray := prog_1_method_22_code
def yX0_isCheck : MethodName := ⟨RX0, "isCheck", "(I)Z"⟩
theorem dX0_isCheck_0 : decode cX0_isCheck 0 = .ok (.iload_n 0, 1) := by decide +kernel
theorem dX0_isCheck_1 : decode cX0_isCheck 1 = .ok (.iload_n 0, 1) := by decide +kernel
theorem dX0_isCheck_2 : decode cX0_isCheck 2 = .ok (.iconst 1, 1) := by decide +kernel
theorem dX0_isCheck_3 : decode cX0_isCheck 3 = .ok (.isub, 1) := by decide +kernel
theorem dX0_isCheck_4 : decode cX0_isCheck 4 = .ok (.iand, 1) := by decide +kernel
theorem dX0_isCheck_5 : decode cX0_isCheck 5 = .ok (.ifCond .ne 7, 3) := by decide +kernel
theorem dX0_isCheck_8 : decode cX0_isCheck 8 = .ok (.iconst 1, 1) := by decide +kernel
theorem dX0_isCheck_9 : decode cX0_isCheck 9 = .ok (.goto 4, 3) := by decide +kernel
theorem dX0_isCheck_12 : decode cX0_isCheck 12 = .ok (.iconst 0, 1) := by decide +kernel
theorem dX0_isCheck_13 : decode cX0_isCheck 13 = .ok (.ireturn, 1) := by decide +kernel
abbrev cX0_syndrome : ByteArray := prog_1_method_23_code
def yX0_syndrome : MethodName := ⟨RX0, "syndrome", "(I)I"⟩
theorem dX0_syndrome_0 : decode cX0_syndrome 0 = .ok (.iconst 0, 1) := by decide +kernel
theorem dX0_syndrome_1 : decode cX0_syndrome 1 = .ok (.istore_n 1, 1) := by decide +kernel
theorem dX0_syndrome_2 : decode cX0_syndrome 2 = .ok (.iconst 1, 1) := by decide +kernel
theorem dX0_syndrome_3 : decode cX0_syndrome 3 = .ok (.istore_n 2, 1) := by decide +kernel
theorem dX0_syndrome_4 : decode cX0_syndrome 4 = .ok (.iload_n 2, 1) := by decide +kernel
theorem dX0_syndrome_5 : decode cX0_syndrome 5 = .ok (.bipush 22, 2) := by decide +kernel
theorem dX0_syndrome_7 : decode cX0_syndrome 7 = .ok (.if_icmp .ge 25, 3) := by decide +kernel
theorem dX0_syndrome_10 : decode cX0_syndrome 10 = .ok (.iload_n 1, 1) := by decide +kernel
theorem dX0_syndrome_11 : decode cX0_syndrome 11 = .ok (.iload_n 0, 1) := by decide +kernel
theorem dX0_syndrome_12 : decode cX0_syndrome 12 = .ok (.iload_n 2, 1) := by decide +kernel
theorem dX0_syndrome_13 : decode cX0_syndrome 13 = .ok (.iushr, 1) := by decide +kernel
theorem dX0_syndrome_14 : decode cX0_syndrome 14 = .ok (.iconst 1, 1) := by decide +kernel
theorem dX0_syndrome_15 : decode cX0_syndrome 15 = .ok (.iand, 1) := by decide +kernel
theorem dX0_syndrome_16 : decode cX0_syndrome 16 = .ok (.ifCond .eq 7, 3) := by decide +kernel
theorem dX0_syndrome_19 : decode cX0_syndrome 19 = .ok (.iload_n 2, 1) := by decide +kernel
theorem dX0_syndrome_20 : decode cX0_syndrome 20 = .ok (.goto 4, 3) := by decide +kernel
theorem dX0_syndrome_23 : decode cX0_syndrome 23 = .ok (.iconst 0, 1) := by decide +kernel
theorem dX0_syndrome_24 : decode cX0_syndrome 24 = .ok (.ixor, 1) := by decide +kernel
theorem dX0_syndrome_25 : decode cX0_syndrome 25 = .ok (.istore_n 1, 1) := by decide +kernel
theorem dX0_syndrome_26 : decode cX0_syndrome 26 = .ok (.iinc 2 1, 3) := by decide +kernel
theorem dX0_syndrome_29 : decode cX0_syndrome 29 = .ok (.goto (-25), 3) := by decide +kernel
theorem dX0_syndrome_32 : decode cX0_syndrome 32 = .ok (.iload_n 1, 1) := by decide +kernel
theorem dX0_syndrome_33 : decode cX0_syndrome 33 = .ok (.ireturn, 1) := by decide +kernel
abbrev cX0_ones : ByteArray := prog_1_method_21_code
def yX0_ones : MethodName := ⟨RX0, "ones", "(I)I"⟩
theorem dX0_ones_0 : decode cX0_ones 0 = .ok (.iconst 0, 1) := by decide +kernel
theorem dX0_ones_1 : decode cX0_ones 1 = .ok (.istore_n 1, 1) := by decide +kernel
theorem dX0_ones_2 : decode cX0_ones 2 = .ok (.iconst 0, 1) := by decide +kernel
theorem dX0_ones_3 : decode cX0_ones 3 = .ok (.istore_n 2, 1) := by decide +kernel
theorem dX0_ones_4 : decode cX0_ones 4 = .ok (.iload_n 2, 1) := by decide +kernel
theorem dX0_ones_5 : decode cX0_ones 5 = .ok (.bipush 22, 2) := by decide +kernel
theorem dX0_ones_7 : decode cX0_ones 7 = .ok (.if_icmp .ge 17, 3) := by decide +kernel
theorem dX0_ones_10 : decode cX0_ones 10 = .ok (.iload_n 1, 1) := by decide +kernel
theorem dX0_ones_11 : decode cX0_ones 11 = .ok (.iload_n 0, 1) := by decide +kernel
theorem dX0_ones_12 : decode cX0_ones 12 = .ok (.iload_n 2, 1) := by decide +kernel
theorem dX0_ones_13 : decode cX0_ones 13 = .ok (.iushr, 1) := by decide +kernel
theorem dX0_ones_14 : decode cX0_ones 14 = .ok (.iconst 1, 1) := by decide +kernel
theorem dX0_ones_15 : decode cX0_ones 15 = .ok (.iand, 1) := by decide +kernel
theorem dX0_ones_16 : decode cX0_ones 16 = .ok (.iadd, 1) := by decide +kernel
theorem dX0_ones_17 : decode cX0_ones 17 = .ok (.istore_n 1, 1) := by decide +kernel
theorem dX0_ones_18 : decode cX0_ones 18 = .ok (.iinc 2 1, 3) := by decide +kernel
theorem dX0_ones_21 : decode cX0_ones 21 = .ok (.goto (-17), 3) := by decide +kernel
theorem dX0_ones_24 : decode cX0_ones 24 = .ok (.iload_n 1, 1) := by decide +kernel
theorem dX0_ones_25 : decode cX0_ones 25 = .ok (.ireturn, 1) := by decide +kernel
abbrev cX0_program : ByteArray := prog_1_method_14_code
def yX0_program : MethodName := ⟨RX0, "program", "(IIII)V"⟩
theorem dX0_program_0 : decode cX0_program 0 = .ok (.aload_n 0, 1) := by decide +kernel
theorem dX0_program_1 : decode cX0_program 1 = .ok (.getfield 75, 3) := by decide +kernel
theorem dX0_program_4 : decode cX0_program 4 = .ok (.iconst 4, 1) := by decide +kernel
theorem dX0_program_5 : decode cX0_program 5 = .ok (.if_icmp .ne 35, 3) := by decide +kernel
theorem dX0_program_8 : decode cX0_program 8 = .ok (.aload_n 0, 1) := by decide +kernel
theorem dX0_program_9 : decode cX0_program 9 = .ok (.aload_n 0, 1) := by decide +kernel
theorem dX0_program_10 : decode cX0_program 10 = .ok (.invokevirtual 83, 3) := by decide +kernel
theorem dX0_program_13 : decode cX0_program 13 = .ok (.putfield 86, 3) := by decide +kernel
theorem dX0_program_16 : decode cX0_program 16 = .ok (.aload_n 0, 1) := by decide +kernel
theorem dX0_program_17 : decode cX0_program 17 = .ok (.iconst 0, 1) := by decide +kernel
theorem dX0_program_18 : decode cX0_program 18 = .ok (.putfield 75, 3) := by decide +kernel
theorem dX0_program_21 : decode cX0_program 21 = .ok (.aload_n 0, 1) := by decide +kernel
theorem dX0_program_22 : decode cX0_program 22 = .ok (.invokevirtual 83, 3) := by decide +kernel
theorem dX0_program_25 : decode cX0_program 25 = .ok (.ifCond .ge 15, 3) := by decide +kernel
theorem dX0_program_28 : decode cX0_program 28 = .ok (.aload_n 0, 1) := by decide +kernel
theorem dX0_program_29 : decode cX0_program 29 = .ok (.invokevirtual 68, 3) := by decide +kernel
theorem dX0_program_32 : decode cX0_program 32 = .ok (.istore 5, 2) := by decide +kernel
theorem dX0_program_34 : decode cX0_program 34 = .ok (.aload_n 0, 1) := by decide +kernel
theorem dX0_program_35 : decode cX0_program 35 = .ok (.iload 5, 2) := by decide +kernel
theorem dX0_program_37 : decode cX0_program 37 = .ok (.invokevirtual 79, 3) := by decide +kernel
theorem dX0_program_40 : decode cX0_program 40 = .ok (.aload_n 0, 1) := by decide +kernel
theorem dX0_program_41 : decode cX0_program 41 = .ok (.iload_n 1, 1) := by decide +kernel
theorem dX0_program_42 : decode cX0_program 42 = .ok (.iload_n 2, 1) := by decide +kernel
theorem dX0_program_43 : decode cX0_program 43 = .ok (.iload_n 3, 1) := by decide +kernel
theorem dX0_program_44 : decode cX0_program 44 = .ok (.iload 4, 2) := by decide +kernel
theorem dX0_program_46 : decode cX0_program 46 = .ok (.invokevirtual 89, 3) := by decide +kernel
theorem dX0_program_49 : decode cX0_program 49 = .ok (.return_, 1) := by decide +kernel
abbrev cX0_freeBlock : ByteArray := prog_1_method_16_code
def yX0_freeBlock : MethodName := ⟨RX0, "freeBlock", "()I"⟩
theorem dX0_freeBlock_0 : decode cX0_freeBlock 0 = .ok (.iconst 0, 1) := by decide +kernel
theorem dX0_freeBlock_1 : decode cX0_freeBlock 1 = .ok (.istore_n 1, 1) := by decide +kernel
theorem dX0_freeBlock_2 : decode cX0_freeBlock 2 = .ok (.iload_n 1, 1) := by decide +kernel
theorem dX0_freeBlock_3 : decode cX0_freeBlock 3 = .ok (.bipush 8, 2) := by decide +kernel
theorem dX0_freeBlock_5 : decode cX0_freeBlock 5 = .ok (.if_icmp .ge 30, 3) := by decide +kernel
theorem dX0_freeBlock_8 : decode cX0_freeBlock 8 = .ok (.iload_n 1, 1) := by decide +kernel
theorem dX0_freeBlock_9 : decode cX0_freeBlock 9 = .ok (.aload_n 0, 1) := by decide +kernel
theorem dX0_freeBlock_10 : decode cX0_freeBlock 10 = .ok (.getfield 86, 3) := by decide +kernel
theorem dX0_freeBlock_13 : decode cX0_freeBlock 13 = .ok (.if_icmp .eq 16, 3) := by decide +kernel
theorem dX0_freeBlock_16 : decode cX0_freeBlock 16 = .ok (.aload_n 0, 1) := by decide +kernel
theorem dX0_freeBlock_17 : decode cX0_freeBlock 17 = .ok (.getfield 7, 3) := by decide +kernel
theorem dX0_freeBlock_20 : decode cX0_freeBlock 20 = .ok (.iconst 4, 1) := by decide +kernel
theorem dX0_freeBlock_21 : decode cX0_freeBlock 21 = .ok (.iload_n 1, 1) := by decide +kernel
theorem dX0_freeBlock_22 : decode cX0_freeBlock 22 = .ok (.imul, 1) := by decide +kernel
theorem dX0_freeBlock_23 : decode cX0_freeBlock 23 = .ok (.iaload, 1) := by decide +kernel
theorem dX0_freeBlock_24 : decode cX0_freeBlock 24 = .ok (.ifCond .ne 5, 3) := by decide +kernel
theorem dX0_freeBlock_27 : decode cX0_freeBlock 27 = .ok (.iload_n 1, 1) := by decide +kernel
theorem dX0_freeBlock_28 : decode cX0_freeBlock 28 = .ok (.ireturn, 1) := by decide +kernel
theorem dX0_freeBlock_29 : decode cX0_freeBlock 29 = .ok (.iinc 1 1, 3) := by decide +kernel
theorem dX0_freeBlock_32 : decode cX0_freeBlock 32 = .ok (.goto (-30), 3) := by decide +kernel
theorem dX0_freeBlock_35 : decode cX0_freeBlock 35 = .ok (.iconst (-1), 1) := by decide +kernel
theorem dX0_freeBlock_36 : decode cX0_freeBlock 36 = .ok (.ireturn, 1) := by decide +kernel
abbrev cX0_leastLive : ByteArray := prog_1_method_18_code
def yX0_leastLive : MethodName := ⟨RX0, "leastLive", "()I"⟩
theorem dX0_leastLive_0 : decode cX0_leastLive 0 = .ok (.iconst (-1), 1) := by decide +kernel
theorem dX0_leastLive_1 : decode cX0_leastLive 1 = .ok (.istore_n 1, 1) := by decide +kernel
theorem dX0_leastLive_2 : decode cX0_leastLive 2 = .ok (.iconst 0, 1) := by decide +kernel
theorem dX0_leastLive_3 : decode cX0_leastLive 3 = .ok (.istore_n 2, 1) := by decide +kernel
theorem dX0_leastLive_4 : decode cX0_leastLive 4 = .ok (.iload_n 2, 1) := by decide +kernel
theorem dX0_leastLive_5 : decode cX0_leastLive 5 = .ok (.bipush 8, 2) := by decide +kernel
theorem dX0_leastLive_7 : decode cX0_leastLive 7 = .ok (.if_icmp .ge 49, 3) := by decide +kernel
theorem dX0_leastLive_10 : decode cX0_leastLive 10 = .ok (.iload_n 2, 1) := by decide +kernel
theorem dX0_leastLive_11 : decode cX0_leastLive 11 = .ok (.aload_n 0, 1) := by decide +kernel
theorem dX0_leastLive_12 : decode cX0_leastLive 12 = .ok (.getfield 86, 3) := by decide +kernel
theorem dX0_leastLive_15 : decode cX0_leastLive 15 = .ok (.if_icmp .eq 35, 3) := by decide +kernel
theorem dX0_leastLive_18 : decode cX0_leastLive 18 = .ok (.aload_n 0, 1) := by decide +kernel
theorem dX0_leastLive_19 : decode cX0_leastLive 19 = .ok (.getfield 7, 3) := by decide +kernel
theorem dX0_leastLive_22 : decode cX0_leastLive 22 = .ok (.iconst 4, 1) := by decide +kernel
theorem dX0_leastLive_23 : decode cX0_leastLive 23 = .ok (.iload_n 2, 1) := by decide +kernel
theorem dX0_leastLive_24 : decode cX0_leastLive 24 = .ok (.imul, 1) := by decide +kernel
theorem dX0_leastLive_25 : decode cX0_leastLive 25 = .ok (.iaload, 1) := by decide +kernel
theorem dX0_leastLive_26 : decode cX0_leastLive 26 = .ok (.ifCond .eq 24, 3) := by decide +kernel
theorem dX0_leastLive_29 : decode cX0_leastLive 29 = .ok (.aload_n 0, 1) := by decide +kernel
theorem dX0_leastLive_30 : decode cX0_leastLive 30 = .ok (.iload_n 2, 1) := by decide +kernel
theorem dX0_leastLive_31 : decode cX0_leastLive 31 = .ok (.invokevirtual 72, 3) := by decide +kernel
theorem dX0_leastLive_34 : decode cX0_leastLive 34 = .ok (.istore_n 3, 1) := by decide +kernel
theorem dX0_leastLive_35 : decode cX0_leastLive 35 = .ok (.iload_n 1, 1) := by decide +kernel
theorem dX0_leastLive_36 : decode cX0_leastLive 36 = .ok (.ifCond .lt 12, 3) := by decide +kernel
theorem dX0_leastLive_39 : decode cX0_leastLive 39 = .ok (.iload_n 3, 1) := by decide +kernel
theorem dX0_leastLive_40 : decode cX0_leastLive 40 = .ok (.aload_n 0, 1) := by decide +kernel
theorem dX0_leastLive_41 : decode cX0_leastLive 41 = .ok (.iload_n 1, 1) := by decide +kernel
theorem dX0_leastLive_42 : decode cX0_leastLive 42 = .ok (.invokevirtual 72, 3) := by decide +kernel
theorem dX0_leastLive_45 : decode cX0_leastLive 45 = .ok (.if_icmp .ge 5, 3) := by decide +kernel
theorem dX0_leastLive_48 : decode cX0_leastLive 48 = .ok (.iload_n 2, 1) := by decide +kernel
theorem dX0_leastLive_49 : decode cX0_leastLive 49 = .ok (.istore_n 1, 1) := by decide +kernel
theorem dX0_leastLive_50 : decode cX0_leastLive 50 = .ok (.iinc 2 1, 3) := by decide +kernel
theorem dX0_leastLive_53 : decode cX0_leastLive 53 = .ok (.goto (-49), 3) := by decide +kernel
theorem dX0_leastLive_56 : decode cX0_leastLive 56 = .ok (.iload_n 1, 1) := by decide +kernel
theorem dX0_leastLive_57 : decode cX0_leastLive 57 = .ok (.ireturn, 1) := by decide +kernel
abbrev cX0_livePages : ByteArray := prog_1_method_17_code
def yX0_livePages : MethodName := ⟨RX0, "livePages", "(I)I"⟩
theorem dX0_livePages_0 : decode cX0_livePages 0 = .ok (.iconst 0, 1) := by decide +kernel
theorem dX0_livePages_1 : decode cX0_livePages 1 = .ok (.istore_n 2, 1) := by decide +kernel
theorem dX0_livePages_2 : decode cX0_livePages 2 = .ok (.iconst 4, 1) := by decide +kernel
theorem dX0_livePages_3 : decode cX0_livePages 3 = .ok (.iload_n 1, 1) := by decide +kernel
theorem dX0_livePages_4 : decode cX0_livePages 4 = .ok (.imul, 1) := by decide +kernel
theorem dX0_livePages_5 : decode cX0_livePages 5 = .ok (.istore_n 3, 1) := by decide +kernel
theorem dX0_livePages_6 : decode cX0_livePages 6 = .ok (.iload_n 3, 1) := by decide +kernel
theorem dX0_livePages_7 : decode cX0_livePages 7 = .ok (.iconst 4, 1) := by decide +kernel
theorem dX0_livePages_8 : decode cX0_livePages 8 = .ok (.iload_n 1, 1) := by decide +kernel
theorem dX0_livePages_9 : decode cX0_livePages 9 = .ok (.imul, 1) := by decide +kernel
theorem dX0_livePages_10 : decode cX0_livePages 10 = .ok (.iconst 4, 1) := by decide +kernel
theorem dX0_livePages_11 : decode cX0_livePages 11 = .ok (.iadd, 1) := by decide +kernel
theorem dX0_livePages_12 : decode cX0_livePages 12 = .ok (.if_icmp .ge 41, 3) := by decide +kernel
theorem dX0_livePages_15 : decode cX0_livePages 15 = .ok (.iload_n 2, 1) := by decide +kernel
theorem dX0_livePages_16 : decode cX0_livePages 16 = .ok (.aload_n 0, 1) := by decide +kernel
theorem dX0_livePages_17 : decode cX0_livePages 17 = .ok (.getfield 7, 3) := by decide +kernel
theorem dX0_livePages_20 : decode cX0_livePages 20 = .ok (.iload_n 3, 1) := by decide +kernel
theorem dX0_livePages_21 : decode cX0_livePages 21 = .ok (.iaload, 1) := by decide +kernel
theorem dX0_livePages_22 : decode cX0_livePages 22 = .ok (.ifCond .eq 22, 3) := by decide +kernel
theorem dX0_livePages_25 : decode cX0_livePages 25 = .ok (.aload_n 0, 1) := by decide +kernel
theorem dX0_livePages_26 : decode cX0_livePages 26 = .ok (.getfield 26, 3) := by decide +kernel
theorem dX0_livePages_29 : decode cX0_livePages 29 = .ok (.aload_n 0, 1) := by decide +kernel
theorem dX0_livePages_30 : decode cX0_livePages 30 = .ok (.getfield 13, 3) := by decide +kernel
theorem dX0_livePages_33 : decode cX0_livePages 33 = .ok (.iload_n 3, 1) := by decide +kernel
theorem dX0_livePages_34 : decode cX0_livePages 34 = .ok (.iaload, 1) := by decide +kernel
theorem dX0_livePages_35 : decode cX0_livePages 35 = .ok (.iaload, 1) := by decide +kernel
theorem dX0_livePages_36 : decode cX0_livePages 36 = .ok (.iload_n 3, 1) := by decide +kernel
theorem dX0_livePages_37 : decode cX0_livePages 37 = .ok (.if_icmp .ne 7, 3) := by decide +kernel
theorem dX0_livePages_40 : decode cX0_livePages 40 = .ok (.iconst 1, 1) := by decide +kernel
theorem dX0_livePages_41 : decode cX0_livePages 41 = .ok (.goto 4, 3) := by decide +kernel
theorem dX0_livePages_44 : decode cX0_livePages 44 = .ok (.iconst 0, 1) := by decide +kernel
theorem dX0_livePages_45 : decode cX0_livePages 45 = .ok (.iadd, 1) := by decide +kernel
theorem dX0_livePages_46 : decode cX0_livePages 46 = .ok (.istore_n 2, 1) := by decide +kernel
theorem dX0_livePages_47 : decode cX0_livePages 47 = .ok (.iinc 3 1, 3) := by decide +kernel
theorem dX0_livePages_50 : decode cX0_livePages 50 = .ok (.goto (-44), 3) := by decide +kernel
theorem dX0_livePages_53 : decode cX0_livePages 53 = .ok (.iload_n 2, 1) := by decide +kernel
theorem dX0_livePages_54 : decode cX0_livePages 54 = .ok (.ireturn, 1) := by decide +kernel
abbrev cX0_gather : ByteArray := prog_1_method_19_code
def yX0_gather : MethodName := ⟨RX0, "gather", "(I)V"⟩
theorem dX0_gather_0 : decode cX0_gather 0 = .ok (.iload_n 1, 1) := by decide +kernel
theorem dX0_gather_1 : decode cX0_gather 1 = .ok (.ifCond .ge 4, 3) := by decide +kernel
theorem dX0_gather_4 : decode cX0_gather 4 = .ok (.return_, 1) := by decide +kernel
theorem dX0_gather_5 : decode cX0_gather 5 = .ok (.iconst 4, 1) := by decide +kernel
theorem dX0_gather_6 : decode cX0_gather 6 = .ok (.iload_n 1, 1) := by decide +kernel
theorem dX0_gather_7 : decode cX0_gather 7 = .ok (.imul, 1) := by decide +kernel
theorem dX0_gather_8 : decode cX0_gather 8 = .ok (.istore_n 2, 1) := by decide +kernel
theorem dX0_gather_9 : decode cX0_gather 9 = .ok (.iload_n 2, 1) := by decide +kernel
theorem dX0_gather_10 : decode cX0_gather 10 = .ok (.iconst 4, 1) := by decide +kernel
theorem dX0_gather_11 : decode cX0_gather 11 = .ok (.iload_n 1, 1) := by decide +kernel
theorem dX0_gather_12 : decode cX0_gather 12 = .ok (.imul, 1) := by decide +kernel
theorem dX0_gather_13 : decode cX0_gather 13 = .ok (.iconst 4, 1) := by decide +kernel
theorem dX0_gather_14 : decode cX0_gather 14 = .ok (.iadd, 1) := by decide +kernel
theorem dX0_gather_15 : decode cX0_gather 15 = .ok (.if_icmp .ge 69, 3) := by decide +kernel
theorem dX0_gather_18 : decode cX0_gather 18 = .ok (.aload_n 0, 1) := by decide +kernel
theorem dX0_gather_19 : decode cX0_gather 19 = .ok (.getfield 7, 3) := by decide +kernel
theorem dX0_gather_22 : decode cX0_gather 22 = .ok (.iload_n 2, 1) := by decide +kernel
theorem dX0_gather_23 : decode cX0_gather 23 = .ok (.iaload, 1) := by decide +kernel
theorem dX0_gather_24 : decode cX0_gather 24 = .ok (.ifCond .eq 54, 3) := by decide +kernel
theorem dX0_gather_27 : decode cX0_gather 27 = .ok (.aload_n 0, 1) := by decide +kernel
theorem dX0_gather_28 : decode cX0_gather 28 = .ok (.getfield 26, 3) := by decide +kernel
theorem dX0_gather_31 : decode cX0_gather 31 = .ok (.aload_n 0, 1) := by decide +kernel
theorem dX0_gather_32 : decode cX0_gather 32 = .ok (.getfield 13, 3) := by decide +kernel
theorem dX0_gather_35 : decode cX0_gather 35 = .ok (.iload_n 2, 1) := by decide +kernel
theorem dX0_gather_36 : decode cX0_gather 36 = .ok (.iaload, 1) := by decide +kernel
theorem dX0_gather_37 : decode cX0_gather 37 = .ok (.iaload, 1) := by decide +kernel
theorem dX0_gather_38 : decode cX0_gather 38 = .ok (.iload_n 2, 1) := by decide +kernel
theorem dX0_gather_39 : decode cX0_gather 39 = .ok (.if_icmp .ne 39, 3) := by decide +kernel
theorem dX0_gather_42 : decode cX0_gather 42 = .ok (.aload_n 0, 1) := by decide +kernel
theorem dX0_gather_43 : decode cX0_gather 43 = .ok (.getfield 75, 3) := by decide +kernel
theorem dX0_gather_46 : decode cX0_gather 46 = .ok (.iconst 4, 1) := by decide +kernel
theorem dX0_gather_47 : decode cX0_gather 47 = .ok (.if_icmp .ge 31, 3) := by decide +kernel
theorem dX0_gather_50 : decode cX0_gather 50 = .ok (.aload_n 0, 1) := by decide +kernel
theorem dX0_gather_51 : decode cX0_gather 51 = .ok (.aload_n 0, 1) := by decide +kernel
theorem dX0_gather_52 : decode cX0_gather 52 = .ok (.getfield 13, 3) := by decide +kernel
theorem dX0_gather_55 : decode cX0_gather 55 = .ok (.iload_n 2, 1) := by decide +kernel
theorem dX0_gather_56 : decode cX0_gather 56 = .ok (.iaload, 1) := by decide +kernel
theorem dX0_gather_57 : decode cX0_gather 57 = .ok (.aload_n 0, 1) := by decide +kernel
theorem dX0_gather_58 : decode cX0_gather 58 = .ok (.getfield 7, 3) := by decide +kernel
theorem dX0_gather_61 : decode cX0_gather 61 = .ok (.iload_n 2, 1) := by decide +kernel
theorem dX0_gather_62 : decode cX0_gather 62 = .ok (.iaload, 1) := by decide +kernel
theorem dX0_gather_63 : decode cX0_gather 63 = .ok (.aload_n 0, 1) := by decide +kernel
theorem dX0_gather_64 : decode cX0_gather 64 = .ok (.getfield 20, 3) := by decide +kernel
theorem dX0_gather_67 : decode cX0_gather 67 = .ok (.iload_n 2, 1) := by decide +kernel
theorem dX0_gather_68 : decode cX0_gather 68 = .ok (.iaload, 1) := by decide +kernel
theorem dX0_gather_69 : decode cX0_gather 69 = .ok (.aload_n 0, 1) := by decide +kernel
theorem dX0_gather_70 : decode cX0_gather 70 = .ok (.getfield 23, 3) := by decide +kernel
theorem dX0_gather_73 : decode cX0_gather 73 = .ok (.iload_n 2, 1) := by decide +kernel
theorem dX0_gather_74 : decode cX0_gather 74 = .ok (.iaload, 1) := by decide +kernel
theorem dX0_gather_75 : decode cX0_gather 75 = .ok (.invokevirtual 89, 3) := by decide +kernel
theorem dX0_gather_78 : decode cX0_gather 78 = .ok (.iinc 2 1, 3) := by decide +kernel
theorem dX0_gather_81 : decode cX0_gather 81 = .ok (.goto (-72), 3) := by decide +kernel
theorem dX0_gather_84 : decode cX0_gather 84 = .ok (.iconst 4, 1) := by decide +kernel
theorem dX0_gather_85 : decode cX0_gather 85 = .ok (.iload_n 1, 1) := by decide +kernel
theorem dX0_gather_86 : decode cX0_gather 86 = .ok (.imul, 1) := by decide +kernel
theorem dX0_gather_87 : decode cX0_gather 87 = .ok (.istore_n 2, 1) := by decide +kernel
theorem dX0_gather_88 : decode cX0_gather 88 = .ok (.iload_n 2, 1) := by decide +kernel
theorem dX0_gather_89 : decode cX0_gather 89 = .ok (.iconst 4, 1) := by decide +kernel
theorem dX0_gather_90 : decode cX0_gather 90 = .ok (.iload_n 1, 1) := by decide +kernel
theorem dX0_gather_91 : decode cX0_gather 91 = .ok (.imul, 1) := by decide +kernel
theorem dX0_gather_92 : decode cX0_gather 92 = .ok (.iconst 4, 1) := by decide +kernel
theorem dX0_gather_93 : decode cX0_gather 93 = .ok (.iadd, 1) := by decide +kernel
theorem dX0_gather_94 : decode cX0_gather 94 = .ok (.if_icmp .ge 16, 3) := by decide +kernel
theorem dX0_gather_97 : decode cX0_gather 97 = .ok (.aload_n 0, 1) := by decide +kernel
theorem dX0_gather_98 : decode cX0_gather 98 = .ok (.getfield 7, 3) := by decide +kernel
theorem dX0_gather_101 : decode cX0_gather 101 = .ok (.iload_n 2, 1) := by decide +kernel
theorem dX0_gather_102 : decode cX0_gather 102 = .ok (.iconst 0, 1) := by decide +kernel
theorem dX0_gather_103 : decode cX0_gather 103 = .ok (.iastore, 1) := by decide +kernel
theorem dX0_gather_104 : decode cX0_gather 104 = .ok (.iinc 2 1, 3) := by decide +kernel
theorem dX0_gather_107 : decode cX0_gather 107 = .ok (.goto (-19), 3) := by decide +kernel
theorem dX0_gather_110 : decode cX0_gather 110 = .ok (.return_, 1) := by decide +kernel
abbrev cX0_put : ByteArray := prog_1_method_15_code
def yX0_put : MethodName := ⟨RX0, "put", "(IIII)V"⟩
theorem dX0_put_0 : decode cX0_put 0 = .ok (.iconst 4, 1) := by decide +kernel
theorem dX0_put_1 : decode cX0_put 1 = .ok (.aload_n 0, 1) := by decide +kernel
theorem dX0_put_2 : decode cX0_put 2 = .ok (.getfield 86, 3) := by decide +kernel
theorem dX0_put_5 : decode cX0_put 5 = .ok (.imul, 1) := by decide +kernel
theorem dX0_put_6 : decode cX0_put 6 = .ok (.aload_n 0, 1) := by decide +kernel
theorem dX0_put_7 : decode cX0_put 7 = .ok (.getfield 75, 3) := by decide +kernel
theorem dX0_put_10 : decode cX0_put 10 = .ok (.iadd, 1) := by decide +kernel
theorem dX0_put_11 : decode cX0_put 11 = .ok (.istore 5, 2) := by decide +kernel
theorem dX0_put_13 : decode cX0_put 13 = .ok (.aload_n 0, 1) := by decide +kernel
theorem dX0_put_14 : decode cX0_put 14 = .ok (.getfield 7, 3) := by decide +kernel
theorem dX0_put_17 : decode cX0_put 17 = .ok (.iload 5, 2) := by decide +kernel
theorem dX0_put_19 : decode cX0_put 19 = .ok (.iload_n 2, 1) := by decide +kernel
theorem dX0_put_20 : decode cX0_put 20 = .ok (.iastore, 1) := by decide +kernel
theorem dX0_put_21 : decode cX0_put 21 = .ok (.aload_n 0, 1) := by decide +kernel
theorem dX0_put_22 : decode cX0_put 22 = .ok (.getfield 13, 3) := by decide +kernel
theorem dX0_put_25 : decode cX0_put 25 = .ok (.iload 5, 2) := by decide +kernel
theorem dX0_put_27 : decode cX0_put 27 = .ok (.iload_n 1, 1) := by decide +kernel
theorem dX0_put_28 : decode cX0_put 28 = .ok (.iastore, 1) := by decide +kernel
theorem dX0_put_29 : decode cX0_put 29 = .ok (.aload_n 0, 1) := by decide +kernel
theorem dX0_put_30 : decode cX0_put 30 = .ok (.getfield 16, 3) := by decide +kernel
theorem dX0_put_33 : decode cX0_put 33 = .ok (.iload 5, 2) := by decide +kernel
theorem dX0_put_35 : decode cX0_put 35 = .ok (.aload_n 0, 1) := by decide +kernel
theorem dX0_put_36 : decode cX0_put 36 = .ok (.getfield 61, 3) := by decide +kernel
theorem dX0_put_39 : decode cX0_put 39 = .ok (.lastore, 1) := by decide +kernel
theorem dX0_put_40 : decode cX0_put 40 = .ok (.aload_n 0, 1) := by decide +kernel
theorem dX0_put_41 : decode cX0_put 41 = .ok (.getfield 20, 3) := by decide +kernel
theorem dX0_put_44 : decode cX0_put 44 = .ok (.iload 5, 2) := by decide +kernel
theorem dX0_put_46 : decode cX0_put 46 = .ok (.iload_n 3, 1) := by decide +kernel
theorem dX0_put_47 : decode cX0_put 47 = .ok (.iastore, 1) := by decide +kernel
theorem dX0_put_48 : decode cX0_put 48 = .ok (.aload_n 0, 1) := by decide +kernel
theorem dX0_put_49 : decode cX0_put 49 = .ok (.getfield 23, 3) := by decide +kernel
theorem dX0_put_52 : decode cX0_put 52 = .ok (.iload 5, 2) := by decide +kernel
theorem dX0_put_54 : decode cX0_put 54 = .ok (.iload 4, 2) := by decide +kernel
theorem dX0_put_56 : decode cX0_put 56 = .ok (.iastore, 1) := by decide +kernel
theorem dX0_put_57 : decode cX0_put 57 = .ok (.aload_n 0, 1) := by decide +kernel
theorem dX0_put_58 : decode cX0_put 58 = .ok (.dup, 1) := by decide +kernel
theorem dX0_put_59 : decode cX0_put 59 = .ok (.getfield 61, 3) := by decide +kernel
theorem dX0_put_62 : decode cX0_put 62 = .ok (.lconst 1, 1) := by decide +kernel
theorem dX0_put_63 : decode cX0_put 63 = .ok (.ladd, 1) := by decide +kernel
theorem dX0_put_64 : decode cX0_put 64 = .ok (.putfield 61, 3) := by decide +kernel
theorem dX0_put_67 : decode cX0_put 67 = .ok (.aload_n 0, 1) := by decide +kernel
theorem dX0_put_68 : decode cX0_put 68 = .ok (.dup, 1) := by decide +kernel
theorem dX0_put_69 : decode cX0_put 69 = .ok (.getfield 75, 3) := by decide +kernel
theorem dX0_put_72 : decode cX0_put 72 = .ok (.iconst 1, 1) := by decide +kernel
theorem dX0_put_73 : decode cX0_put 73 = .ok (.iadd, 1) := by decide +kernel
theorem dX0_put_74 : decode cX0_put 74 = .ok (.putfield 75, 3) := by decide +kernel
theorem dX0_put_77 : decode cX0_put 77 = .ok (.aload_n 0, 1) := by decide +kernel
theorem dX0_put_78 : decode cX0_put 78 = .ok (.getfield 26, 3) := by decide +kernel
theorem dX0_put_81 : decode cX0_put 81 = .ok (.iload_n 1, 1) := by decide +kernel
theorem dX0_put_82 : decode cX0_put 82 = .ok (.iload 5, 2) := by decide +kernel
theorem dX0_put_84 : decode cX0_put 84 = .ok (.iastore, 1) := by decide +kernel
theorem dX0_put_85 : decode cX0_put 85 = .ok (.return_, 1) := by decide +kernel
abbrev cX0_read : ByteArray := prog_1_method_3_code
def yX0_read : MethodName := ⟨RX0, "read", "(I)I"⟩
theorem dX0_read_0 : decode cX0_read 0 = .ok (.iload_n 1, 1) := by decide +kernel
theorem dX0_read_1 : decode cX0_read 1 = .ok (.invokestatic 32, 3) := by decide +kernel
theorem dX0_read_4 : decode cX0_read 4 = .ok (.ifCond .ne 5, 3) := by decide +kernel
theorem dX0_read_7 : decode cX0_read 7 = .ok (.iconst (-1), 1) := by decide +kernel
theorem dX0_read_8 : decode cX0_read 8 = .ok (.ireturn, 1) := by decide +kernel
theorem dX0_read_9 : decode cX0_read 9 = .ok (.aload_n 0, 1) := by decide +kernel
theorem dX0_read_10 : decode cX0_read 10 = .ok (.getfield 26, 3) := by decide +kernel
theorem dX0_read_13 : decode cX0_read 13 = .ok (.iload_n 1, 1) := by decide +kernel
theorem dX0_read_14 : decode cX0_read 14 = .ok (.iaload, 1) := by decide +kernel
theorem dX0_read_15 : decode cX0_read 15 = .ok (.istore_n 2, 1) := by decide +kernel
theorem dX0_read_16 : decode cX0_read 16 = .ok (.iload_n 2, 1) := by decide +kernel
theorem dX0_read_17 : decode cX0_read 17 = .ok (.ifCond .lt 13, 3) := by decide +kernel
theorem dX0_read_20 : decode cX0_read 20 = .ok (.aload_n 0, 1) := by decide +kernel
theorem dX0_read_21 : decode cX0_read 21 = .ok (.getfield 7, 3) := by decide +kernel
theorem dX0_read_24 : decode cX0_read 24 = .ok (.iload_n 2, 1) := by decide +kernel
theorem dX0_read_25 : decode cX0_read 25 = .ok (.iaload, 1) := by decide +kernel
theorem dX0_read_26 : decode cX0_read 26 = .ok (.iconst 2, 1) := by decide +kernel
theorem dX0_read_27 : decode cX0_read 27 = .ok (.if_icmp .ne 6, 3) := by decide +kernel
theorem dX0_read_30 : decode cX0_read 30 = .ok (.bipush (-2), 2) := by decide +kernel
theorem dX0_read_32 : decode cX0_read 32 = .ok (.ireturn, 1) := by decide +kernel
theorem dX0_read_33 : decode cX0_read 33 = .ok (.aload_n 0, 1) := by decide +kernel
theorem dX0_read_34 : decode cX0_read 34 = .ok (.getfield 20, 3) := by decide +kernel
theorem dX0_read_37 : decode cX0_read 37 = .ok (.iload_n 2, 1) := by decide +kernel
theorem dX0_read_38 : decode cX0_read 38 = .ok (.iaload, 1) := by decide +kernel
theorem dX0_read_39 : decode cX0_read 39 = .ok (.aload_n 0, 1) := by decide +kernel
theorem dX0_read_40 : decode cX0_read 40 = .ok (.getfield 23, 3) := by decide +kernel
theorem dX0_read_43 : decode cX0_read 43 = .ok (.iload_n 2, 1) := by decide +kernel
theorem dX0_read_44 : decode cX0_read 44 = .ok (.iaload, 1) := by decide +kernel
theorem dX0_read_45 : decode cX0_read 45 = .ok (.ixor, 1) := by decide +kernel
theorem dX0_read_46 : decode cX0_read 46 = .ok (.invokestatic 45, 3) := by decide +kernel
theorem dX0_read_49 : decode cX0_read 49 = .ok (.ireturn, 1) := by decide +kernel
abbrev cX0_decode : ByteArray := prog_1_method_25_code
def yX0_decode : MethodName := ⟨RX0, "decode", "(I)I"⟩
theorem dX0_decode_0 : decode cX0_decode 0 = .ok (.iload_n 0, 1) := by decide +kernel
theorem dX0_decode_1 : decode cX0_decode 1 = .ok (.invokestatic 95, 3) := by decide +kernel
theorem dX0_decode_4 : decode cX0_decode 4 = .ok (.istore_n 1, 1) := by decide +kernel
theorem dX0_decode_5 : decode cX0_decode 5 = .ok (.iload_n 0, 1) := by decide +kernel
theorem dX0_decode_6 : decode cX0_decode 6 = .ok (.invokestatic 51, 3) := by decide +kernel
theorem dX0_decode_9 : decode cX0_decode 9 = .ok (.iconst 1, 1) := by decide +kernel
theorem dX0_decode_10 : decode cX0_decode 10 = .ok (.iand, 1) := by decide +kernel
theorem dX0_decode_11 : decode cX0_decode 11 = .ok (.ifCond .eq 7, 3) := by decide +kernel
theorem dX0_decode_14 : decode cX0_decode 14 = .ok (.iconst 1, 1) := by decide +kernel
theorem dX0_decode_15 : decode cX0_decode 15 = .ok (.goto 4, 3) := by decide +kernel
theorem dX0_decode_18 : decode cX0_decode 18 = .ok (.iconst 0, 1) := by decide +kernel
theorem dX0_decode_19 : decode cX0_decode 19 = .ok (.istore_n 2, 1) := by decide +kernel
theorem dX0_decode_20 : decode cX0_decode 20 = .ok (.iload_n 2, 1) := by decide +kernel
theorem dX0_decode_21 : decode cX0_decode 21 = .ok (.ifCond .ne 10, 3) := by decide +kernel
theorem dX0_decode_24 : decode cX0_decode 24 = .ok (.iload_n 1, 1) := by decide +kernel
theorem dX0_decode_25 : decode cX0_decode 25 = .ok (.ifCond .eq 6, 3) := by decide +kernel
theorem dX0_decode_28 : decode cX0_decode 28 = .ok (.bipush (-3), 2) := by decide +kernel
theorem dX0_decode_30 : decode cX0_decode 30 = .ok (.ireturn, 1) := by decide +kernel
theorem dX0_decode_31 : decode cX0_decode 31 = .ok (.iload_n 2, 1) := by decide +kernel
theorem dX0_decode_32 : decode cX0_decode 32 = .ok (.ifCond .eq 11, 3) := by decide +kernel
theorem dX0_decode_35 : decode cX0_decode 35 = .ok (.iload_n 0, 1) := by decide +kernel
theorem dX0_decode_36 : decode cX0_decode 36 = .ok (.iconst 1, 1) := by decide +kernel
theorem dX0_decode_37 : decode cX0_decode 37 = .ok (.iload_n 1, 1) := by decide +kernel
theorem dX0_decode_38 : decode cX0_decode 38 = .ok (.ishl, 1) := by decide +kernel
theorem dX0_decode_39 : decode cX0_decode 39 = .ok (.ixor, 1) := by decide +kernel
theorem dX0_decode_40 : decode cX0_decode 40 = .ok (.goto 4, 3) := by decide +kernel
theorem dX0_decode_43 : decode cX0_decode 43 = .ok (.iload_n 0, 1) := by decide +kernel
theorem dX0_decode_44 : decode cX0_decode 44 = .ok (.istore_n 3, 1) := by decide +kernel
theorem dX0_decode_45 : decode cX0_decode 45 = .ok (.iconst 0, 1) := by decide +kernel
theorem dX0_decode_46 : decode cX0_decode 46 = .ok (.istore 4, 2) := by decide +kernel
theorem dX0_decode_48 : decode cX0_decode 48 = .ok (.iconst 0, 1) := by decide +kernel
theorem dX0_decode_49 : decode cX0_decode 49 = .ok (.istore 5, 2) := by decide +kernel
theorem dX0_decode_51 : decode cX0_decode 51 = .ok (.iconst 1, 1) := by decide +kernel
theorem dX0_decode_52 : decode cX0_decode 52 = .ok (.istore 6, 2) := by decide +kernel
theorem dX0_decode_54 : decode cX0_decode 54 = .ok (.iload 6, 2) := by decide +kernel
theorem dX0_decode_56 : decode cX0_decode 56 = .ok (.bipush 22, 2) := by decide +kernel
theorem dX0_decode_58 : decode cX0_decode 58 = .ok (.if_icmp .ge 34, 3) := by decide +kernel
theorem dX0_decode_61 : decode cX0_decode 61 = .ok (.iload 6, 2) := by decide +kernel
theorem dX0_decode_63 : decode cX0_decode 63 = .ok (.invokestatic 92, 3) := by decide +kernel
theorem dX0_decode_66 : decode cX0_decode 66 = .ok (.ifCond .ne 20, 3) := by decide +kernel
theorem dX0_decode_69 : decode cX0_decode 69 = .ok (.iload 4, 2) := by decide +kernel
theorem dX0_decode_71 : decode cX0_decode 71 = .ok (.iload_n 3, 1) := by decide +kernel
theorem dX0_decode_72 : decode cX0_decode 72 = .ok (.iload 6, 2) := by decide +kernel
theorem dX0_decode_74 : decode cX0_decode 74 = .ok (.iushr, 1) := by decide +kernel
theorem dX0_decode_75 : decode cX0_decode 75 = .ok (.iconst 1, 1) := by decide +kernel
theorem dX0_decode_76 : decode cX0_decode 76 = .ok (.iand, 1) := by decide +kernel
theorem dX0_decode_77 : decode cX0_decode 77 = .ok (.iload 5, 2) := by decide +kernel
theorem dX0_decode_79 : decode cX0_decode 79 = .ok (.ishl, 1) := by decide +kernel
theorem dX0_decode_80 : decode cX0_decode 80 = .ok (.ior, 1) := by decide +kernel
theorem dX0_decode_81 : decode cX0_decode 81 = .ok (.istore 4, 2) := by decide +kernel
theorem dX0_decode_83 : decode cX0_decode 83 = .ok (.iinc 5 1, 3) := by decide +kernel
theorem dX0_decode_86 : decode cX0_decode 86 = .ok (.iinc 6 1, 3) := by decide +kernel
theorem dX0_decode_89 : decode cX0_decode 89 = .ok (.goto (-35), 3) := by decide +kernel
theorem dX0_decode_92 : decode cX0_decode 92 = .ok (.iload 4, 2) := by decide +kernel
theorem dX0_decode_94 : decode cX0_decode 94 = .ok (.ireturn, 1) := by decide +kernel
abbrev cX0_trim : ByteArray := prog_1_method_4_code
def yX0_trim : MethodName := ⟨RX0, "trim", "(I)I"⟩
theorem dX0_trim_0 : decode cX0_trim 0 = .ok (.iload_n 1, 1) := by decide +kernel
theorem dX0_trim_1 : decode cX0_trim 1 = .ok (.invokestatic 32, 3) := by decide +kernel
theorem dX0_trim_4 : decode cX0_trim 4 = .ok (.ifCond .ne 5, 3) := by decide +kernel
theorem dX0_trim_7 : decode cX0_trim 7 = .ok (.iconst (-1), 1) := by decide +kernel
theorem dX0_trim_8 : decode cX0_trim 8 = .ok (.ireturn, 1) := by decide +kernel
theorem dX0_trim_9 : decode cX0_trim 9 = .ok (.aload_n 0, 1) := by decide +kernel
theorem dX0_trim_10 : decode cX0_trim 10 = .ok (.iload_n 1, 1) := by decide +kernel
theorem dX0_trim_11 : decode cX0_trim 11 = .ok (.invokevirtual 48, 3) := by decide +kernel
theorem dX0_trim_14 : decode cX0_trim 14 = .ok (.ifCond .ne 6, 3) := by decide +kernel
theorem dX0_trim_17 : decode cX0_trim 17 = .ok (.bipush (-2), 2) := by decide +kernel
theorem dX0_trim_19 : decode cX0_trim 19 = .ok (.ireturn, 1) := by decide +kernel
theorem dX0_trim_20 : decode cX0_trim 20 = .ok (.aload_n 0, 1) := by decide +kernel
theorem dX0_trim_21 : decode cX0_trim 21 = .ok (.iload_n 1, 1) := by decide +kernel
theorem dX0_trim_22 : decode cX0_trim 22 = .ok (.iconst 2, 1) := by decide +kernel
theorem dX0_trim_23 : decode cX0_trim 23 = .ok (.iconst 0, 1) := by decide +kernel
theorem dX0_trim_24 : decode cX0_trim 24 = .ok (.iconst 0, 1) := by decide +kernel
theorem dX0_trim_25 : decode cX0_trim 25 = .ok (.invokevirtual 41, 3) := by decide +kernel
theorem dX0_trim_28 : decode cX0_trim 28 = .ok (.iconst 0, 1) := by decide +kernel
theorem dX0_trim_29 : decode cX0_trim 29 = .ok (.ireturn, 1) := by decide +kernel
abbrev cX0_isWritten : ByteArray := prog_1_method_13_code
def yX0_isWritten : MethodName := ⟨RX0, "isWritten", "(I)Z"⟩
theorem dX0_isWritten_0 : decode cX0_isWritten 0 = .ok (.aload_n 0, 1) := by decide +kernel
theorem dX0_isWritten_1 : decode cX0_isWritten 1 = .ok (.getfield 26, 3) := by decide +kernel
theorem dX0_isWritten_4 : decode cX0_isWritten 4 = .ok (.iload_n 1, 1) := by decide +kernel
theorem dX0_isWritten_5 : decode cX0_isWritten 5 = .ok (.iaload, 1) := by decide +kernel
theorem dX0_isWritten_6 : decode cX0_isWritten 6 = .ok (.ifCond .lt 22, 3) := by decide +kernel
theorem dX0_isWritten_9 : decode cX0_isWritten 9 = .ok (.aload_n 0, 1) := by decide +kernel
theorem dX0_isWritten_10 : decode cX0_isWritten 10 = .ok (.getfield 7, 3) := by decide +kernel
theorem dX0_isWritten_13 : decode cX0_isWritten 13 = .ok (.aload_n 0, 1) := by decide +kernel
theorem dX0_isWritten_14 : decode cX0_isWritten 14 = .ok (.getfield 26, 3) := by decide +kernel
theorem dX0_isWritten_17 : decode cX0_isWritten 17 = .ok (.iload_n 1, 1) := by decide +kernel
theorem dX0_isWritten_18 : decode cX0_isWritten 18 = .ok (.iaload, 1) := by decide +kernel
theorem dX0_isWritten_19 : decode cX0_isWritten 19 = .ok (.iaload, 1) := by decide +kernel
theorem dX0_isWritten_20 : decode cX0_isWritten 20 = .ok (.iconst 1, 1) := by decide +kernel
theorem dX0_isWritten_21 : decode cX0_isWritten 21 = .ok (.if_icmp .ne 7, 3) := by decide +kernel
theorem dX0_isWritten_24 : decode cX0_isWritten 24 = .ok (.iconst 1, 1) := by decide +kernel
theorem dX0_isWritten_25 : decode cX0_isWritten 25 = .ok (.goto 4, 3) := by decide +kernel
theorem dX0_isWritten_28 : decode cX0_isWritten 28 = .ok (.iconst 0, 1) := by decide +kernel
theorem dX0_isWritten_29 : decode cX0_isWritten 29 = .ok (.ireturn, 1) := by decide +kernel
abbrev cX0_turn : ByteArray := prog_1_method_5_code
def yX0_turn : MethodName := ⟨RX0, "turn", "(II)I"⟩
theorem dX0_turn_0 : decode cX0_turn 0 = .ok (.iload_n 1, 1) := by decide +kernel
theorem dX0_turn_1 : decode cX0_turn 1 = .ok (.invokestatic 32, 3) := by decide +kernel
theorem dX0_turn_4 : decode cX0_turn 4 = .ok (.ifCond .eq 13, 3) := by decide +kernel
theorem dX0_turn_7 : decode cX0_turn 7 = .ok (.iload_n 2, 1) := by decide +kernel
theorem dX0_turn_8 : decode cX0_turn 8 = .ok (.ifCond .lt 9, 3) := by decide +kernel
theorem dX0_turn_11 : decode cX0_turn 11 = .ok (.iload_n 2, 1) := by decide +kernel
theorem dX0_turn_12 : decode cX0_turn 12 = .ok (.bipush 21, 2) := by decide +kernel
theorem dX0_turn_14 : decode cX0_turn 14 = .ok (.if_icmp .le 5, 3) := by decide +kernel
theorem dX0_turn_17 : decode cX0_turn 17 = .ok (.iconst (-1), 1) := by decide +kernel
theorem dX0_turn_18 : decode cX0_turn 18 = .ok (.ireturn, 1) := by decide +kernel
theorem dX0_turn_19 : decode cX0_turn 19 = .ok (.aload_n 0, 1) := by decide +kernel
theorem dX0_turn_20 : decode cX0_turn 20 = .ok (.iload_n 1, 1) := by decide +kernel
theorem dX0_turn_21 : decode cX0_turn 21 = .ok (.invokevirtual 48, 3) := by decide +kernel
theorem dX0_turn_24 : decode cX0_turn 24 = .ok (.ifCond .ne 6, 3) := by decide +kernel
theorem dX0_turn_27 : decode cX0_turn 27 = .ok (.bipush (-2), 2) := by decide +kernel
theorem dX0_turn_29 : decode cX0_turn 29 = .ok (.ireturn, 1) := by decide +kernel
theorem dX0_turn_30 : decode cX0_turn 30 = .ok (.aload_n 0, 1) := by decide +kernel
theorem dX0_turn_31 : decode cX0_turn 31 = .ok (.getfield 26, 3) := by decide +kernel
theorem dX0_turn_34 : decode cX0_turn 34 = .ok (.iload_n 1, 1) := by decide +kernel
theorem dX0_turn_35 : decode cX0_turn 35 = .ok (.iaload, 1) := by decide +kernel
theorem dX0_turn_36 : decode cX0_turn 36 = .ok (.istore_n 3, 1) := by decide +kernel
theorem dX0_turn_37 : decode cX0_turn 37 = .ok (.aload_n 0, 1) := by decide +kernel
theorem dX0_turn_38 : decode cX0_turn 38 = .ok (.getfield 23, 3) := by decide +kernel
theorem dX0_turn_41 : decode cX0_turn 41 = .ok (.iload_n 3, 1) := by decide +kernel
theorem dX0_turn_42 : decode cX0_turn 42 = .ok (.iaload, 1) := by decide +kernel
theorem dX0_turn_43 : decode cX0_turn 43 = .ok (.iconst 1, 1) := by decide +kernel
theorem dX0_turn_44 : decode cX0_turn 44 = .ok (.iload_n 2, 1) := by decide +kernel
theorem dX0_turn_45 : decode cX0_turn 45 = .ok (.ishl, 1) := by decide +kernel
theorem dX0_turn_46 : decode cX0_turn 46 = .ok (.ixor, 1) := by decide +kernel
theorem dX0_turn_47 : decode cX0_turn 47 = .ok (.istore 4, 2) := by decide +kernel
theorem dX0_turn_49 : decode cX0_turn 49 = .ok (.iload 4, 2) := by decide +kernel
theorem dX0_turn_51 : decode cX0_turn 51 = .ok (.invokestatic 51, 3) := by decide +kernel
theorem dX0_turn_54 : decode cX0_turn 54 = .ok (.istore 5, 2) := by decide +kernel
theorem dX0_turn_56 : decode cX0_turn 56 = .ok (.iload 5, 2) := by decide +kernel
theorem dX0_turn_58 : decode cX0_turn 58 = .ok (.iconst 2, 1) := by decide +kernel
theorem dX0_turn_59 : decode cX0_turn 59 = .ok (.if_icmp .le 6, 3) := by decide +kernel
theorem dX0_turn_62 : decode cX0_turn 62 = .ok (.bipush (-3), 2) := by decide +kernel
theorem dX0_turn_64 : decode cX0_turn 64 = .ok (.ireturn, 1) := by decide +kernel
theorem dX0_turn_65 : decode cX0_turn 65 = .ok (.aload_n 0, 1) := by decide +kernel
theorem dX0_turn_66 : decode cX0_turn 66 = .ok (.getfield 23, 3) := by decide +kernel
theorem dX0_turn_69 : decode cX0_turn 69 = .ok (.iload_n 3, 1) := by decide +kernel
theorem dX0_turn_70 : decode cX0_turn 70 = .ok (.iload 4, 2) := by decide +kernel
theorem dX0_turn_72 : decode cX0_turn 72 = .ok (.iastore, 1) := by decide +kernel
theorem dX0_turn_73 : decode cX0_turn 73 = .ok (.iload 5, 2) := by decide +kernel
theorem dX0_turn_75 : decode cX0_turn 75 = .ok (.ireturn, 1) := by decide +kernel
abbrev cX0_repair : ByteArray := prog_1_method_6_code
def yX0_repair : MethodName := ⟨RX0, "repair", "(I)I"⟩
theorem dX0_repair_0 : decode cX0_repair 0 = .ok (.aload_n 0, 1) := by decide +kernel
theorem dX0_repair_1 : decode cX0_repair 1 = .ok (.iload_n 1, 1) := by decide +kernel
theorem dX0_repair_2 : decode cX0_repair 2 = .ok (.invokevirtual 54, 3) := by decide +kernel
theorem dX0_repair_5 : decode cX0_repair 5 = .ok (.istore_n 2, 1) := by decide +kernel
theorem dX0_repair_6 : decode cX0_repair 6 = .ok (.iload_n 2, 1) := by decide +kernel
theorem dX0_repair_7 : decode cX0_repair 7 = .ok (.ifCond .lt 10, 3) := by decide +kernel
theorem dX0_repair_10 : decode cX0_repair 10 = .ok (.aload_n 0, 1) := by decide +kernel
theorem dX0_repair_11 : decode cX0_repair 11 = .ok (.iload_n 1, 1) := by decide +kernel
theorem dX0_repair_12 : decode cX0_repair 12 = .ok (.iload_n 2, 1) := by decide +kernel
theorem dX0_repair_13 : decode cX0_repair 13 = .ok (.invokevirtual 57, 3) := by decide +kernel
theorem dX0_repair_16 : decode cX0_repair 16 = .ok (.pop, 1) := by decide +kernel
theorem dX0_repair_17 : decode cX0_repair 17 = .ok (.iload_n 2, 1) := by decide +kernel
theorem dX0_repair_18 : decode cX0_repair 18 = .ok (.ireturn, 1) := by decide +kernel
abbrev cX0_tidy : ByteArray := prog_1_method_8_code
def yX0_tidy : MethodName := ⟨RX0, "tidy", "(I)V"⟩
theorem dX0_tidy_0 : decode cX0_tidy 0 = .ok (.iconst 0, 1) := by decide +kernel
theorem dX0_tidy_1 : decode cX0_tidy 1 = .ok (.istore_n 2, 1) := by decide +kernel
theorem dX0_tidy_2 : decode cX0_tidy 2 = .ok (.iload_n 2, 1) := by decide +kernel
theorem dX0_tidy_3 : decode cX0_tidy 3 = .ok (.iload_n 1, 1) := by decide +kernel
theorem dX0_tidy_4 : decode cX0_tidy 4 = .ok (.if_icmp .ge 42, 3) := by decide +kernel
theorem dX0_tidy_7 : decode cX0_tidy 7 = .ok (.iload_n 2, 1) := by decide +kernel
theorem dX0_tidy_8 : decode cX0_tidy 8 = .ok (.iconst 4, 1) := by decide +kernel
theorem dX0_tidy_9 : decode cX0_tidy 9 = .ok (.if_icmp .ge 37, 3) := by decide +kernel
theorem dX0_tidy_12 : decode cX0_tidy 12 = .ok (.aload_n 0, 1) := by decide +kernel
theorem dX0_tidy_13 : decode cX0_tidy 13 = .ok (.invokevirtual 68, 3) := by decide +kernel
theorem dX0_tidy_16 : decode cX0_tidy 16 = .ok (.istore_n 3, 1) := by decide +kernel
theorem dX0_tidy_17 : decode cX0_tidy 17 = .ok (.iload_n 3, 1) := by decide +kernel
theorem dX0_tidy_18 : decode cX0_tidy 18 = .ok (.ifCond .lt 22, 3) := by decide +kernel
theorem dX0_tidy_21 : decode cX0_tidy 21 = .ok (.aload_n 0, 1) := by decide +kernel
theorem dX0_tidy_22 : decode cX0_tidy 22 = .ok (.iload_n 3, 1) := by decide +kernel
theorem dX0_tidy_23 : decode cX0_tidy 23 = .ok (.invokevirtual 72, 3) := by decide +kernel
theorem dX0_tidy_26 : decode cX0_tidy 26 = .ok (.iconst 3, 1) := by decide +kernel
theorem dX0_tidy_27 : decode cX0_tidy 27 = .ok (.aload_n 0, 1) := by decide +kernel
theorem dX0_tidy_28 : decode cX0_tidy 28 = .ok (.getfield 75, 3) := by decide +kernel
theorem dX0_tidy_31 : decode cX0_tidy 31 = .ok (.isub, 1) := by decide +kernel
theorem dX0_tidy_32 : decode cX0_tidy 32 = .ok (.if_icmp .gt 8, 3) := by decide +kernel
theorem dX0_tidy_35 : decode cX0_tidy 35 = .ok (.aload_n 0, 1) := by decide +kernel
theorem dX0_tidy_36 : decode cX0_tidy 36 = .ok (.iload_n 3, 1) := by decide +kernel
theorem dX0_tidy_37 : decode cX0_tidy 37 = .ok (.invokevirtual 79, 3) := by decide +kernel
theorem dX0_tidy_40 : decode cX0_tidy 40 = .ok (.iinc 2 1, 3) := by decide +kernel
theorem dX0_tidy_43 : decode cX0_tidy 43 = .ok (.goto (-41), 3) := by decide +kernel
theorem dX0_tidy_46 : decode cX0_tidy 46 = .ok (.return_, 1) := by decide +kernel
abbrev cX0_written : ByteArray := prog_1_method_9_code
def yX0_written : MethodName := ⟨RX0, "written", "()I"⟩
theorem dX0_written_0 : decode cX0_written 0 = .ok (.iconst 0, 1) := by decide +kernel
theorem dX0_written_1 : decode cX0_written 1 = .ok (.istore_n 1, 1) := by decide +kernel
theorem dX0_written_2 : decode cX0_written 2 = .ok (.iconst 0, 1) := by decide +kernel
theorem dX0_written_3 : decode cX0_written 3 = .ok (.istore_n 2, 1) := by decide +kernel
theorem dX0_written_4 : decode cX0_written 4 = .ok (.iload_n 2, 1) := by decide +kernel
theorem dX0_written_5 : decode cX0_written 5 = .ok (.bipush 16, 2) := by decide +kernel
theorem dX0_written_7 : decode cX0_written 7 = .ok (.if_icmp .ge 25, 3) := by decide +kernel
theorem dX0_written_10 : decode cX0_written 10 = .ok (.iload_n 1, 1) := by decide +kernel
theorem dX0_written_11 : decode cX0_written 11 = .ok (.aload_n 0, 1) := by decide +kernel
theorem dX0_written_12 : decode cX0_written 12 = .ok (.iload_n 2, 1) := by decide +kernel
theorem dX0_written_13 : decode cX0_written 13 = .ok (.invokevirtual 48, 3) := by decide +kernel
theorem dX0_written_16 : decode cX0_written 16 = .ok (.ifCond .eq 7, 3) := by decide +kernel
theorem dX0_written_19 : decode cX0_written 19 = .ok (.iconst 1, 1) := by decide +kernel
theorem dX0_written_20 : decode cX0_written 20 = .ok (.goto 4, 3) := by decide +kernel
theorem dX0_written_23 : decode cX0_written 23 = .ok (.iconst 0, 1) := by decide +kernel
theorem dX0_written_24 : decode cX0_written 24 = .ok (.iadd, 1) := by decide +kernel
theorem dX0_written_25 : decode cX0_written 25 = .ok (.istore_n 1, 1) := by decide +kernel
theorem dX0_written_26 : decode cX0_written 26 = .ok (.iinc 2 1, 3) := by decide +kernel
theorem dX0_written_29 : decode cX0_written 29 = .ok (.goto (-25), 3) := by decide +kernel
theorem dX0_written_32 : decode cX0_written 32 = .ok (.iload_n 1, 1) := by decide +kernel
theorem dX0_written_33 : decode cX0_written 33 = .ok (.ireturn, 1) := by decide +kernel
abbrev cX0_damaged : ByteArray := prog_1_method_10_code
def yX0_damaged : MethodName := ⟨RX0, "damaged", "()I"⟩
theorem dX0_damaged_0 : decode cX0_damaged 0 = .ok (.iconst 0, 1) := by decide +kernel
theorem dX0_damaged_1 : decode cX0_damaged 1 = .ok (.istore_n 1, 1) := by decide +kernel
theorem dX0_damaged_2 : decode cX0_damaged 2 = .ok (.iconst 0, 1) := by decide +kernel
theorem dX0_damaged_3 : decode cX0_damaged 3 = .ok (.istore_n 2, 1) := by decide +kernel
theorem dX0_damaged_4 : decode cX0_damaged 4 = .ok (.iload_n 2, 1) := by decide +kernel
theorem dX0_damaged_5 : decode cX0_damaged 5 = .ok (.bipush 16, 2) := by decide +kernel
theorem dX0_damaged_7 : decode cX0_damaged 7 = .ok (.if_icmp .ge 29, 3) := by decide +kernel
theorem dX0_damaged_10 : decode cX0_damaged 10 = .ok (.aload_n 0, 1) := by decide +kernel
theorem dX0_damaged_11 : decode cX0_damaged 11 = .ok (.iload_n 2, 1) := by decide +kernel
theorem dX0_damaged_12 : decode cX0_damaged 12 = .ok (.invokevirtual 54, 3) := by decide +kernel
theorem dX0_damaged_15 : decode cX0_damaged 15 = .ok (.istore_n 3, 1) := by decide +kernel
theorem dX0_damaged_16 : decode cX0_damaged 16 = .ok (.iload_n 1, 1) := by decide +kernel
theorem dX0_damaged_17 : decode cX0_damaged 17 = .ok (.iload_n 3, 1) := by decide +kernel
theorem dX0_damaged_18 : decode cX0_damaged 18 = .ok (.bipush (-3), 2) := by decide +kernel
theorem dX0_damaged_20 : decode cX0_damaged 20 = .ok (.if_icmp .ne 7, 3) := by decide +kernel
theorem dX0_damaged_23 : decode cX0_damaged 23 = .ok (.iconst 1, 1) := by decide +kernel
theorem dX0_damaged_24 : decode cX0_damaged 24 = .ok (.goto 4, 3) := by decide +kernel
theorem dX0_damaged_27 : decode cX0_damaged 27 = .ok (.iconst 0, 1) := by decide +kernel
theorem dX0_damaged_28 : decode cX0_damaged 28 = .ok (.iadd, 1) := by decide +kernel
theorem dX0_damaged_29 : decode cX0_damaged 29 = .ok (.istore_n 1, 1) := by decide +kernel
theorem dX0_damaged_30 : decode cX0_damaged 30 = .ok (.iinc 2 1, 3) := by decide +kernel
theorem dX0_damaged_33 : decode cX0_damaged 33 = .ok (.goto (-29), 3) := by decide +kernel
theorem dX0_damaged_36 : decode cX0_damaged 36 = .ok (.iload_n 1, 1) := by decide +kernel
theorem dX0_damaged_37 : decode cX0_damaged 37 = .ok (.ireturn, 1) := by decide +kernel
abbrev cX0_sum : ByteArray := prog_1_method_11_code
def yX0_sum : MethodName := ⟨RX0, "sum", "()I"⟩
theorem dX0_sum_0 : decode cX0_sum 0 = .ok (.iconst 0, 1) := by decide +kernel
theorem dX0_sum_1 : decode cX0_sum 1 = .ok (.istore_n 1, 1) := by decide +kernel
theorem dX0_sum_2 : decode cX0_sum 2 = .ok (.iconst 0, 1) := by decide +kernel
theorem dX0_sum_3 : decode cX0_sum 3 = .ok (.istore_n 2, 1) := by decide +kernel
theorem dX0_sum_4 : decode cX0_sum 4 = .ok (.iload_n 2, 1) := by decide +kernel
theorem dX0_sum_5 : decode cX0_sum 5 = .ok (.bipush 16, 2) := by decide +kernel
theorem dX0_sum_7 : decode cX0_sum 7 = .ok (.if_icmp .ge 27, 3) := by decide +kernel
theorem dX0_sum_10 : decode cX0_sum 10 = .ok (.aload_n 0, 1) := by decide +kernel
theorem dX0_sum_11 : decode cX0_sum 11 = .ok (.iload_n 2, 1) := by decide +kernel
theorem dX0_sum_12 : decode cX0_sum 12 = .ok (.invokevirtual 54, 3) := by decide +kernel
theorem dX0_sum_15 : decode cX0_sum 15 = .ok (.istore_n 3, 1) := by decide +kernel
theorem dX0_sum_16 : decode cX0_sum 16 = .ok (.iload_n 1, 1) := by decide +kernel
theorem dX0_sum_17 : decode cX0_sum 17 = .ok (.iload_n 3, 1) := by decide +kernel
theorem dX0_sum_18 : decode cX0_sum 18 = .ok (.ifCond .le 7, 3) := by decide +kernel
theorem dX0_sum_21 : decode cX0_sum 21 = .ok (.iload_n 3, 1) := by decide +kernel
theorem dX0_sum_22 : decode cX0_sum 22 = .ok (.goto 4, 3) := by decide +kernel
theorem dX0_sum_25 : decode cX0_sum 25 = .ok (.iconst 0, 1) := by decide +kernel
theorem dX0_sum_26 : decode cX0_sum 26 = .ok (.iadd, 1) := by decide +kernel
theorem dX0_sum_27 : decode cX0_sum 27 = .ok (.istore_n 1, 1) := by decide +kernel
theorem dX0_sum_28 : decode cX0_sum 28 = .ok (.iinc 2 1, 3) := by decide +kernel
theorem dX0_sum_31 : decode cX0_sum 31 = .ok (.goto (-27), 3) := by decide +kernel
theorem dX0_sum_34 : decode cX0_sum 34 = .ok (.iload_n 1, 1) := by decide +kernel
theorem dX0_sum_35 : decode cX0_sum 35 = .ok (.ireturn, 1) := by decide +kernel
theorem q10 : (Jvm.Cond.initialized "CardFlash") ∈ lw_all := lw_g (lw_at lw_m0 1 rfl) rfl
theorem q13 : (Jvm.Cond.instantiable "CardFlash" (9 : Nat)) ∈ lw_all := lw_g (lw_at lw_m0 4 rfl) rfl
theorem q15 : (Jvm.Cond.instanceMethod ({ cls := "CardFlash", name := "<init>", desc := "()V" } : Jvm.MethodName)) ∈ lw_all := lw_g (lw_at lw_m0 6 rfl) rfl
theorem q16 : (Jvm.Cond.code ({ cls := "CardFlash", name := "<init>", desc := "()V" } : Jvm.MethodName) prog_1_method_1_code (1 : Nat) (Option.none : Option Jvm.ClassFile.FieldType)) ∈ lw_all := lw_g (lw_at lw_m0 7 rfl) rfl
theorem q17 : (Jvm.Cond.methodLink "CardFlash" (1 : Nat) ({ cls := "java/lang/Object", name := "<init>", desc := "()V" } : Jvm.MethodName)) ∈ lw_all := lw_g (lw_at lw_m0 8 rfl) rfl
theorem q20 : (Jvm.Cond.methodLink "CardFlash" (29 : Nat) ({ cls := "CardFlash", name := "power", desc := "()V" } : Jvm.MethodName)) ∈ lw_all := lw_g (lw_at lw_m0 11 rfl) rfl
theorem q21 : (Jvm.Cond.instanceMethod ({ cls := "CardFlash", name := "power", desc := "()V" } : Jvm.MethodName)) ∈ lw_all := lw_g (lw_at lw_m0 12 rfl) rfl
theorem q22 : (Jvm.Cond.selects "CardFlash" ({ cls := "CardFlash", name := "power", desc := "()V" } : Jvm.MethodName) ({ cls := "CardFlash", name := "power", desc := "()V" } : Jvm.MethodName)) ∈ lw_all := lw_g (lw_at lw_m0 13 rfl) rfl
theorem q23 : (Jvm.Cond.code ({ cls := "CardFlash", name := "power", desc := "()V" } : Jvm.MethodName) prog_1_method_7_code (3 : Nat) (Option.none : Option Jvm.ClassFile.FieldType)) ∈ lw_all := lw_g (lw_at lw_m0 14 rfl) rfl
theorem q24 : (Jvm.Cond.methodLink "CardFlash" (65 : Nat) ({ cls := "CardFlash", name := "findCurrent", desc := "()V" } : Jvm.MethodName)) ∈ lw_all := lw_g (lw_at lw_m0 15 rfl) rfl
theorem q25 : (Jvm.Cond.privateMethod ({ cls := "CardFlash", name := "findCurrent", desc := "()V" } : Jvm.MethodName)) ∈ lw_tbl := lw_at lw_m0 16 rfl
theorem q26 : (Jvm.Cond.instanceMethod ({ cls := "CardFlash", name := "findCurrent", desc := "()V" } : Jvm.MethodName)) ∈ lw_all := lw_g (lw_at lw_m0 17 rfl) rfl
theorem q27 : (Jvm.Cond.code ({ cls := "CardFlash", name := "findCurrent", desc := "()V" } : Jvm.MethodName) prog_1_method_20_code (2 : Nat) (Option.none : Option Jvm.ClassFile.FieldType)) ∈ lw_all := lw_g (lw_at lw_m0 18 rfl) rfl
theorem q28 : (Jvm.Cond.fieldLink "CardFlash" (7 : Nat) "CardFlash" "kind" "[I") ∈ lw_all := lw_g (lw_at lw_m0 19 rfl) rfl
theorem q29 : (Jvm.Cond.fieldLink "CardFlash" (13 : Nat) "CardFlash" "owner" "[I") ∈ lw_all := lw_g (lw_at lw_m0 20 rfl) rfl
theorem q30 : (Jvm.Cond.fieldLink "CardFlash" (16 : Nat) "CardFlash" "serial" "[J") ∈ lw_all := lw_g (lw_at lw_m0 21 rfl) rfl
theorem q31 : (Jvm.Cond.fieldLink "CardFlash" (20 : Nat) "CardFlash" "word" "[I") ∈ lw_all := lw_g (lw_at lw_m0 22 rfl) rfl
theorem q32 : (Jvm.Cond.fieldLink "CardFlash" (23 : Nat) "CardFlash" "turned" "[I") ∈ lw_all := lw_g (lw_at lw_m0 23 rfl) rfl
theorem q33 : (Jvm.Cond.fieldLink "CardFlash" (26 : Nat) "CardFlash" "newest" "[I") ∈ lw_all := lw_g (lw_at lw_m0 24 rfl) rfl
theorem q34 : (Jvm.Cond.fieldLink "CardFlash" (86 : Nat) "CardFlash" "current" "I") ∈ lw_all := lw_g (lw_at lw_m0 25 rfl) rfl
theorem q35 : (Jvm.Cond.fieldLink "CardFlash" (75 : Nat) "CardFlash" "filled" "I") ∈ lw_all := lw_g (lw_at lw_m0 26 rfl) rfl
theorem q36 : (Jvm.Cond.fieldLink "CardFlash" (61 : Nat) "CardFlash" "nextSerial" "J") ∈ lw_all := lw_g (lw_at lw_m0 27 rfl) rfl
theorem q37 : (Jvm.Cond.laysFinal "CardFlash" "CardFlash" "kind" "[I") ∈ lw_all := lw_g (lw_at lw_m0 28 rfl) rfl
theorem q38 : (Jvm.Cond.soleField "CardFlash" "kind") ∈ lw_all := lw_g (lw_at lw_m0 29 rfl) rfl
theorem q39 : (Jvm.Cond.laysFinal "CardFlash" "CardFlash" "owner" "[I") ∈ lw_all := lw_g (lw_at lw_m0 30 rfl) rfl
theorem q40 : (Jvm.Cond.soleField "CardFlash" "owner") ∈ lw_all := lw_g (lw_at lw_m0 31 rfl) rfl
theorem q41 : (Jvm.Cond.laysFinal "CardFlash" "CardFlash" "serial" "[J") ∈ lw_all := lw_g (lw_at lw_m0 32 rfl) rfl
theorem q42 : (Jvm.Cond.soleField "CardFlash" "serial") ∈ lw_all := lw_g (lw_at lw_m0 33 rfl) rfl
theorem q43 : (Jvm.Cond.laysFinal "CardFlash" "CardFlash" "word" "[I") ∈ lw_all := lw_g (lw_at lw_m0 34 rfl) rfl
theorem q44 : (Jvm.Cond.soleField "CardFlash" "word") ∈ lw_all := lw_g (lw_at lw_m0 35 rfl) rfl
theorem q45 : (Jvm.Cond.laysFinal "CardFlash" "CardFlash" "turned" "[I") ∈ lw_all := lw_g (lw_at lw_m0 36 rfl) rfl
theorem q46 : (Jvm.Cond.soleField "CardFlash" "turned") ∈ lw_all := lw_g (lw_at lw_m0 37 rfl) rfl
theorem q47 : (Jvm.Cond.laysFinal "CardFlash" "CardFlash" "newest" "[I") ∈ lw_all := lw_g (lw_at lw_m0 38 rfl) rfl
theorem q48 : (Jvm.Cond.soleField "CardFlash" "newest") ∈ lw_all := lw_g (lw_at lw_m0 39 rfl) rfl
theorem q49 : (Jvm.Cond.lays "CardFlash" "CardFlash" "current" "I") ∈ lw_all := lw_g (lw_at lw_m0 40 rfl) rfl
theorem q50 : (Jvm.Cond.soleField "CardFlash" "current") ∈ lw_all := lw_g (lw_at lw_m0 41 rfl) rfl
theorem q51 : (Jvm.Cond.lays "CardFlash" "CardFlash" "filled" "I") ∈ lw_all := lw_g (lw_at lw_m0 42 rfl) rfl
theorem q52 : (Jvm.Cond.soleField "CardFlash" "filled") ∈ lw_all := lw_g (lw_at lw_m0 43 rfl) rfl
theorem q53 : (Jvm.Cond.lays "CardFlash" "CardFlash" "nextSerial" "J") ∈ lw_all := lw_g (lw_at lw_m0 44 rfl) rfl
theorem q54 : (Jvm.Cond.soleField "CardFlash" "nextSerial") ∈ lw_all := lw_g (lw_at lw_m0 45 rfl) rfl
theorem q55 : (Jvm.Cond.superclass "CardFlash" "java/lang/Object") ∈ lw_all := lw_g (lw_at lw_m0 46 rfl) rfl
theorem q59 : (Jvm.Cond.instanceMethod ({ cls := "CardFlash", name := "write", desc := "(II)I" } : Jvm.MethodName)) ∈ lw_all := lw_g (lw_at lw_m0 50 rfl) rfl
theorem q60 : (Jvm.Cond.selects "CardFlash" ({ cls := "CardFlash", name := "write", desc := "(II)I" } : Jvm.MethodName) ({ cls := "CardFlash", name := "write", desc := "(II)I" } : Jvm.MethodName)) ∈ lw_all := lw_g (lw_at lw_m0 51 rfl) rfl
theorem q61 : (Jvm.Cond.code ({ cls := "CardFlash", name := "write", desc := "(II)I" } : Jvm.MethodName) prog_1_method_2_code (4 : Nat) (Option.some Jvm.ClassFile.FieldType.int)) ∈ lw_all := lw_g (lw_at lw_m0 52 rfl) rfl
theorem q62 : (Jvm.Cond.methodLink "CardFlash" (32 : Nat) ({ cls := "CardFlash", name := "isSector", desc := "(I)Z" } : Jvm.MethodName)) ∈ lw_all := lw_g (lw_at lw_m0 53 rfl) rfl
theorem q63 : (Jvm.Cond.static ({ cls := "CardFlash", name := "isSector", desc := "(I)Z" } : Jvm.MethodName)) ∈ lw_all := lw_g (lw_at lw_m0 54 rfl) rfl
theorem q64 : (Jvm.Cond.code ({ cls := "CardFlash", name := "isSector", desc := "(I)Z" } : Jvm.MethodName) prog_1_method_12_code (1 : Nat) (Option.some Jvm.ClassFile.FieldType.boolean)) ∈ lw_all := lw_g (lw_at lw_m0 55 rfl) rfl
theorem q65 : (Jvm.Cond.constant "CardFlash" (36 : Nat) (65535 : Int32)) ∈ lw_all := lw_g (lw_at lw_m0 56 rfl) rfl
theorem q66 : (Jvm.Cond.methodLink "CardFlash" (37 : Nat) ({ cls := "CardFlash", name := "encode", desc := "(I)I" } : Jvm.MethodName)) ∈ lw_all := lw_g (lw_at lw_m0 57 rfl) rfl
theorem q67 : (Jvm.Cond.static ({ cls := "CardFlash", name := "encode", desc := "(I)I" } : Jvm.MethodName)) ∈ lw_all := lw_g (lw_at lw_m0 58 rfl) rfl
theorem q68 : (Jvm.Cond.code ({ cls := "CardFlash", name := "encode", desc := "(I)I" } : Jvm.MethodName) prog_1_method_24_code (5 : Nat) (Option.some Jvm.ClassFile.FieldType.int)) ∈ lw_all := lw_g (lw_at lw_m0 59 rfl) rfl
theorem q69 : (Jvm.Cond.methodLink "CardFlash" (92 : Nat) ({ cls := "CardFlash", name := "isCheck", desc := "(I)Z" } : Jvm.MethodName)) ∈ lw_all := lw_g (lw_at lw_m0 60 rfl) rfl
theorem q70 : (Jvm.Cond.static ({ cls := "CardFlash", name := "isCheck", desc := "(I)Z" } : Jvm.MethodName)) ∈ lw_all := lw_g (lw_at lw_m0 61 rfl) rfl
theorem q71 : (Jvm.Cond.code ({ cls := "CardFlash", name := "isCheck", desc := "(I)Z" } : Jvm.MethodName) prog_1_method_22_code (1 : Nat) (Option.some Jvm.ClassFile.FieldType.boolean)) ∈ lw_all := lw_g (lw_at lw_m0 62 rfl) rfl
theorem q72 : (Jvm.Cond.methodLink "CardFlash" (95 : Nat) ({ cls := "CardFlash", name := "syndrome", desc := "(I)I" } : Jvm.MethodName)) ∈ lw_all := lw_g (lw_at lw_m0 63 rfl) rfl
theorem q73 : (Jvm.Cond.static ({ cls := "CardFlash", name := "syndrome", desc := "(I)I" } : Jvm.MethodName)) ∈ lw_all := lw_g (lw_at lw_m0 64 rfl) rfl
theorem q74 : (Jvm.Cond.code ({ cls := "CardFlash", name := "syndrome", desc := "(I)I" } : Jvm.MethodName) prog_1_method_23_code (3 : Nat) (Option.some Jvm.ClassFile.FieldType.int)) ∈ lw_all := lw_g (lw_at lw_m0 65 rfl) rfl
theorem q75 : (Jvm.Cond.methodLink "CardFlash" (51 : Nat) ({ cls := "CardFlash", name := "ones", desc := "(I)I" } : Jvm.MethodName)) ∈ lw_all := lw_g (lw_at lw_m0 66 rfl) rfl
theorem q76 : (Jvm.Cond.static ({ cls := "CardFlash", name := "ones", desc := "(I)I" } : Jvm.MethodName)) ∈ lw_all := lw_g (lw_at lw_m0 67 rfl) rfl
theorem q77 : (Jvm.Cond.code ({ cls := "CardFlash", name := "ones", desc := "(I)I" } : Jvm.MethodName) prog_1_method_21_code (3 : Nat) (Option.some Jvm.ClassFile.FieldType.int)) ∈ lw_all := lw_g (lw_at lw_m0 68 rfl) rfl
theorem q78 : (Jvm.Cond.methodLink "CardFlash" (41 : Nat) ({ cls := "CardFlash", name := "program", desc := "(IIII)V" } : Jvm.MethodName)) ∈ lw_all := lw_g (lw_at lw_m0 69 rfl) rfl
theorem q79 : (Jvm.Cond.privateMethod ({ cls := "CardFlash", name := "program", desc := "(IIII)V" } : Jvm.MethodName)) ∈ lw_tbl := lw_at lw_m0 70 rfl
theorem q80 : (Jvm.Cond.instanceMethod ({ cls := "CardFlash", name := "program", desc := "(IIII)V" } : Jvm.MethodName)) ∈ lw_all := lw_g (lw_at lw_m0 71 rfl) rfl
theorem q81 : (Jvm.Cond.code ({ cls := "CardFlash", name := "program", desc := "(IIII)V" } : Jvm.MethodName) prog_1_method_14_code (6 : Nat) (Option.none : Option Jvm.ClassFile.FieldType)) ∈ lw_all := lw_g (lw_at lw_m0 72 rfl) rfl
theorem q82 : (Jvm.Cond.methodLink "CardFlash" (83 : Nat) ({ cls := "CardFlash", name := "freeBlock", desc := "()I" } : Jvm.MethodName)) ∈ lw_all := lw_g (lw_at lw_m0 73 rfl) rfl
theorem q83 : (Jvm.Cond.privateMethod ({ cls := "CardFlash", name := "freeBlock", desc := "()I" } : Jvm.MethodName)) ∈ lw_tbl := lw_at lw_m0 74 rfl
theorem q84 : (Jvm.Cond.instanceMethod ({ cls := "CardFlash", name := "freeBlock", desc := "()I" } : Jvm.MethodName)) ∈ lw_all := lw_g (lw_at lw_m0 75 rfl) rfl
theorem q85 : (Jvm.Cond.code ({ cls := "CardFlash", name := "freeBlock", desc := "()I" } : Jvm.MethodName) prog_1_method_16_code (2 : Nat) (Option.some Jvm.ClassFile.FieldType.int)) ∈ lw_all := lw_g (lw_at lw_m0 76 rfl) rfl
theorem q86 : (Jvm.Cond.methodLink "CardFlash" (68 : Nat) ({ cls := "CardFlash", name := "leastLive", desc := "()I" } : Jvm.MethodName)) ∈ lw_all := lw_g (lw_at lw_m0 77 rfl) rfl
theorem q87 : (Jvm.Cond.privateMethod ({ cls := "CardFlash", name := "leastLive", desc := "()I" } : Jvm.MethodName)) ∈ lw_tbl := lw_at lw_m0 78 rfl
theorem q88 : (Jvm.Cond.instanceMethod ({ cls := "CardFlash", name := "leastLive", desc := "()I" } : Jvm.MethodName)) ∈ lw_all := lw_g (lw_at lw_m0 79 rfl) rfl
theorem q89 : (Jvm.Cond.code ({ cls := "CardFlash", name := "leastLive", desc := "()I" } : Jvm.MethodName) prog_1_method_18_code (4 : Nat) (Option.some Jvm.ClassFile.FieldType.int)) ∈ lw_all := lw_g (lw_at lw_m0 80 rfl) rfl
theorem q90 : (Jvm.Cond.methodLink "CardFlash" (72 : Nat) ({ cls := "CardFlash", name := "livePages", desc := "(I)I" } : Jvm.MethodName)) ∈ lw_all := lw_g (lw_at lw_m0 81 rfl) rfl
theorem q91 : (Jvm.Cond.privateMethod ({ cls := "CardFlash", name := "livePages", desc := "(I)I" } : Jvm.MethodName)) ∈ lw_tbl := lw_at lw_m0 82 rfl
theorem q92 : (Jvm.Cond.instanceMethod ({ cls := "CardFlash", name := "livePages", desc := "(I)I" } : Jvm.MethodName)) ∈ lw_all := lw_g (lw_at lw_m0 83 rfl) rfl
theorem q93 : (Jvm.Cond.code ({ cls := "CardFlash", name := "livePages", desc := "(I)I" } : Jvm.MethodName) prog_1_method_17_code (4 : Nat) (Option.some Jvm.ClassFile.FieldType.int)) ∈ lw_all := lw_g (lw_at lw_m0 84 rfl) rfl
theorem q94 : (Jvm.Cond.methodLink "CardFlash" (79 : Nat) ({ cls := "CardFlash", name := "gather", desc := "(I)V" } : Jvm.MethodName)) ∈ lw_all := lw_g (lw_at lw_m0 85 rfl) rfl
theorem q95 : (Jvm.Cond.privateMethod ({ cls := "CardFlash", name := "gather", desc := "(I)V" } : Jvm.MethodName)) ∈ lw_tbl := lw_at lw_m0 86 rfl
theorem q96 : (Jvm.Cond.instanceMethod ({ cls := "CardFlash", name := "gather", desc := "(I)V" } : Jvm.MethodName)) ∈ lw_all := lw_g (lw_at lw_m0 87 rfl) rfl
theorem q97 : (Jvm.Cond.code ({ cls := "CardFlash", name := "gather", desc := "(I)V" } : Jvm.MethodName) prog_1_method_19_code (3 : Nat) (Option.none : Option Jvm.ClassFile.FieldType)) ∈ lw_all := lw_g (lw_at lw_m0 88 rfl) rfl
theorem q98 : (Jvm.Cond.methodLink "CardFlash" (89 : Nat) ({ cls := "CardFlash", name := "put", desc := "(IIII)V" } : Jvm.MethodName)) ∈ lw_all := lw_g (lw_at lw_m0 89 rfl) rfl
theorem q99 : (Jvm.Cond.privateMethod ({ cls := "CardFlash", name := "put", desc := "(IIII)V" } : Jvm.MethodName)) ∈ lw_tbl := lw_at lw_m0 90 rfl
theorem q100 : (Jvm.Cond.instanceMethod ({ cls := "CardFlash", name := "put", desc := "(IIII)V" } : Jvm.MethodName)) ∈ lw_all := lw_g (lw_at lw_m0 91 rfl) rfl
theorem q101 : (Jvm.Cond.code ({ cls := "CardFlash", name := "put", desc := "(IIII)V" } : Jvm.MethodName) prog_1_method_15_code (6 : Nat) (Option.none : Option Jvm.ClassFile.FieldType)) ∈ lw_all := lw_g (lw_at lw_m0 92 rfl) rfl
theorem q103 : (Jvm.Cond.instanceMethod ({ cls := "CardFlash", name := "read", desc := "(I)I" } : Jvm.MethodName)) ∈ lw_all := lw_g (lw_at lw_m0 94 rfl) rfl
theorem q104 : (Jvm.Cond.selects "CardFlash" ({ cls := "CardFlash", name := "read", desc := "(I)I" } : Jvm.MethodName) ({ cls := "CardFlash", name := "read", desc := "(I)I" } : Jvm.MethodName)) ∈ lw_all := lw_g (lw_at lw_m0 95 rfl) rfl
theorem q105 : (Jvm.Cond.code ({ cls := "CardFlash", name := "read", desc := "(I)I" } : Jvm.MethodName) prog_1_method_3_code (3 : Nat) (Option.some Jvm.ClassFile.FieldType.int)) ∈ lw_all := lw_g (lw_at lw_m0 96 rfl) rfl
theorem q106 : (Jvm.Cond.methodLink "CardFlash" (45 : Nat) ({ cls := "CardFlash", name := "decode", desc := "(I)I" } : Jvm.MethodName)) ∈ lw_all := lw_g (lw_at lw_m0 97 rfl) rfl
theorem q107 : (Jvm.Cond.static ({ cls := "CardFlash", name := "decode", desc := "(I)I" } : Jvm.MethodName)) ∈ lw_all := lw_g (lw_at lw_m0 98 rfl) rfl
theorem q108 : (Jvm.Cond.code ({ cls := "CardFlash", name := "decode", desc := "(I)I" } : Jvm.MethodName) prog_1_method_25_code (7 : Nat) (Option.some Jvm.ClassFile.FieldType.int)) ∈ lw_all := lw_g (lw_at lw_m0 99 rfl) rfl
theorem q110 : (Jvm.Cond.instanceMethod ({ cls := "CardFlash", name := "trim", desc := "(I)I" } : Jvm.MethodName)) ∈ lw_all := lw_g (lw_at lw_m0 101 rfl) rfl
theorem q111 : (Jvm.Cond.selects "CardFlash" ({ cls := "CardFlash", name := "trim", desc := "(I)I" } : Jvm.MethodName) ({ cls := "CardFlash", name := "trim", desc := "(I)I" } : Jvm.MethodName)) ∈ lw_all := lw_g (lw_at lw_m0 102 rfl) rfl
theorem q112 : (Jvm.Cond.code ({ cls := "CardFlash", name := "trim", desc := "(I)I" } : Jvm.MethodName) prog_1_method_4_code (2 : Nat) (Option.some Jvm.ClassFile.FieldType.int)) ∈ lw_all := lw_g (lw_at lw_m0 103 rfl) rfl
theorem q113 : (Jvm.Cond.methodLink "CardFlash" (48 : Nat) ({ cls := "CardFlash", name := "isWritten", desc := "(I)Z" } : Jvm.MethodName)) ∈ lw_all := lw_g (lw_at lw_m0 104 rfl) rfl
theorem q114 : (Jvm.Cond.privateMethod ({ cls := "CardFlash", name := "isWritten", desc := "(I)Z" } : Jvm.MethodName)) ∈ lw_tbl := lw_at lw_m0 105 rfl
theorem q115 : (Jvm.Cond.instanceMethod ({ cls := "CardFlash", name := "isWritten", desc := "(I)Z" } : Jvm.MethodName)) ∈ lw_all := lw_g (lw_at lw_m0 106 rfl) rfl
theorem q116 : (Jvm.Cond.code ({ cls := "CardFlash", name := "isWritten", desc := "(I)Z" } : Jvm.MethodName) prog_1_method_13_code (2 : Nat) (Option.some Jvm.ClassFile.FieldType.boolean)) ∈ lw_all := lw_g (lw_at lw_m0 107 rfl) rfl
theorem q118 : (Jvm.Cond.instanceMethod ({ cls := "CardFlash", name := "turn", desc := "(II)I" } : Jvm.MethodName)) ∈ lw_all := lw_g (lw_at lw_m0 109 rfl) rfl
theorem q119 : (Jvm.Cond.selects "CardFlash" ({ cls := "CardFlash", name := "turn", desc := "(II)I" } : Jvm.MethodName) ({ cls := "CardFlash", name := "turn", desc := "(II)I" } : Jvm.MethodName)) ∈ lw_all := lw_g (lw_at lw_m0 110 rfl) rfl
theorem q120 : (Jvm.Cond.code ({ cls := "CardFlash", name := "turn", desc := "(II)I" } : Jvm.MethodName) prog_1_method_5_code (6 : Nat) (Option.some Jvm.ClassFile.FieldType.int)) ∈ lw_all := lw_g (lw_at lw_m0 111 rfl) rfl
theorem q122 : (Jvm.Cond.instanceMethod ({ cls := "CardFlash", name := "repair", desc := "(I)I" } : Jvm.MethodName)) ∈ lw_all := lw_g (lw_at lw_m0 113 rfl) rfl
theorem q123 : (Jvm.Cond.selects "CardFlash" ({ cls := "CardFlash", name := "repair", desc := "(I)I" } : Jvm.MethodName) ({ cls := "CardFlash", name := "repair", desc := "(I)I" } : Jvm.MethodName)) ∈ lw_all := lw_g (lw_at lw_m0 114 rfl) rfl
theorem q124 : (Jvm.Cond.code ({ cls := "CardFlash", name := "repair", desc := "(I)I" } : Jvm.MethodName) prog_1_method_6_code (3 : Nat) (Option.some Jvm.ClassFile.FieldType.int)) ∈ lw_all := lw_g (lw_at lw_m0 115 rfl) rfl
theorem q125 : (Jvm.Cond.methodLink "CardFlash" (54 : Nat) ({ cls := "CardFlash", name := "read", desc := "(I)I" } : Jvm.MethodName)) ∈ lw_all := lw_g (lw_at lw_m0 116 rfl) rfl
theorem q126 : (Jvm.Cond.methodLink "CardFlash" (57 : Nat) ({ cls := "CardFlash", name := "write", desc := "(II)I" } : Jvm.MethodName)) ∈ lw_all := lw_g (lw_at lw_m0 117 rfl) rfl
theorem q129 : (Jvm.Cond.instanceMethod ({ cls := "CardFlash", name := "tidy", desc := "(I)V" } : Jvm.MethodName)) ∈ lw_all := lw_g (lw_at lw_m0 120 rfl) rfl
theorem q130 : (Jvm.Cond.selects "CardFlash" ({ cls := "CardFlash", name := "tidy", desc := "(I)V" } : Jvm.MethodName) ({ cls := "CardFlash", name := "tidy", desc := "(I)V" } : Jvm.MethodName)) ∈ lw_all := lw_g (lw_at lw_m0 121 rfl) rfl
theorem q131 : (Jvm.Cond.code ({ cls := "CardFlash", name := "tidy", desc := "(I)V" } : Jvm.MethodName) prog_1_method_8_code (4 : Nat) (Option.none : Option Jvm.ClassFile.FieldType)) ∈ lw_all := lw_g (lw_at lw_m0 122 rfl) rfl
theorem q133 : (Jvm.Cond.instanceMethod ({ cls := "CardFlash", name := "written", desc := "()I" } : Jvm.MethodName)) ∈ lw_all := lw_g (lw_at lw_m0 124 rfl) rfl
theorem q134 : (Jvm.Cond.selects "CardFlash" ({ cls := "CardFlash", name := "written", desc := "()I" } : Jvm.MethodName) ({ cls := "CardFlash", name := "written", desc := "()I" } : Jvm.MethodName)) ∈ lw_all := lw_g (lw_at lw_m0 125 rfl) rfl
theorem q135 : (Jvm.Cond.code ({ cls := "CardFlash", name := "written", desc := "()I" } : Jvm.MethodName) prog_1_method_9_code (3 : Nat) (Option.some Jvm.ClassFile.FieldType.int)) ∈ lw_all := lw_g (lw_at lw_m0 126 rfl) rfl
theorem q137 : (Jvm.Cond.instanceMethod ({ cls := "CardFlash", name := "damaged", desc := "()I" } : Jvm.MethodName)) ∈ lw_all := lw_g (lw_at lw_m0 128 rfl) rfl
theorem q138 : (Jvm.Cond.selects "CardFlash" ({ cls := "CardFlash", name := "damaged", desc := "()I" } : Jvm.MethodName) ({ cls := "CardFlash", name := "damaged", desc := "()I" } : Jvm.MethodName)) ∈ lw_all := lw_g (lw_at lw_m0 129 rfl) rfl
theorem q139 : (Jvm.Cond.code ({ cls := "CardFlash", name := "damaged", desc := "()I" } : Jvm.MethodName) prog_1_method_10_code (4 : Nat) (Option.some Jvm.ClassFile.FieldType.int)) ∈ lw_all := lw_g (lw_at lw_m0 130 rfl) rfl
theorem q141 : (Jvm.Cond.instanceMethod ({ cls := "CardFlash", name := "sum", desc := "()I" } : Jvm.MethodName)) ∈ lw_all := lw_g (lw_at lw_m0 132 rfl) rfl
theorem q142 : (Jvm.Cond.selects "CardFlash" ({ cls := "CardFlash", name := "sum", desc := "()I" } : Jvm.MethodName) ({ cls := "CardFlash", name := "sum", desc := "()I" } : Jvm.MethodName)) ∈ lw_all := lw_g (lw_at lw_m0 133 rfl) rfl
theorem q143 : (Jvm.Cond.code ({ cls := "CardFlash", name := "sum", desc := "()I" } : Jvm.MethodName) prog_1_method_11_code (4 : Nat) (Option.some Jvm.ClassFile.FieldType.int)) ∈ lw_all := lw_g (lw_at lw_m0 134 rfl) rfl
theorem in_X0 : ∀ w ∈ wsX00, w ∈ lw_all := lw_in wsX00 [37, 39, 41, 43, 45, 47, 49, 51, 53] (by decide +kernel) (by decide +kernel)
end
section
/-! CardFlashModel -/
set_option maxRecDepth 100000
def RX1 : String := "CardFlashModel"
def TX1 : u_T := fun k => match k with
  | 0 => ("CardFlashModel", "filled", "[Z", true)
  | 1 => ("CardFlashModel", "values", "[I", true)
  | _ => ("CardFlashModel", "turned", "[I", true)
def tyX1 : Nat → FieldType := fun k => match k with
  | 0 => .array .boolean
  | 1 => .array .int
  | _ => .array .int
abbrev wsX10 : List Cond := u_ws RX1 TX1 3
theorem nmX1 : ∀ a, a < 3 → ∀ b, b < 3 → a ≠ b → (TX1 a).2.1 ≠ (TX1 b).2.1 := by decide +kernel
theorem tyX1_ok : ∀ k, k < 3 → parseFieldDescriptor (TX1 k).2.2.1 = some (tyX1 k) := by decide +kernel
abbrev cX1_init : ByteArray := prog_3_method_1_code
def yX1_init : MethodName := ⟨RX1, "<init>", "()V"⟩
theorem dX1_init_0 : decode cX1_init 0 = .ok (.aload_n 0, 1) := by decide +kernel
theorem dX1_init_1 : decode cX1_init 1 = .ok (.invokespecial 1, 3) := by decide +kernel
theorem dX1_init_4 : decode cX1_init 4 = .ok (.aload_n 0, 1) := by decide +kernel
theorem dX1_init_5 : decode cX1_init 5 = .ok (.bipush 16, 2) := by decide +kernel
theorem dX1_init_7 : decode cX1_init 7 = .ok (.newarray .boolean, 2) := by decide +kernel
theorem dX1_init_9 : decode cX1_init 9 = .ok (.putfield 7, 3) := by decide +kernel
theorem dX1_init_12 : decode cX1_init 12 = .ok (.aload_n 0, 1) := by decide +kernel
theorem dX1_init_13 : decode cX1_init 13 = .ok (.bipush 16, 2) := by decide +kernel
theorem dX1_init_15 : decode cX1_init 15 = .ok (.newarray .int, 2) := by decide +kernel
theorem dX1_init_17 : decode cX1_init 17 = .ok (.putfield 13, 3) := by decide +kernel
theorem dX1_init_20 : decode cX1_init 20 = .ok (.aload_n 0, 1) := by decide +kernel
theorem dX1_init_21 : decode cX1_init 21 = .ok (.bipush 16, 2) := by decide +kernel
theorem dX1_init_23 : decode cX1_init 23 = .ok (.newarray .int, 2) := by decide +kernel
theorem dX1_init_25 : decode cX1_init 25 = .ok (.putfield 17, 3) := by decide +kernel
theorem dX1_init_28 : decode cX1_init 28 = .ok (.return_, 1) := by decide +kernel
abbrev cX1_write : ByteArray := prog_3_method_4_code
def yX1_write : MethodName := ⟨RX1, "write", "(II)I"⟩
theorem dX1_write_0 : decode cX1_write 0 = .ok (.iload_n 1, 1) := by decide +kernel
theorem dX1_write_1 : decode cX1_write 1 = .ok (.invokestatic 20, 3) := by decide +kernel
theorem dX1_write_4 : decode cX1_write 4 = .ok (.ifCond .eq 5, 3) := by decide +kernel
theorem dX1_write_7 : decode cX1_write 7 = .ok (.iconst (-1), 1) := by decide +kernel
theorem dX1_write_8 : decode cX1_write 8 = .ok (.ireturn, 1) := by decide +kernel
theorem dX1_write_9 : decode cX1_write 9 = .ok (.aload_n 0, 1) := by decide +kernel
theorem dX1_write_10 : decode cX1_write 10 = .ok (.getfield 7, 3) := by decide +kernel
theorem dX1_write_13 : decode cX1_write 13 = .ok (.iload_n 1, 1) := by decide +kernel
theorem dX1_write_14 : decode cX1_write 14 = .ok (.iconst 1, 1) := by decide +kernel
theorem dX1_write_15 : decode cX1_write 15 = .ok (.bastore, 1) := by decide +kernel
theorem dX1_write_16 : decode cX1_write 16 = .ok (.aload_n 0, 1) := by decide +kernel
theorem dX1_write_17 : decode cX1_write 17 = .ok (.getfield 13, 3) := by decide +kernel
theorem dX1_write_20 : decode cX1_write 20 = .ok (.iload_n 1, 1) := by decide +kernel
theorem dX1_write_21 : decode cX1_write 21 = .ok (.iload_n 2, 1) := by decide +kernel
theorem dX1_write_22 : decode cX1_write 22 = .ok (.ldc 24, 2) := by decide +kernel
theorem dX1_write_24 : decode cX1_write 24 = .ok (.iand, 1) := by decide +kernel
theorem dX1_write_25 : decode cX1_write 25 = .ok (.iastore, 1) := by decide +kernel
theorem dX1_write_26 : decode cX1_write 26 = .ok (.aload_n 0, 1) := by decide +kernel
theorem dX1_write_27 : decode cX1_write 27 = .ok (.getfield 17, 3) := by decide +kernel
theorem dX1_write_30 : decode cX1_write 30 = .ok (.iload_n 1, 1) := by decide +kernel
theorem dX1_write_31 : decode cX1_write 31 = .ok (.iconst 0, 1) := by decide +kernel
theorem dX1_write_32 : decode cX1_write 32 = .ok (.iastore, 1) := by decide +kernel
theorem dX1_write_33 : decode cX1_write 33 = .ok (.iconst 0, 1) := by decide +kernel
theorem dX1_write_34 : decode cX1_write 34 = .ok (.ireturn, 1) := by decide +kernel
abbrev cX1_bad : ByteArray := prog_3_method_2_code
def yX1_bad : MethodName := ⟨RX1, "bad", "(I)Z"⟩
theorem dX1_bad_0 : decode cX1_bad 0 = .ok (.iload_n 0, 1) := by decide +kernel
theorem dX1_bad_1 : decode cX1_bad 1 = .ok (.ifCond .lt 9, 3) := by decide +kernel
theorem dX1_bad_4 : decode cX1_bad 4 = .ok (.iload_n 0, 1) := by decide +kernel
theorem dX1_bad_5 : decode cX1_bad 5 = .ok (.bipush 15, 2) := by decide +kernel
theorem dX1_bad_7 : decode cX1_bad 7 = .ok (.if_icmp .le 7, 3) := by decide +kernel
theorem dX1_bad_10 : decode cX1_bad 10 = .ok (.iconst 1, 1) := by decide +kernel
theorem dX1_bad_11 : decode cX1_bad 11 = .ok (.goto 4, 3) := by decide +kernel
theorem dX1_bad_14 : decode cX1_bad 14 = .ok (.iconst 0, 1) := by decide +kernel
theorem dX1_bad_15 : decode cX1_bad 15 = .ok (.ireturn, 1) := by decide +kernel
abbrev cX1_read : ByteArray := prog_3_method_5_code
def yX1_read : MethodName := ⟨RX1, "read", "(I)I"⟩
theorem dX1_read_0 : decode cX1_read 0 = .ok (.iload_n 1, 1) := by decide +kernel
theorem dX1_read_1 : decode cX1_read 1 = .ok (.invokestatic 20, 3) := by decide +kernel
theorem dX1_read_4 : decode cX1_read 4 = .ok (.ifCond .eq 5, 3) := by decide +kernel
theorem dX1_read_7 : decode cX1_read 7 = .ok (.iconst (-1), 1) := by decide +kernel
theorem dX1_read_8 : decode cX1_read 8 = .ok (.ireturn, 1) := by decide +kernel
theorem dX1_read_9 : decode cX1_read 9 = .ok (.aload_n 0, 1) := by decide +kernel
theorem dX1_read_10 : decode cX1_read 10 = .ok (.getfield 7, 3) := by decide +kernel
theorem dX1_read_13 : decode cX1_read 13 = .ok (.iload_n 1, 1) := by decide +kernel
theorem dX1_read_14 : decode cX1_read 14 = .ok (.baload, 1) := by decide +kernel
theorem dX1_read_15 : decode cX1_read 15 = .ok (.ifCond .ne 6, 3) := by decide +kernel
theorem dX1_read_18 : decode cX1_read 18 = .ok (.bipush (-2), 2) := by decide +kernel
theorem dX1_read_20 : decode cX1_read 20 = .ok (.ireturn, 1) := by decide +kernel
theorem dX1_read_21 : decode cX1_read 21 = .ok (.aload_n 0, 1) := by decide +kernel
theorem dX1_read_22 : decode cX1_read 22 = .ok (.iload_n 1, 1) := by decide +kernel
theorem dX1_read_23 : decode cX1_read 23 = .ok (.invokevirtual 25, 3) := by decide +kernel
theorem dX1_read_26 : decode cX1_read 26 = .ok (.iconst 2, 1) := by decide +kernel
theorem dX1_read_27 : decode cX1_read 27 = .ok (.if_icmp .ne 8, 3) := by decide +kernel
theorem dX1_read_30 : decode cX1_read 30 = .ok (.bipush (-3), 2) := by decide +kernel
theorem dX1_read_32 : decode cX1_read 32 = .ok (.goto 9, 3) := by decide +kernel
theorem dX1_read_35 : decode cX1_read 35 = .ok (.aload_n 0, 1) := by decide +kernel
theorem dX1_read_36 : decode cX1_read 36 = .ok (.getfield 13, 3) := by decide +kernel
theorem dX1_read_39 : decode cX1_read 39 = .ok (.iload_n 1, 1) := by decide +kernel
theorem dX1_read_40 : decode cX1_read 40 = .ok (.iaload, 1) := by decide +kernel
theorem dX1_read_41 : decode cX1_read 41 = .ok (.ireturn, 1) := by decide +kernel
abbrev cX1_turns : ByteArray := prog_3_method_3_code
def yX1_turns : MethodName := ⟨RX1, "turns", "(I)I"⟩
theorem dX1_turns_0 : decode cX1_turns 0 = .ok (.iconst 0, 1) := by decide +kernel
theorem dX1_turns_1 : decode cX1_turns 1 = .ok (.istore_n 2, 1) := by decide +kernel
theorem dX1_turns_2 : decode cX1_turns 2 = .ok (.iconst 0, 1) := by decide +kernel
theorem dX1_turns_3 : decode cX1_turns 3 = .ok (.istore_n 3, 1) := by decide +kernel
theorem dX1_turns_4 : decode cX1_turns 4 = .ok (.iload_n 3, 1) := by decide +kernel
theorem dX1_turns_5 : decode cX1_turns 5 = .ok (.bipush 22, 2) := by decide +kernel
theorem dX1_turns_7 : decode cX1_turns 7 = .ok (.if_icmp .ge 22, 3) := by decide +kernel
theorem dX1_turns_10 : decode cX1_turns 10 = .ok (.iload_n 2, 1) := by decide +kernel
theorem dX1_turns_11 : decode cX1_turns 11 = .ok (.aload_n 0, 1) := by decide +kernel
theorem dX1_turns_12 : decode cX1_turns 12 = .ok (.getfield 17, 3) := by decide +kernel
theorem dX1_turns_15 : decode cX1_turns 15 = .ok (.iload_n 1, 1) := by decide +kernel
theorem dX1_turns_16 : decode cX1_turns 16 = .ok (.iaload, 1) := by decide +kernel
theorem dX1_turns_17 : decode cX1_turns 17 = .ok (.iload_n 3, 1) := by decide +kernel
theorem dX1_turns_18 : decode cX1_turns 18 = .ok (.ishr, 1) := by decide +kernel
theorem dX1_turns_19 : decode cX1_turns 19 = .ok (.iconst 1, 1) := by decide +kernel
theorem dX1_turns_20 : decode cX1_turns 20 = .ok (.iand, 1) := by decide +kernel
theorem dX1_turns_21 : decode cX1_turns 21 = .ok (.iadd, 1) := by decide +kernel
theorem dX1_turns_22 : decode cX1_turns 22 = .ok (.istore_n 2, 1) := by decide +kernel
theorem dX1_turns_23 : decode cX1_turns 23 = .ok (.iinc 3 1, 3) := by decide +kernel
theorem dX1_turns_26 : decode cX1_turns 26 = .ok (.goto (-22), 3) := by decide +kernel
theorem dX1_turns_29 : decode cX1_turns 29 = .ok (.iload_n 2, 1) := by decide +kernel
theorem dX1_turns_30 : decode cX1_turns 30 = .ok (.ireturn, 1) := by decide +kernel
abbrev cX1_trim : ByteArray := prog_3_method_6_code
def yX1_trim : MethodName := ⟨RX1, "trim", "(I)I"⟩
theorem dX1_trim_0 : decode cX1_trim 0 = .ok (.iload_n 1, 1) := by decide +kernel
theorem dX1_trim_1 : decode cX1_trim 1 = .ok (.invokestatic 20, 3) := by decide +kernel
theorem dX1_trim_4 : decode cX1_trim 4 = .ok (.ifCond .eq 5, 3) := by decide +kernel
theorem dX1_trim_7 : decode cX1_trim 7 = .ok (.iconst (-1), 1) := by decide +kernel
theorem dX1_trim_8 : decode cX1_trim 8 = .ok (.ireturn, 1) := by decide +kernel
theorem dX1_trim_9 : decode cX1_trim 9 = .ok (.aload_n 0, 1) := by decide +kernel
theorem dX1_trim_10 : decode cX1_trim 10 = .ok (.getfield 7, 3) := by decide +kernel
theorem dX1_trim_13 : decode cX1_trim 13 = .ok (.iload_n 1, 1) := by decide +kernel
theorem dX1_trim_14 : decode cX1_trim 14 = .ok (.baload, 1) := by decide +kernel
theorem dX1_trim_15 : decode cX1_trim 15 = .ok (.ifCond .ne 6, 3) := by decide +kernel
theorem dX1_trim_18 : decode cX1_trim 18 = .ok (.bipush (-2), 2) := by decide +kernel
theorem dX1_trim_20 : decode cX1_trim 20 = .ok (.ireturn, 1) := by decide +kernel
theorem dX1_trim_21 : decode cX1_trim 21 = .ok (.aload_n 0, 1) := by decide +kernel
theorem dX1_trim_22 : decode cX1_trim 22 = .ok (.getfield 7, 3) := by decide +kernel
theorem dX1_trim_25 : decode cX1_trim 25 = .ok (.iload_n 1, 1) := by decide +kernel
theorem dX1_trim_26 : decode cX1_trim 26 = .ok (.iconst 0, 1) := by decide +kernel
theorem dX1_trim_27 : decode cX1_trim 27 = .ok (.bastore, 1) := by decide +kernel
theorem dX1_trim_28 : decode cX1_trim 28 = .ok (.iconst 0, 1) := by decide +kernel
theorem dX1_trim_29 : decode cX1_trim 29 = .ok (.ireturn, 1) := by decide +kernel
abbrev cX1_turn : ByteArray := prog_3_method_7_code
def yX1_turn : MethodName := ⟨RX1, "turn", "(II)I"⟩
theorem dX1_turn_0 : decode cX1_turn 0 = .ok (.iload_n 1, 1) := by decide +kernel
theorem dX1_turn_1 : decode cX1_turn 1 = .ok (.invokestatic 20, 3) := by decide +kernel
theorem dX1_turn_4 : decode cX1_turn 4 = .ok (.ifCond .ne 13, 3) := by decide +kernel
theorem dX1_turn_7 : decode cX1_turn 7 = .ok (.iload_n 2, 1) := by decide +kernel
theorem dX1_turn_8 : decode cX1_turn 8 = .ok (.ifCond .lt 9, 3) := by decide +kernel
theorem dX1_turn_11 : decode cX1_turn 11 = .ok (.iload_n 2, 1) := by decide +kernel
theorem dX1_turn_12 : decode cX1_turn 12 = .ok (.bipush 21, 2) := by decide +kernel
theorem dX1_turn_14 : decode cX1_turn 14 = .ok (.if_icmp .le 5, 3) := by decide +kernel
theorem dX1_turn_17 : decode cX1_turn 17 = .ok (.iconst (-1), 1) := by decide +kernel
theorem dX1_turn_18 : decode cX1_turn 18 = .ok (.ireturn, 1) := by decide +kernel
theorem dX1_turn_19 : decode cX1_turn 19 = .ok (.aload_n 0, 1) := by decide +kernel
theorem dX1_turn_20 : decode cX1_turn 20 = .ok (.getfield 7, 3) := by decide +kernel
theorem dX1_turn_23 : decode cX1_turn 23 = .ok (.iload_n 1, 1) := by decide +kernel
theorem dX1_turn_24 : decode cX1_turn 24 = .ok (.baload, 1) := by decide +kernel
theorem dX1_turn_25 : decode cX1_turn 25 = .ok (.ifCond .ne 6, 3) := by decide +kernel
theorem dX1_turn_28 : decode cX1_turn 28 = .ok (.bipush (-2), 2) := by decide +kernel
theorem dX1_turn_30 : decode cX1_turn 30 = .ok (.ireturn, 1) := by decide +kernel
theorem dX1_turn_31 : decode cX1_turn 31 = .ok (.aload_n 0, 1) := by decide +kernel
theorem dX1_turn_32 : decode cX1_turn 32 = .ok (.iload_n 1, 1) := by decide +kernel
theorem dX1_turn_33 : decode cX1_turn 33 = .ok (.invokevirtual 25, 3) := by decide +kernel
theorem dX1_turn_36 : decode cX1_turn 36 = .ok (.iconst 2, 1) := by decide +kernel
theorem dX1_turn_37 : decode cX1_turn 37 = .ok (.if_icmp .ne 19, 3) := by decide +kernel
theorem dX1_turn_40 : decode cX1_turn 40 = .ok (.aload_n 0, 1) := by decide +kernel
theorem dX1_turn_41 : decode cX1_turn 41 = .ok (.getfield 17, 3) := by decide +kernel
theorem dX1_turn_44 : decode cX1_turn 44 = .ok (.iload_n 1, 1) := by decide +kernel
theorem dX1_turn_45 : decode cX1_turn 45 = .ok (.iaload, 1) := by decide +kernel
theorem dX1_turn_46 : decode cX1_turn 46 = .ok (.iload_n 2, 1) := by decide +kernel
theorem dX1_turn_47 : decode cX1_turn 47 = .ok (.ishr, 1) := by decide +kernel
theorem dX1_turn_48 : decode cX1_turn 48 = .ok (.iconst 1, 1) := by decide +kernel
theorem dX1_turn_49 : decode cX1_turn 49 = .ok (.iand, 1) := by decide +kernel
theorem dX1_turn_50 : decode cX1_turn 50 = .ok (.ifCond .ne 6, 3) := by decide +kernel
theorem dX1_turn_53 : decode cX1_turn 53 = .ok (.bipush (-3), 2) := by decide +kernel
theorem dX1_turn_55 : decode cX1_turn 55 = .ok (.ireturn, 1) := by decide +kernel
theorem dX1_turn_56 : decode cX1_turn 56 = .ok (.aload_n 0, 1) := by decide +kernel
theorem dX1_turn_57 : decode cX1_turn 57 = .ok (.getfield 17, 3) := by decide +kernel
theorem dX1_turn_60 : decode cX1_turn 60 = .ok (.iload_n 1, 1) := by decide +kernel
theorem dX1_turn_61 : decode cX1_turn 61 = .ok (.dup2, 1) := by decide +kernel
theorem dX1_turn_62 : decode cX1_turn 62 = .ok (.iaload, 1) := by decide +kernel
theorem dX1_turn_63 : decode cX1_turn 63 = .ok (.iconst 1, 1) := by decide +kernel
theorem dX1_turn_64 : decode cX1_turn 64 = .ok (.iload_n 2, 1) := by decide +kernel
theorem dX1_turn_65 : decode cX1_turn 65 = .ok (.ishl, 1) := by decide +kernel
theorem dX1_turn_66 : decode cX1_turn 66 = .ok (.ixor, 1) := by decide +kernel
theorem dX1_turn_67 : decode cX1_turn 67 = .ok (.iastore, 1) := by decide +kernel
theorem dX1_turn_68 : decode cX1_turn 68 = .ok (.aload_n 0, 1) := by decide +kernel
theorem dX1_turn_69 : decode cX1_turn 69 = .ok (.iload_n 1, 1) := by decide +kernel
theorem dX1_turn_70 : decode cX1_turn 70 = .ok (.invokevirtual 25, 3) := by decide +kernel
theorem dX1_turn_73 : decode cX1_turn 73 = .ok (.ireturn, 1) := by decide +kernel
abbrev cX1_repair : ByteArray := prog_3_method_8_code
def yX1_repair : MethodName := ⟨RX1, "repair", "(I)I"⟩
theorem dX1_repair_0 : decode cX1_repair 0 = .ok (.aload_n 0, 1) := by decide +kernel
theorem dX1_repair_1 : decode cX1_repair 1 = .ok (.iload_n 1, 1) := by decide +kernel
theorem dX1_repair_2 : decode cX1_repair 2 = .ok (.invokevirtual 29, 3) := by decide +kernel
theorem dX1_repair_5 : decode cX1_repair 5 = .ok (.istore_n 2, 1) := by decide +kernel
theorem dX1_repair_6 : decode cX1_repair 6 = .ok (.iload_n 2, 1) := by decide +kernel
theorem dX1_repair_7 : decode cX1_repair 7 = .ok (.ifCond .lt 10, 3) := by decide +kernel
theorem dX1_repair_10 : decode cX1_repair 10 = .ok (.aload_n 0, 1) := by decide +kernel
theorem dX1_repair_11 : decode cX1_repair 11 = .ok (.getfield 17, 3) := by decide +kernel
theorem dX1_repair_14 : decode cX1_repair 14 = .ok (.iload_n 1, 1) := by decide +kernel
theorem dX1_repair_15 : decode cX1_repair 15 = .ok (.iconst 0, 1) := by decide +kernel
theorem dX1_repair_16 : decode cX1_repair 16 = .ok (.iastore, 1) := by decide +kernel
theorem dX1_repair_17 : decode cX1_repair 17 = .ok (.iload_n 2, 1) := by decide +kernel
theorem dX1_repair_18 : decode cX1_repair 18 = .ok (.ireturn, 1) := by decide +kernel
abbrev cX1_power : ByteArray := prog_3_method_9_code
def yX1_power : MethodName := ⟨RX1, "power", "()V"⟩
theorem dX1_power_0 : decode cX1_power 0 = .ok (.return_, 1) := by decide +kernel
abbrev cX1_tidy : ByteArray := prog_3_method_10_code
def yX1_tidy : MethodName := ⟨RX1, "tidy", "(I)V"⟩
theorem dX1_tidy_0 : decode cX1_tidy 0 = .ok (.return_, 1) := by decide +kernel
abbrev cX1_written : ByteArray := prog_3_method_11_code
def yX1_written : MethodName := ⟨RX1, "written", "()I"⟩
theorem dX1_written_0 : decode cX1_written 0 = .ok (.iconst 0, 1) := by decide +kernel
theorem dX1_written_1 : decode cX1_written 1 = .ok (.istore_n 1, 1) := by decide +kernel
theorem dX1_written_2 : decode cX1_written 2 = .ok (.iconst 0, 1) := by decide +kernel
theorem dX1_written_3 : decode cX1_written 3 = .ok (.istore_n 2, 1) := by decide +kernel
theorem dX1_written_4 : decode cX1_written 4 = .ok (.iload_n 2, 1) := by decide +kernel
theorem dX1_written_5 : decode cX1_written 5 = .ok (.bipush 16, 2) := by decide +kernel
theorem dX1_written_7 : decode cX1_written 7 = .ok (.if_icmp .ge 21, 3) := by decide +kernel
theorem dX1_written_10 : decode cX1_written 10 = .ok (.aload_n 0, 1) := by decide +kernel
theorem dX1_written_11 : decode cX1_written 11 = .ok (.getfield 7, 3) := by decide +kernel
theorem dX1_written_14 : decode cX1_written 14 = .ok (.iload_n 2, 1) := by decide +kernel
theorem dX1_written_15 : decode cX1_written 15 = .ok (.baload, 1) := by decide +kernel
theorem dX1_written_16 : decode cX1_written 16 = .ok (.ifCond .eq 6, 3) := by decide +kernel
theorem dX1_written_19 : decode cX1_written 19 = .ok (.iinc 1 1, 3) := by decide +kernel
theorem dX1_written_22 : decode cX1_written 22 = .ok (.iinc 2 1, 3) := by decide +kernel
theorem dX1_written_25 : decode cX1_written 25 = .ok (.goto (-21), 3) := by decide +kernel
theorem dX1_written_28 : decode cX1_written 28 = .ok (.iload_n 1, 1) := by decide +kernel
theorem dX1_written_29 : decode cX1_written 29 = .ok (.ireturn, 1) := by decide +kernel
abbrev cX1_damaged : ByteArray := prog_3_method_12_code
def yX1_damaged : MethodName := ⟨RX1, "damaged", "()I"⟩
theorem dX1_damaged_0 : decode cX1_damaged 0 = .ok (.iconst 0, 1) := by decide +kernel
theorem dX1_damaged_1 : decode cX1_damaged 1 = .ok (.istore_n 1, 1) := by decide +kernel
theorem dX1_damaged_2 : decode cX1_damaged 2 = .ok (.iconst 0, 1) := by decide +kernel
theorem dX1_damaged_3 : decode cX1_damaged 3 = .ok (.istore_n 2, 1) := by decide +kernel
theorem dX1_damaged_4 : decode cX1_damaged 4 = .ok (.iload_n 2, 1) := by decide +kernel
theorem dX1_damaged_5 : decode cX1_damaged 5 = .ok (.bipush 16, 2) := by decide +kernel
theorem dX1_damaged_7 : decode cX1_damaged 7 = .ok (.if_icmp .ge 22, 3) := by decide +kernel
theorem dX1_damaged_10 : decode cX1_damaged 10 = .ok (.aload_n 0, 1) := by decide +kernel
theorem dX1_damaged_11 : decode cX1_damaged 11 = .ok (.iload_n 2, 1) := by decide +kernel
theorem dX1_damaged_12 : decode cX1_damaged 12 = .ok (.invokevirtual 29, 3) := by decide +kernel
theorem dX1_damaged_15 : decode cX1_damaged 15 = .ok (.bipush (-3), 2) := by decide +kernel
theorem dX1_damaged_17 : decode cX1_damaged 17 = .ok (.if_icmp .ne 6, 3) := by decide +kernel
theorem dX1_damaged_20 : decode cX1_damaged 20 = .ok (.iinc 1 1, 3) := by decide +kernel
theorem dX1_damaged_23 : decode cX1_damaged 23 = .ok (.iinc 2 1, 3) := by decide +kernel
theorem dX1_damaged_26 : decode cX1_damaged 26 = .ok (.goto (-22), 3) := by decide +kernel
theorem dX1_damaged_29 : decode cX1_damaged 29 = .ok (.iload_n 1, 1) := by decide +kernel
theorem dX1_damaged_30 : decode cX1_damaged 30 = .ok (.ireturn, 1) := by decide +kernel
abbrev cX1_sum : ByteArray := prog_3_method_13_code
def yX1_sum : MethodName := ⟨RX1, "sum", "()I"⟩
theorem dX1_sum_0 : decode cX1_sum 0 = .ok (.iconst 0, 1) := by decide +kernel
theorem dX1_sum_1 : decode cX1_sum 1 = .ok (.istore_n 1, 1) := by decide +kernel
theorem dX1_sum_2 : decode cX1_sum 2 = .ok (.iconst 0, 1) := by decide +kernel
theorem dX1_sum_3 : decode cX1_sum 3 = .ok (.istore_n 2, 1) := by decide +kernel
theorem dX1_sum_4 : decode cX1_sum 4 = .ok (.iload_n 2, 1) := by decide +kernel
theorem dX1_sum_5 : decode cX1_sum 5 = .ok (.bipush 16, 2) := by decide +kernel
theorem dX1_sum_7 : decode cX1_sum 7 = .ok (.if_icmp .ge 23, 3) := by decide +kernel
theorem dX1_sum_10 : decode cX1_sum 10 = .ok (.aload_n 0, 1) := by decide +kernel
theorem dX1_sum_11 : decode cX1_sum 11 = .ok (.iload_n 2, 1) := by decide +kernel
theorem dX1_sum_12 : decode cX1_sum 12 = .ok (.invokevirtual 29, 3) := by decide +kernel
theorem dX1_sum_15 : decode cX1_sum 15 = .ok (.istore_n 3, 1) := by decide +kernel
theorem dX1_sum_16 : decode cX1_sum 16 = .ok (.iload_n 3, 1) := by decide +kernel
theorem dX1_sum_17 : decode cX1_sum 17 = .ok (.ifCond .lt 7, 3) := by decide +kernel
theorem dX1_sum_20 : decode cX1_sum 20 = .ok (.iload_n 1, 1) := by decide +kernel
theorem dX1_sum_21 : decode cX1_sum 21 = .ok (.iload_n 3, 1) := by decide +kernel
theorem dX1_sum_22 : decode cX1_sum 22 = .ok (.iadd, 1) := by decide +kernel
theorem dX1_sum_23 : decode cX1_sum 23 = .ok (.istore_n 1, 1) := by decide +kernel
theorem dX1_sum_24 : decode cX1_sum 24 = .ok (.iinc 2 1, 3) := by decide +kernel
theorem dX1_sum_27 : decode cX1_sum 27 = .ok (.goto (-23), 3) := by decide +kernel
theorem dX1_sum_30 : decode cX1_sum 30 = .ok (.iload_n 1, 1) := by decide +kernel
theorem dX1_sum_31 : decode cX1_sum 31 = .ok (.ireturn, 1) := by decide +kernel
theorem q11 : (Jvm.Cond.initialized "CardFlashModel") ∈ lw_all := lw_g (lw_at lw_m0 2 rfl) rfl
theorem q145 : (Jvm.Cond.instantiable "CardFlashModel" (3 : Nat)) ∈ lw_all := lw_g (lw_at lw_m0 136 rfl) rfl
theorem q147 : (Jvm.Cond.instanceMethod ({ cls := "CardFlashModel", name := "<init>", desc := "()V" } : Jvm.MethodName)) ∈ lw_all := lw_g (lw_at lw_m0 138 rfl) rfl
theorem q148 : (Jvm.Cond.code ({ cls := "CardFlashModel", name := "<init>", desc := "()V" } : Jvm.MethodName) prog_3_method_1_code (1 : Nat) (Option.none : Option Jvm.ClassFile.FieldType)) ∈ lw_all := lw_g (lw_at lw_m0 139 rfl) rfl
theorem q149 : (Jvm.Cond.methodLink "CardFlashModel" (1 : Nat) ({ cls := "java/lang/Object", name := "<init>", desc := "()V" } : Jvm.MethodName)) ∈ lw_all := lw_g (lw_at lw_m0 140 rfl) rfl
theorem q150 : (Jvm.Cond.fieldLink "CardFlashModel" (7 : Nat) "CardFlashModel" "filled" "[Z") ∈ lw_all := lw_g (lw_at lw_m0 141 rfl) rfl
theorem q151 : (Jvm.Cond.fieldLink "CardFlashModel" (13 : Nat) "CardFlashModel" "values" "[I") ∈ lw_all := lw_g (lw_at lw_m0 142 rfl) rfl
theorem q152 : (Jvm.Cond.fieldLink "CardFlashModel" (17 : Nat) "CardFlashModel" "turned" "[I") ∈ lw_all := lw_g (lw_at lw_m0 143 rfl) rfl
theorem q153 : (Jvm.Cond.laysFinal "CardFlashModel" "CardFlashModel" "filled" "[Z") ∈ lw_all := lw_g (lw_at lw_m0 144 rfl) rfl
theorem q154 : (Jvm.Cond.soleField "CardFlashModel" "filled") ∈ lw_all := lw_g (lw_at lw_m0 145 rfl) rfl
theorem q155 : (Jvm.Cond.laysFinal "CardFlashModel" "CardFlashModel" "values" "[I") ∈ lw_all := lw_g (lw_at lw_m0 146 rfl) rfl
theorem q156 : (Jvm.Cond.soleField "CardFlashModel" "values") ∈ lw_all := lw_g (lw_at lw_m0 147 rfl) rfl
theorem q157 : (Jvm.Cond.laysFinal "CardFlashModel" "CardFlashModel" "turned" "[I") ∈ lw_all := lw_g (lw_at lw_m0 148 rfl) rfl
theorem q158 : (Jvm.Cond.soleField "CardFlashModel" "turned") ∈ lw_all := lw_g (lw_at lw_m0 149 rfl) rfl
theorem q159 : (Jvm.Cond.superclass "CardFlashModel" "java/lang/Object") ∈ lw_all := lw_g (lw_at lw_m0 150 rfl) rfl
theorem q162 : (Jvm.Cond.instanceMethod ({ cls := "CardFlashModel", name := "write", desc := "(II)I" } : Jvm.MethodName)) ∈ lw_all := lw_g (lw_at lw_m0 153 rfl) rfl
theorem q163 : (Jvm.Cond.selects "CardFlashModel" ({ cls := "CardFlashModel", name := "write", desc := "(II)I" } : Jvm.MethodName) ({ cls := "CardFlashModel", name := "write", desc := "(II)I" } : Jvm.MethodName)) ∈ lw_all := lw_g (lw_at lw_m0 154 rfl) rfl
theorem q164 : (Jvm.Cond.code ({ cls := "CardFlashModel", name := "write", desc := "(II)I" } : Jvm.MethodName) prog_3_method_4_code (3 : Nat) (Option.some Jvm.ClassFile.FieldType.int)) ∈ lw_all := lw_g (lw_at lw_m0 155 rfl) rfl
theorem q165 : (Jvm.Cond.methodLink "CardFlashModel" (20 : Nat) ({ cls := "CardFlashModel", name := "bad", desc := "(I)Z" } : Jvm.MethodName)) ∈ lw_all := lw_g (lw_at lw_m0 156 rfl) rfl
theorem q166 : (Jvm.Cond.static ({ cls := "CardFlashModel", name := "bad", desc := "(I)Z" } : Jvm.MethodName)) ∈ lw_all := lw_g (lw_at lw_m0 157 rfl) rfl
theorem q167 : (Jvm.Cond.code ({ cls := "CardFlashModel", name := "bad", desc := "(I)Z" } : Jvm.MethodName) prog_3_method_2_code (1 : Nat) (Option.some Jvm.ClassFile.FieldType.boolean)) ∈ lw_all := lw_g (lw_at lw_m0 158 rfl) rfl
theorem q168 : (Jvm.Cond.constant "CardFlashModel" (24 : Nat) (65535 : Int32)) ∈ lw_all := lw_g (lw_at lw_m0 159 rfl) rfl
theorem q170 : (Jvm.Cond.instanceMethod ({ cls := "CardFlashModel", name := "read", desc := "(I)I" } : Jvm.MethodName)) ∈ lw_all := lw_g (lw_at lw_m0 161 rfl) rfl
theorem q171 : (Jvm.Cond.selects "CardFlashModel" ({ cls := "CardFlashModel", name := "read", desc := "(I)I" } : Jvm.MethodName) ({ cls := "CardFlashModel", name := "read", desc := "(I)I" } : Jvm.MethodName)) ∈ lw_all := lw_g (lw_at lw_m0 162 rfl) rfl
theorem q172 : (Jvm.Cond.code ({ cls := "CardFlashModel", name := "read", desc := "(I)I" } : Jvm.MethodName) prog_3_method_5_code (2 : Nat) (Option.some Jvm.ClassFile.FieldType.int)) ∈ lw_all := lw_g (lw_at lw_m0 163 rfl) rfl
theorem q173 : (Jvm.Cond.methodLink "CardFlashModel" (25 : Nat) ({ cls := "CardFlashModel", name := "turns", desc := "(I)I" } : Jvm.MethodName)) ∈ lw_all := lw_g (lw_at lw_m0 164 rfl) rfl
theorem q174 : (Jvm.Cond.privateMethod ({ cls := "CardFlashModel", name := "turns", desc := "(I)I" } : Jvm.MethodName)) ∈ lw_tbl := lw_at lw_m0 165 rfl
theorem q175 : (Jvm.Cond.instanceMethod ({ cls := "CardFlashModel", name := "turns", desc := "(I)I" } : Jvm.MethodName)) ∈ lw_all := lw_g (lw_at lw_m0 166 rfl) rfl
theorem q176 : (Jvm.Cond.code ({ cls := "CardFlashModel", name := "turns", desc := "(I)I" } : Jvm.MethodName) prog_3_method_3_code (4 : Nat) (Option.some Jvm.ClassFile.FieldType.int)) ∈ lw_all := lw_g (lw_at lw_m0 167 rfl) rfl
theorem q178 : (Jvm.Cond.instanceMethod ({ cls := "CardFlashModel", name := "trim", desc := "(I)I" } : Jvm.MethodName)) ∈ lw_all := lw_g (lw_at lw_m0 169 rfl) rfl
theorem q179 : (Jvm.Cond.selects "CardFlashModel" ({ cls := "CardFlashModel", name := "trim", desc := "(I)I" } : Jvm.MethodName) ({ cls := "CardFlashModel", name := "trim", desc := "(I)I" } : Jvm.MethodName)) ∈ lw_all := lw_g (lw_at lw_m0 170 rfl) rfl
theorem q180 : (Jvm.Cond.code ({ cls := "CardFlashModel", name := "trim", desc := "(I)I" } : Jvm.MethodName) prog_3_method_6_code (2 : Nat) (Option.some Jvm.ClassFile.FieldType.int)) ∈ lw_all := lw_g (lw_at lw_m0 171 rfl) rfl
theorem q182 : (Jvm.Cond.instanceMethod ({ cls := "CardFlashModel", name := "turn", desc := "(II)I" } : Jvm.MethodName)) ∈ lw_all := lw_g (lw_at lw_m0 173 rfl) rfl
theorem q183 : (Jvm.Cond.selects "CardFlashModel" ({ cls := "CardFlashModel", name := "turn", desc := "(II)I" } : Jvm.MethodName) ({ cls := "CardFlashModel", name := "turn", desc := "(II)I" } : Jvm.MethodName)) ∈ lw_all := lw_g (lw_at lw_m0 174 rfl) rfl
theorem q184 : (Jvm.Cond.code ({ cls := "CardFlashModel", name := "turn", desc := "(II)I" } : Jvm.MethodName) prog_3_method_7_code (3 : Nat) (Option.some Jvm.ClassFile.FieldType.int)) ∈ lw_all := lw_g (lw_at lw_m0 175 rfl) rfl
theorem q186 : (Jvm.Cond.instanceMethod ({ cls := "CardFlashModel", name := "repair", desc := "(I)I" } : Jvm.MethodName)) ∈ lw_all := lw_g (lw_at lw_m0 177 rfl) rfl
theorem q187 : (Jvm.Cond.selects "CardFlashModel" ({ cls := "CardFlashModel", name := "repair", desc := "(I)I" } : Jvm.MethodName) ({ cls := "CardFlashModel", name := "repair", desc := "(I)I" } : Jvm.MethodName)) ∈ lw_all := lw_g (lw_at lw_m0 178 rfl) rfl
theorem q188 : (Jvm.Cond.code ({ cls := "CardFlashModel", name := "repair", desc := "(I)I" } : Jvm.MethodName) prog_3_method_8_code (3 : Nat) (Option.some Jvm.ClassFile.FieldType.int)) ∈ lw_all := lw_g (lw_at lw_m0 179 rfl) rfl
theorem q189 : (Jvm.Cond.methodLink "CardFlashModel" (29 : Nat) ({ cls := "CardFlashModel", name := "read", desc := "(I)I" } : Jvm.MethodName)) ∈ lw_all := lw_g (lw_at lw_m0 180 rfl) rfl
theorem q191 : (Jvm.Cond.instanceMethod ({ cls := "CardFlashModel", name := "power", desc := "()V" } : Jvm.MethodName)) ∈ lw_all := lw_g (lw_at lw_m0 182 rfl) rfl
theorem q192 : (Jvm.Cond.selects "CardFlashModel" ({ cls := "CardFlashModel", name := "power", desc := "()V" } : Jvm.MethodName) ({ cls := "CardFlashModel", name := "power", desc := "()V" } : Jvm.MethodName)) ∈ lw_all := lw_g (lw_at lw_m0 183 rfl) rfl
theorem q193 : (Jvm.Cond.code ({ cls := "CardFlashModel", name := "power", desc := "()V" } : Jvm.MethodName) prog_3_method_9_code (1 : Nat) (Option.none : Option Jvm.ClassFile.FieldType)) ∈ lw_all := lw_g (lw_at lw_m0 184 rfl) rfl
theorem q195 : (Jvm.Cond.instanceMethod ({ cls := "CardFlashModel", name := "tidy", desc := "(I)V" } : Jvm.MethodName)) ∈ lw_all := lw_g (lw_at lw_m0 186 rfl) rfl
theorem q196 : (Jvm.Cond.selects "CardFlashModel" ({ cls := "CardFlashModel", name := "tidy", desc := "(I)V" } : Jvm.MethodName) ({ cls := "CardFlashModel", name := "tidy", desc := "(I)V" } : Jvm.MethodName)) ∈ lw_all := lw_g (lw_at lw_m0 187 rfl) rfl
theorem q197 : (Jvm.Cond.code ({ cls := "CardFlashModel", name := "tidy", desc := "(I)V" } : Jvm.MethodName) prog_3_method_10_code (2 : Nat) (Option.none : Option Jvm.ClassFile.FieldType)) ∈ lw_all := lw_g (lw_at lw_m0 188 rfl) rfl
theorem q199 : (Jvm.Cond.instanceMethod ({ cls := "CardFlashModel", name := "written", desc := "()I" } : Jvm.MethodName)) ∈ lw_all := lw_g (lw_at lw_m0 190 rfl) rfl
theorem q200 : (Jvm.Cond.selects "CardFlashModel" ({ cls := "CardFlashModel", name := "written", desc := "()I" } : Jvm.MethodName) ({ cls := "CardFlashModel", name := "written", desc := "()I" } : Jvm.MethodName)) ∈ lw_all := lw_g (lw_at lw_m0 191 rfl) rfl
theorem q201 : (Jvm.Cond.code ({ cls := "CardFlashModel", name := "written", desc := "()I" } : Jvm.MethodName) prog_3_method_11_code (3 : Nat) (Option.some Jvm.ClassFile.FieldType.int)) ∈ lw_all := lw_g (lw_at lw_m0 192 rfl) rfl
theorem q203 : (Jvm.Cond.instanceMethod ({ cls := "CardFlashModel", name := "damaged", desc := "()I" } : Jvm.MethodName)) ∈ lw_all := lw_g (lw_at lw_m0 194 rfl) rfl
theorem q204 : (Jvm.Cond.selects "CardFlashModel" ({ cls := "CardFlashModel", name := "damaged", desc := "()I" } : Jvm.MethodName) ({ cls := "CardFlashModel", name := "damaged", desc := "()I" } : Jvm.MethodName)) ∈ lw_all := lw_g (lw_at lw_m0 195 rfl) rfl
theorem q205 : (Jvm.Cond.code ({ cls := "CardFlashModel", name := "damaged", desc := "()I" } : Jvm.MethodName) prog_3_method_12_code (3 : Nat) (Option.some Jvm.ClassFile.FieldType.int)) ∈ lw_all := lw_g (lw_at lw_m0 196 rfl) rfl
theorem q207 : (Jvm.Cond.instanceMethod ({ cls := "CardFlashModel", name := "sum", desc := "()I" } : Jvm.MethodName)) ∈ lw_all := lw_g (lw_at lw_m0 198 rfl) rfl
theorem q208 : (Jvm.Cond.selects "CardFlashModel" ({ cls := "CardFlashModel", name := "sum", desc := "()I" } : Jvm.MethodName) ({ cls := "CardFlashModel", name := "sum", desc := "()I" } : Jvm.MethodName)) ∈ lw_all := lw_g (lw_at lw_m0 199 rfl) rfl
theorem q209 : (Jvm.Cond.code ({ cls := "CardFlashModel", name := "sum", desc := "()I" } : Jvm.MethodName) prog_3_method_13_code (4 : Nat) (Option.some Jvm.ClassFile.FieldType.int)) ∈ lw_all := lw_g (lw_at lw_m0 200 rfl) rfl
theorem in_X1 : ∀ w ∈ wsX10, w ∈ lw_all := lw_in wsX10 [153, 155, 157] (by decide +kernel) (by decide +kernel)
/-! the law's own entry -/
set_option maxRecDepth 100000
abbrev cL_law : ByteArray := code
theorem dL_law_0 : decode cL_law 0 = .ok (.new 7, 3) := by decide +kernel
theorem dL_law_3 : decode cL_law 3 = .ok (.dup, 1) := by decide +kernel
theorem dL_law_4 : decode cL_law 4 = .ok (.invokespecial 9, 3) := by decide +kernel
theorem dL_law_7 : decode cL_law 7 = .ok (.astore_n 1, 1) := by decide +kernel
theorem dL_law_8 : decode cL_law 8 = .ok (.new 10, 3) := by decide +kernel
theorem dL_law_11 : decode cL_law 11 = .ok (.dup, 1) := by decide +kernel
theorem dL_law_12 : decode cL_law 12 = .ok (.invokespecial 12, 3) := by decide +kernel
theorem dL_law_15 : decode cL_law 15 = .ok (.astore_n 2, 1) := by decide +kernel
theorem dL_law_16 : decode cL_law 16 = .ok (.iconst 0, 1) := by decide +kernel
theorem dL_law_17 : decode cL_law 17 = .ok (.istore_n 3, 1) := by decide +kernel
theorem dL_law_18 : decode cL_law 18 = .ok (.iload_n 3, 1) := by decide +kernel
theorem dL_law_19 : decode cL_law 19 = .ok (.aload_n 0, 1) := by decide +kernel
theorem dL_law_20 : decode cL_law 20 = .ok (.arraylength, 1) := by decide +kernel
theorem dL_law_21 : decode cL_law 21 = .ok (.iconst 3, 1) := by decide +kernel
theorem dL_law_22 : decode cL_law 22 = .ok (.isub, 1) := by decide +kernel
theorem dL_law_23 : decode cL_law 23 = .ok (.if_icmp .gt 277, 3) := by decide +kernel
theorem dL_law_26 : decode cL_law 26 = .ok (.aload_n 0, 1) := by decide +kernel
theorem dL_law_27 : decode cL_law 27 = .ok (.iload_n 3, 1) := by decide +kernel
theorem dL_law_28 : decode cL_law 28 = .ok (.iaload, 1) := by decide +kernel
theorem dL_law_29 : decode cL_law 29 = .ok (.bipush 15, 2) := by decide +kernel
theorem dL_law_31 : decode cL_law 31 = .ok (.iand, 1) := by decide +kernel
theorem dL_law_32 : decode cL_law 32 = .ok (.tableswitch 262 0 9 #[56, 89, 112, 135, 168, 191, 202, 223, 236, 249], 56) := by decide +kernel
theorem dL_law_88 : decode cL_law 88 = .ok (.aload_n 1, 1) := by decide +kernel
theorem dL_law_89 : decode cL_law 89 = .ok (.aload_n 0, 1) := by decide +kernel
theorem dL_law_90 : decode cL_law 90 = .ok (.iload_n 3, 1) := by decide +kernel
theorem dL_law_91 : decode cL_law 91 = .ok (.iconst 1, 1) := by decide +kernel
theorem dL_law_92 : decode cL_law 92 = .ok (.iadd, 1) := by decide +kernel
theorem dL_law_93 : decode cL_law 93 = .ok (.iaload, 1) := by decide +kernel
theorem dL_law_94 : decode cL_law 94 = .ok (.aload_n 0, 1) := by decide +kernel
theorem dL_law_95 : decode cL_law 95 = .ok (.iload_n 3, 1) := by decide +kernel
theorem dL_law_96 : decode cL_law 96 = .ok (.iconst 2, 1) := by decide +kernel
theorem dL_law_97 : decode cL_law 97 = .ok (.iadd, 1) := by decide +kernel
theorem dL_law_98 : decode cL_law 98 = .ok (.iaload, 1) := by decide +kernel
theorem dL_law_99 : decode cL_law 99 = .ok (.invokevirtual 13, 3) := by decide +kernel
theorem dL_law_102 : decode cL_law 102 = .ok (.aload_n 2, 1) := by decide +kernel
theorem dL_law_103 : decode cL_law 103 = .ok (.aload_n 0, 1) := by decide +kernel
theorem dL_law_104 : decode cL_law 104 = .ok (.iload_n 3, 1) := by decide +kernel
theorem dL_law_105 : decode cL_law 105 = .ok (.iconst 1, 1) := by decide +kernel
theorem dL_law_106 : decode cL_law 106 = .ok (.iadd, 1) := by decide +kernel
theorem dL_law_107 : decode cL_law 107 = .ok (.iaload, 1) := by decide +kernel
theorem dL_law_108 : decode cL_law 108 = .ok (.aload_n 0, 1) := by decide +kernel
theorem dL_law_109 : decode cL_law 109 = .ok (.iload_n 3, 1) := by decide +kernel
theorem dL_law_110 : decode cL_law 110 = .ok (.iconst 2, 1) := by decide +kernel
theorem dL_law_111 : decode cL_law 111 = .ok (.iadd, 1) := by decide +kernel
theorem dL_law_112 : decode cL_law 112 = .ok (.iaload, 1) := by decide +kernel
theorem dL_law_113 : decode cL_law 113 = .ok (.invokevirtual 17, 3) := by decide +kernel
theorem dL_law_116 : decode cL_law 116 = .ok (.if_icmp .eq 178, 3) := by decide +kernel
theorem dL_law_119 : decode cL_law 119 = .ok (.iconst 0, 1) := by decide +kernel
theorem dL_law_120 : decode cL_law 120 = .ok (.ireturn, 1) := by decide +kernel
theorem dL_law_121 : decode cL_law 121 = .ok (.aload_n 1, 1) := by decide +kernel
theorem dL_law_122 : decode cL_law 122 = .ok (.aload_n 0, 1) := by decide +kernel
theorem dL_law_123 : decode cL_law 123 = .ok (.iload_n 3, 1) := by decide +kernel
theorem dL_law_124 : decode cL_law 124 = .ok (.iconst 1, 1) := by decide +kernel
theorem dL_law_125 : decode cL_law 125 = .ok (.iadd, 1) := by decide +kernel
theorem dL_law_126 : decode cL_law 126 = .ok (.iaload, 1) := by decide +kernel
theorem dL_law_127 : decode cL_law 127 = .ok (.invokevirtual 18, 3) := by decide +kernel
theorem dL_law_130 : decode cL_law 130 = .ok (.aload_n 2, 1) := by decide +kernel
theorem dL_law_131 : decode cL_law 131 = .ok (.aload_n 0, 1) := by decide +kernel
theorem dL_law_132 : decode cL_law 132 = .ok (.iload_n 3, 1) := by decide +kernel
theorem dL_law_133 : decode cL_law 133 = .ok (.iconst 1, 1) := by decide +kernel
theorem dL_law_134 : decode cL_law 134 = .ok (.iadd, 1) := by decide +kernel
theorem dL_law_135 : decode cL_law 135 = .ok (.iaload, 1) := by decide +kernel
theorem dL_law_136 : decode cL_law 136 = .ok (.invokevirtual 22, 3) := by decide +kernel
theorem dL_law_139 : decode cL_law 139 = .ok (.if_icmp .eq 155, 3) := by decide +kernel
theorem dL_law_142 : decode cL_law 142 = .ok (.iconst 0, 1) := by decide +kernel
theorem dL_law_143 : decode cL_law 143 = .ok (.ireturn, 1) := by decide +kernel
theorem dL_law_144 : decode cL_law 144 = .ok (.aload_n 1, 1) := by decide +kernel
theorem dL_law_145 : decode cL_law 145 = .ok (.aload_n 0, 1) := by decide +kernel
theorem dL_law_146 : decode cL_law 146 = .ok (.iload_n 3, 1) := by decide +kernel
theorem dL_law_147 : decode cL_law 147 = .ok (.iconst 1, 1) := by decide +kernel
theorem dL_law_148 : decode cL_law 148 = .ok (.iadd, 1) := by decide +kernel
theorem dL_law_149 : decode cL_law 149 = .ok (.iaload, 1) := by decide +kernel
theorem dL_law_150 : decode cL_law 150 = .ok (.invokevirtual 23, 3) := by decide +kernel
theorem dL_law_153 : decode cL_law 153 = .ok (.aload_n 2, 1) := by decide +kernel
theorem dL_law_154 : decode cL_law 154 = .ok (.aload_n 0, 1) := by decide +kernel
theorem dL_law_155 : decode cL_law 155 = .ok (.iload_n 3, 1) := by decide +kernel
theorem dL_law_156 : decode cL_law 156 = .ok (.iconst 1, 1) := by decide +kernel
theorem dL_law_157 : decode cL_law 157 = .ok (.iadd, 1) := by decide +kernel
theorem dL_law_158 : decode cL_law 158 = .ok (.iaload, 1) := by decide +kernel
theorem dL_law_159 : decode cL_law 159 = .ok (.invokevirtual 26, 3) := by decide +kernel
theorem dL_law_162 : decode cL_law 162 = .ok (.if_icmp .eq 132, 3) := by decide +kernel
theorem dL_law_165 : decode cL_law 165 = .ok (.iconst 0, 1) := by decide +kernel
theorem dL_law_166 : decode cL_law 166 = .ok (.ireturn, 1) := by decide +kernel
theorem dL_law_167 : decode cL_law 167 = .ok (.aload_n 1, 1) := by decide +kernel
theorem dL_law_168 : decode cL_law 168 = .ok (.aload_n 0, 1) := by decide +kernel
theorem dL_law_169 : decode cL_law 169 = .ok (.iload_n 3, 1) := by decide +kernel
theorem dL_law_170 : decode cL_law 170 = .ok (.iconst 1, 1) := by decide +kernel
theorem dL_law_171 : decode cL_law 171 = .ok (.iadd, 1) := by decide +kernel
theorem dL_law_172 : decode cL_law 172 = .ok (.iaload, 1) := by decide +kernel
theorem dL_law_173 : decode cL_law 173 = .ok (.aload_n 0, 1) := by decide +kernel
theorem dL_law_174 : decode cL_law 174 = .ok (.iload_n 3, 1) := by decide +kernel
theorem dL_law_175 : decode cL_law 175 = .ok (.iconst 2, 1) := by decide +kernel
theorem dL_law_176 : decode cL_law 176 = .ok (.iadd, 1) := by decide +kernel
theorem dL_law_177 : decode cL_law 177 = .ok (.iaload, 1) := by decide +kernel
theorem dL_law_178 : decode cL_law 178 = .ok (.invokevirtual 27, 3) := by decide +kernel
theorem dL_law_181 : decode cL_law 181 = .ok (.aload_n 2, 1) := by decide +kernel
theorem dL_law_182 : decode cL_law 182 = .ok (.aload_n 0, 1) := by decide +kernel
theorem dL_law_183 : decode cL_law 183 = .ok (.iload_n 3, 1) := by decide +kernel
theorem dL_law_184 : decode cL_law 184 = .ok (.iconst 1, 1) := by decide +kernel
theorem dL_law_185 : decode cL_law 185 = .ok (.iadd, 1) := by decide +kernel
theorem dL_law_186 : decode cL_law 186 = .ok (.iaload, 1) := by decide +kernel
theorem dL_law_187 : decode cL_law 187 = .ok (.aload_n 0, 1) := by decide +kernel
theorem dL_law_188 : decode cL_law 188 = .ok (.iload_n 3, 1) := by decide +kernel
theorem dL_law_189 : decode cL_law 189 = .ok (.iconst 2, 1) := by decide +kernel
theorem dL_law_190 : decode cL_law 190 = .ok (.iadd, 1) := by decide +kernel
theorem dL_law_191 : decode cL_law 191 = .ok (.iaload, 1) := by decide +kernel
theorem dL_law_192 : decode cL_law 192 = .ok (.invokevirtual 30, 3) := by decide +kernel
theorem dL_law_195 : decode cL_law 195 = .ok (.if_icmp .eq 99, 3) := by decide +kernel
theorem dL_law_198 : decode cL_law 198 = .ok (.iconst 0, 1) := by decide +kernel
theorem dL_law_199 : decode cL_law 199 = .ok (.ireturn, 1) := by decide +kernel
theorem dL_law_200 : decode cL_law 200 = .ok (.aload_n 1, 1) := by decide +kernel
theorem dL_law_201 : decode cL_law 201 = .ok (.aload_n 0, 1) := by decide +kernel
theorem dL_law_202 : decode cL_law 202 = .ok (.iload_n 3, 1) := by decide +kernel
theorem dL_law_203 : decode cL_law 203 = .ok (.iconst 1, 1) := by decide +kernel
theorem dL_law_204 : decode cL_law 204 = .ok (.iadd, 1) := by decide +kernel
theorem dL_law_205 : decode cL_law 205 = .ok (.iaload, 1) := by decide +kernel
theorem dL_law_206 : decode cL_law 206 = .ok (.invokevirtual 31, 3) := by decide +kernel
theorem dL_law_209 : decode cL_law 209 = .ok (.aload_n 2, 1) := by decide +kernel
theorem dL_law_210 : decode cL_law 210 = .ok (.aload_n 0, 1) := by decide +kernel
theorem dL_law_211 : decode cL_law 211 = .ok (.iload_n 3, 1) := by decide +kernel
theorem dL_law_212 : decode cL_law 212 = .ok (.iconst 1, 1) := by decide +kernel
theorem dL_law_213 : decode cL_law 213 = .ok (.iadd, 1) := by decide +kernel
theorem dL_law_214 : decode cL_law 214 = .ok (.iaload, 1) := by decide +kernel
theorem dL_law_215 : decode cL_law 215 = .ok (.invokevirtual 34, 3) := by decide +kernel
theorem dL_law_218 : decode cL_law 218 = .ok (.if_icmp .eq 76, 3) := by decide +kernel
theorem dL_law_221 : decode cL_law 221 = .ok (.iconst 0, 1) := by decide +kernel
theorem dL_law_222 : decode cL_law 222 = .ok (.ireturn, 1) := by decide +kernel
theorem dL_law_223 : decode cL_law 223 = .ok (.aload_n 1, 1) := by decide +kernel
theorem dL_law_224 : decode cL_law 224 = .ok (.invokevirtual 35, 3) := by decide +kernel
theorem dL_law_227 : decode cL_law 227 = .ok (.aload_n 2, 1) := by decide +kernel
theorem dL_law_228 : decode cL_law 228 = .ok (.invokevirtual 38, 3) := by decide +kernel
theorem dL_law_231 : decode cL_law 231 = .ok (.goto 63, 3) := by decide +kernel
theorem dL_law_234 : decode cL_law 234 = .ok (.aload_n 1, 1) := by decide +kernel
theorem dL_law_235 : decode cL_law 235 = .ok (.aload_n 0, 1) := by decide +kernel
theorem dL_law_236 : decode cL_law 236 = .ok (.iload_n 3, 1) := by decide +kernel
theorem dL_law_237 : decode cL_law 237 = .ok (.iconst 1, 1) := by decide +kernel
theorem dL_law_238 : decode cL_law 238 = .ok (.iadd, 1) := by decide +kernel
theorem dL_law_239 : decode cL_law 239 = .ok (.iaload, 1) := by decide +kernel
theorem dL_law_240 : decode cL_law 240 = .ok (.invokevirtual 39, 3) := by decide +kernel
theorem dL_law_243 : decode cL_law 243 = .ok (.aload_n 2, 1) := by decide +kernel
theorem dL_law_244 : decode cL_law 244 = .ok (.aload_n 0, 1) := by decide +kernel
theorem dL_law_245 : decode cL_law 245 = .ok (.iload_n 3, 1) := by decide +kernel
theorem dL_law_246 : decode cL_law 246 = .ok (.iconst 1, 1) := by decide +kernel
theorem dL_law_247 : decode cL_law 247 = .ok (.iadd, 1) := by decide +kernel
theorem dL_law_248 : decode cL_law 248 = .ok (.iaload, 1) := by decide +kernel
theorem dL_law_249 : decode cL_law 249 = .ok (.invokevirtual 43, 3) := by decide +kernel
theorem dL_law_252 : decode cL_law 252 = .ok (.goto 42, 3) := by decide +kernel
theorem dL_law_255 : decode cL_law 255 = .ok (.aload_n 1, 1) := by decide +kernel
theorem dL_law_256 : decode cL_law 256 = .ok (.invokevirtual 44, 3) := by decide +kernel
theorem dL_law_259 : decode cL_law 259 = .ok (.aload_n 2, 1) := by decide +kernel
theorem dL_law_260 : decode cL_law 260 = .ok (.invokevirtual 48, 3) := by decide +kernel
theorem dL_law_263 : decode cL_law 263 = .ok (.if_icmp .eq 31, 3) := by decide +kernel
theorem dL_law_266 : decode cL_law 266 = .ok (.iconst 0, 1) := by decide +kernel
theorem dL_law_267 : decode cL_law 267 = .ok (.ireturn, 1) := by decide +kernel
theorem dL_law_268 : decode cL_law 268 = .ok (.aload_n 1, 1) := by decide +kernel
theorem dL_law_269 : decode cL_law 269 = .ok (.invokevirtual 49, 3) := by decide +kernel
theorem dL_law_272 : decode cL_law 272 = .ok (.aload_n 2, 1) := by decide +kernel
theorem dL_law_273 : decode cL_law 273 = .ok (.invokevirtual 52, 3) := by decide +kernel
theorem dL_law_276 : decode cL_law 276 = .ok (.if_icmp .eq 18, 3) := by decide +kernel
theorem dL_law_279 : decode cL_law 279 = .ok (.iconst 0, 1) := by decide +kernel
theorem dL_law_280 : decode cL_law 280 = .ok (.ireturn, 1) := by decide +kernel
theorem dL_law_281 : decode cL_law 281 = .ok (.aload_n 1, 1) := by decide +kernel
theorem dL_law_282 : decode cL_law 282 = .ok (.invokevirtual 53, 3) := by decide +kernel
theorem dL_law_285 : decode cL_law 285 = .ok (.aload_n 2, 1) := by decide +kernel
theorem dL_law_286 : decode cL_law 286 = .ok (.invokevirtual 56, 3) := by decide +kernel
theorem dL_law_289 : decode cL_law 289 = .ok (.if_icmp .eq 5, 3) := by decide +kernel
theorem dL_law_292 : decode cL_law 292 = .ok (.iconst 0, 1) := by decide +kernel
theorem dL_law_293 : decode cL_law 293 = .ok (.ireturn, 1) := by decide +kernel
theorem dL_law_294 : decode cL_law 294 = .ok (.iinc 3 3, 3) := by decide +kernel
theorem dL_law_297 : decode cL_law 297 = .ok (.goto (-279), 3) := by decide +kernel
theorem dL_law_300 : decode cL_law 300 = .ok (.iconst 1, 1) := by decide +kernel
theorem dL_law_301 : decode cL_law 301 = .ok (.ireturn, 1) := by decide +kernel
/-! java/lang/Object -/
set_option maxRecDepth 100000
def RJ0 : String := "java/lang/Object"
abbrev cJ0_init : ByteArray := object_method_1_code
def yJ0_init : MethodName := ⟨RJ0, "<init>", "()V"⟩
theorem dJ0_init_0 : decode cJ0_init 0 = .ok (.return_, 1) := by decide +kernel
theorem q18 : (Jvm.Cond.instanceMethod ({ cls := "java/lang/Object", name := "<init>", desc := "()V" } : Jvm.MethodName)) ∈ lw_all := lw_g (lw_at lw_m0 9 rfl) rfl
theorem q19 : (Jvm.Cond.code ({ cls := "java/lang/Object", name := "<init>", desc := "()V" } : Jvm.MethodName) object_method_1_code (1 : Nat) (Option.none : Option Jvm.ClassFile.FieldType)) ∈ lw_all := lw_g (lw_at lw_m0 10 rfl) rfl
theorem q9 : (Jvm.Cond.initialized "CardFlashLaw") ∈ lw_all := lw_g (lw_at lw_m0 0 rfl) rfl
set_option maxRecDepth 100000
theorem q12 : (Jvm.Cond.classLink "CardFlashLaw" (7 : Nat) "CardFlash") ∈ lw_all := lw_g (lw_at lw_m0 3 rfl) rfl
theorem q14 : (Jvm.Cond.methodLink "CardFlashLaw" (9 : Nat) ({ cls := "CardFlash", name := "<init>", desc := "()V" } : Jvm.MethodName)) ∈ lw_all := lw_g (lw_at lw_m0 5 rfl) rfl
theorem q58 : (Jvm.Cond.methodLink "CardFlashLaw" (13 : Nat) ({ cls := "CardFlash", name := "write", desc := "(II)I" } : Jvm.MethodName)) ∈ lw_all := lw_g (lw_at lw_m0 49 rfl) rfl
theorem q102 : (Jvm.Cond.methodLink "CardFlashLaw" (18 : Nat) ({ cls := "CardFlash", name := "read", desc := "(I)I" } : Jvm.MethodName)) ∈ lw_all := lw_g (lw_at lw_m0 93 rfl) rfl
theorem q109 : (Jvm.Cond.methodLink "CardFlashLaw" (23 : Nat) ({ cls := "CardFlash", name := "trim", desc := "(I)I" } : Jvm.MethodName)) ∈ lw_all := lw_g (lw_at lw_m0 100 rfl) rfl
theorem q117 : (Jvm.Cond.methodLink "CardFlashLaw" (27 : Nat) ({ cls := "CardFlash", name := "turn", desc := "(II)I" } : Jvm.MethodName)) ∈ lw_all := lw_g (lw_at lw_m0 108 rfl) rfl
theorem q121 : (Jvm.Cond.methodLink "CardFlashLaw" (31 : Nat) ({ cls := "CardFlash", name := "repair", desc := "(I)I" } : Jvm.MethodName)) ∈ lw_all := lw_g (lw_at lw_m0 112 rfl) rfl
theorem q127 : (Jvm.Cond.methodLink "CardFlashLaw" (35 : Nat) ({ cls := "CardFlash", name := "power", desc := "()V" } : Jvm.MethodName)) ∈ lw_all := lw_g (lw_at lw_m0 118 rfl) rfl
theorem q128 : (Jvm.Cond.methodLink "CardFlashLaw" (39 : Nat) ({ cls := "CardFlash", name := "tidy", desc := "(I)V" } : Jvm.MethodName)) ∈ lw_all := lw_g (lw_at lw_m0 119 rfl) rfl
theorem q132 : (Jvm.Cond.methodLink "CardFlashLaw" (44 : Nat) ({ cls := "CardFlash", name := "written", desc := "()I" } : Jvm.MethodName)) ∈ lw_all := lw_g (lw_at lw_m0 123 rfl) rfl
theorem q136 : (Jvm.Cond.methodLink "CardFlashLaw" (49 : Nat) ({ cls := "CardFlash", name := "damaged", desc := "()I" } : Jvm.MethodName)) ∈ lw_all := lw_g (lw_at lw_m0 127 rfl) rfl
theorem q140 : (Jvm.Cond.methodLink "CardFlashLaw" (53 : Nat) ({ cls := "CardFlash", name := "sum", desc := "()I" } : Jvm.MethodName)) ∈ lw_all := lw_g (lw_at lw_m0 131 rfl) rfl
theorem q144 : (Jvm.Cond.classLink "CardFlashLaw" (10 : Nat) "CardFlashModel") ∈ lw_all := lw_g (lw_at lw_m0 135 rfl) rfl
theorem q146 : (Jvm.Cond.methodLink "CardFlashLaw" (12 : Nat) ({ cls := "CardFlashModel", name := "<init>", desc := "()V" } : Jvm.MethodName)) ∈ lw_all := lw_g (lw_at lw_m0 137 rfl) rfl
theorem q161 : (Jvm.Cond.methodLink "CardFlashLaw" (17 : Nat) ({ cls := "CardFlashModel", name := "write", desc := "(II)I" } : Jvm.MethodName)) ∈ lw_all := lw_g (lw_at lw_m0 152 rfl) rfl
theorem q169 : (Jvm.Cond.methodLink "CardFlashLaw" (22 : Nat) ({ cls := "CardFlashModel", name := "read", desc := "(I)I" } : Jvm.MethodName)) ∈ lw_all := lw_g (lw_at lw_m0 160 rfl) rfl
theorem q177 : (Jvm.Cond.methodLink "CardFlashLaw" (26 : Nat) ({ cls := "CardFlashModel", name := "trim", desc := "(I)I" } : Jvm.MethodName)) ∈ lw_all := lw_g (lw_at lw_m0 168 rfl) rfl
theorem q181 : (Jvm.Cond.methodLink "CardFlashLaw" (30 : Nat) ({ cls := "CardFlashModel", name := "turn", desc := "(II)I" } : Jvm.MethodName)) ∈ lw_all := lw_g (lw_at lw_m0 172 rfl) rfl
theorem q185 : (Jvm.Cond.methodLink "CardFlashLaw" (34 : Nat) ({ cls := "CardFlashModel", name := "repair", desc := "(I)I" } : Jvm.MethodName)) ∈ lw_all := lw_g (lw_at lw_m0 176 rfl) rfl
theorem q190 : (Jvm.Cond.methodLink "CardFlashLaw" (38 : Nat) ({ cls := "CardFlashModel", name := "power", desc := "()V" } : Jvm.MethodName)) ∈ lw_all := lw_g (lw_at lw_m0 181 rfl) rfl
theorem q194 : (Jvm.Cond.methodLink "CardFlashLaw" (43 : Nat) ({ cls := "CardFlashModel", name := "tidy", desc := "(I)V" } : Jvm.MethodName)) ∈ lw_all := lw_g (lw_at lw_m0 185 rfl) rfl
theorem q198 : (Jvm.Cond.methodLink "CardFlashLaw" (48 : Nat) ({ cls := "CardFlashModel", name := "written", desc := "()I" } : Jvm.MethodName)) ∈ lw_all := lw_g (lw_at lw_m0 189 rfl) rfl
theorem q202 : (Jvm.Cond.methodLink "CardFlashLaw" (52 : Nat) ({ cls := "CardFlashModel", name := "damaged", desc := "()I" } : Jvm.MethodName)) ∈ lw_all := lw_g (lw_at lw_m0 193 rfl) rfl
theorem q206 : (Jvm.Cond.methodLink "CardFlashLaw" (56 : Nat) ({ cls := "CardFlashModel", name := "sum", desc := "()I" } : Jvm.MethodName)) ∈ lw_all := lw_g (lw_at lw_m0 197 rfl) rfl
theorem q56 : (Jvm.Cond.arrayClass Jvm.ClassFile.FieldType.int) ∈ lw_all := lw_g (lw_at lw_m0 47 rfl) rfl
set_option maxRecDepth 100000
theorem q57 : (Jvm.Cond.arrayClass Jvm.ClassFile.FieldType.long) ∈ lw_all := lw_g (lw_at lw_m0 48 rfl) rfl
theorem q160 : (Jvm.Cond.arrayClass Jvm.ClassFile.FieldType.boolean) ∈ lw_all := lw_g (lw_at lw_m0 151 rfl) rfl
end
section
/-! ===== Int32 by its bits: bt x i ===== -/
def bt (x : Int32) (i : Nat) : Bool := x.toBitVec.getLsbD i
theorem b_ext {x y : Int32} (h : ∀ i, i < 32 → bt x i = bt y i) : x = y := Int32.toBitVec_inj.mp (BitVec.eq_of_getLsbD_eq (fun i hi => h i hi))
theorem b_or (x y : Int32) (i : Nat) : bt (x ||| y) i = (bt x i || bt y i) := by unfold bt; rw [Int32.toBitVec_or, BitVec.getLsbD_or]
theorem b_and (x y : Int32) (i : Nat) : bt (x &&& y) i = (bt x i && bt y i) := by unfold bt; rw [Int32.toBitVec_and, BitVec.getLsbD_and]
theorem b_xor (x y : Int32) (i : Nat) : bt (x ^^^ y) i = (bt x i ^^ bt y i) := by unfold bt; rw [Int32.toBitVec_xor, BitVec.getLsbD_xor]
theorem b_big {x : Int32} {i : Nat} (h : 32 ≤ i) : bt x i = false := BitVec.getLsbD_of_ge _ _ h
theorem b_255 (i : Nat) : bt 255 i = decide (i < 8) := by
  rcases Nat.lt_or_ge i 32 with h | h
  · exact (by decide +kernel : ∀ i, i < 32 → bt 255 i = decide (i < 8)) i h
  · rw [b_big h, decide_eq_false (by omega)]
theorem b_65535 (i : Nat) : bt 65535 i = decide (i < 16) := by
  rcases Nat.lt_or_ge i 32 with h | h
  · exact (by decide +kernel : ∀ i, i < 32 → bt 65535 i = decide (i < 16)) i h
  · rw [b_big h, decide_eq_false (by omega)]
theorem b_m1 : ∀ i, i < 32 → bt (-1) i = true := by decide +kernel
theorem b_0 (i : Nat) : bt 0 i = false := BitVec.getLsbD_zero
theorem s_l : ∀ n, n < 32 → ((nI n &&& 31).toBitVec.smod 32).toNat = n := by decide +kernel
theorem s_u : ∀ n, n < 32 → (((nI n).toUInt32 &&& Int32.toUInt32 31).toBitVec % 32).toNat = n := by decide +kernel
theorem b_shl (n : Nat) (hn : n < 32) (x : Int32) {i : Nat} (hi : i < 32) : bt (x <<< (nI n &&& 31)) i = (decide (n ≤ i) && bt x (i - n)) := by
  unfold bt
  rw [Int32.toBitVec_shiftLeft]
  show (x.toBitVec <<< ((nI n &&& 31).toBitVec.smod 32).toNat).getLsbD i = _
  rw [s_l n hn, BitVec.getLsbD_shiftLeft]
  rcases Nat.lt_or_ge i n with h | h
  · simp [h, Nat.not_le.mpr h]
  · simp [hi, h, Nat.not_lt.mpr h]
theorem b_ushr (n : Nat) (hn : n < 32) (x : Int32) (i : Nat) : bt ((x.toUInt32 >>> ((nI n).toUInt32 &&& Int32.toUInt32 31)).toInt32) i = bt x (n + i) := by
  show (x.toUInt32 >>> ((nI n).toUInt32 &&& Int32.toUInt32 31)).toBitVec.getLsbD i = x.toUInt32.toBitVec.getLsbD (n + i)
  rw [UInt32.toBitVec_shiftRight]
  show (x.toUInt32.toBitVec >>> (((nI n).toUInt32 &&& Int32.toUInt32 31).toBitVec % 32).toNat).getLsbD i = _
  rw [s_u n hn, BitVec.getLsbD_ushiftRight]
theorem b_sshr (n : Nat) (hn : n < 32) (x : Int32) {i : Nat} (hi : i < 32) : bt (x >>> (nI n &&& 31)) i = if n + i < 32 then bt x (n + i) else bt x 31 := by
  unfold bt
  rw [Int32.toBitVec_shiftRight]
  show (x.toBitVec.sshiftRight ((nI n &&& 31).toBitVec.smod 32).toNat).getLsbD i = _
  rw [s_l n hn, BitVec.getLsbD_sshiftRight, BitVec.msb_eq_getLsbD_last]
  simp [hi]
theorem b_shl8 (x : Int32) {i : Nat} (hi : i < 32) : bt (x <<< ((8 : Int32) &&& 31)) i = (decide (8 ≤ i) && bt x (i - 8)) := b_shl 8 (by omega) x hi
theorem b_shl16 (x : Int32) {i : Nat} (hi : i < 32) : bt (x <<< ((16 : Int32) &&& 31)) i = (decide (16 ≤ i) && bt x (i - 16)) := b_shl 16 (by omega) x hi
theorem b_shl24 (x : Int32) {i : Nat} (hi : i < 32) : bt (x <<< ((24 : Int32) &&& 31)) i = (decide (24 ≤ i) && bt x (i - 24)) := b_shl 24 (by omega) x hi
theorem b_sshr8 (x : Int32) {i : Nat} (hi : i < 32) : bt (x >>> ((8 : Int32) &&& 31)) i = if 8 + i < 32 then bt x (8 + i) else bt x 31 := b_sshr 8 (by omega) x hi
/-! ===== nI under and, xor, >>>, one bit, 65535 ===== -/
theorem nx_and (a b : Nat) : nI a &&& nI b = nI (a &&& b) := by
  apply Int32.toBitVec_inj.1
  show BitVec.ofNat 32 a &&& BitVec.ofNat 32 b = BitVec.ofNat 32 (a &&& b)
  apply BitVec.eq_of_getLsbD_eq
  intro i hi
  simp [hi]
theorem nx_xor (a b : Nat) : nI a ^^^ nI b = nI (a ^^^ b) := by
  apply Int32.toBitVec_inj.1
  show BitVec.ofNat 32 a ^^^ BitVec.ofNat 32 b = BitVec.ofNat 32 (a ^^^ b)
  apply BitVec.eq_of_getLsbD_eq
  intro i hi
  simp [hi]
theorem nx_cnt : ∀ j : Fin 32, (UInt32.ofNat j.val &&& Int32.toUInt32 31).toNat % 32 = j.val := by decide +kernel
theorem nx_ush {k j : Nat} (hk : k < 65536) (hj : j < 32) : ((nI k).toUInt32 >>> ((nI j).toUInt32 &&& Int32.toUInt32 31)).toInt32 = nI (k >>> j) := by
  have hs : k >>> j ≤ k := by
    rw [Nat.shiftRight_eq_div_pow]
    exact Nat.div_le_self _ _
  have e2 : UInt32.ofNat k >>> (UInt32.ofNat j &&& Int32.toUInt32 31) = UInt32.ofNat (k >>> j) := by
    apply UInt32.toNat_inj.1
    have h1 : (UInt32.ofNat k).toNat = k := Nat.mod_eq_of_lt (by omega)
    have h2 : (UInt32.ofNat (k >>> j)).toNat = k >>> j := Nat.mod_eq_of_lt (by omega)
    rw [UInt32.toNat_shiftRight, nx_cnt ⟨j, hj⟩, h1, h2]
  show (UInt32.ofNat k >>> (UInt32.ofNat j &&& Int32.toUInt32 31)).toInt32 = _
  rw [e2]
  rfl
theorem nx_bit {k j : Nat} (hk : k < 65536) (hj : j < 16) : (((nI k).toUInt32 >>> ((nI j).toUInt32 &&& Int32.toUInt32 31)).toInt32 &&& 1) = 0 ↔ k.testBit j = false := by
  rw [nx_ush hk (by omega)]
  show nI (k >>> j) &&& nI 1 = 0 ↔ _
  rw [nx_and, Nat.and_one_is_mod, ← nI_0, nI_eq (by omega) (by omega), Nat.testBit_eq_decide_div_mod_eq, Nat.shiftRight_eq_div_pow, decide_eq_false_iff_not]
  generalize k / 2 ^ j = z
  omega
theorem nx_mod (k : Nat) : nI k &&& 65535 = nI (k % 65536) := by
  show nI k &&& nI 65535 = _
  rw [nx_and, show (65535 : Nat) = 2 ^ 16 - 1 from rfl, Nat.and_two_pow_sub_one_eq_mod]
theorem nx_m16 {k : Nat} (h : k < 65536) : nI k &&& 65535 = nI k := by rw [nx_mod, Nat.mod_eq_of_lt h]
theorem nx_mask (x : Int32) : ∃ k, k < 65536 ∧ x &&& 65535 = nI k := by
  have e : x = nI x.toBitVec.toNat := by
    apply Int32.toBitVec_inj.1
    show x.toBitVec = BitVec.ofNat 32 x.toBitVec.toNat
    simp
  refine ⟨x.toBitVec.toNat % 65536, Nat.mod_lt _ (by omega), ?_⟩
  rw [← nx_mod, ← e]
end
section
/-! the code words: what the bytecode computes, as plain functions, and the law of one and two turned bits -/
/-- how many of the first n places hold -/
def zc_cnt (P : Nat → Bool) : Nat → Nat
  | 0 => 0
  | n + 1 => zc_cnt P n + (P n).toNat
/-- one bit of a word, as the bytecode reads it -/
def zc_ub (x : Int32) (k : Nat) : Int32 := (x.toUInt32 >>> ((nI k).toUInt32 &&& Int32.toUInt32 31)).toInt32 &&& 1
def zc_chk (p : Nat) : Bool := (p &&& (p - 1)) == 0
def zc_syn (f : Nat → Bool) : Nat → Nat
  | 0 => 0
  | n + 1 => zc_syn f n ^^^ (if f n = true then n else 0)
/-- how many places below n carry data -/
def zc_k : Nat → Nat
  | 0 => 0
  | n + 1 => zc_k n + (if zc_chk n = true then 0 else 1)
def zc_e1 (v : Int32) : Nat → Int32
  | 0 => 0
  | n + 1 => if zc_chk n = true then zc_e1 v n else zc_e1 v n ||| (zc_ub v (zc_k n) <<< (nI n &&& 31))
def zc_e2 (c : Int32) (s : Nat) : Nat → Int32
  | 0 => c
  | b + 1 => zc_e2 c s b ||| (zc_ub (nI s) b <<< (((1 : Int32) <<< (nI b &&& 31)) &&& 31))
def zc_eA (v : Int32) : Int32 := zc_e1 v 22
def zc_eB (v : Int32) : Int32 := zc_e2 (zc_eA v) (zc_syn (bt (zc_eA v)) 22) 5
def zc_enc (v : Int32) : Int32 := zc_eB v ||| (nI (zc_cnt (bt (zc_eB v)) 22) &&& 1)
def zc_d1 (c : Int32) : Nat → Int32
  | 0 => 0
  | n + 1 => if zc_chk n = true then zc_d1 c n else zc_d1 c n ||| (zc_ub c n <<< (nI (zc_k n) &&& 31))
def zc_fix (x : Int32) : Int32 := x ^^^ ((1 : Int32) <<< (nI (zc_syn (bt x) 22) &&& 31))
def zc_dec (x : Int32) : Int32 :=
  if zc_cnt (bt x) 22 % 2 = 0 then (if zc_syn (bt x) 22 = 0 then zc_d1 x 22 else -3) else zc_d1 (zc_fix x) 22

theorem zc_b1 (i : Nat) : bt 1 i = decide (i = 0) := by
  rcases Nat.lt_or_ge i 32 with h | h
  · exact (by decide +kernel : ∀ i, i < 32 → bt 1 i = decide (i = 0)) i h
  · rw [b_big h, decide_eq_false (by omega)]
theorem zc_bn (b : Bool) (i : Nat) : bt (nI b.toNat) i = (decide (i = 0) && b) := by
  cases b
  · show bt (nI 0) i = _
    rw [nI_0, b_0, Bool.and_false]
  · show bt 1 i = _
    rw [zc_b1, Bool.and_true]
theorem zc_ub_eq (x : Int32) {k : Nat} (hk : k < 32) : zc_ub x k = nI (bt x k).toNat := by
  apply b_ext
  intro i hi
  unfold zc_ub
  rw [b_and, b_ushr k hk, zc_b1, zc_bn]
  by_cases h : i = 0
  · subst h
    simp
  · simp [h]
theorem zc_sb_eq (x : Int32) {k : Nat} (hk : k < 32) : (x >>> (nI k &&& 31)) &&& 1 = nI (bt x k).toNat := by
  apply b_ext
  intro i hi
  rw [b_and, b_sshr k hk x hi, zc_b1, zc_bn]
  by_cases h : i = 0
  · subst h
    simp [hk]
  · simp [h]
theorem zc_ub0 (x : Int32) {k : Nat} (hk : k < 32) : zc_ub x k = 0 ↔ bt x k = false := by
  rw [zc_ub_eq x hk]
  cases bt x k
  · exact ⟨fun _ => rfl, fun _ => by decide⟩
  · exact ⟨fun h => absurd h (by decide), fun h => by cases h⟩
theorem zc_ubit (x : Int32) {k : Nat} (hk : k < 32) (i : Nat) : bt (zc_ub x k) i = (decide (i = 0) && bt x k) := by
  rw [zc_ub_eq x hk, zc_bn]

theorem zc_cnt_le (P : Nat → Bool) : ∀ n, zc_cnt P n ≤ n
  | 0 => Nat.le_refl _
  | n + 1 => by
    have h := zc_cnt_le P n
    have hb : (P n).toNat ≤ 1 := Bool.toNat_le _
    show zc_cnt P n + (P n).toNat ≤ n + 1
    omega
theorem zc_cnt_congr {P Q : Nat → Bool} : ∀ {n : Nat}, (∀ i, i < n → P i = Q i) → zc_cnt P n = zc_cnt Q n
  | 0, _ => rfl
  | n + 1, h => by
    show zc_cnt P n + (P n).toNat = zc_cnt Q n + (Q n).toNat
    rw [zc_cnt_congr (n := n) (fun i hi => h i (by omega)), h n (by omega)]
theorem zc_syn_congr {f g : Nat → Bool} : ∀ {n : Nat}, (∀ i, 0 < i → i < n → f i = g i) → zc_syn f n = zc_syn g n
  | 0, _ => rfl
  | n + 1, h => by
    show zc_syn f n ^^^ (if f n = true then n else 0) = zc_syn g n ^^^ (if g n = true then n else 0)
    rw [zc_syn_congr (n := n) (fun i h0 hi => h i h0 (by omega))]
    rcases Nat.eq_zero_or_pos n with e | e
    · subst e
      simp
    · rw [h n e (by omega)]
theorem zc_xor_cross (a b c d : Nat) : (a ^^^ b) ^^^ (c ^^^ d) = (a ^^^ c) ^^^ (b ^^^ d) := by
  rw [Nat.xor_assoc, Nat.xor_assoc, ← Nat.xor_assoc b c d, ← Nat.xor_assoc c b d, Nat.xor_comm b c]
theorem zc_syn_xor (f g : Nat → Bool) : ∀ n, zc_syn (fun i => f i ^^ g i) n = zc_syn f n ^^^ zc_syn g n
  | 0 => by
    show 0 = 0 ^^^ 0
    decide
  | n + 1 => by
    show zc_syn (fun i => f i ^^ g i) n ^^^ (if (f n ^^ g n) = true then n else 0) = (zc_syn f n ^^^ (if f n = true then n else 0)) ^^^ (zc_syn g n ^^^ (if g n = true then n else 0))
    rw [zc_syn_xor f g n, zc_xor_cross]
    congr 1
    cases f n <;> cases g n <;> simp
theorem zc_par_xor (f g : Nat → Bool) : ∀ n, zc_cnt (fun i => f i ^^ g i) n % 2 = (zc_cnt f n + zc_cnt g n) % 2
  | 0 => rfl
  | n + 1 => by
    have h := zc_par_xor f g n
    show (zc_cnt (fun i => f i ^^ g i) n + (f n ^^ g n).toNat) % 2 = (zc_cnt f n + (f n).toNat + (zc_cnt g n + (g n).toNat)) % 2
    cases f n <;> cases g n <;> simp only [Bool.xor_false, Bool.xor_true, Bool.not_false, Bool.not_true, Bool.toNat_true, Bool.toNat_false, Bool.false_xor, Bool.true_xor] <;> omega

/-- the places that carry data, in order -/
def zc_pos (i : Nat) : Nat := [3, 5, 6, 7, 9, 10, 11, 12, 13, 14, 15, 17, 18, 19, 20, 21].getD i 0
theorem zc_pos_k : ∀ n, n < 22 → zc_chk n = false → zc_pos (zc_k n) = n := by decide +kernel
theorem zc_k_pos : ∀ i, i < 16 → zc_k (zc_pos i) = i ∧ zc_pos i < 22 ∧ 0 < zc_pos i ∧ zc_chk (zc_pos i) = false := by decide +kernel
theorem zc_k22 : zc_k 22 = 16 := by decide +kernel
theorem zc_k_le : ∀ n, n < 23 → zc_k n ≤ 16 := by decide +kernel
theorem zc_k_low : ∀ n, n < 22 → zc_chk n = false → zc_k n < 16 := by decide +kernel
theorem zc_e1_bit (v : Int32) : ∀ n, n ≤ 22 → ∀ i, i < 32 → bt (zc_e1 v n) i = (decide (i < n) && (!zc_chk i && bt v (zc_k i)))
  | 0, _, i, _ => by
    show bt 0 i = _
    rw [b_0]
    simp
  | n + 1, hn, i, hi => by
    have ih := zc_e1_bit v n (by omega) i hi
    show bt (if zc_chk n = true then zc_e1 v n else zc_e1 v n ||| (zc_ub v (zc_k n) <<< (nI n &&& 31))) i = _
    by_cases hc : zc_chk n = true
    · rw [if_pos hc, ih]
      by_cases e : i = n
      · subst e
        simp [hc]
      · have : (i < n) = (i < n + 1) := propext ⟨fun h => by omega, fun h => by omega⟩
        simp only [this]
    · have hk : zc_k n < 32 := Nat.lt_of_le_of_lt (zc_k_le n (by omega)) (by omega)
      rw [if_neg hc, b_or, ih, b_shl n (by omega) _ hi, zc_ubit v hk]
      by_cases e : i = n
      · subst e
        simp [hc]
      · rcases Nat.lt_or_ge i n with h | h
        · simp [h, Nat.lt_succ_of_lt h, Nat.not_le.mpr h]
        · have h1 : ¬ i < n := Nat.not_lt.mpr h
          have h2 : ¬ i < n + 1 := by omega
          have h3 : ¬ i - n = 0 := by omega
          simp [h1, h2, h3]
theorem zc_d1_bit (c : Int32) : ∀ n, n ≤ 22 → ∀ i, i < 32 → bt (zc_d1 c n) i = (decide (i < zc_k n) && bt c (zc_pos i))
  | 0, _, i, _ => by
    show bt 0 i = _
    rw [b_0]
    simp [zc_k]
  | n + 1, hn, i, hi => by
    have ih := zc_d1_bit c n (by omega) i hi
    show bt (if zc_chk n = true then zc_d1 c n else zc_d1 c n ||| (zc_ub c n <<< (nI (zc_k n) &&& 31))) i = (decide (i < zc_k n + (if zc_chk n = true then 0 else 1)) && _)
    by_cases hc : zc_chk n = true
    · rw [if_pos hc, if_pos hc, ih, Nat.add_zero]
    · have hk : zc_k n < 32 := Nat.lt_of_le_of_lt (zc_k_le n (by omega)) (by omega)
      have hp := zc_pos_k n (by omega) (by simpa using hc)
      rw [if_neg hc, if_neg hc, b_or, ih, b_shl (zc_k n) hk _ hi, zc_ubit c (by omega)]
      by_cases e : i = zc_k n
      · subst e
        rw [hp]
        simp
      · rcases Nat.lt_or_ge i (zc_k n) with h | h
        · simp [h, Nat.lt_succ_of_lt h, Nat.not_le.mpr h]
        · have h1 : ¬ i < zc_k n := Nat.not_lt.mpr h
          have h2 : ¬ i < zc_k n + 1 := by omega
          have h3 : ¬ i - zc_k n = 0 := by omega
          simp [h1, h2, h3]
theorem zc_syn_lt (f : Nat → Bool) : ∀ n, n ≤ 32 → zc_syn f n < 32
  | 0, _ => by
    show 0 < 32
    omega
  | n + 1, h => by
    show zc_syn f n ^^^ (if f n = true then n else 0) < 32
    have a := zc_syn_lt f n (by omega)
    have b : (if f n = true then n else 0) < 32 := by
      split
      · omega
      · omega
    exact Nat.xor_lt_two_pow (n := 5) a b
/-- the check places' bits of a sum s -/
def zc_cb (s : Nat) (i : Nat) : Bool := (decide (i = 1) && s.testBit 0) || (decide (i = 2) && s.testBit 1) || (decide (i = 4) && s.testBit 2) || (decide (i = 8) && s.testBit 3) || (decide (i = 16) && s.testBit 4)
theorem zc_cb_syn : ∀ s, s < 32 → zc_syn (zc_cb s) 22 = s := by decide +kernel
theorem zc_nbt {s i : Nat} (hi : i < 32) : bt (nI s) i = s.testBit i := by
  show (BitVec.ofNat 32 s).getLsbD i = _
  rw [BitVec.getLsbD_ofNat]
  simp [hi]
theorem zc_1sh : ∀ b, b < 5 → ((1 : Int32) <<< (nI b &&& 31)) = nI (2 ^ b) := by decide +kernel
theorem zc_e2_step (c : Int32) (s b : Nat) (hb : b < 5) {i : Nat} (hi : i < 32) : bt (zc_e2 c s (b + 1)) i = (bt (zc_e2 c s b) i || (decide (i = 2 ^ b) && s.testBit b)) := by
  show bt (zc_e2 c s b ||| (zc_ub (nI s) b <<< (((1 : Int32) <<< (nI b &&& 31)) &&& 31))) i = _
  have hp : 2 ^ b < 32 := by
    have : (2 : Nat) ^ b < 2 ^ 5 := Nat.pow_lt_pow_right (by omega) hb
    omega
  rw [zc_1sh b hb, b_or, b_shl (2 ^ b) hp _ hi, zc_ubit _ (by omega), zc_nbt (by omega)]
  by_cases e : i = 2 ^ b
  · subst e
    simp
  · rcases Nat.lt_or_ge i (2 ^ b) with h | h
    · simp [e, Nat.not_le.mpr h]
    · have h3 : ¬ i - 2 ^ b = 0 := by omega
      simp [e, h3]
theorem zc_eB_bit (v : Int32) {i : Nat} (hi : i < 32) : bt (zc_eB v) i = (bt (zc_eA v) i || zc_cb (zc_syn (bt (zc_eA v)) 22) i) := by
  unfold zc_eB
  generalize zc_syn (bt (zc_eA v)) 22 = s
  rw [zc_e2_step _ _ 4 (by omega) hi, zc_e2_step _ _ 3 (by omega) hi, zc_e2_step _ _ 2 (by omega) hi, zc_e2_step _ _ 1 (by omega) hi, zc_e2_step _ _ 0 (by omega) hi]
  show _ = (bt (zc_eA v) i || _)
  unfold zc_cb
  simp only [Bool.or_assoc]
  rfl
theorem zc_eA_bit (v : Int32) {i : Nat} (hi : i < 22) : bt (zc_eA v) i = (!zc_chk i && bt v (zc_k i)) := by
  unfold zc_eA
  rw [zc_e1_bit v 22 (Nat.le_refl _) i (by omega)]
  simp [hi]
theorem zc_cb_chk (s : Nat) {i : Nat} (h : zc_cb s i = true) : zc_chk i = true := by
  unfold zc_cb at h
  simp only [Bool.or_eq_true, Bool.and_eq_true, decide_eq_true_eq] at h
  rcases h with (((⟨rfl, _⟩ | ⟨rfl, _⟩) | ⟨rfl, _⟩) | ⟨rfl, _⟩) | ⟨rfl, _⟩ <;> decide
theorem zc_eB_xor (v : Int32) {i : Nat} (hi : i < 22) : bt (zc_eB v) i = (bt (zc_eA v) i ^^ zc_cb (zc_syn (bt (zc_eA v)) 22) i) := by
  rw [zc_eB_bit v (by omega)]
  cases h : zc_cb (zc_syn (bt (zc_eA v)) 22) i
  · simp
  · rw [zc_eA_bit v hi, zc_cb_chk _ h]
    rfl
theorem zc_eB_syn (v : Int32) : zc_syn (bt (zc_eB v)) 22 = 0 := by
  rw [zc_syn_congr (g := fun i => bt (zc_eA v) i ^^ zc_cb (zc_syn (bt (zc_eA v)) 22) i) (fun i _ hi => zc_eB_xor v hi), zc_syn_xor, zc_cb_syn _ (zc_syn_lt _ 22 (by omega)), Nat.xor_self]
theorem zc_eB_0 (v : Int32) : bt (zc_eB v) 0 = false := by
  rw [zc_eB_xor v (by omega), zc_eA_bit v (by omega)]
  rfl
theorem zc_and1 (n : Nat) : nI n &&& 1 = nI (decide (n % 2 = 1)).toNat := by
  show nI n &&& nI 1 = _
  rw [nx_and, Nat.and_one_is_mod]
  rcases Nat.mod_two_eq_zero_or_one n with h | h <;> rw [h] <;> rfl
theorem zc_enc_bit (v : Int32) {i : Nat} : bt (zc_enc v) i = (bt (zc_eB v) i || (decide (i = 0) && decide (zc_cnt (bt (zc_eB v)) 22 % 2 = 1))) := by
  unfold zc_enc
  rw [b_or, zc_and1, zc_bn]
theorem zc_enc_pos (v : Int32) {i : Nat} (h : 0 < i) : bt (zc_enc v) i = bt (zc_eB v) i := by
  rw [zc_enc_bit, decide_eq_false (by omega : ¬ i = 0)]
  simp
theorem zc_enc_syn (v : Int32) : zc_syn (bt (zc_enc v)) 22 = 0 := by
  rw [zc_syn_congr (g := bt (zc_eB v)) (fun i h _ => zc_enc_pos v h), zc_eB_syn]
theorem zc_cnt_0 {P Q : Nat → Bool} (h : ∀ i, 0 < i → P i = Q i) (hQ : Q 0 = false) : ∀ n, zc_cnt P (n + 1) = zc_cnt Q (n + 1) + (P 0).toNat
  | 0 => by
    show 0 + (P 0).toNat = 0 + (Q 0).toNat + (P 0).toNat
    rw [hQ]
    simp
  | n + 1 => by
    show zc_cnt P (n + 1) + (P (n + 1)).toNat = zc_cnt Q (n + 1) + (Q (n + 1)).toNat + (P 0).toNat
    rw [zc_cnt_0 h hQ n, h (n + 1) (by omega)]
    omega
theorem zc_enc_par (v : Int32) : zc_cnt (bt (zc_enc v)) 22 % 2 = 0 := by
  rw [zc_cnt_0 (P := bt (zc_enc v)) (Q := bt (zc_eB v)) (fun i h => zc_enc_pos v h) (zc_eB_0 v) 21, zc_enc_bit, zc_eB_0]
  show (zc_cnt (bt (zc_eB v)) 22 + _) % 2 = 0
  rcases Nat.mod_two_eq_zero_or_one (zc_cnt (bt (zc_eB v)) 22) with h | h
  · simp [h]
  · simp only [h, decide_true, Bool.and_self, Bool.or_true, Bool.toNat_true]
    omega
theorem zc_enc_d1 (v : Int32) (hv : ∀ i, 16 ≤ i → bt v i = false) : zc_d1 (zc_enc v) 22 = v := by
  apply b_ext
  intro i hi
  rw [zc_d1_bit _ 22 (Nat.le_refl _) i hi, zc_k22]
  rcases Nat.lt_or_ge i 16 with h | h
  · obtain ⟨h1, h2, h3, h4⟩ := zc_k_pos i h
    rw [zc_enc_pos v h3, zc_eB_xor v h2, zc_eA_bit v h2, h1, h4]
    cases hc : zc_cb (zc_syn (bt (zc_eA v)) 22) (zc_pos i)
    · simp [h]
    · rw [zc_cb_chk _ hc] at h4
      cases h4
  · rw [hv i h, decide_eq_false (Nat.not_lt.mpr h), Bool.false_and]
theorem zc_cnt0 {f : Nat → Bool} : ∀ {n : Nat}, zc_cnt f n = 0 → ∀ i, i < n → f i = false
  | 0, _, i, hi => absurd hi (Nat.not_lt_zero _)
  | n + 1, h, i, hi => by
    have h' : zc_cnt f n + (f n).toNat = 0 := h
    by_cases e : i = n
    · subst e
      cases hf : f i
      · rfl
      · rw [hf] at h'
        simp at h'
    · exact zc_cnt0 (n := n) (by omega) i (by omega)
theorem zc_cnt1 {f : Nat → Bool} : ∀ {n : Nat}, zc_cnt f n = 1 → ∃ a, a < n ∧ ∀ i, i < n → f i = decide (i = a)
  | 0, h => by cases h
  | n + 1, h => by
    have h' : zc_cnt f n + (f n).toNat = 1 := h
    cases hf : f n
    · rw [hf] at h'
      obtain ⟨a, ha, hk⟩ := zc_cnt1 (n := n) (f := f) (by simpa using h')
      refine ⟨a, by omega, fun i hi => ?_⟩
      by_cases e : i = n
      · subst e
        rw [hf, decide_eq_false (by omega)]
      · exact hk i (by omega)
    · rw [hf] at h'
      have h0 := zc_cnt0 (n := n) (f := f) (by simpa using h')
      refine ⟨n, by omega, fun i hi => ?_⟩
      by_cases e : i = n
      · subst e
        rw [hf, decide_eq_true rfl]
      · rw [h0 i (by omega), decide_eq_false e]
theorem zc_cnt2 {f : Nat → Bool} : ∀ {n : Nat}, zc_cnt f n = 2 → ∃ a b, a < b ∧ b < n ∧ ∀ i, i < n → f i = (decide (i = a) ^^ decide (i = b))
  | 0, h => by cases h
  | n + 1, h => by
    have h' : zc_cnt f n + (f n).toNat = 2 := h
    cases hf : f n
    · rw [hf] at h'
      obtain ⟨a, b, ha, hb, hk⟩ := zc_cnt2 (n := n) (f := f) (by simpa using h')
      refine ⟨a, b, ha, by omega, fun i hi => ?_⟩
      by_cases e : i = n
      · subst e
        rw [hf, decide_eq_false (by omega : ¬ i = a), decide_eq_false (by omega : ¬ i = b)]
        rfl
      · exact hk i (by omega)
    · rw [hf] at h'
      obtain ⟨a, ha, hk⟩ := zc_cnt1 (n := n) (f := f) (by simpa using h')
      refine ⟨a, n, ha, by omega, fun i hi => ?_⟩
      by_cases e : i = n
      · subst e
        rw [hf, decide_eq_true rfl, decide_eq_false (by omega : ¬ i = a)]
        rfl
      · rw [hk i (by omega), decide_eq_false e]
        simp
theorem zc_syn_1 (a : Nat) : ∀ n, zc_syn (fun i => decide (i = a)) n = if a < n then a else 0
  | 0 => by
    show 0 = _
    simp
  | n + 1 => by
    show zc_syn (fun i => decide (i = a)) n ^^^ (if decide (n = a) = true then n else 0) = _
    rw [zc_syn_1 a n]
    by_cases e : n = a
    · subst e
      simp
    · by_cases h : a < n
      · simp [e, h, Nat.lt_succ_of_lt h]
      · have h2 : ¬ a < n + 1 := by omega
        simp [e, h, h2]
theorem zc_cnt_1 (a : Nat) : ∀ n, zc_cnt (fun i => decide (i = a)) n = if a < n then 1 else 0
  | 0 => by
    show 0 = _
    simp
  | n + 1 => by
    show zc_cnt (fun i => decide (i = a)) n + (decide (n = a)).toNat = _
    rw [zc_cnt_1 a n]
    by_cases e : n = a
    · subst e
      simp
    · by_cases h : a < n
      · simp [e, h, Nat.lt_succ_of_lt h]
      · have h2 : ¬ a < n + 1 := by omega
        simp [e, h, h2]
theorem zc_1bit {a i : Nat} (ha : a < 32) (hi : i < 32) : bt ((1 : Int32) <<< (nI a &&& 31)) i = decide (i = a) := by
  rw [b_shl a ha _ hi, zc_b1]
  by_cases e : i = a
  · subst e
    simp
  · rcases Nat.lt_or_ge i a with h | h
    · simp [e, Nat.not_le.mpr h]
    · have h3 : ¬ i - a = 0 := by omega
      simp [e, h3]
/-- THE LAW OF THE CODE: no turned bit or one: the value; two: damaged -/
theorem zc_law (v t : Int32) (hv : ∀ i, 16 ≤ i → bt v i = false) (ht : ∀ i, 22 ≤ i → bt t i = false) (h2 : zc_cnt (bt t) 22 ≤ 2) :
    zc_dec (zc_enc v ^^^ t) = if zc_cnt (bt t) 22 = 2 then -3 else v := by
  have hx : ∀ i, bt (zc_enc v ^^^ t) i = (bt (zc_enc v) i ^^ bt t i) := fun i => b_xor _ _ i
  have hs : zc_syn (bt (zc_enc v ^^^ t)) 22 = zc_syn (bt t) 22 := by
    rw [zc_syn_congr (g := fun i => bt (zc_enc v) i ^^ bt t i) (fun i _ _ => hx i), zc_syn_xor, zc_enc_syn, Nat.zero_xor]
  have hp : zc_cnt (bt (zc_enc v ^^^ t)) 22 % 2 = zc_cnt (bt t) 22 % 2 := by
    rw [zc_cnt_congr (Q := fun i => bt (zc_enc v) i ^^ bt t i) (fun i _ => hx i), zc_par_xor]
    have := zc_enc_par v
    omega
  unfold zc_dec
  rw [hp, hs]
  have hc : zc_cnt (bt t) 22 = 0 ∨ zc_cnt (bt t) 22 = 1 ∨ zc_cnt (bt t) 22 = 2 := by omega
  rcases hc with hc | hc | hc
  · have h0 := zc_cnt0 hc
    have ht0 : t = 0 := b_ext (fun i hi => by
      rw [b_0]
      rcases Nat.lt_or_ge i 22 with h | h
      · exact h0 i h
      · exact ht i h)
    have hz : zc_syn (bt t) 22 = 0 := by
      rw [zc_syn_congr (g := fun _ => false) (fun i _ hi => h0 i hi)]
      decide
    rw [hc, if_pos (by decide), if_pos hz, if_neg (by decide), ht0, Int32.xor_zero]
    exact zc_enc_d1 v hv
  · obtain ⟨a, ha, hk⟩ := zc_cnt1 hc
    have hz : zc_syn (bt t) 22 = a := by
      rw [zc_syn_congr (g := fun i => decide (i = a)) (fun i _ hi => hk i hi), zc_syn_1, if_pos ha]
    rw [hc, if_neg (by decide), if_neg (by decide)]
    have e : zc_fix (zc_enc v ^^^ t) = zc_enc v := by
      unfold zc_fix
      rw [hs, hz]
      apply b_ext
      intro i hi
      rw [b_xor, b_xor, zc_1bit (by omega) hi]
      rcases Nat.lt_or_ge i 22 with h | h
      · rw [hk i h]
        cases bt (zc_enc v) i <;> cases decide (i = a) <;> rfl
      · rw [ht i h, decide_eq_false (by omega : ¬ i = a)]
        simp
    rw [e]
    exact zc_enc_d1 v hv
  · obtain ⟨a, b, hab, hb, hk⟩ := zc_cnt2 hc
    have hz : zc_syn (bt t) 22 = a ^^^ b := by
      rw [zc_syn_congr (g := fun i => decide (i = a) ^^ decide (i = b)) (fun i _ hi => hk i hi), zc_syn_xor, zc_syn_1, zc_syn_1, if_pos (by omega), if_pos hb]
    have hne : a ^^^ b ≠ 0 := fun q => by
      have h9 : a ^^^ b ^^^ b = 0 ^^^ b := by rw [q]
      rw [Nat.xor_assoc, Nat.xor_self, Nat.xor_zero, Nat.zero_xor] at h9
      omega
    rw [hc, if_pos (by decide), if_pos rfl, hz, if_neg hne]
end
section
/-! the flash, plainly: its state, what holds between calls, and what each step does to it -/
abbrev zf_S : Type := (Nat → Nat) × (Nat → Nat) × (Nat → Nat) × (Nat → Int32) × (Nat → Int32) × (Nat → Option Nat) × Nat × Nat × Nat
abbrev zf_k (u : zf_S) : Nat → Nat := u.1
abbrev zf_o (u : zf_S) : Nat → Nat := u.2.1
abbrev zf_s (u : zf_S) : Nat → Nat := u.2.2.1
abbrev zf_w (u : zf_S) : Nat → Int32 := u.2.2.2.1
abbrev zf_t (u : zf_S) : Nat → Int32 := u.2.2.2.2.1
abbrev zf_n (u : zf_S) : Nat → Option Nat := u.2.2.2.2.2.1
abbrev zf_c (u : zf_S) : Nat := u.2.2.2.2.2.2.1
abbrev zf_f (u : zf_S) : Nat := u.2.2.2.2.2.2.2.1
abbrev zf_x (u : zf_S) : Nat := u.2.2.2.2.2.2.2.2
abbrev zf_sk (u : zf_S) (a : Nat → Nat) : zf_S := (a, zf_o u, zf_s u, zf_w u, zf_t u, zf_n u, zf_c u, zf_f u, zf_x u)
abbrev zf_so (u : zf_S) (a : Nat → Nat) : zf_S := (zf_k u, a, zf_s u, zf_w u, zf_t u, zf_n u, zf_c u, zf_f u, zf_x u)
abbrev zf_ss (u : zf_S) (a : Nat → Nat) : zf_S := (zf_k u, zf_o u, a, zf_w u, zf_t u, zf_n u, zf_c u, zf_f u, zf_x u)
abbrev zf_sw (u : zf_S) (a : Nat → Int32) : zf_S := (zf_k u, zf_o u, zf_s u, a, zf_t u, zf_n u, zf_c u, zf_f u, zf_x u)
abbrev zf_st (u : zf_S) (a : Nat → Int32) : zf_S := (zf_k u, zf_o u, zf_s u, zf_w u, a, zf_n u, zf_c u, zf_f u, zf_x u)
abbrev zf_sn (u : zf_S) (a : Nat → Option Nat) : zf_S := (zf_k u, zf_o u, zf_s u, zf_w u, zf_t u, a, zf_c u, zf_f u, zf_x u)
abbrev zf_sc (u : zf_S) (a : Nat) : zf_S := (zf_k u, zf_o u, zf_s u, zf_w u, zf_t u, zf_n u, a, zf_f u, zf_x u)
abbrev zf_sf (u : zf_S) (a : Nat) : zf_S := (zf_k u, zf_o u, zf_s u, zf_w u, zf_t u, zf_n u, zf_c u, a, zf_x u)
abbrev zf_sx (u : zf_S) (a : Nat) : zf_S := (zf_k u, zf_o u, zf_s u, zf_w u, zf_t u, zf_n u, zf_c u, zf_f u, a)

def zf_lvK (K O : Nat → Nat) (N : Nat → Option Nat) (p : Nat) : Bool := decide (K p ≠ 0 ∧ N (O p) = some p)
def zf_live (u : zf_S) (p : Nat) : Bool := zf_lvK (zf_k u) (zf_o u) (zf_n u) p
def zf_lv (u : zf_S) (b : Nat) : Nat := zc_cnt (fun i => zf_live u (4 * b + i)) 4
theorem zf_lvK_iff {K O : Nat → Nat} {N : Nat → Option Nat} {p : Nat} : zf_lvK K O N p = true ↔ K p ≠ 0 ∧ N (O p) = some p := by
  unfold zf_lvK
  rw [decide_eq_true_eq]

/-- which pages a block has -/
def zf_BL (K : Nat → Nat) (c f : Nat) : Prop := c < 8 ∧ f ≤ 4 ∧ (∀ j, j < 4 → (K (4 * c + j) ≠ 0 ↔ j < f)) ∧ ∀ b, b < 8 → b ≠ c → ∀ j, j < 4 → (K (4 * b + j) = 0 ↔ K (4 * b) = 0)
/-- what holds of the pages -/
def zf_PG (K O S : Nat → Nat) (X : Nat) : Prop := (∀ p, p < 32 → K p ≤ 2) ∧ (∀ p, p < 32 → K p ≠ 0 → O p < 16 ∧ S p < X) ∧ ∀ p q, p < 32 → q < 32 → K p ≠ 0 → K q ≠ 0 → S p = S q → p = q
/-- the map holds the newest page of every sector -/
def zf_NW (K O S : Nat → Nat) (N : Nat → Option Nat) : Prop := (∀ s p, s < 16 → N s = some p → p < 32 ∧ K p ≠ 0 ∧ O p = s) ∧ ∀ p, p < 32 → K p ≠ 0 → ∃ q, N (O p) = some q ∧ S p ≤ S q
def zf_I (u : zf_S) : Prop := zf_PG (zf_k u) (zf_o u) (zf_s u) (zf_x u) ∧ zf_BL (zf_k u) (zf_c u) (zf_f u) ∧ zf_NW (zf_k u) (zf_o u) (zf_s u) (zf_n u)
/-- a free block is there -/
def zf_FR (K : Nat → Nat) (c : Nat) : Prop := ∃ b, b < 8 ∧ b ≠ c ∧ K (4 * b) = 0
def zf_F (u : zf_S) : Prop := zf_FR (zf_k u) (zf_c u)
/-- what a sector shows -/
def zf_v (u : zf_S) (s : Nat) : Option (Nat × Int32 × Int32) := (zf_n u s).map (fun p => (zf_k u p, zf_w u p, zf_t u p))

/-! ### put -/
def zf_put (u : zf_S) (sec sort : Nat) (w t : Int32) : zf_S :=
  (va_up (zf_k u) (4 * zf_c u + zf_f u) sort, va_up (zf_o u) (4 * zf_c u + zf_f u) sec, va_up (zf_s u) (4 * zf_c u + zf_f u) (zf_x u), va_up (zf_w u) (4 * zf_c u + zf_f u) w, va_up (zf_t u) (4 * zf_c u + zf_f u) t, va_up (zf_n u) sec (some (4 * zf_c u + zf_f u)), zf_c u, zf_f u + 1, zf_x u + 1)
theorem zf_free_page {K : Nat → Nat} {c f : Nat} (h : zf_BL K c f) (hf : f < 4) : K (4 * c + f) = 0 := by
  have h1 := h.2.2.1 f hf
  by_cases e : K (4 * c + f) = 0
  · exact e
  · exact absurd (h1.mp e) (Nat.lt_irrefl _)
theorem zf_put_I {u : zf_S} {sec sort : Nat} {w t : Int32} (h : zf_I u) (hf : zf_f u < 4) (hs : sec < 16) (h1 : 1 ≤ sort) (h2 : sort ≤ 2) : zf_I (zf_put u sec sort w t) := by
  obtain ⟨K, O, S, W, T, N, c, f, x⟩ := u
  obtain ⟨⟨a1, a2, a3⟩, hB, ⟨n1, n2⟩⟩ := h
  have hz : K (4 * c + f) = 0 := zf_free_page hB hf
  obtain ⟨b1, b2, b3, b4⟩ := hB
  have hf : f < 4 := hf
  have b1 : c < 8 := b1
  refine ⟨⟨?_, ?_, ?_⟩, ⟨b1, by show f + 1 ≤ 4; omega, ?_, ?_⟩, ⟨?_, ?_⟩⟩
  · intro p hp
    show va_up K (4 * c + f) sort p ≤ 2
    by_cases e : p = 4 * c + f
    · rw [e, va_up_self]; exact h2
    · rw [va_up_ne _ _ e]; exact a1 p hp
  · intro p hp hk
    show va_up O (4 * c + f) sec p < 16 ∧ va_up S (4 * c + f) x p < x + 1
    by_cases e : p = 4 * c + f
    · rw [e, va_up_self, va_up_self]; exact ⟨hs, by omega⟩
    · have hk : va_up K (4 * c + f) sort p ≠ 0 := hk
      rw [va_up_ne _ _ e] at hk
      rw [va_up_ne _ _ e, va_up_ne _ _ e]
      have := a2 p hp hk
      exact ⟨this.1, Nat.lt_succ_of_lt this.2⟩
  · intro p q hp hq hkp hkq hpq
    have hkp : va_up K (4 * c + f) sort p ≠ 0 := hkp
    have hkq : va_up K (4 * c + f) sort q ≠ 0 := hkq
    have hpq : va_up S (4 * c + f) x p = va_up S (4 * c + f) x q := hpq
    by_cases ep : p = 4 * c + f
    · by_cases eq : q = 4 * c + f
      · rw [ep, eq]
      · rw [va_up_ne _ _ eq] at hkq
        rw [ep, va_up_self, va_up_ne _ _ eq] at hpq
        have := (a2 q hq hkq).2
        have : S q < x := this
        omega
    · rw [va_up_ne _ _ ep] at hkp
      by_cases eq : q = 4 * c + f
      · rw [eq, va_up_self, va_up_ne _ _ ep] at hpq
        have : S p < x := (a2 p hp hkp).2
        omega
      · rw [va_up_ne _ _ eq] at hkq
        rw [va_up_ne _ _ ep, va_up_ne _ _ eq] at hpq
        exact a3 p q hp hq hkp hkq hpq
  · intro j hj
    show va_up K (4 * c + f) sort (4 * c + j) ≠ 0 ↔ j < f + 1
    by_cases e : j = f
    · rw [e, va_up_self]
      exact ⟨fun _ => by omega, fun _ => by omega⟩
    · rw [va_up_ne _ _ (by omega)]
      have := b3 j hj
      have : K (4 * c + j) ≠ 0 ↔ j < f := this
      rw [this]
      exact ⟨fun _ => by omega, fun _ => by omega⟩
  · intro b hb hne j hj
    have hne : b ≠ c := hne
    show va_up K (4 * c + f) sort (4 * b + j) = 0 ↔ va_up K (4 * c + f) sort (4 * b) = 0
    rw [va_up_ne _ _ (by omega), va_up_ne _ _ (by omega)]
    exact b4 b hb hne j hj
  · intro s p hs2 hn
    have hn : va_up N sec (some (4 * c + f)) s = some p := hn
    show p < 32 ∧ va_up K (4 * c + f) sort p ≠ 0 ∧ va_up O (4 * c + f) sec p = s
    by_cases e : s = sec
    · rw [e, va_up_self] at hn
      have ep : 4 * c + f = p := Option.some.inj hn
      rw [← ep, va_up_self, va_up_self]
      exact ⟨by omega, by omega, e.symm⟩
    · rw [va_up_ne _ _ e] at hn
      obtain ⟨g1, g2, g3⟩ := n1 s p hs2 hn
      have ep : p ≠ 4 * c + f := fun q => g2 (by rw [q]; exact hz)
      rw [va_up_ne _ _ ep, va_up_ne _ _ ep]
      exact ⟨g1, g2, g3⟩
  · intro p hp hk
    have hk : va_up K (4 * c + f) sort p ≠ 0 := hk
    show ∃ q, va_up N sec (some (4 * c + f)) (va_up O (4 * c + f) sec p) = some q ∧ va_up S (4 * c + f) x p ≤ va_up S (4 * c + f) x q
    by_cases e : p = 4 * c + f
    · refine ⟨4 * c + f, ?_, ?_⟩
      · rw [e, va_up_self, va_up_self]
      · rw [e]; exact Nat.le_refl _
    · rw [va_up_ne _ _ e] at hk
      rw [va_up_ne O _ e, va_up_ne S _ e]
      obtain ⟨hO, hS⟩ := a2 p hp hk
      have hS : S p < x := hS
      by_cases eo : O p = sec
      · refine ⟨4 * c + f, ?_, ?_⟩
        · rw [eo, va_up_self]
        · rw [va_up_self]; omega
      · obtain ⟨q, q1, q2⟩ := n2 p hp hk
        obtain ⟨g1, g2, g3⟩ := n1 (O p) q hO q1
        have ep : q ≠ 4 * c + f := fun z => g2 (by rw [z]; exact hz)
        refine ⟨q, ?_, ?_⟩
        · rw [va_up_ne _ _ eo]; exact q1
        · rw [va_up_ne _ _ ep]; exact q2
theorem zf_put_v {u : zf_S} {sec sort : Nat} {w t : Int32} (h : zf_I u) (hf : zf_f u < 4) {s : Nat} (hs : s < 16) : zf_v (zf_put u sec sort w t) s = if s = sec then some (sort, w, t) else zf_v u s := by
  obtain ⟨K, O, S, W, T, N, c, f, x⟩ := u
  obtain ⟨-, hB, ⟨n1, n2⟩⟩ := h
  have hz : K (4 * c + f) = 0 := zf_free_page hB hf
  show (va_up N sec (some (4 * c + f)) s).map (fun p => (va_up K (4 * c + f) sort p, va_up W (4 * c + f) w p, va_up T (4 * c + f) t p)) = if s = sec then some (sort, w, t) else (N s).map (fun p => (K p, W p, T p))
  by_cases e : s = sec
  · rw [if_pos e, e, va_up_self, Option.map_some, va_up_self, va_up_self, va_up_self]
  · rw [if_neg e, va_up_ne _ _ e]
    cases hn : N s with
    | none => rfl
    | some p =>
      obtain ⟨g1, g2, g3⟩ := n1 s p hs hn
      have ep : p ≠ 4 * c + f := fun q => g2 (by rw [q]; exact hz)
      rw [Option.map_some, Option.map_some, va_up_ne _ _ ep, va_up_ne _ _ ep, va_up_ne _ _ ep]
theorem zf_put_F {u : zf_S} {sec sort : Nat} {w t : Int32} (h : zf_F u) (hf : zf_f u < 4) : zf_F (zf_put u sec sort w t) := by
  obtain ⟨b, h1, h2, h3⟩ := h
  refine ⟨b, h1, h2, ?_⟩
  show va_up (zf_k u) (4 * zf_c u + zf_f u) sort (4 * b) = 0
  rw [va_up_ne _ _ (by omega)]
  exact h3

/-! ### switching to a free block -/
theorem zf_switch_I {u : zf_S} {b : Nat} (h : zf_I u) (hf : zf_f u = 4) (hb : b < 8) (hk : zf_k u (4 * b) = 0) (hne : b ≠ zf_c u) : zf_I (zf_sf (zf_sc u b) 0) := by
  obtain ⟨K, O, S, W, T, N, c, f, x⟩ := u
  obtain ⟨hP, ⟨b1, b2, b3, b4⟩, hN⟩ := h
  have hf : f = 4 := hf
  have hne : b ≠ c := hne
  refine ⟨hP, ⟨hb, by show 0 ≤ 4; omega, ?_, ?_⟩, hN⟩
  · intro j hj
    show K (4 * b + j) ≠ 0 ↔ j < 0
    exact ⟨fun q => absurd ((b4 b hb hne j hj).mpr hk) q, fun q => absurd q (Nat.not_lt_zero _)⟩
  · intro d hd hdb j hj
    show K (4 * d + j) = 0 ↔ K (4 * d) = 0
    by_cases e : d = c
    · have e1 : K (4 * c + j) ≠ 0 := (b3 j hj).mpr (by show j < f; omega)
      have e2 : K (4 * c + 0) ≠ 0 := (b3 0 (by omega)).mpr (by show 0 < f; omega)
      rw [e]
      exact ⟨fun q => absurd q e1, fun q => absurd q e2⟩
    · exact b4 d hd e j hj

/-! ### gathering a block -/
/-- the copying, at page j of block b: u0 is the state at its start -/
def zf_G (u0 u : zf_S) (b j : Nat) : Prop :=
  zf_I u ∧ zf_c u = zf_c u0 ∧ (∀ s, s < 16 → zf_v u s = zf_v u0 s) ∧ zf_f u ≤ zf_f u0 + zc_cnt (fun i => zf_live u0 (4 * b + i)) j ∧ zf_x u ≤ zf_x u0 + j ∧
  (∀ i, i < 4 → zf_live u (4 * b + i) = true → j ≤ i ∧ zf_live u0 (4 * b + i) = true)
theorem zf_G_0 {u : zf_S} {b : Nat} (h : zf_I u) : zf_G u u b 0 := ⟨h, rfl, fun _ _ => rfl, Nat.le_add_right _ _, Nat.le_refl _, fun i _ hl => ⟨Nat.zero_le _, hl⟩⟩
theorem zf_G_skip {u0 u : zf_S} {b j : Nat} (h : zf_G u0 u b j) (hj : j < 4) (hl : zf_live u (4 * b + j) = false) : zf_G u0 u b (j + 1) := by
  obtain ⟨h1, h2, h3, h4, h5, h6⟩ := h
  refine ⟨h1, h2, h3, ?_, by omega, ?_⟩
  · show _ ≤ _ + (zc_cnt _ j + _)
    omega
  · intro i hi hli
    obtain ⟨g1, g2⟩ := h6 i hi hli
    refine ⟨?_, g2⟩
    rcases Nat.eq_or_lt_of_le g1 with e | e
    · rw [← e, hl] at hli
      cases hli
    · exact e
theorem zf_cnt_mono (P : Nat → Bool) {a b : Nat} (h : a ≤ b) : zc_cnt P a ≤ zc_cnt P b := by
  induction b with
  | zero =>
    have : a = 0 := by omega
    rw [this]
    exact Nat.le_refl _
  | succ b ih =>
    rcases Nat.eq_or_lt_of_le h with e | e
    · rw [e]
      exact Nat.le_refl _
    · exact Nat.le_trans (ih (by omega)) (Nat.le_add_right _ _)
theorem zf_G_room {u0 u : zf_S} {b j : Nat} (h : zf_G u0 u b j) (hj : j < 4) (hl : zf_live u (4 * b + j) = true) (hr : zf_f u0 + zf_lv u0 b ≤ 4) : zf_f u < 4 := by
  obtain ⟨h1, h2, h3, h4, h5, h6⟩ := h
  have e := (h6 j hj hl).2
  have m : zc_cnt (fun i => zf_live u0 (4 * b + i)) (j + 1) ≤ zf_lv u0 b := zf_cnt_mono _ (by omega)
  have m2 : zc_cnt (fun i => zf_live u0 (4 * b + i)) (j + 1) = zc_cnt (fun i => zf_live u0 (4 * b + i)) j + 1 := by
    show _ + (zf_live u0 (4 * b + j)).toNat = _
    rw [e]
    rfl
  omega
theorem zf_G_put {u0 u : zf_S} {b j : Nat} (h : zf_G u0 u b j) (hb : b < 8) (hbc : b ≠ zf_c u0) (hj : j < 4) (hl : zf_live u (4 * b + j) = true) (hr : zf_f u0 + zf_lv u0 b ≤ 4) :
    zf_G u0 (zf_put u (zf_o u (4 * b + j)) (zf_k u (4 * b + j)) (zf_w u (4 * b + j)) (zf_t u (4 * b + j))) b (j + 1) := by
  have hf := zf_G_room h hj hl hr
  obtain ⟨h1, h2, h3, h4, h5, h6⟩ := h
  have hl2 := zf_lvK_iff.mp hl
  have hP := h1.1
  have ho : zf_o u (4 * b + j) < 16 := (hP.2.1 _ (by omega) hl2.1).1
  have hk1 : 1 ≤ zf_k u (4 * b + j) := Nat.one_le_iff_ne_zero.mpr hl2.1
  have hk2 : zf_k u (4 * b + j) ≤ 2 := hP.1 _ (by omega)
  have e0 := (h6 j hj hl).2
  have hbc : b ≠ zf_c u := by rw [h2]; exact hbc
  refine ⟨zf_put_I h1 hf ho hk1 hk2, h2, ?_, ?_, ?_, ?_⟩
  · intro s hs
    rw [zf_put_v h1 hf hs, ← h3 s hs]
    split
    · next e =>
      rw [e]
      show _ = (zf_n u (zf_o u (4 * b + j))).map _
      rw [hl2.2]
      rfl
    · rfl
  · show zf_f u + 1 ≤ _ + (zc_cnt _ j + (zf_live u0 (4 * b + j)).toNat)
    rw [e0]
    show zf_f u + 1 ≤ _ + (_ + 1)
    omega
  · show zf_x u + 1 ≤ _
    omega
  · intro i hi hli
    have hli2 := zf_lvK_iff.mp hli
    have hq : 4 * b + i ≠ 4 * zf_c u + zf_f u := by omega
    obtain ⟨g1, g2⟩ := hli2
    have g1 : va_up (zf_k u) (4 * zf_c u + zf_f u) (zf_k u (4 * b + j)) (4 * b + i) ≠ 0 := g1
    have g2 : va_up (zf_n u) (zf_o u (4 * b + j)) (some (4 * zf_c u + zf_f u)) (va_up (zf_o u) (4 * zf_c u + zf_f u) (zf_o u (4 * b + j)) (4 * b + i)) = some (4 * b + i) := g2
    rw [va_up_ne _ _ hq] at g1 g2
    by_cases e : zf_o u (4 * b + i) = zf_o u (4 * b + j)
    · rw [e, va_up_self] at g2
      have := Option.some.inj g2
      omega
    · rw [va_up_ne _ _ e] at g2
      obtain ⟨r1, r2⟩ := h6 i hi (zf_lvK_iff.mpr ⟨g1, g2⟩)
      refine ⟨?_, r2⟩
      rcases Nat.eq_or_lt_of_le r1 with z | z
      · exact absurd (by rw [z]) e
      · exact z
/-- erasing the first j pages of block b -/
def zf_er (K : Nat → Nat) (b j : Nat) : Nat → Nat := fun q => if 4 * b ≤ q ∧ q < 4 * b + j then 0 else K q
theorem zf_er_0 (K : Nat → Nat) (b : Nat) : zf_er K b 0 = K := by
  funext q
  unfold zf_er
  rw [if_neg (by omega)]
theorem zf_er_up (K : Nat → Nat) (b j : Nat) : va_up (zf_er K b j) (4 * b + j) 0 = zf_er K b (j + 1) := by
  funext q
  by_cases e : q = 4 * b + j
  · rw [e, va_up_self]
    unfold zf_er
    rw [if_pos (by omega)]
  · rw [va_up_ne _ _ e]
    unfold zf_er
    by_cases h : 4 * b ≤ q ∧ q < 4 * b + j
    · rw [if_pos h, if_pos (by omega)]
    · rw [if_neg h, if_neg (by omega)]
theorem zf_er_out {K : Nat → Nat} {b q : Nat} (h : zf_er K b 4 q ≠ 0) : ¬ (4 * b ≤ q ∧ q < 4 * b + 4) ∧ zf_er K b 4 q = K q := by
  unfold zf_er at h ⊢
  by_cases e : 4 * b ≤ q ∧ q < 4 * b + 4
  · rw [if_pos e] at h
    exact absurd rfl h
  · exact ⟨e, if_neg e⟩
theorem zf_er_eq {K : Nat → Nat} {b q : Nat} (h : ¬ (4 * b ≤ q ∧ q < 4 * b + 4)) : zf_er K b 4 q = K q := if_neg h
theorem zf_er_le (K : Nat → Nat) (b j q : Nat) : zf_er K b j q ≤ K q := by
  unfold zf_er
  split
  · exact Nat.zero_le _
  · exact Nat.le_refl _
theorem zf_G_end {u0 u : zf_S} {b : Nat} (h : zf_G u0 u b 4) (hb : b < 8) (hbc : b ≠ zf_c u0) :
    zf_I (zf_sk u (zf_er (zf_k u) b 4)) ∧ zf_F (zf_sk u (zf_er (zf_k u) b 4)) ∧ (∀ s, s < 16 → zf_v (zf_sk u (zf_er (zf_k u) b 4)) s = zf_v u0 s) ∧ zf_f u ≤ zf_f u0 + zf_lv u0 b ∧ zf_x u ≤ zf_x u0 + 4 ∧ zf_c u = zf_c u0 := by
  obtain ⟨⟨⟨a1, a2, a3⟩, ⟨b1, b2, b3, b4⟩, ⟨n1, n2⟩⟩, h2, h3, h4, h5, h6⟩ := h
  have hbc : b ≠ zf_c u := by rw [h2]; exact hbc
  have hdead : ∀ s p, s < 16 → zf_n u s = some p → ¬ (4 * b ≤ p ∧ p < 4 * b + 4) := by
    intro s p hs hn hin
    obtain ⟨g1, g2, g3⟩ := n1 s p hs hn
    have hp : p = 4 * b + (p - 4 * b) := by omega
    have := h6 (p - 4 * b) (by omega) (by rw [← hp]; exact zf_lvK_iff.mpr ⟨g2, by rw [g3]; exact hn⟩)
    omega
  refine ⟨⟨⟨?_, ?_, ?_⟩, ⟨b1, b2, ?_, ?_⟩, ⟨?_, ?_⟩⟩, ?_, ?_, h4, h5, h2⟩
  · intro p hp
    exact Nat.le_trans (zf_er_le _ _ _ _) (a1 p hp)
  · intro p hp hk
    obtain ⟨e1, e2⟩ := zf_er_out hk
    have hk : zf_er (zf_k u) b 4 p ≠ 0 := hk
    rw [e2] at hk
    exact a2 p hp hk
  · intro p q hp hq hkp hkq hpq
    obtain ⟨-, e2⟩ := zf_er_out hkp
    obtain ⟨-, e4⟩ := zf_er_out hkq
    have hkp : zf_er (zf_k u) b 4 p ≠ 0 := hkp
    have hkq : zf_er (zf_k u) b 4 q ≠ 0 := hkq
    rw [e2] at hkp
    rw [e4] at hkq
    exact a3 p q hp hq hkp hkq hpq
  · intro j hj
    show zf_er (zf_k u) b 4 (4 * zf_c u + j) ≠ 0 ↔ j < zf_f u
    rw [zf_er_eq (by omega)]
    exact b3 j hj
  · intro d hd hdc j hj
    show zf_er (zf_k u) b 4 (4 * d + j) = 0 ↔ zf_er (zf_k u) b 4 (4 * d) = 0
    by_cases e : d = b
    · rw [e]
      unfold zf_er
      rw [if_pos (by omega), if_pos (by omega)]
    · rw [zf_er_eq (by omega), zf_er_eq (by omega)]
      exact b4 d hd hdc j hj
  · intro s p hs hn
    obtain ⟨g1, g2, g3⟩ := n1 s p hs hn
    refine ⟨g1, ?_, g3⟩
    show zf_er (zf_k u) b 4 p ≠ 0
    rw [zf_er_eq (hdead s p hs hn)]
    exact g2
  · intro p hp hk
    obtain ⟨-, e2⟩ := zf_er_out hk
    have hk : zf_er (zf_k u) b 4 p ≠ 0 := hk
    rw [e2] at hk
    exact n2 p hp hk
  · refine ⟨b, hb, hbc, ?_⟩
    show zf_er (zf_k u) b 4 (4 * b) = 0
    unfold zf_er
    rw [if_pos (by omega)]
  · intro s hs
    rw [← h3 s hs]
    show (zf_n u s).map (fun p => (zf_er (zf_k u) b 4 p, zf_w u p, zf_t u p)) = (zf_n u s).map (fun p => (zf_k u p, zf_w u p, zf_t u p))
    cases hn : zf_n u s with
    | none => rfl
    | some p => rw [Option.map_some, Option.map_some, zf_er_eq (hdead s p hs hn)]

/-! ### sixteen live pages on seven blocks: one has at most two -/
theorem zf_cnt_one {P Q : Nat → Bool} (a : Nat) (h : ∀ p, P p = true → Q p = true ∨ p = a) : ∀ n, zc_cnt P n ≤ zc_cnt Q n + (if a < n then 1 else 0)
  | 0 => Nat.zero_le _
  | n + 1 => by
    have ih := zf_cnt_one a h n
    show zc_cnt P n + (P n).toNat ≤ zc_cnt Q n + (Q n).toNat + _
    by_cases e : n = a
    · subst e
      rw [if_neg (Nat.lt_irrefl _)] at ih
      rw [if_pos (Nat.lt_succ_self _)]
      have := Bool.toNat_le (P n)
      omega
    · have hi : (if a < n + 1 then 1 else 0) = (if a < n then 1 else 0) := by
        by_cases g : a < n
        · rw [if_pos g, if_pos (by omega)]
        · rw [if_neg g, if_neg (by omega)]
      rw [hi]
      have hPQ : (P n).toNat ≤ (Q n).toNat := by
        cases hp : P n
        · exact Nat.zero_le _
        · rcases h n hp with g | g
          · rw [g]
            exact Nat.le_refl _
          · exact absurd g e
      omega
theorem zf_few (K O : Nat → Nat) (N : Nat → Option Nat) (n : Nat) : ∀ m, zc_cnt (fun p => zf_lvK K O N p && decide (O p < m)) n ≤ m
  | 0 => by
    rw [zc_cnt_congr (Q := fun _ => false) (fun i _ => by simp)]
    induction n with
    | zero => exact Nat.le_refl _
    | succ n ih => exact ih
  | m + 1 => by
    have ih := zf_few K O N n m
    have hs := zf_cnt_one (P := fun p => zf_lvK K O N p && decide (O p < m + 1)) (Q := fun p => zf_lvK K O N p && decide (O p < m)) ((N m).getD 0) (by
      intro p hp
      have hp : (zf_lvK K O N p && decide (O p < m + 1)) = true := hp
      rw [Bool.and_eq_true, decide_eq_true_eq] at hp
      by_cases e : O p < m
      · left
        show (zf_lvK K O N p && decide (O p < m)) = true
        rw [hp.1, decide_eq_true e]
        rfl
      · right
        have h2 := (zf_lvK_iff.mp hp.1).2
        rw [show O p = m by omega] at h2
        rw [h2]
        rfl) n
    have : (if (N m).getD 0 < n then 1 else 0) ≤ 1 := by
      split
      · exact Nat.le_refl _
      · exact Nat.zero_le _
    omega
theorem zf_cnt_add (P : Nat → Bool) (n : Nat) : ∀ k, zc_cnt P (n + k) = zc_cnt P n + zc_cnt (fun i => P (n + i)) k
  | 0 => rfl
  | k + 1 => by
    have ih := zf_cnt_add P n k
    show zc_cnt P (n + k) + (P (n + k)).toNat = zc_cnt P n + (zc_cnt (fun i => P (n + i)) k + (P (n + k)).toNat)
    omega
theorem zf_total {u : zf_S} (h : zf_I u) : zf_lv u 0 + zf_lv u 1 + zf_lv u 2 + zf_lv u 3 + zf_lv u 4 + zf_lv u 5 + zf_lv u 6 + zf_lv u 7 ≤ 16 := by
  have h1 := zf_few (zf_k u) (zf_o u) (zf_n u) 32 16
  rw [zc_cnt_congr (Q := zf_live u) (fun p hp => by
    show (zf_lvK (zf_k u) (zf_o u) (zf_n u) p && decide (zf_o u p < 16)) = zf_lvK (zf_k u) (zf_o u) (zf_n u) p
    cases hl : zf_lvK (zf_k u) (zf_o u) (zf_n u) p
    · rfl
    · rw [decide_eq_true ((h.1.2.1 p hp (zf_lvK_iff.mp hl).1).1)]
      rfl)] at h1
  have e : ∀ b, zc_cnt (zf_live u) (4 * b + 4) = zc_cnt (zf_live u) (4 * b) + zf_lv u b := fun b => zf_cnt_add _ _ 4
  have e0 := e 0
  have e1 := e 1
  have e2 := e 2
  have e3 := e 3
  have e4 := e 4
  have e5 := e 5
  have e6 := e 6
  have e7 := e 7
  have z : zc_cnt (zf_live u) (4 * 0) = 0 := rfl
  simp only [Nat.reduceMul, Nat.reduceAdd] at e0 e1 e2 e3 e4 e5 e6 e7 z h1
  omega
/-- the answer of leastLive -/
def zf_LL (u : zf_S) (r : Option Nat) : Prop := (r = none → ∀ b, b < 8 → b ≠ zf_c u → zf_k u (4 * b) = 0) ∧ ∀ v, r = some v → v < 8 ∧ v ≠ zf_c u ∧ zf_k u (4 * v) ≠ 0 ∧ ∀ b, b < 8 → b ≠ zf_c u → zf_k u (4 * b) ≠ 0 → zf_lv u v ≤ zf_lv u b
theorem zf_LL_two {u : zf_S} {r : Option Nat} (h : zf_I u) (hr : zf_LL u r) (hfull : ∀ b, b < 8 → b ≠ zf_c u → zf_k u (4 * b) ≠ 0) : ∃ v, r = some v ∧ v < 8 ∧ v ≠ zf_c u ∧ zf_lv u v ≤ 2 := by
  have hc : zf_c u < 8 := h.2.1.1
  cases r with
  | none =>
    have hc7 : zf_c u = 0 ∨ zf_c u ≠ 0 := by omega
    rcases hc7 with e | e
    · exact absurd (hr.1 rfl 1 (by omega) (by omega)) (hfull 1 (by omega) (by omega))
    · exact absurd (hr.1 rfl 0 (by omega) (by omega)) (hfull 0 (by omega) (by omega))
  | some v =>
    obtain ⟨g1, g2, g3, g4⟩ := hr.2 v rfl
    refine ⟨v, rfl, g1, g2, ?_⟩
    have ht := zf_total h
    have l : ∀ b, b < 8 → b ≠ zf_c u → zf_lv u v ≤ zf_lv u b := fun b hb hbc => g4 b hb hbc (hfull b hb hbc)
    rcases Nat.lt_or_ge 2 (zf_lv u v) with big | ok
    · exfalso
      have l0 := l 0 (by omega)
      have l1 := l 1 (by omega)
      have l2 := l 2 (by omega)
      have l3 := l 3 (by omega)
      have l4 := l 4 (by omega)
      have l5 := l 5 (by omega)
      have l6 := l 6 (by omega)
      have l7 := l 7 (by omega)
      have hcs : zf_c u = 0 ∨ zf_c u = 1 ∨ zf_c u = 2 ∨ zf_c u = 3 ∨ zf_c u = 4 ∨ zf_c u = 5 ∨ zf_c u = 6 ∨ zf_c u = 7 := by omega
      rcases hcs with e | e | e | e | e | e | e | e <;> omega
    · exact ok
end
section
/-! power-up, plainly: the map built up again, and the current block found again -/
/-- the map's building, at page p: K, O, S the pages, N and x what stands so far, X a bound of the numbers -/
def zf_M (K O S : Nat → Nat) (X : Nat) (N : Nat → Option Nat) (x p : Nat) : Prop :=
  (∀ s q, s < 16 → N s = some q → q < p ∧ K q ≠ 0 ∧ O q = s) ∧ (∀ q, q < p → K q ≠ 0 → ∃ r, N (O q) = some r ∧ S q ≤ S r) ∧ (∀ q, q < p → K q ≠ 0 → S q < x) ∧ x ≤ X + 1
theorem zf_M_0 {K O S : Nat → Nat} {X : Nat} {N : Nat → Option Nat} (h : ∀ s, s < 16 → N s = none) : zf_M K O S X N 1 0 :=
  ⟨fun s q hs hn => by (rw [h s hs] at hn; cases hn), fun q hq => absurd hq (Nat.not_lt_zero _), fun q hq => absurd hq (Nat.not_lt_zero _), by omega⟩
theorem zf_M_skip {K O S : Nat → Nat} {X : Nat} {N : Nat → Option Nat} {x p : Nat} (h : zf_M K O S X N x p) (hk : K p = 0) : zf_M K O S X N x (p + 1) := by
  obtain ⟨h1, h2, h3, h4⟩ := h
  have lt : ∀ q, q < p + 1 → K q ≠ 0 → q < p := fun q hq hk2 => by
    rcases Nat.eq_or_lt_of_le (Nat.le_of_lt_succ hq) with e | e
    · rw [e] at hk2
      exact absurd hk hk2
    · exact e
  refine ⟨fun s q hs hn => ?_, fun q hq hk2 => h2 q (lt q hq hk2) hk2, fun q hq hk2 => h3 q (lt q hq hk2) hk2, h4⟩
  obtain ⟨g1, g2, g3⟩ := h1 s q hs hn
  exact ⟨by omega, g2, g3⟩
theorem zf_M_x {K S : Nat → Nat} {X : Nat} {x p x' : Nat} (h3 : ∀ q, q < p → K q ≠ 0 → S q < x) (h4 : x ≤ X + 1) (hX : S p < X) (hx : x' = if x ≤ S p then S p + 1 else x) : (∀ q, q < p + 1 → K q ≠ 0 → S q < x') ∧ x' ≤ X + 1 := by
  by_cases g : x ≤ S p
  · rw [if_pos g] at hx
    subst hx
    refine ⟨fun q hq hk => ?_, by omega⟩
    rcases Nat.eq_or_lt_of_le (Nat.le_of_lt_succ hq) with e | e
    · rw [e]; omega
    · have := h3 q e hk
      omega
  · rw [if_neg g] at hx
    subst hx
    refine ⟨fun q hq hk => ?_, h4⟩
    rcases Nat.eq_or_lt_of_le (Nat.le_of_lt_succ hq) with e | e
    · rw [e]; omega
    · exact h3 q e hk
/-- the page becomes its sector's newest -/
theorem zf_M_new {K O S : Nat → Nat} {X : Nat} {N : Nat → Option Nat} {x p x' : Nat} (h : zf_M K O S X N x p) (hk : K p ≠ 0) (hO : O p < 16) (hX : S p < X) (hx : x' = if x ≤ S p then S p + 1 else x)
    (hn : ∀ q, N (O p) = some q → S q < S p) : zf_M K O S X (va_up N (O p) (some p)) x' (p + 1) := by
  obtain ⟨h1, h2, h3, h4⟩ := h
  obtain ⟨k3, k4⟩ := zf_M_x h3 h4 hX hx
  refine ⟨fun s q hs hq => ?_, fun q hq hk2 => ?_, k3, k4⟩
  · by_cases e : s = O p
    · rw [e, va_up_self] at hq
      have hpq : p = q := Option.some.inj hq
      subst hpq
      exact ⟨by omega, hk, e.symm⟩
    · rw [va_up_ne _ _ e] at hq
      obtain ⟨g1, g2, g3⟩ := h1 s q hs hq
      exact ⟨by omega, g2, g3⟩
  · by_cases e : O q = O p
    · rw [e, va_up_self]
      refine ⟨p, rfl, ?_⟩
      rcases Nat.eq_or_lt_of_le (Nat.le_of_lt_succ hq) with z | z
      · rw [z]
        exact Nat.le_refl _
      · obtain ⟨r, r1, r2⟩ := h2 q z hk2
        rw [e] at r1
        have := hn r r1
        omega
    · rw [va_up_ne _ _ e]
      rcases Nat.eq_or_lt_of_le (Nat.le_of_lt_succ hq) with z | z
      · rw [z] at e
        exact absurd rfl e
      · exact h2 q z hk2
theorem zf_M_old {K O S : Nat → Nat} {X : Nat} {N : Nat → Option Nat} {x p x' r : Nat} (h : zf_M K O S X N x p) (hk : K p ≠ 0) (hX : S p < X) (hx : x' = if x ≤ S p then S p + 1 else x)
    (hr : N (O p) = some r) (hn : S p ≤ S r) : zf_M K O S X N x' (p + 1) := by
  obtain ⟨h1, h2, h3, h4⟩ := h
  obtain ⟨k3, k4⟩ := zf_M_x h3 h4 hX hx
  refine ⟨fun s q hs hq => ?_, fun q hq hk2 => ?_, k3, k4⟩
  · obtain ⟨g1, g2, g3⟩ := h1 s q hs hq
    exact ⟨by omega, g2, g3⟩
  · rcases Nat.eq_or_lt_of_le (Nat.le_of_lt_succ hq) with z | z
    · rw [z]
      exact ⟨r, hr, hn⟩
    · exact h2 q z hk2
theorem zf_M_end {K O S : Nat → Nat} {X : Nat} {N : Nat → Option Nat} {x : Nat} (h : zf_M K O S X N x 32) (hP : zf_PG K O S X) : zf_NW K O S N ∧ zf_PG K O S x := by
  obtain ⟨h1, h2, h3, h4⟩ := h
  exact ⟨⟨h1, h2⟩, hP.1, fun p hp hk => ⟨(hP.2.1 p hp hk).1, h3 p hp hk⟩, hP.2.2⟩
/-- two maps of the newest pages are one -/
theorem zf_NW_one {K O S : Nat → Nat} {X : Nat} {N N' : Nat → Option Nat} (hP : zf_PG K O S X) (h : zf_NW K O S N) (h' : zf_NW K O S N') {s : Nat} (hs : s < 16) : N' s = N s := by
  cases hn : N s with
  | none =>
    cases hn' : N' s with
    | none => rfl
    | some q =>
      obtain ⟨g1, g2, g3⟩ := h'.1 s q hs hn'
      obtain ⟨r, r1, -⟩ := h.2 q g1 g2
      rw [g3, hn] at r1
      cases r1
  | some p =>
    obtain ⟨g1, g2, g3⟩ := h.1 s p hs hn
    obtain ⟨q, q1, q2⟩ := h'.2 p g1 g2
    rw [g3] at q1
    obtain ⟨e1, e2, e3⟩ := h'.1 s q hs q1
    obtain ⟨r, r1, r2⟩ := h.2 q e1 e2
    rw [e3, hn] at r1
    have hpr : p = r := Option.some.inj r1
    subst hpr
    have := hP.2.2 p q g1 e1 g2 e2 (by omega)
    rw [q1, this]
/-! the current block, found in three loops -/
def zf_c1 (K : Nat → Nat) (c b : Nat) : Prop := (c = 0 ∧ ∀ i, i < b → K (4 * i) = 0) ∨ (c < b ∧ K (4 * c) ≠ 0)
def zf_c2 (K : Nat → Nat) (c1 c b : Nat) : Prop := (c = c1 ∧ ∀ i, i < b → K (4 * i) = 0 ∨ K (4 * i + 3) ≠ 0) ∨ (c < b ∧ K (4 * c) ≠ 0 ∧ K (4 * c + 3) = 0)
theorem zf_c1_0 (K : Nat → Nat) : zf_c1 K 0 0 := Or.inl ⟨rfl, fun i hi => absurd hi (Nat.not_lt_zero _)⟩
theorem zf_c1_y {K : Nat → Nat} {b : Nat} (hk : K (4 * b) ≠ 0) : zf_c1 K b (b + 1) := Or.inr ⟨Nat.lt_succ_self _, hk⟩
theorem zf_c1_n {K : Nat → Nat} {c b : Nat} (h : zf_c1 K c b) (hk : K (4 * b) = 0) : zf_c1 K c (b + 1) := by
  rcases h with ⟨h1, h2⟩ | ⟨h1, h2⟩
  · refine Or.inl ⟨h1, fun i hi => ?_⟩
    rcases Nat.eq_or_lt_of_le (Nat.le_of_lt_succ hi) with z | z
    · rw [z]; exact hk
    · exact h2 i z
  · exact Or.inr ⟨by omega, h2⟩
theorem zf_c2_0 (K : Nat → Nat) (c1 : Nat) : zf_c2 K c1 c1 0 := Or.inl ⟨rfl, fun i hi => absurd hi (Nat.not_lt_zero _)⟩
theorem zf_c2_y {K : Nat → Nat} {c1 b : Nat} (hk : K (4 * b) ≠ 0) (h3 : K (4 * b + 3) = 0) : zf_c2 K c1 b (b + 1) := Or.inr ⟨Nat.lt_succ_self _, hk, h3⟩
theorem zf_c2_n {K : Nat → Nat} {c1 c b : Nat} (h : zf_c2 K c1 c b) (hk : K (4 * b) = 0 ∨ K (4 * b + 3) ≠ 0) : zf_c2 K c1 c (b + 1) := by
  rcases h with ⟨h1, h2⟩ | ⟨h1, h2⟩
  · refine Or.inl ⟨h1, fun i hi => ?_⟩
    rcases Nat.eq_or_lt_of_le (Nat.le_of_lt_succ hi) with z | z
    · rw [z]; exact hk
    · exact h2 i z
  · exact Or.inr ⟨by omega, h2⟩
/-- how many pages of a block are written -/
def zf_pg (K : Nat → Nat) (c : Nat) : Nat → Bool := fun j => decide (K (4 * c + j) ≠ 0)
theorem zf_cnt_pre {P : Nat → Bool} {f : Nat} (h : ∀ j, j < 4 → (P j = true ↔ j < f)) (hf : f ≤ 4) : zc_cnt P 4 = f := by
  have e : ∀ j, j < 4 → (P j).toNat = if j < f then 1 else 0 := fun j hj => by
    have := h j hj
    by_cases g : j < f
    · rw [if_pos g, this.mpr g]; rfl
    · rw [if_neg g]
      cases hp : P j
      · rfl
      · exact absurd (this.mp hp) g
  have e0 := e 0 (by omega)
  have e1 := e 1 (by omega)
  have e2 := e 2 (by omega)
  have e3 := e 3 (by omega)
  show 0 + (P 0).toNat + (P 1).toNat + (P 2).toNat + (P 3).toNat = f
  rw [e0, e1, e2, e3]
  have : f = 0 ∨ f = 1 ∨ f = 2 ∨ f = 3 ∨ f = 4 := by omega
  rcases this with g | g | g | g | g <;> subst g <;> decide
theorem zf_FC {K : Nat → Nat} {c0 f0 c1 c2 : Nat} (hB : zf_BL K c0 f0) (hF : zf_FR K c0) (h1 : zf_c1 K c1 8) (h2 : zf_c2 K c1 c2 8) : zf_BL K c2 (zc_cnt (zf_pg K c2) 4) ∧ zf_FR K c2 := by
  obtain ⟨b1, b2, b3, b4⟩ := hB
  obtain ⟨bf, f1, f2, f3⟩ := hF
  have alike : ∀ c f, c < 8 → f ≤ 4 → (∀ j, j < 4 → (K (4 * c + j) ≠ 0 ↔ j < f)) → zc_cnt (zf_pg K c) 4 = f := fun c f _ hf hj => zf_cnt_pre (fun j hj4 => by
    show decide _ = true ↔ _
    rw [decide_eq_true_eq]
    exact hj j hj4) hf
  rcases h2 with ⟨e, h2⟩ | ⟨e, h2, h3⟩
  · subst e
    have hall : ∀ b, b < 8 → ∀ j, j < 4 → (K (4 * b + j) = 0 ↔ K (4 * b) = 0) := by
      intro b hb j hj
      by_cases g : b = c0
      · subst g
        have z0 := b3 0 (by omega)
        have z3 := b3 3 (by omega)
        have zj := b3 j hj
        rw [Nat.add_zero] at z0
        rcases h2 b hb with q | q
        · have : f0 = 0 := by
            rcases Nat.eq_zero_or_pos f0 with y | y
            · exact y
            · exact absurd q (z0.mpr y)
          constructor
          · intro _; exact q
          · intro _
            by_cases y : K (4 * b + j) = 0
            · exact y
            · have := zj.mp y
              omega
        · have h4 : 3 < f0 := z3.mp q
          have n1 : K (4 * b + j) ≠ 0 := zj.mpr (by omega)
          have n2 : K (4 * b) ≠ 0 := z0.mpr (by omega)
          exact ⟨fun y => absurd y n1, fun y => absurd y n2⟩
      · exact b4 b hb g j hj
    rcases h1 with ⟨g1, g2⟩ | ⟨g1, g2⟩
    · subst g1
      have hz : ∀ j, j < 4 → (K (4 * 0 + j) ≠ 0 ↔ j < 0) := fun j hj => ⟨fun y => absurd ((hall 0 (by omega) j hj).mpr (g2 0 (by omega))) y, fun y => absurd y (Nat.not_lt_zero _)⟩
      rw [alike 0 0 (by omega) (by omega) hz]
      exact ⟨⟨by omega, by omega, hz, fun b hb _ => hall b hb⟩, ⟨1, by omega, by omega, g2 1 (by omega)⟩⟩
    · have hz : ∀ j, j < 4 → (K (4 * c2 + j) ≠ 0 ↔ j < 4) := fun j hj => ⟨fun _ => hj, fun _ y => g2 ((hall c2 g1 j hj).mp y)⟩
      rw [alike c2 4 g1 (by omega) hz]
      exact ⟨⟨g1, by omega, hz, fun b hb _ => hall b hb⟩, ⟨bf, f1, fun y => g2 (by rw [← y]; exact f3), f3⟩⟩
  · have ec : c2 = c0 := by
      by_cases g : c2 = c0
      · exact g
      · exact absurd ((b4 c2 e g 3 (by omega)).mp h3) h2
    subst ec
    rw [alike c2 f0 e b2 b3]
    exact ⟨⟨e, b2, b3, b4⟩, ⟨bf, f1, f2, f3⟩⟩
end
section
/-! rows over plain numbers, and the rows of the flash's own world -/
theorem zr_inc (i : Nat) : nI i + Int32.ofInt 1 = nI (i + 1) := nI_1 i
theorem zr_cl {i n : Nat} (h : i < n) (hn : n < 2147483648) : (nI i).toNatClampNeg = i := nI_clamp (by omega)
section
variable {p : Program} {l : Launch} {e : Env} {R : Room} {s : State} {m : MethodId} {args : Array Value} {below : List Frame} {meth : Method} {c : Code} {H : Heap} {locs : List Loc} {cells slots : Nat} {Q : State → Prop}
variable {cc : ByteArray} {pc : Nat} {ls : Array Slot} {rest : List Value}
theorem zr_iadd (hx : p.tables.exec = Jvm.exec) (hb : c.code = cc) {a b : Nat} (hdg : decode cc pc = .ok (.iadd, 1)) (k : W p l e R s m args below meth c H locs cells slots Q (F0 m (pc + 1) ls (.int (nI (a + b)) :: rest))) : W p l e R s m args below meth c H locs cells slots Q (F0 m pc ls (.int (nI b) :: .int (nI a) :: rest)) := by
  refine lv_iadd hx hb hdg ?_
  rw [nI_add]
  exact k
theorem zr_imul (hx : p.tables.exec = Jvm.exec) (hb : c.code = cc) {a b : Nat} (hdg : decode cc pc = .ok (.imul, 1)) (k : W p l e R s m args below meth c H locs cells slots Q (F0 m (pc + 1) ls (.int (nI (a * b)) :: rest))) : W p l e R s m args below meth c H locs cells slots Q (F0 m pc ls (.int (nI b) :: .int (nI a) :: rest)) := by
  refine lv_imul hx hb hdg ?_
  rw [pk_mul]
  exact k
theorem zr_isub (hx : p.tables.exec = Jvm.exec) (hb : c.code = cc) {a b : Nat} (h : b ≤ a) (hdg : decode cc pc = .ok (.isub, 1)) (k : W p l e R s m args below meth c H locs cells slots Q (F0 m (pc + 1) ls (.int (nI (a - b)) :: rest))) : W p l e R s m args below meth c H locs cells slots Q (F0 m pc ls (.int (nI b) :: .int (nI a) :: rest)) := by
  refine lv_isub hx hb hdg ?_
  rw [pk_sub h]
  exact k
theorem zr_icmp_ge (hx : p.tables.exec = Jvm.exec) (hb : c.code = cc) {a b : Nat} (ha : a < 2147483648) (hb2 : b < 2147483648) {off : Int} {tgt : Nat} (hdg : decode cc pc = .ok (.if_icmp .ge off, 3)) (ht : (pc : Int) + off = (tgt : Int))
    (kt : b ≤ a → W p l e R s m args below meth c H locs cells slots Q (F0 m tgt ls rest)) (kf : a < b → W p l e R s m args below meth c H locs cells slots Q (F0 m (pc + 3) ls rest)) : W p l e R s m args below meth c H locs cells slots Q (F0 m pc ls (.int (nI b) :: .int (nI a) :: rest)) :=
  lv_icmp_ge hx hb hdg ht (fun q => kt ((nI_leI hb2 ha).mp q)) (fun q => kf (Nat.lt_of_not_le (fun z => q ((nI_leI hb2 ha).mpr z))))
theorem zr_icmp_gt (hx : p.tables.exec = Jvm.exec) (hb : c.code = cc) {a b : Nat} (ha : a < 2147483648) (hb2 : b < 2147483648) {off : Int} {tgt : Nat} (hdg : decode cc pc = .ok (.if_icmp .gt off, 3)) (ht : (pc : Int) + off = (tgt : Int))
    (kt : b < a → W p l e R s m args below meth c H locs cells slots Q (F0 m tgt ls rest)) (kf : a ≤ b → W p l e R s m args below meth c H locs cells slots Q (F0 m (pc + 3) ls rest)) : W p l e R s m args below meth c H locs cells slots Q (F0 m pc ls (.int (nI b) :: .int (nI a) :: rest)) :=
  lv_icmp_gt hx hb hdg ht (fun q => kt ((nI_ltI hb2 ha).mp q)) (fun q => kf (Nat.le_of_not_lt (fun z => q ((nI_ltI hb2 ha).mpr z))))
theorem zr_icmp_le (hx : p.tables.exec = Jvm.exec) (hb : c.code = cc) {a b : Nat} (ha : a < 2147483648) (hb2 : b < 2147483648) {off : Int} {tgt : Nat} (hdg : decode cc pc = .ok (.if_icmp .le off, 3)) (ht : (pc : Int) + off = (tgt : Int))
    (kt : a ≤ b → W p l e R s m args below meth c H locs cells slots Q (F0 m tgt ls rest)) (kf : b < a → W p l e R s m args below meth c H locs cells slots Q (F0 m (pc + 3) ls rest)) : W p l e R s m args below meth c H locs cells slots Q (F0 m pc ls (.int (nI b) :: .int (nI a) :: rest)) :=
  lv_icmp_le hx hb hdg ht (fun q => kt ((nI_leI ha hb2).mp q)) (fun q => kf (Nat.lt_of_not_le (fun z => q ((nI_leI ha hb2).mpr z))))
theorem zr_icmp_lt (hx : p.tables.exec = Jvm.exec) (hb : c.code = cc) {a b : Nat} (ha : a < 2147483648) (hb2 : b < 2147483648) {off : Int} {tgt : Nat} (hdg : decode cc pc = .ok (.if_icmp .lt off, 3)) (ht : (pc : Int) + off = (tgt : Int))
    (kt : a < b → W p l e R s m args below meth c H locs cells slots Q (F0 m tgt ls rest)) (kf : b ≤ a → W p l e R s m args below meth c H locs cells slots Q (F0 m (pc + 3) ls rest)) : W p l e R s m args below meth c H locs cells slots Q (F0 m pc ls (.int (nI b) :: .int (nI a) :: rest)) :=
  lv_icmp_lt hx hb hdg ht (fun q => kt ((nI_ltI ha hb2).mp q)) (fun q => kf (Nat.le_of_not_lt (fun z => q ((nI_ltI ha hb2).mpr z))))
theorem zr_icmp_eq (hx : p.tables.exec = Jvm.exec) (hb : c.code = cc) {a b : Nat} (ha : a < 2147483648) (hb2 : b < 2147483648) {off : Int} {tgt : Nat} (hdg : decode cc pc = .ok (.if_icmp .eq off, 3)) (ht : (pc : Int) + off = (tgt : Int))
    (kt : a = b → W p l e R s m args below meth c H locs cells slots Q (F0 m tgt ls rest)) (kf : a ≠ b → W p l e R s m args below meth c H locs cells slots Q (F0 m (pc + 3) ls rest)) : W p l e R s m args below meth c H locs cells slots Q (F0 m pc ls (.int (nI b) :: .int (nI a) :: rest)) :=
  lv_icmp_eq hx hb hdg ht (fun q => kt ((nI_eq ha hb2).mp q)) (fun q => kf (fun z => q ((nI_eq ha hb2).mpr z)))
theorem zr_icmp_ne (hx : p.tables.exec = Jvm.exec) (hb : c.code = cc) {a b : Nat} (ha : a < 2147483648) (hb2 : b < 2147483648) {off : Int} {tgt : Nat} (hdg : decode cc pc = .ok (.if_icmp .ne off, 3)) (ht : (pc : Int) + off = (tgt : Int))
    (kt : a ≠ b → W p l e R s m args below meth c H locs cells slots Q (F0 m tgt ls rest)) (kf : a = b → W p l e R s m args below meth c H locs cells slots Q (F0 m (pc + 3) ls rest)) : W p l e R s m args below meth c H locs cells slots Q (F0 m pc ls (.int (nI b) :: .int (nI a) :: rest)) :=
  lv_icmp_ne hx hb hdg ht (fun q => kt (fun z => q ((nI_eq ha hb2).mpr z))) (fun q => kf ((nI_eq ha hb2).mp q))
theorem zr_nI0 {a : Nat} (ha : a < 2147483648) : nI a = 0 ↔ a = 0 := by
  rw [← nI_0]
  exact nI_eq ha (by omega)
theorem zr_if_eq (hx : p.tables.exec = Jvm.exec) (hb : c.code = cc) {a : Nat} (ha : a < 2147483648) {off : Int} {tgt : Nat} (hdg : decode cc pc = .ok (.ifCond .eq off, 3)) (ht : (pc : Int) + off = (tgt : Int))
    (kt : a = 0 → W p l e R s m args below meth c H locs cells slots Q (F0 m tgt ls rest)) (kf : a ≠ 0 → W p l e R s m args below meth c H locs cells slots Q (F0 m (pc + 3) ls rest)) : W p l e R s m args below meth c H locs cells slots Q (F0 m pc ls (.int (nI a) :: rest)) :=
  lv_if_eq hx hb hdg ht (fun q => kt ((zr_nI0 ha).mp q)) (fun q => kf (fun z => q ((zr_nI0 ha).mpr z)))
theorem zr_if_ne (hx : p.tables.exec = Jvm.exec) (hb : c.code = cc) {a : Nat} (ha : a < 2147483648) {off : Int} {tgt : Nat} (hdg : decode cc pc = .ok (.ifCond .ne off, 3)) (ht : (pc : Int) + off = (tgt : Int))
    (kt : a ≠ 0 → W p l e R s m args below meth c H locs cells slots Q (F0 m tgt ls rest)) (kf : a = 0 → W p l e R s m args below meth c H locs cells slots Q (F0 m (pc + 3) ls rest)) : W p l e R s m args below meth c H locs cells slots Q (F0 m pc ls (.int (nI a) :: rest)) :=
  lv_if_ne hx hb hdg ht (fun q => kt (fun z => q ((zr_nI0 ha).mpr z))) (fun q => kf ((zr_nI0 ha).mp q))
/-- a place of a map: none is -1 -/
def zr_nw (o : Option Nat) : Int32 := match o with
  | none => -1
  | some q => nI q
theorem zr_nw_lt {o : Option Nat} (ho : ∀ q, o = some q → q < 2147483648) : zr_nw o < 0 ↔ o = none := by
  cases o with
  | none => exact ⟨fun _ => rfl, fun _ => by decide⟩
  | some q => exact ⟨fun h => absurd h (nI_pos (ho q rfl)), fun h => by cases h⟩
theorem zr_nw_ge {o : Option Nat} (ho : ∀ q, o = some q → q < 2147483648) : 0 ≤ zr_nw o ↔ o ≠ none := by
  cases o with
  | none => exact ⟨fun h => absurd h (by decide), fun h => absurd rfl h⟩
  | some q => exact ⟨fun _ h => by (cases h), fun _ => nI_pos' (ho q rfl)⟩
theorem zr_nw_eq {o : Option Nat} {a : Nat} (ho : ∀ q, o = some q → q < 2147483648) (ha : a < 2147483648) : zr_nw o = nI a ↔ o = some a := by
  cases o with
  | none =>
    refine ⟨fun h => ?_, fun h => by cases h⟩
    have h : (-1 : Int32) = nI a := h
    have : (0 : Int32) ≤ -1 := by rw [h]; exact nI_pos' ha
    exact absurd this (by decide)
  | some q =>
    have h : zr_nw (some q) = nI a ↔ q = a := nI_eq (ho q rfl) ha
    rw [h]
    exact ⟨fun z => by rw [z], fun z => Option.some.inj z⟩
theorem zr_nif_lt (hx : p.tables.exec = Jvm.exec) (hb : c.code = cc) {o : Option Nat} (ho : ∀ q, o = some q → q < 2147483648) {off : Int} {tgt : Nat} (hdg : decode cc pc = .ok (.ifCond .lt off, 3)) (ht : (pc : Int) + off = (tgt : Int))
    (kt : o = none → W p l e R s m args below meth c H locs cells slots Q (F0 m tgt ls rest)) (kf : ∀ q, o = some q → W p l e R s m args below meth c H locs cells slots Q (F0 m (pc + 3) ls rest)) : W p l e R s m args below meth c H locs cells slots Q (F0 m pc ls (.int (zr_nw o) :: rest)) := by
  refine lv_if_lt hx hb hdg ht (fun q => kt ((zr_nw_lt ho).mp q)) (fun q => ?_)
  cases o with
  | none => exact absurd ((zr_nw_lt ho).mpr rfl) q
  | some z => exact kf z rfl
theorem zr_nif_ge (hx : p.tables.exec = Jvm.exec) (hb : c.code = cc) {o : Option Nat} (ho : ∀ q, o = some q → q < 2147483648) {off : Int} {tgt : Nat} (hdg : decode cc pc = .ok (.ifCond .ge off, 3)) (ht : (pc : Int) + off = (tgt : Int))
    (kt : ∀ q, o = some q → W p l e R s m args below meth c H locs cells slots Q (F0 m tgt ls rest)) (kf : o = none → W p l e R s m args below meth c H locs cells slots Q (F0 m (pc + 3) ls rest)) : W p l e R s m args below meth c H locs cells slots Q (F0 m pc ls (.int (zr_nw o) :: rest)) := by
  refine lv_if_ge hx hb hdg ht (fun q => ?_) (fun q => ?_)
  · cases o with
    | none => exact absurd rfl ((zr_nw_ge ho).mp q)
    | some z => exact kt z rfl
  · cases o with
    | none => exact kf rfl
    | some z => exact absurd ((zr_nw_ge ho).mpr (fun h => by cases h)) q
theorem zr_nicmp_ne (hx : p.tables.exec = Jvm.exec) (hb : c.code = cc) {o : Option Nat} {a : Nat} (ho : ∀ q, o = some q → q < 2147483648) (ha : a < 2147483648) {off : Int} {tgt : Nat} (hdg : decode cc pc = .ok (.if_icmp .ne off, 3)) (ht : (pc : Int) + off = (tgt : Int))
    (kt : o ≠ some a → W p l e R s m args below meth c H locs cells slots Q (F0 m tgt ls rest)) (kf : o = some a → W p l e R s m args below meth c H locs cells slots Q (F0 m (pc + 3) ls rest)) : W p l e R s m args below meth c H locs cells slots Q (F0 m pc ls (.int (nI a) :: .int (zr_nw o) :: rest)) :=
  lv_icmp_ne hx hb hdg ht (fun q => kt (fun z => q ((zr_nw_eq ho ha).mpr z))) (fun q => kf ((zr_nw_eq ho ha).mp q))
/-- a call that only reads -/
theorem zr_callR {r : Int32} {a : Array Value} {st0 : List Value} (hr : CallRun p l e R s m args below meth c H locs cells slots 0 0 (F0 m pc ls st0) rest (QcRead r a) (fun _ => False)) (kk : W p l e R s m args below meth c H locs cells slots Q (F0 m (pc + 3) ls (.int r :: rest))) : W p l e R s m args below meth c H locs cells slots Q (F0 m pc ls st0) := W.callR hr kk
theorem zr_ret {r : Int32} {t : State} (ht : t.heap = s.heap) : QcRead r args s (.returned (some (.int r))) t := ⟨rfl, ht⟩
end

/-! ### the flash's world -/
abbrev vwCl : List vw_C := [(RX0, TX0, 9), (RX1, TX1, 3)]
abbrev zx_A : Type := va_G × ClassId × ClassId × Nat × Nat × Nat × Nat × Nat × Nat × Nat
abbrev zx_G (ad : zx_A) : va_G := ad.1
abbrev zx_d (ad : zx_A) : ClassId := ad.2.1
abbrev zx_j (ad : zx_A) : ClassId := ad.2.2.1
abbrev zx_h (ad : zx_A) : Nat := ad.2.2.2.1
abbrev zx_1 (ad : zx_A) : Nat := ad.2.2.2.2.1
abbrev zx_2 (ad : zx_A) : Nat := ad.2.2.2.2.2.1
abbrev zx_3 (ad : zx_A) : Nat := ad.2.2.2.2.2.2.1
abbrev zx_4 (ad : zx_A) : Nat := ad.2.2.2.2.2.2.2.1
abbrev zx_5 (ad : zx_A) : Nat := ad.2.2.2.2.2.2.2.2.1
abbrev zx_6 (ad : zx_A) : Nat := ad.2.2.2.2.2.2.2.2.2
abbrev zx_W (ad : zx_A) (u : zf_S) : va_W := [(zx_h ad, .inr (0, [.ref (zx_1 ad), .ref (zx_2 ad), .ref (zx_3 ad), .ref (zx_4 ad), .ref (zx_5 ad), .ref (zx_6 ad), .int (nI (zf_c u)), .int (nI (zf_f u)), .long (lN (zf_x u))])), (zx_1 ad, .inl (zx_d ad, 32, .inl (fun j => nI (zf_k u j)))), (zx_2 ad, .inl (zx_d ad, 32, .inl (fun j => nI (zf_o u j)))), (zx_3 ad, .inl (zx_j ad, 32, .inr (.inl (fun j => lN (zf_s u j))))), (zx_4 ad, .inl (zx_d ad, 32, .inl (fun j => zf_w u j))), (zx_5 ad, .inl (zx_d ad, 32, .inl (fun j => zf_t u j))), (zx_6 ad, .inl (zx_d ad, 16, .inl (fun j => zr_nw (zf_n u j))))]
def zx_P (ad : zx_A) (u : zf_S) (H : Heap) : Prop := va_P (zx_G ad) vwCl (zx_W ad u) H
def zx_K (ad : zx_A) (U : State) : Prop := va_K (zx_G ad) vwCl [(zx_d ad, .int), (zx_j ad, .long)] U
def zx_I (ad : zx_A) (u : zf_S) (U : State) : Prop := zx_P ad u U.heap ∧ zx_K ad U
def zx_Ad (ad : zx_A) : Nat → Prop := fun q => q = zx_h ad ∨ q = zx_1 ad ∨ q = zx_2 ad ∨ q = zx_3 ad ∨ q = zx_4 ad ∨ q = zx_5 ad ∨ q = zx_6 ad
def zx_Dj (ad : zx_A) : Prop := ∀ u, va_D (zx_Ad ad) (zx_W ad u)
def zx_E (s : State) (m : MethodId) (args : Array Value) (ad : zx_A) : Prop := (∀ w ∈ lw_all, w.before args s = true) ∧ s.vm.findClass RX0 = some m.cls ∧ zx_K ad s
theorem zx_pre {s : State} {H : Heap} {ad : zx_A} {u : zf_S} (hK : zx_K ad s) (hP : zx_P ad u H) {As : List Value} : PreV s H RX0 (zx_h ad) (va_Pc (.ref (zx_h ad) :: As) (zx_I ad u)) As :=
  ⟨fun a U g mk q => ⟨q.1, q.2.1, va_K.moved (u := U) (U := U.calling g mk a) (Vm.Alike.refl U.vm) q.2.2⟩, va_recv hK hP (ci := 0) (q0 := 0) rfl rfl, fun U hU hW => ⟨rfl, by rw [hU]; exact hP, va_K.moved hW.alike hK⟩⟩
section
variable {p : Program} {l : Launch} {e : Env} {R : Room} {s : State} {m : MethodId} {args : Array Value} {below : List Frame} {meth : Method} {c : Code} {H H0 : Heap} {locs : List Loc} {cells slots : Nat} {Q : State → Prop}
variable {cc : ByteArray} {pc : Nat} {ls : Array Slot} {rest : List Value} {ad : zx_A} {u : zf_S}
theorem zx_g1 (hx : p.tables.exec = Jvm.exec) (hb : c.code = cc) (E : zx_E s m args ad) (hP : zx_P ad u H) (hdg : decode cc pc = .ok (.getfield 7, 3)) (kk : W p l e R s m args below meth c H locs cells slots Q (F0 m (pc + 3) ls (.ref (zx_1 ad) :: rest))) : W p l e R s m args below meth c H locs cells slots Q (F0 m pc ls (.ref (zx_h ad) :: rest)) :=
  va_get (D := zx_G ad) (ci := 0) (v := .ref (zx_1 ad)) (C := RX0) (T := TX0) (N := 9) hx hb E.1 in_X0 E.2.1 E.2.2 hP 0 rfl rfl 0 (by decide) (E.1 _ q28) (fun _ h9 => h9) rfl hdg kk
theorem zx_g2 (hx : p.tables.exec = Jvm.exec) (hb : c.code = cc) (E : zx_E s m args ad) (hP : zx_P ad u H) (hdg : decode cc pc = .ok (.getfield 13, 3)) (kk : W p l e R s m args below meth c H locs cells slots Q (F0 m (pc + 3) ls (.ref (zx_2 ad) :: rest))) : W p l e R s m args below meth c H locs cells slots Q (F0 m pc ls (.ref (zx_h ad) :: rest)) :=
  va_get (D := zx_G ad) (ci := 0) (v := .ref (zx_2 ad)) (C := RX0) (T := TX0) (N := 9) hx hb E.1 in_X0 E.2.1 E.2.2 hP 0 rfl rfl 1 (by decide) (E.1 _ q29) (fun _ h9 => h9) rfl hdg kk
theorem zx_g3 (hx : p.tables.exec = Jvm.exec) (hb : c.code = cc) (E : zx_E s m args ad) (hP : zx_P ad u H) (hdg : decode cc pc = .ok (.getfield 16, 3)) (kk : W p l e R s m args below meth c H locs cells slots Q (F0 m (pc + 3) ls (.ref (zx_3 ad) :: rest))) : W p l e R s m args below meth c H locs cells slots Q (F0 m pc ls (.ref (zx_h ad) :: rest)) :=
  va_get (D := zx_G ad) (ci := 0) (v := .ref (zx_3 ad)) (C := RX0) (T := TX0) (N := 9) hx hb E.1 in_X0 E.2.1 E.2.2 hP 0 rfl rfl 2 (by decide) (E.1 _ q30) (fun _ h9 => h9) rfl hdg kk
theorem zx_g4 (hx : p.tables.exec = Jvm.exec) (hb : c.code = cc) (E : zx_E s m args ad) (hP : zx_P ad u H) (hdg : decode cc pc = .ok (.getfield 20, 3)) (kk : W p l e R s m args below meth c H locs cells slots Q (F0 m (pc + 3) ls (.ref (zx_4 ad) :: rest))) : W p l e R s m args below meth c H locs cells slots Q (F0 m pc ls (.ref (zx_h ad) :: rest)) :=
  va_get (D := zx_G ad) (ci := 0) (v := .ref (zx_4 ad)) (C := RX0) (T := TX0) (N := 9) hx hb E.1 in_X0 E.2.1 E.2.2 hP 0 rfl rfl 3 (by decide) (E.1 _ q31) (fun _ h9 => h9) rfl hdg kk
theorem zx_g5 (hx : p.tables.exec = Jvm.exec) (hb : c.code = cc) (E : zx_E s m args ad) (hP : zx_P ad u H) (hdg : decode cc pc = .ok (.getfield 23, 3)) (kk : W p l e R s m args below meth c H locs cells slots Q (F0 m (pc + 3) ls (.ref (zx_5 ad) :: rest))) : W p l e R s m args below meth c H locs cells slots Q (F0 m pc ls (.ref (zx_h ad) :: rest)) :=
  va_get (D := zx_G ad) (ci := 0) (v := .ref (zx_5 ad)) (C := RX0) (T := TX0) (N := 9) hx hb E.1 in_X0 E.2.1 E.2.2 hP 0 rfl rfl 4 (by decide) (E.1 _ q32) (fun _ h9 => h9) rfl hdg kk
theorem zx_g6 (hx : p.tables.exec = Jvm.exec) (hb : c.code = cc) (E : zx_E s m args ad) (hP : zx_P ad u H) (hdg : decode cc pc = .ok (.getfield 26, 3)) (kk : W p l e R s m args below meth c H locs cells slots Q (F0 m (pc + 3) ls (.ref (zx_6 ad) :: rest))) : W p l e R s m args below meth c H locs cells slots Q (F0 m pc ls (.ref (zx_h ad) :: rest)) :=
  va_get (D := zx_G ad) (ci := 0) (v := .ref (zx_6 ad)) (C := RX0) (T := TX0) (N := 9) hx hb E.1 in_X0 E.2.1 E.2.2 hP 0 rfl rfl 5 (by decide) (E.1 _ q33) (fun _ h9 => h9) rfl hdg kk
theorem zx_gc (hx : p.tables.exec = Jvm.exec) (hb : c.code = cc) (E : zx_E s m args ad) (hP : zx_P ad u H) (hdg : decode cc pc = .ok (.getfield 86, 3)) (kk : W p l e R s m args below meth c H locs cells slots Q (F0 m (pc + 3) ls (.int (nI (zf_c u)) :: rest))) : W p l e R s m args below meth c H locs cells slots Q (F0 m pc ls (.ref (zx_h ad) :: rest)) :=
  va_get (D := zx_G ad) (ci := 0) (v := .int (nI (zf_c u))) (C := RX0) (T := TX0) (N := 9) hx hb E.1 in_X0 E.2.1 E.2.2 hP 0 rfl rfl 6 (by decide) (E.1 _ q34) (fun _ h9 => h9) rfl hdg kk
theorem zx_gf (hx : p.tables.exec = Jvm.exec) (hb : c.code = cc) (E : zx_E s m args ad) (hP : zx_P ad u H) (hdg : decode cc pc = .ok (.getfield 75, 3)) (kk : W p l e R s m args below meth c H locs cells slots Q (F0 m (pc + 3) ls (.int (nI (zf_f u)) :: rest))) : W p l e R s m args below meth c H locs cells slots Q (F0 m pc ls (.ref (zx_h ad) :: rest)) :=
  va_get (D := zx_G ad) (ci := 0) (v := .int (nI (zf_f u))) (C := RX0) (T := TX0) (N := 9) hx hb E.1 in_X0 E.2.1 E.2.2 hP 0 rfl rfl 7 (by decide) (E.1 _ q35) (fun _ h9 => h9) rfl hdg kk
theorem zx_gx (hx : p.tables.exec = Jvm.exec) (hb : c.code = cc) (E : zx_E s m args ad) (hP : zx_P ad u H) (hdg : decode cc pc = .ok (.getfield 61, 3)) (kk : W p l e R s m args below meth c H locs cells slots Q (F0 m (pc + 3) ls (.long (lN (zf_x u)) :: rest))) : W p l e R s m args below meth c H locs cells slots Q (F0 m pc ls (.ref (zx_h ad) :: rest)) :=
  va_get (D := zx_G ad) (ci := 0) (v := .long (lN (zf_x u))) (C := RX0) (T := TX0) (N := 9) hx hb E.1 in_X0 E.2.1 E.2.2 hP 0 rfl rfl 8 (by decide) (E.1 _ q36) (fun _ h9 => h9) rfl hdg kk
theorem zx_pc (hx : p.tables.exec = Jvm.exec) (hb : c.code = cc) (E : zx_E s m args ad) (hD : zx_Dj ad) (hP : zx_P ad u H) (hS : va_S (zx_Ad ad) H0 H locs) {v : Nat} (hdg : decode cc pc = .ok (.putfield 86, 3)) (kk : ∀ (H1 : Heap) (locs1 : List Loc), zx_P ad (zf_sc u v) H1 → va_S (zx_Ad ad) H0 H1 locs1 → W p l e R s m args below meth c H1 locs1 cells slots Q (F0 m (pc + 3) ls rest)) : W p l e R s m args below meth c H locs cells slots Q (F0 m pc ls (.int (nI v) :: .ref (zx_h ad) :: rest)) :=
  va_put (D := zx_G ad) (ci := 0) (v := .int (nI v)) (ty := .int) (C := RX0) (T := TX0) (N := 9) hx hb E.1 in_X0 tyX0 tyX0_ok nmX0 E.2.1 E.2.2 hP (hD u) hS 0 rfl rfl 6 (by decide) (E.1 _ q34) (fun _ h9 => h9) rfl (by decide +kernel) rfl rfl (Nat.le_of_ble_eq_true rfl) hdg (fun H1 locs1 hP1 _ hS1 => kk H1 locs1 hP1 hS1)
theorem zx_pf (hx : p.tables.exec = Jvm.exec) (hb : c.code = cc) (E : zx_E s m args ad) (hD : zx_Dj ad) (hP : zx_P ad u H) (hS : va_S (zx_Ad ad) H0 H locs) {v : Nat} (hdg : decode cc pc = .ok (.putfield 75, 3)) (kk : ∀ (H1 : Heap) (locs1 : List Loc), zx_P ad (zf_sf u v) H1 → va_S (zx_Ad ad) H0 H1 locs1 → W p l e R s m args below meth c H1 locs1 cells slots Q (F0 m (pc + 3) ls rest)) : W p l e R s m args below meth c H locs cells slots Q (F0 m pc ls (.int (nI v) :: .ref (zx_h ad) :: rest)) :=
  va_put (D := zx_G ad) (ci := 0) (v := .int (nI v)) (ty := .int) (C := RX0) (T := TX0) (N := 9) hx hb E.1 in_X0 tyX0 tyX0_ok nmX0 E.2.1 E.2.2 hP (hD u) hS 0 rfl rfl 7 (by decide) (E.1 _ q35) (fun _ h9 => h9) rfl (by decide +kernel) rfl rfl (Nat.le_of_ble_eq_true rfl) hdg (fun H1 locs1 hP1 _ hS1 => kk H1 locs1 hP1 hS1)
theorem zx_px (hx : p.tables.exec = Jvm.exec) (hb : c.code = cc) (E : zx_E s m args ad) (hD : zx_Dj ad) (hP : zx_P ad u H) (hS : va_S (zx_Ad ad) H0 H locs) {v : Nat} (hdg : decode cc pc = .ok (.putfield 61, 3)) (kk : ∀ (H1 : Heap) (locs1 : List Loc), zx_P ad (zf_sx u v) H1 → va_S (zx_Ad ad) H0 H1 locs1 → W p l e R s m args below meth c H1 locs1 cells slots Q (F0 m (pc + 3) ls rest)) : W p l e R s m args below meth c H locs cells slots Q (F0 m pc ls (.long (lN v) :: .ref (zx_h ad) :: rest)) :=
  va_put (D := zx_G ad) (ci := 0) (v := .long (lN v)) (ty := .long) (C := RX0) (T := TX0) (N := 9) hx hb E.1 in_X0 tyX0 tyX0_ok nmX0 E.2.1 E.2.2 hP (hD u) hS 0 rfl rfl 8 (by decide) (E.1 _ q36) (fun _ h9 => h9) rfl (by decide +kernel) rfl rfl (Nat.le_of_ble_eq_true rfl) hdg (fun H1 locs1 hP1 _ hS1 => kk H1 locs1 hP1 hS1)
theorem zx_l1 (hx : p.tables.exec = Jvm.exec) (hb : c.code = cc) (E : zx_E s m args ad) (hP : zx_P ad u H) {i : Nat} (hi : i < 32) (hdg : decode cc pc = .ok (.iaload, 1)) (kk : W p l e R s m args below meth c H locs cells slots Q (F0 m (pc + 1) ls (.int (nI (zf_k u i)) :: rest))) : W p l e R s m args below meth c H locs cells slots Q (F0 m pc ls (.int (nI i) :: .ref (zx_1 ad) :: rest)) := by
  refine va_iald hx hb E.2.2 hP 1 0 rfl rfl (vp_in_nI hi (by decide)) hdg ?_
  rw [zr_cl hi (by decide)]
  exact kk
theorem zx_l2 (hx : p.tables.exec = Jvm.exec) (hb : c.code = cc) (E : zx_E s m args ad) (hP : zx_P ad u H) {i : Nat} (hi : i < 32) (hdg : decode cc pc = .ok (.iaload, 1)) (kk : W p l e R s m args below meth c H locs cells slots Q (F0 m (pc + 1) ls (.int (nI (zf_o u i)) :: rest))) : W p l e R s m args below meth c H locs cells slots Q (F0 m pc ls (.int (nI i) :: .ref (zx_2 ad) :: rest)) := by
  refine va_iald hx hb E.2.2 hP 2 0 rfl rfl (vp_in_nI hi (by decide)) hdg ?_
  rw [zr_cl hi (by decide)]
  exact kk
theorem zx_l4 (hx : p.tables.exec = Jvm.exec) (hb : c.code = cc) (E : zx_E s m args ad) (hP : zx_P ad u H) {i : Nat} (hi : i < 32) (hdg : decode cc pc = .ok (.iaload, 1)) (kk : W p l e R s m args below meth c H locs cells slots Q (F0 m (pc + 1) ls (.int (zf_w u i) :: rest))) : W p l e R s m args below meth c H locs cells slots Q (F0 m pc ls (.int (nI i) :: .ref (zx_4 ad) :: rest)) := by
  refine va_iald hx hb E.2.2 hP 4 0 rfl rfl (vp_in_nI hi (by decide)) hdg ?_
  rw [zr_cl hi (by decide)]
  exact kk
theorem zx_l5 (hx : p.tables.exec = Jvm.exec) (hb : c.code = cc) (E : zx_E s m args ad) (hP : zx_P ad u H) {i : Nat} (hi : i < 32) (hdg : decode cc pc = .ok (.iaload, 1)) (kk : W p l e R s m args below meth c H locs cells slots Q (F0 m (pc + 1) ls (.int (zf_t u i) :: rest))) : W p l e R s m args below meth c H locs cells slots Q (F0 m pc ls (.int (nI i) :: .ref (zx_5 ad) :: rest)) := by
  refine va_iald hx hb E.2.2 hP 5 0 rfl rfl (vp_in_nI hi (by decide)) hdg ?_
  rw [zr_cl hi (by decide)]
  exact kk
theorem zx_l6 (hx : p.tables.exec = Jvm.exec) (hb : c.code = cc) (E : zx_E s m args ad) (hP : zx_P ad u H) {i : Nat} (hi : i < 16) (hdg : decode cc pc = .ok (.iaload, 1)) (kk : W p l e R s m args below meth c H locs cells slots Q (F0 m (pc + 1) ls (.int (zr_nw (zf_n u i)) :: rest))) : W p l e R s m args below meth c H locs cells slots Q (F0 m pc ls (.int (nI i) :: .ref (zx_6 ad) :: rest)) := by
  refine va_iald hx hb E.2.2 hP 6 0 rfl rfl (vp_in_nI hi (by decide)) hdg ?_
  rw [zr_cl hi (by decide)]
  exact kk
theorem zx_l3 (hx : p.tables.exec = Jvm.exec) (hb : c.code = cc) (E : zx_E s m args ad) (hP : zx_P ad u H) {i : Nat} (hi : i < 32) (hdg : decode cc pc = .ok (.laload, 1)) (kk : W p l e R s m args below meth c H locs cells slots Q (F0 m (pc + 1) ls (.long (lN (zf_s u i)) :: rest))) : W p l e R s m args below meth c H locs cells slots Q (F0 m pc ls (.int (nI i) :: .ref (zx_3 ad) :: rest)) := by
  refine va_lald hx hb E.2.2 hP 3 1 rfl rfl (vp_in_nI hi (by decide)) hdg ?_
  rw [zr_cl hi (by decide)]
  exact kk
theorem zx_up (f : Nat → Nat) (i v : Nat) : upd (fun j => nI (f j)) i (nI v) = fun j => nI (va_up f i v j) := by
  funext j
  unfold upd va_up
  by_cases h : j = i
  · rw [if_pos h, if_pos h]
  · rw [if_neg h, if_neg h]
theorem zx_upI (f : Nat → Int32) (i : Nat) (v : Int32) : upd (fun j => f j) i v = fun j => va_up f i v j := rfl
theorem zx_upL (f : Nat → Nat) (i v : Nat) : vp_updL (fun j => lN (f j)) i (lN v) = fun j => lN (va_up f i v j) := by
  funext j
  unfold vp_updL va_up
  by_cases h : j = i
  · rw [if_pos h, if_pos h]
  · rw [if_neg h, if_neg h]
theorem zx_upN (f : Nat → Option Nat) (i : Nat) (v : Option Nat) : upd (fun j => zr_nw (f j)) i (zr_nw v) = fun j => zr_nw (va_up f i v j) := by
  funext j
  unfold upd va_up
  by_cases h : j = i
  · rw [if_pos h, if_pos h]
  · rw [if_neg h, if_neg h]
theorem zx_s1 (hx : p.tables.exec = Jvm.exec) (hb : c.code = cc) (E : zx_E s m args ad) (hD : zx_Dj ad) (hP : zx_P ad u H) (hS : va_S (zx_Ad ad) H0 H locs) {i : Nat} {v : Nat} (hi : i < 32) (hdg : decode cc pc = .ok (.iastore, 1)) (kk : ∀ (H1 : Heap) (locs1 : List Loc), zx_P ad (zf_sk u (va_up (zf_k u) i v)) H1 → va_S (zx_Ad ad) H0 H1 locs1 → W p l e R s m args below meth c H1 locs1 cells slots Q (F0 m (pc + 1) ls rest)) : W p l e R s m args below meth c H locs cells slots Q (F0 m pc ls (.int (nI v) :: .int (nI i) :: .ref (zx_1 ad) :: rest)) := by
  refine va_iast hx hb E.2.2 hP (hD u) hS 1 0 rfl rfl (vp_in_nI hi (by decide)) hdg (fun H1 locs1 hP1 _ hS1 => kk H1 locs1 ?_ hS1)
  rw [zr_cl hi (by decide), zx_up] at hP1
  exact hP1
theorem zx_s2 (hx : p.tables.exec = Jvm.exec) (hb : c.code = cc) (E : zx_E s m args ad) (hD : zx_Dj ad) (hP : zx_P ad u H) (hS : va_S (zx_Ad ad) H0 H locs) {i : Nat} {v : Nat} (hi : i < 32) (hdg : decode cc pc = .ok (.iastore, 1)) (kk : ∀ (H1 : Heap) (locs1 : List Loc), zx_P ad (zf_so u (va_up (zf_o u) i v)) H1 → va_S (zx_Ad ad) H0 H1 locs1 → W p l e R s m args below meth c H1 locs1 cells slots Q (F0 m (pc + 1) ls rest)) : W p l e R s m args below meth c H locs cells slots Q (F0 m pc ls (.int (nI v) :: .int (nI i) :: .ref (zx_2 ad) :: rest)) := by
  refine va_iast hx hb E.2.2 hP (hD u) hS 2 0 rfl rfl (vp_in_nI hi (by decide)) hdg (fun H1 locs1 hP1 _ hS1 => kk H1 locs1 ?_ hS1)
  rw [zr_cl hi (by decide), zx_up] at hP1
  exact hP1
theorem zx_s4 (hx : p.tables.exec = Jvm.exec) (hb : c.code = cc) (E : zx_E s m args ad) (hD : zx_Dj ad) (hP : zx_P ad u H) (hS : va_S (zx_Ad ad) H0 H locs) {i : Nat} {v : Int32} (hi : i < 32) (hdg : decode cc pc = .ok (.iastore, 1)) (kk : ∀ (H1 : Heap) (locs1 : List Loc), zx_P ad (zf_sw u (va_up (zf_w u) i v)) H1 → va_S (zx_Ad ad) H0 H1 locs1 → W p l e R s m args below meth c H1 locs1 cells slots Q (F0 m (pc + 1) ls rest)) : W p l e R s m args below meth c H locs cells slots Q (F0 m pc ls (.int v :: .int (nI i) :: .ref (zx_4 ad) :: rest)) := by
  refine va_iast hx hb E.2.2 hP (hD u) hS 4 0 rfl rfl (vp_in_nI hi (by decide)) hdg (fun H1 locs1 hP1 _ hS1 => kk H1 locs1 ?_ hS1)
  rw [zr_cl hi (by decide), zx_upI] at hP1
  exact hP1
theorem zx_s5 (hx : p.tables.exec = Jvm.exec) (hb : c.code = cc) (E : zx_E s m args ad) (hD : zx_Dj ad) (hP : zx_P ad u H) (hS : va_S (zx_Ad ad) H0 H locs) {i : Nat} {v : Int32} (hi : i < 32) (hdg : decode cc pc = .ok (.iastore, 1)) (kk : ∀ (H1 : Heap) (locs1 : List Loc), zx_P ad (zf_st u (va_up (zf_t u) i v)) H1 → va_S (zx_Ad ad) H0 H1 locs1 → W p l e R s m args below meth c H1 locs1 cells slots Q (F0 m (pc + 1) ls rest)) : W p l e R s m args below meth c H locs cells slots Q (F0 m pc ls (.int v :: .int (nI i) :: .ref (zx_5 ad) :: rest)) := by
  refine va_iast hx hb E.2.2 hP (hD u) hS 5 0 rfl rfl (vp_in_nI hi (by decide)) hdg (fun H1 locs1 hP1 _ hS1 => kk H1 locs1 ?_ hS1)
  rw [zr_cl hi (by decide), zx_upI] at hP1
  exact hP1
theorem zx_s6 (hx : p.tables.exec = Jvm.exec) (hb : c.code = cc) (E : zx_E s m args ad) (hD : zx_Dj ad) (hP : zx_P ad u H) (hS : va_S (zx_Ad ad) H0 H locs) {i : Nat} {v : Option Nat} (hi : i < 16) (hdg : decode cc pc = .ok (.iastore, 1)) (kk : ∀ (H1 : Heap) (locs1 : List Loc), zx_P ad (zf_sn u (va_up (zf_n u) i v)) H1 → va_S (zx_Ad ad) H0 H1 locs1 → W p l e R s m args below meth c H1 locs1 cells slots Q (F0 m (pc + 1) ls rest)) : W p l e R s m args below meth c H locs cells slots Q (F0 m pc ls (.int (zr_nw v) :: .int (nI i) :: .ref (zx_6 ad) :: rest)) := by
  refine va_iast hx hb E.2.2 hP (hD u) hS 6 0 rfl rfl (vp_in_nI hi (by decide)) hdg (fun H1 locs1 hP1 _ hS1 => kk H1 locs1 ?_ hS1)
  rw [zr_cl hi (by decide), zx_upN] at hP1
  exact hP1
theorem zx_s3 (hx : p.tables.exec = Jvm.exec) (hb : c.code = cc) (E : zx_E s m args ad) (hD : zx_Dj ad) (hP : zx_P ad u H) (hS : va_S (zx_Ad ad) H0 H locs) {i v : Nat} (hi : i < 32) (hdg : decode cc pc = .ok (.lastore, 1)) (kk : ∀ (H1 : Heap) (locs1 : List Loc), zx_P ad (zf_ss u (va_up (zf_s u) i v)) H1 → va_S (zx_Ad ad) H0 H1 locs1 → W p l e R s m args below meth c H1 locs1 cells slots Q (F0 m (pc + 1) ls rest)) : W p l e R s m args below meth c H locs cells slots Q (F0 m pc ls (.long (lN v) :: .int (nI i) :: .ref (zx_3 ad) :: rest)) := by
  refine va_last hx hb E.2.2 hP (hD u) hS 3 1 rfl rfl (vp_in_nI hi (by decide)) hdg (fun H1 locs1 hP1 _ hS1 => kk H1 locs1 ?_ hS1)
  rw [zr_cl hi (by decide), zx_upL] at hP1
  exact hP1
end
end
section
/-! the flash's static methods, walked -/
theorem zr_retE {args : Array Value} {s t : State} {r v : Int32} (h : v = r) (ht : t.heap = s.heap) : QcRead r args s (.returned (some (.int v))) t := ⟨by rw [h], ht⟩
/-- isSector's answer -/
def zx_sec (x : Int32) : Int32 := if x < 0 then 0 else if 15 < x then 0 else 1
theorem zx_sec_ne {x : Int32} (h : ¬ zx_sec x = 0) : ∃ j : Nat, j < 16 ∧ x = nI j := by
  unfold zx_sec at h
  by_cases h1 : x < 0
  · rw [if_pos h1] at h
    exact absurd rfl h
  · rw [if_neg h1] at h
    by_cases h2 : 15 < x
    · rw [if_pos h2] at h
      exact absurd rfl h
    · obtain ⟨j, g1, g2⟩ := nI_of h1
      refine ⟨j, ?_, g2⟩
      rw [g2] at h2
      have : ¬ nI 15 < nI j := h2
      rw [nI_ltI (by omega) g1] at this
      omega
theorem zx_sec_nI {j : Nat} (h : j < 16) : zx_sec (nI j) = 1 := by
  unfold zx_sec
  rw [if_neg (nI_pos (by omega)), if_neg]
  show ¬ nI 15 < nI j
  rw [nI_ltI (by omega) (by omega)]
  omega
theorem zc_mod2 (n : Nat) : nI n &&& 1 = nI (n % 2) := by
  show nI n &&& nI 1 = _
  rw [nx_and, Nat.and_one_is_mod]
theorem zc_syn1 (f : Nat → Bool) : zc_syn f 1 = 0 := by
  show 0 ^^^ (if f 0 = true then 0 else 0) = 0
  simp
theorem zc_syn_s0 {f : Nat → Bool} {i : Nat} (h : (f i).toNat = 0) : nI (zc_syn f i) ^^^ nI 0 = nI (zc_syn f (i + 1)) := by
  have h : f i = false := by cases hf : f i <;> simp_all
  show _ = nI (zc_syn f i ^^^ (if f i = true then i else 0))
  rw [nx_xor, h]
  simp
theorem zc_syn_s1 {f : Nat → Bool} {i : Nat} (h : (f i).toNat ≠ 0) : nI (zc_syn f i) ^^^ nI i = nI (zc_syn f (i + 1)) := by
  have h : f i = true := by cases hf : f i <;> simp_all
  show _ = nI (zc_syn f i ^^^ (if f i = true then i else 0))
  rw [nx_xor, h]
  simp
theorem zc_chk_and {i : Nat} (h : 1 ≤ i) : nI i &&& (nI i - 1) = nI (i &&& (i - 1)) := by
  have e : nI i - 1 = nI (i - 1) := by
    show nI i - nI 1 = _
    exact pk_sub h
  rw [e, nx_and]
theorem zc_chk_0 {i : Nat} (h : i &&& (i - 1) = 0) : nI 1 = nI (zc_chk i).toNat := by
  unfold zc_chk
  rw [h]
  rfl
theorem zc_chk_1 {i : Nat} (h : i &&& (i - 1) ≠ 0) : nI 0 = nI (zc_chk i).toNat := by
  unfold zc_chk
  rw [beq_false_of_ne h]
  rfl
theorem zc_tn1 {b : Bool} (h : b.toNat ≠ 0) : b = true := by cases b <;> simp_all
theorem zc_tn0 {b : Bool} (h : b.toNat = 0) : b = false := by cases b <;> simp_all
theorem zc_k_s1 {i : Nat} (h : zc_chk i = true) : zc_k (i + 1) = zc_k i := by
  show zc_k i + (if zc_chk i = true then 0 else 1) = _
  rw [if_pos h, Nat.add_zero]
theorem zc_k_s0 {i : Nat} (h : zc_chk i = false) : zc_k (i + 1) = zc_k i + 1 := by
  show zc_k i + (if zc_chk i = true then 0 else 1) = _
  rw [h]
  rfl
theorem zc_e1_s1 {v : Int32} {i : Nat} (h : zc_chk i = true) : zc_e1 v (i + 1) = zc_e1 v i := by
  show (if zc_chk i = true then _ else _) = _
  rw [if_pos h]
theorem zc_e1_s0 {v : Int32} {i : Nat} (h : zc_chk i = false) : zc_e1 v i ||| (zc_ub v (zc_k i) <<< (nI i &&& 31)) = zc_e1 v (i + 1) := by
  show _ = (if zc_chk i = true then zc_e1 v i else _)
  rw [h]
  rfl
theorem zc_d1_s1 {v : Int32} {i : Nat} (h : zc_chk i = true) : zc_d1 v (i + 1) = zc_d1 v i := by
  show (if zc_chk i = true then _ else _) = _
  rw [if_pos h]
theorem zc_d1_s0 {v : Int32} {i : Nat} (h : zc_chk i = false) : zc_d1 v i ||| (zc_ub v i <<< (nI (zc_k i) &&& 31)) = zc_d1 v (i + 1) := by
  show _ = (if zc_chk i = true then zc_d1 v i else _)
  rw [h]
  rfl

set_option maxHeartbeats 4000000 in
set_option maxRecDepth 100000 in
theorem zx_met_isSector (l : Launch) (x : Int32) : Met l yX0_isSector (ws_ yX0_isSector cX0_isSector 1 (some .boolean)) ({ frames := 0, cells := 0, slots := 0, locals := 0 }) (fun v _ => v = ([.int x] : List Value).toArray) (QcRead (zx_sec x)) 0 0 (fun _ => False) := by
  refine Met.ofW (cc := cX0_isSector) (maxL := 1) (ret := (some .boolean)) (by decide) rfl ?_
  intro p e s m args below meth c s₁ B hml hv
  have hv : args = ([.int x] : List Value).toArray := hv
  subst hv
  have hx := B.exec
  have hb := B.bytes
  have hr := B.returns
  have hts := atoms_spec (ws := (ws_ yX0_isSector cX0_isSector 1 (some .boolean))) B.pre
  have hts : ∀ w ∈ lw_all, w.before _ s = true := fun w h => hts w (List.mem_cons_of_mem _ h)
  have hown : s.vm.findClass RX0 = some m.cls := findClass_of_methodNamed B.named
  have hlocks := B.notSynchronized
  have hl := lv_entry ([.int x]) (n := 1) (Nat.le_of_ble_eq_true rfl)
  rw [lg_entry_eq]
  generalize (lg_sl ([.int x]) ++ List.replicate (1 - (lg_sl ([.int x])).length) Slot.unset).toArray = ls at hl ⊢
  have hl : lv_has ls 1 [(0, .int x)] := hl
  refine lv_iload_n (pc := 0) hx hb dX0_isSector_0 rfl (lv_at hl 0 rfl) ?_
  refine lv_if_lt (pc := 1) (tgt := 14) hx hb dX0_isSector_1 (by decide) (fun c1 => ?_) (fun c1 => ?_)
  · refine lv_iconst (pc := 14) (v := 0) hx hb dX0_isSector_14 (by decide) ?_
    exact W.zret (pc := 15) hx hb hr rfl (fun t ht _ => zr_retE (by unfold zx_sec; rw [if_pos c1]) ht) t_nil dX0_isSector_15
  · refine lv_iload_n (pc := 4) hx hb dX0_isSector_4 rfl (lv_at hl 0 rfl) ?_
    refine lv_bipush (pc := 5) (v := 15) hx hb dX0_isSector_5 (by decide) ?_
    refine lv_icmp_gt (pc := 7) (tgt := 14) hx hb dX0_isSector_7 (by decide) (fun c2 => ?_) (fun c2 => ?_)
    · refine lv_iconst (pc := 14) (v := 0) hx hb dX0_isSector_14 (by decide) ?_
      exact W.zret (pc := 15) hx hb hr rfl (fun t ht _ => zr_retE (by unfold zx_sec; rw [if_neg c1, if_pos c2]) ht) t_nil dX0_isSector_15
    · refine lv_iconst (pc := 10) (v := 1) hx hb dX0_isSector_10 (by decide) ?_
      refine lv_goto (pc := 11) (tgt := 15) hx hb dX0_isSector_11 (by decide) ?_
      exact W.zret (pc := 15) hx hb hr rfl (fun t ht _ => zr_retE (by unfold zx_sec; rw [if_neg c1, if_neg c2]) ht) t_nil dX0_isSector_15

set_option maxHeartbeats 4000000 in
set_option maxRecDepth 100000 in
theorem zx_met_isCheck (l : Launch) (i : Nat) (h1 : 1 ≤ i) (h2 : i < 1000) : Met l yX0_isCheck (ws_ yX0_isCheck cX0_isCheck 1 (some .boolean)) ({ frames := 0, cells := 0, slots := 0, locals := 0 }) (fun v _ => v = ([.int (nI i)] : List Value).toArray) (QcRead (nI (zc_chk i).toNat)) 0 0 (fun _ => False) := by
  refine Met.ofW (cc := cX0_isCheck) (maxL := 1) (ret := (some .boolean)) (by decide) rfl ?_
  intro p e s m args below meth c s₁ B hml hv
  have hv : args = ([.int (nI i)] : List Value).toArray := hv
  subst hv
  have hx := B.exec
  have hb := B.bytes
  have hr := B.returns
  have hts := atoms_spec (ws := (ws_ yX0_isCheck cX0_isCheck 1 (some .boolean))) B.pre
  have hts : ∀ w ∈ lw_all, w.before _ s = true := fun w h => hts w (List.mem_cons_of_mem _ h)
  have hown : s.vm.findClass RX0 = some m.cls := findClass_of_methodNamed B.named
  have hlocks := B.notSynchronized
  have hl := lv_entry ([.int (nI i)]) (n := 1) (Nat.le_of_ble_eq_true rfl)
  rw [lg_entry_eq]
  generalize (lg_sl ([.int (nI i)]) ++ List.replicate (1 - (lg_sl ([.int (nI i)])).length) Slot.unset).toArray = ls at hl ⊢
  have hl : lv_has ls 1 [(0, .int (nI i))] := hl
  refine lv_iload_n (pc := 0) hx hb dX0_isCheck_0 rfl (lv_at hl 0 rfl) ?_
  refine lv_iload_n (pc := 1) hx hb dX0_isCheck_1 rfl (lv_at hl 0 rfl) ?_
  refine lv_iconst (pc := 2) (v := 1) hx hb dX0_isCheck_2 (by decide) ?_
  refine lv_isub (pc := 3) hx hb dX0_isCheck_3 ?_
  refine lv_iand (pc := 4) hx hb dX0_isCheck_4 ?_
  refine lv_topi (fun z1 ez1 => ?_)
  obtain rfl : z1 = nI (i &&& (i - 1)) := ez1.trans (zc_chk_and h1)
  refine zr_if_ne (pc := 5) (tgt := 12) hx hb (Nat.lt_of_le_of_lt Nat.and_le_left (by omega)) dX0_isCheck_5 (by decide) (fun c1 => ?_) (fun c1 => ?_)
  · refine lv_iconst (pc := 12) (v := nI 0) hx hb dX0_isCheck_12 (by decide) ?_
    exact W.zret (pc := 13) hx hb hr rfl (fun t ht _ => zr_retE (zc_chk_1 c1) ht) t_nil dX0_isCheck_13
  · refine lv_iconst (pc := 8) (v := nI 1) hx hb dX0_isCheck_8 (by decide) ?_
    refine lv_goto (pc := 9) (tgt := 13) hx hb dX0_isCheck_9 (by decide) ?_
    exact W.zret (pc := 13) hx hb hr rfl (fun t ht _ => zr_retE (zc_chk_0 c1) ht) t_nil dX0_isCheck_13

set_option maxHeartbeats 4000000 in
set_option maxRecDepth 100000 in
theorem zx_met_ones (l : Launch) (x : Int32) : Met l yX0_ones (ws_ yX0_ones cX0_ones 3 (some .int)) ({ frames := 0, cells := 0, slots := 0, locals := 0 }) (fun v _ => v = ([.int x] : List Value).toArray) (QcRead (nI (zc_cnt (bt x) 22))) 0 0 (fun _ => False) := by
  refine Met.ofW (cc := cX0_ones) (maxL := 3) (ret := (some .int)) (by decide) rfl ?_
  intro p e s m args below meth c s₁ B hml hv
  have hv : args = ([.int x] : List Value).toArray := hv
  subst hv
  have hx := B.exec
  have hb := B.bytes
  have hr := B.returns
  have hts := atoms_spec (ws := (ws_ yX0_ones cX0_ones 3 (some .int))) B.pre
  have hts : ∀ w ∈ lw_all, w.before _ s = true := fun w h => hts w (List.mem_cons_of_mem _ h)
  have hown : s.vm.findClass RX0 = some m.cls := findClass_of_methodNamed B.named
  have hlocks := B.notSynchronized
  have hl := lv_entry ([.int x]) (n := 3) (Nat.le_of_ble_eq_true rfl)
  rw [lg_entry_eq]
  generalize (lg_sl ([.int x]) ++ List.replicate (3 - (lg_sl ([.int x])).length) Slot.unset).toArray = ls at hl ⊢
  have hl : lv_has ls 3 [(0, .int x)] := hl
  have LOOP : ∀ (n : Nat) (i : Nat), i ≤ 22 → 22 < i + n → ∀ (ls : Array Slot), lv_has ls 3 [(2, .int (nI i)), (1, .int (nI (zc_cnt (bt x) i))), (0, .int x)] → W p l e (headSpec (ws_ yX0_ones cX0_ones 3 (some .int)) ({ frames := 0, cells := 0, slots := 0, locals := 0 })).room s m ([.int x] : List Value).toArray below meth c s.heap [] 0 0 (MQ below (QcRead (nI (zc_cnt (bt x) 22))) ([.int x] : List Value).toArray s 0 0 (fun _ => False)) (F0 m 4 ls []) := by
    intro n
    induction n with
    | zero =>
      intro i h1 h2
      exact absurd h2 (by omega)
    | succ n ih =>
      intro i h1 h2 ls hl
      refine lv_iload_n (pc := 4) hx hb dX0_ones_4 rfl (lv_at hl 0 rfl) ?_
      refine lv_bipush (pc := 5) (v := nI 22) hx hb dX0_ones_5 (by decide) ?_
      refine zr_icmp_ge (pc := 7) (tgt := 24) hx hb (by omega) (by omega) dX0_ones_7 (by decide) (fun c1 => ?_) (fun c1 => ?_)
      · refine lv_iload_n (pc := 24) hx hb dX0_ones_24 rfl (lv_at hl 1 rfl) ?_
        have e : i = 22 := by omega
        subst e
        exact W.iret (pc := 25) hx hb hr (fun t ht _ => zr_retE (rfl) ht) t_nil dX0_ones_25
      · refine lv_iload_n (pc := 10) hx hb dX0_ones_10 rfl (lv_at hl 1 rfl) ?_
        refine lv_iload_n (pc := 11) hx hb dX0_ones_11 rfl (lv_at hl 2 rfl) ?_
        refine lv_iload_n (pc := 12) hx hb dX0_ones_12 rfl (lv_at hl 0 rfl) ?_
        refine lv_iushr (pc := 13) hx hb dX0_ones_13 rfl ?_
        refine lv_iconst (pc := 14) (v := 1) hx hb dX0_ones_14 (by decide) ?_
        refine lv_iand (pc := 15) hx hb dX0_ones_15 ?_
        refine lv_topi (fun z1 ez1 => ?_)
        obtain rfl : z1 = nI (bt x i).toNat := ez1.trans (zc_ub_eq x (by omega))
        refine zr_iadd (pc := 16) hx hb dX0_ones_16 ?_
        refine lv_istore_n (pc := 17) (lv' := [(1, .int (nI ((zc_cnt (bt x) i) + ((bt x i).toNat)))), (2, .int (nI i)), (0, .int x)]) hx hb dX0_ones_17 rfl hl (by decide) rfl (fun ls hl => ?_)
        refine lv_iinc (pc := 18) (v := nI (i + 1)) (lv' := [(2, .int (nI (i + 1))), (1, .int (nI ((zc_cnt (bt x) i) + ((bt x i).toNat)))), (0, .int x)]) hx hb dX0_ones_18 hl (k := 1) rfl (zr_inc _) (by decide) rfl (fun ls hl => ?_)
        refine lv_goto (pc := 21) (tgt := 4) hx hb dX0_ones_21 (by decide) ?_
        exact ih (i + 1) (by omega) (by omega) ls (lv_sub hl [0, 1, 2] rfl)
  refine lv_iconst (pc := 0) (v := nI 0) hx hb dX0_ones_0 (by decide) ?_
  refine lv_istore_n (pc := 1) (lv' := [(1, .int (nI 0)), (0, .int x)]) hx hb dX0_ones_1 rfl hl (by decide) rfl (fun ls hl => ?_)
  refine lv_iconst (pc := 2) (v := nI 0) hx hb dX0_ones_2 (by decide) ?_
  refine lv_istore_n (pc := 3) (lv' := [(2, .int (nI 0)), (1, .int (nI 0)), (0, .int x)]) hx hb dX0_ones_3 rfl hl (by decide) rfl (fun ls hl => ?_)
  exact LOOP 23 0 (by omega) (by omega) ls (lv_sub hl [0, 1, 2] rfl)

set_option maxHeartbeats 4000000 in
set_option maxRecDepth 100000 in
theorem zx_met_syndrome (l : Launch) (x : Int32) : Met l yX0_syndrome (ws_ yX0_syndrome cX0_syndrome 3 (some .int)) ({ frames := 0, cells := 0, slots := 0, locals := 0 }) (fun v _ => v = ([.int x] : List Value).toArray) (QcRead (nI (zc_syn (bt x) 22))) 0 0 (fun _ => False) := by
  refine Met.ofW (cc := cX0_syndrome) (maxL := 3) (ret := (some .int)) (by decide) rfl ?_
  intro p e s m args below meth c s₁ B hml hv
  have hv : args = ([.int x] : List Value).toArray := hv
  subst hv
  have hx := B.exec
  have hb := B.bytes
  have hr := B.returns
  have hts := atoms_spec (ws := (ws_ yX0_syndrome cX0_syndrome 3 (some .int))) B.pre
  have hts : ∀ w ∈ lw_all, w.before _ s = true := fun w h => hts w (List.mem_cons_of_mem _ h)
  have hown : s.vm.findClass RX0 = some m.cls := findClass_of_methodNamed B.named
  have hlocks := B.notSynchronized
  have hl := lv_entry ([.int x]) (n := 3) (Nat.le_of_ble_eq_true rfl)
  rw [lg_entry_eq]
  generalize (lg_sl ([.int x]) ++ List.replicate (3 - (lg_sl ([.int x])).length) Slot.unset).toArray = ls at hl ⊢
  have hl : lv_has ls 3 [(0, .int x)] := hl
  have LOOP : ∀ (n : Nat) (i : Nat), i ≤ 22 → 22 < i + n → ∀ (ls : Array Slot), lv_has ls 3 [(2, .int (nI i)), (1, .int (nI (zc_syn (bt x) i))), (0, .int x)] → W p l e (headSpec (ws_ yX0_syndrome cX0_syndrome 3 (some .int)) ({ frames := 0, cells := 0, slots := 0, locals := 0 })).room s m ([.int x] : List Value).toArray below meth c s.heap [] 0 0 (MQ below (QcRead (nI (zc_syn (bt x) 22))) ([.int x] : List Value).toArray s 0 0 (fun _ => False)) (F0 m 4 ls []) := by
    intro n
    induction n with
    | zero =>
      intro i h1 h2
      exact absurd h2 (by omega)
    | succ n ih =>
      intro i h1 h2 ls hl
      refine lv_iload_n (pc := 4) hx hb dX0_syndrome_4 rfl (lv_at hl 0 rfl) ?_
      refine lv_bipush (pc := 5) (v := nI 22) hx hb dX0_syndrome_5 (by decide) ?_
      refine zr_icmp_ge (pc := 7) (tgt := 32) hx hb (by omega) (by omega) dX0_syndrome_7 (by decide) (fun c1 => ?_) (fun c1 => ?_)
      · refine lv_iload_n (pc := 32) hx hb dX0_syndrome_32 rfl (lv_at hl 1 rfl) ?_
        have e : i = 22 := by omega
        subst e
        exact W.iret (pc := 33) hx hb hr (fun t ht _ => zr_retE (rfl) ht) t_nil dX0_syndrome_33
      · refine lv_iload_n (pc := 10) hx hb dX0_syndrome_10 rfl (lv_at hl 1 rfl) ?_
        refine lv_iload_n (pc := 11) hx hb dX0_syndrome_11 rfl (lv_at hl 2 rfl) ?_
        refine lv_iload_n (pc := 12) hx hb dX0_syndrome_12 rfl (lv_at hl 0 rfl) ?_
        refine lv_iushr (pc := 13) hx hb dX0_syndrome_13 rfl ?_
        refine lv_iconst (pc := 14) (v := 1) hx hb dX0_syndrome_14 (by decide) ?_
        refine lv_iand (pc := 15) hx hb dX0_syndrome_15 ?_
        refine lv_topi (fun z1 ez1 => ?_)
        obtain rfl : z1 = nI (bt x i).toNat := ez1.trans (zc_ub_eq x (by omega))
        refine zr_if_eq (pc := 16) (tgt := 23) hx hb (Nat.lt_of_le_of_lt (Bool.toNat_le _) (by omega)) dX0_syndrome_16 (by decide) (fun c2 => ?_) (fun c2 => ?_)
        · refine lv_iconst (pc := 23) (v := nI 0) hx hb dX0_syndrome_23 (by decide) ?_
          refine lv_ixor (pc := 24) hx hb dX0_syndrome_24 ?_
          refine lv_topi (fun z2 ez2 => ?_)
          obtain rfl : z2 = nI (zc_syn (bt x) (i + 1)) := ez2.trans (zc_syn_s0 c2)
          refine lv_istore_n (pc := 25) (lv' := [(1, .int (nI (zc_syn (bt x) (i + 1)))), (2, .int (nI i)), (0, .int x)]) hx hb dX0_syndrome_25 rfl hl (by decide) rfl (fun ls hl => ?_)
          refine lv_iinc (pc := 26) (v := nI (i + 1)) (lv' := [(2, .int (nI (i + 1))), (1, .int (nI (zc_syn (bt x) (i + 1)))), (0, .int x)]) hx hb dX0_syndrome_26 hl (k := 1) rfl (zr_inc _) (by decide) rfl (fun ls hl => ?_)
          refine lv_goto (pc := 29) (tgt := 4) hx hb dX0_syndrome_29 (by decide) ?_
          exact ih (i + 1) (by omega) (by omega) ls (lv_sub hl [0, 1, 2] rfl)
        · refine lv_iload_n (pc := 19) hx hb dX0_syndrome_19 rfl (lv_at hl 0 rfl) ?_
          refine lv_goto (pc := 20) (tgt := 24) hx hb dX0_syndrome_20 (by decide) ?_
          refine lv_ixor (pc := 24) hx hb dX0_syndrome_24 ?_
          refine lv_topi (fun z3 ez3 => ?_)
          obtain rfl : z3 = nI (zc_syn (bt x) (i + 1)) := ez3.trans (zc_syn_s1 c2)
          refine lv_istore_n (pc := 25) (lv' := [(1, .int (nI (zc_syn (bt x) (i + 1)))), (2, .int (nI i)), (0, .int x)]) hx hb dX0_syndrome_25 rfl hl (by decide) rfl (fun ls hl => ?_)
          refine lv_iinc (pc := 26) (v := nI (i + 1)) (lv' := [(2, .int (nI (i + 1))), (1, .int (nI (zc_syn (bt x) (i + 1)))), (0, .int x)]) hx hb dX0_syndrome_26 hl (k := 1) rfl (zr_inc _) (by decide) rfl (fun ls hl => ?_)
          refine lv_goto (pc := 29) (tgt := 4) hx hb dX0_syndrome_29 (by decide) ?_
          exact ih (i + 1) (by omega) (by omega) ls (lv_sub hl [0, 1, 2] rfl)
  refine lv_iconst (pc := 0) (v := nI 0) hx hb dX0_syndrome_0 (by decide) ?_
  refine lv_istore_n (pc := 1) (lv' := [(1, .int (nI 0)), (0, .int x)]) hx hb dX0_syndrome_1 rfl hl (by decide) rfl (fun ls hl => ?_)
  refine lv_iconst (pc := 2) (v := nI 1) hx hb dX0_syndrome_2 (by decide) ?_
  refine lv_istore_n (pc := 3) (lv' := [(2, .int (nI 1)), (1, .int (nI 0)), (0, .int x)]) hx hb dX0_syndrome_3 rfl hl (by decide) rfl (fun ls hl => ?_)
  exact LOOP 23 1 (by omega) (by omega) ls (by rw [zc_syn1]; exact lv_sub hl [0, 1, 2] rfl)

set_option maxHeartbeats 4000000 in
set_option maxRecDepth 100000 in
theorem zx_met_encode (l : Launch) (x : Int32) : Met l yX0_encode (ws_ yX0_encode cX0_encode 5 (some .int)) ({ frames := 1, cells := 0, slots := 0, locals := 22 }) (fun v _ => v = ([.int x] : List Value).toArray) (QcRead (zc_enc x)) 0 0 (fun _ => False) := by
  refine Met.ofW (cc := cX0_encode) (maxL := 5) (ret := (some .int)) (by decide) rfl ?_
  intro p e s m args below meth c s₁ B hml hv
  have hv : args = ([.int x] : List Value).toArray := hv
  subst hv
  have hx := B.exec
  have hb := B.bytes
  have hr := B.returns
  have hts := atoms_spec (ws := (ws_ yX0_encode cX0_encode 5 (some .int))) B.pre
  have hts : ∀ w ∈ lw_all, w.before _ s = true := fun w h => hts w (List.mem_cons_of_mem _ h)
  have hown : s.vm.findClass RX0 = some m.cls := findClass_of_methodNamed B.named
  have hlocks := B.notSynchronized
  have hl := lv_entry ([.int x]) (n := 5) (Nat.le_of_ble_eq_true rfl)
  rw [lg_entry_eq]
  generalize (lg_sl ([.int x]) ++ List.replicate (5 - (lg_sl ([.int x])).length) Slot.unset).toArray = ls at hl ⊢
  have hl : lv_has ls 5 [(0, .int x)] := hl
  have LOOP2 : ∀ (n : Nat) (b : Nat), b ≤ 5 → 5 < b + n → ∀ (ls : Array Slot), lv_has ls 5 [(4, .int (nI b)), (3, .int (nI (zc_syn (bt (zc_eA x)) 22))), (1, .int (zc_e2 (zc_eA x) (zc_syn (bt (zc_eA x)) 22) b)), (0, .int x)] → W p l e (headSpec (ws_ yX0_encode cX0_encode 5 (some .int)) ({ frames := 1, cells := 0, slots := 0, locals := 22 })).room s m ([.int x] : List Value).toArray below meth c s.heap [] 0 0 (MQ below (QcRead (zc_enc x)) ([.int x] : List Value).toArray s 0 0 (fun _ => False)) (F0 m 46 ls []) := by
    intro n
    induction n with
    | zero =>
      intro b h1 h2
      exact absurd h2 (by omega)
    | succ n ih =>
      intro b h1 h2 ls hl
      refine lv_iload (pc := 46) hx hb dX0_encode_46 (lv_at hl 0 rfl) ?_
      refine lv_iconst (pc := 48) (v := nI 5) hx hb dX0_encode_48 (by decide) ?_
      refine zr_icmp_ge (pc := 49) (tgt := 72) hx hb (by omega) (by omega) dX0_encode_49 (by decide) (fun c1 => ?_) (fun c1 => ?_)
      · have e : b = 5 := by omega
        subst e
        refine lv_iload_n (pc := 72) hx hb dX0_encode_72 rfl (lv_at hl 2 rfl) ?_
        refine lv_iload_n (pc := 73) hx hb dX0_encode_73 rfl (lv_at hl 2 rfl) ?_
        refine zr_callR (pc := 74) (W.runS (As := [.int (zc_e2 (zc_eA x) (zc_syn (bt (zc_eA x)) 22) (5))]) (rest := [.int (zc_e2 (zc_eA x) (zc_syn (bt (zc_eA x)) 22) (5))]) ⟨hx, hb, hml, hown, hts⟩ (zx_met_ones l _) (va_cwS 1 hts (lw_S q75 q76 q10 q77) rfl rfl rfl (by decide +kernel) ⟨Nat.le_of_ble_eq_true rfl, Nat.le_of_ble_eq_true rfl⟩) (preEq) rfl rfl hl.1 rfl (lv_room (Nat.le_of_ble_eq_true rfl)) dX0_encode_74 ⟨Nat.le_of_ble_eq_true rfl, Nat.le_of_ble_eq_true rfl⟩) ?_
        refine lv_iconst (pc := 77) (v := 1) hx hb dX0_encode_77 (by decide) ?_
        refine lv_iand (pc := 78) hx hb dX0_encode_78 ?_
        refine lv_ior (pc := 79) hx hb dX0_encode_79 ?_
        exact W.iret (pc := 80) hx hb hr (fun t ht _ => zr_retE (rfl) ht) t_nil dX0_encode_80
      · refine lv_iload_n (pc := 52) hx hb dX0_encode_52 rfl (lv_at hl 2 rfl) ?_
        refine lv_iload_n (pc := 53) hx hb dX0_encode_53 rfl (lv_at hl 1 rfl) ?_
        refine lv_iload (pc := 54) hx hb dX0_encode_54 (lv_at hl 0 rfl) ?_
        refine lv_iushr (pc := 56) hx hb dX0_encode_56 rfl ?_
        refine lv_iconst (pc := 57) (v := 1) hx hb dX0_encode_57 (by decide) ?_
        refine lv_iand (pc := 58) hx hb dX0_encode_58 ?_
        refine lv_iconst (pc := 59) (v := 1) hx hb dX0_encode_59 (by decide) ?_
        refine lv_iload (pc := 60) hx hb dX0_encode_60 (lv_at hl 0 rfl) ?_
        refine lv_ishl (pc := 62) hx hb dX0_encode_62 ?_
        refine lv_ishl (pc := 63) hx hb dX0_encode_63 ?_
        refine lv_ior (pc := 64) hx hb dX0_encode_64 ?_
        refine lv_topi (fun z1 ez1 => ?_)
        obtain rfl : z1 = zc_e2 (zc_eA x) (zc_syn (bt (zc_eA x)) 22) (b + 1) := ez1.trans (rfl)
        refine lv_istore_n (pc := 65) (lv' := [(1, .int (zc_e2 (zc_eA x) (zc_syn (bt (zc_eA x)) 22) (b + 1))), (4, .int (nI b)), (3, .int (nI (zc_syn (bt (zc_eA x)) 22))), (0, .int x)]) hx hb dX0_encode_65 rfl hl (by decide) rfl (fun ls hl => ?_)
        refine lv_iinc (pc := 66) (v := nI (b + 1)) (lv' := [(4, .int (nI (b + 1))), (1, .int (zc_e2 (zc_eA x) (zc_syn (bt (zc_eA x)) 22) (b + 1))), (3, .int (nI (zc_syn (bt (zc_eA x)) 22))), (0, .int x)]) hx hb dX0_encode_66 hl (k := 1) rfl (zr_inc _) (by decide) rfl (fun ls hl => ?_)
        refine lv_goto (pc := 69) (tgt := 46) hx hb dX0_encode_69 (by decide) ?_
        exact ih (b + 1) (by omega) (by omega) ls (lv_sub hl [0, 2, 1, 3] rfl)
  have LOOP1 : ∀ (n : Nat) (i : Nat), 1 ≤ i → i ≤ 22 → 22 < i + n → ∀ (ls : Array Slot), lv_has ls 5 [(3, .int (nI i)), (2, .int (nI (zc_k i))), (1, .int (zc_e1 x i)), (0, .int x)] → W p l e (headSpec (ws_ yX0_encode cX0_encode 5 (some .int)) ({ frames := 1, cells := 0, slots := 0, locals := 22 })).room s m ([.int x] : List Value).toArray below meth c s.heap [] 0 0 (MQ below (QcRead (zc_enc x)) ([.int x] : List Value).toArray s 0 0 (fun _ => False)) (F0 m 6 ls []) := by
    intro n
    induction n with
    | zero =>
      intro i h0 h1 h2
      exact absurd h2 (by omega)
    | succ n ih =>
      intro i h0 h1 h2 ls hl
      refine lv_iload_n (pc := 6) hx hb dX0_encode_6 rfl (lv_at hl 0 rfl) ?_
      refine lv_bipush (pc := 7) (v := nI 22) hx hb dX0_encode_7 (by decide) ?_
      refine zr_icmp_ge (pc := 9) (tgt := 38) hx hb (by omega) (by omega) dX0_encode_9 (by decide) (fun c1 => ?_) (fun c1 => ?_)
      · have e : i = 22 := by omega
        subst e
        refine lv_iload_n (pc := 38) hx hb dX0_encode_38 rfl (lv_at hl 2 rfl) ?_
        refine zr_callR (pc := 39) (W.runS (As := [.int (zc_e1 x (22))]) (rest := []) ⟨hx, hb, hml, hown, hts⟩ (zx_met_syndrome l _) (va_cwS 1 hts (lw_S q72 q73 q10 q74) rfl rfl rfl (by decide +kernel) ⟨Nat.le_of_ble_eq_true rfl, Nat.le_of_ble_eq_true rfl⟩) (preEq) rfl rfl hl.1 rfl (lv_room (Nat.le_of_ble_eq_true rfl)) dX0_encode_39 ⟨Nat.le_of_ble_eq_true rfl, Nat.le_of_ble_eq_true rfl⟩) ?_
        refine lv_istore_n (pc := 42) (lv' := [(3, .int (nI (zc_syn (bt (zc_eA x)) 22))), (2, .int (nI (zc_k (22)))), (1, .int (zc_e1 x (22))), (0, .int x)]) hx hb dX0_encode_42 rfl hl (by decide) rfl (fun ls hl => ?_)
        refine lv_iconst (pc := 43) (v := nI 0) hx hb dX0_encode_43 (by decide) ?_
        refine lv_istore (pc := 44) (lv' := [(4, .int (nI 0)), (3, .int (nI (zc_syn (bt (zc_eA x)) 22))), (2, .int (nI (zc_k (22)))), (1, .int (zc_e1 x (22))), (0, .int x)]) hx hb dX0_encode_44 hl (by decide) rfl (fun ls hl => ?_)
        exact LOOP2 6 0 (by omega) (by omega) ls (lv_sub hl [0, 1, 3, 4] rfl)
      · refine lv_iload_n (pc := 12) hx hb dX0_encode_12 rfl (lv_at hl 0 rfl) ?_
        refine zr_callR (pc := 13) (W.runS (As := [.int (nI i)]) (rest := []) ⟨hx, hb, hml, hown, hts⟩ (zx_met_isCheck l i h0 (by omega)) (va_cwS 1 hts (lw_S q69 q70 q10 q71) rfl rfl rfl (by decide +kernel) ⟨Nat.le_of_ble_eq_true rfl, Nat.le_of_ble_eq_true rfl⟩) (preEq) rfl rfl hl.1 rfl (lv_room (Nat.le_of_ble_eq_true rfl)) dX0_encode_13 ⟨Nat.le_of_ble_eq_true rfl, Nat.le_of_ble_eq_true rfl⟩) ?_
        refine zr_if_ne (pc := 16) (tgt := 32) hx hb (Nat.lt_of_le_of_lt (Bool.toNat_le _) (by omega)) dX0_encode_16 (by decide) (fun c2 => ?_) (fun c2 => ?_)
        · have c2 := zc_tn1 c2
          refine lv_iinc (pc := 32) (v := nI (i + 1)) (lv' := [(3, .int (nI (i + 1))), (2, .int (nI (zc_k i))), (1, .int (zc_e1 x i)), (0, .int x)]) hx hb dX0_encode_32 hl (k := 0) rfl (zr_inc _) (by decide) rfl (fun ls hl => ?_)
          refine lv_goto (pc := 35) (tgt := 6) hx hb dX0_encode_35 (by decide) ?_
          exact ih (i + 1) (by omega) (by omega) (by omega) ls (by rw [zc_k_s1 c2, zc_e1_s1 c2]; exact lv_sub hl [0, 1, 2, 3] rfl)
        · have c2 := zc_tn0 c2
          refine lv_iload_n (pc := 19) hx hb dX0_encode_19 rfl (lv_at hl 2 rfl) ?_
          refine lv_iload_n (pc := 20) hx hb dX0_encode_20 rfl (lv_at hl 3 rfl) ?_
          refine lv_iload_n (pc := 21) hx hb dX0_encode_21 rfl (lv_at hl 1 rfl) ?_
          refine lv_iushr (pc := 22) hx hb dX0_encode_22 rfl ?_
          refine lv_iconst (pc := 23) (v := 1) hx hb dX0_encode_23 (by decide) ?_
          refine lv_iand (pc := 24) hx hb dX0_encode_24 ?_
          refine lv_iload_n (pc := 25) hx hb dX0_encode_25 rfl (lv_at hl 0 rfl) ?_
          refine lv_ishl (pc := 26) hx hb dX0_encode_26 ?_
          refine lv_ior (pc := 27) hx hb dX0_encode_27 ?_
          refine lv_topi (fun z2 ez2 => ?_)
          obtain rfl : z2 = zc_e1 x (i + 1) := ez2.trans (zc_e1_s0 c2)
          refine lv_istore_n (pc := 28) (lv' := [(1, .int (zc_e1 x (i + 1))), (3, .int (nI i)), (2, .int (nI (zc_k i))), (0, .int x)]) hx hb dX0_encode_28 rfl hl (by decide) rfl (fun ls hl => ?_)
          refine lv_iinc (pc := 29) (v := nI ((zc_k i) + 1)) (lv' := [(2, .int (nI ((zc_k i) + 1))), (1, .int (zc_e1 x (i + 1))), (3, .int (nI i)), (0, .int x)]) hx hb dX0_encode_29 hl (k := 2) rfl (zr_inc _) (by decide) rfl (fun ls hl => ?_)
          refine lv_iinc (pc := 32) (v := nI (i + 1)) (lv' := [(3, .int (nI (i + 1))), (2, .int (nI ((zc_k i) + 1))), (1, .int (zc_e1 x (i + 1))), (0, .int x)]) hx hb dX0_encode_32 hl (k := 2) rfl (zr_inc _) (by decide) rfl (fun ls hl => ?_)
          refine lv_goto (pc := 35) (tgt := 6) hx hb dX0_encode_35 (by decide) ?_
          exact ih (i + 1) (by omega) (by omega) (by omega) ls (by rw [zc_k_s0 c2]; exact lv_sub hl [0, 1, 2, 3] rfl)
  refine lv_iconst (pc := 0) (v := nI 0) hx hb dX0_encode_0 (by decide) ?_
  refine lv_istore_n (pc := 1) (lv' := [(1, .int (nI 0)), (0, .int x)]) hx hb dX0_encode_1 rfl hl (by decide) rfl (fun ls hl => ?_)
  refine lv_iconst (pc := 2) (v := nI 0) hx hb dX0_encode_2 (by decide) ?_
  refine lv_istore_n (pc := 3) (lv' := [(2, .int (nI 0)), (1, .int (nI 0)), (0, .int x)]) hx hb dX0_encode_3 rfl hl (by decide) rfl (fun ls hl => ?_)
  refine lv_iconst (pc := 4) (v := nI 1) hx hb dX0_encode_4 (by decide) ?_
  refine lv_istore_n (pc := 5) (lv' := [(3, .int (nI 1)), (2, .int (nI 0)), (1, .int (nI 0)), (0, .int x)]) hx hb dX0_encode_5 rfl hl (by decide) rfl (fun ls hl => ?_)
  exact LOOP1 23 1 (by omega) (by omega) (by omega) ls (lv_sub hl [0, 1, 2, 3] rfl)

set_option maxHeartbeats 4000000 in
set_option maxRecDepth 100000 in
theorem zx_met_decode (l : Launch) (x : Int32) : Met l yX0_decode (ws_ yX0_decode cX0_decode 7 (some .int)) ({ frames := 1, cells := 0, slots := 0, locals := 22 }) (fun v _ => v = ([.int x] : List Value).toArray) (QcRead (zc_dec x)) 0 0 (fun _ => False) := by
  refine Met.ofW (cc := cX0_decode) (maxL := 7) (ret := (some .int)) (by decide) rfl ?_
  intro p e s m args below meth c s₁ B hml hv
  have hv : args = ([.int x] : List Value).toArray := hv
  subst hv
  have hx := B.exec
  have hb := B.bytes
  have hr := B.returns
  have hts := atoms_spec (ws := (ws_ yX0_decode cX0_decode 7 (some .int))) B.pre
  have hts : ∀ w ∈ lw_all, w.before _ s = true := fun w h => hts w (List.mem_cons_of_mem _ h)
  have hown : s.vm.findClass RX0 = some m.cls := findClass_of_methodNamed B.named
  have hlocks := B.notSynchronized
  have hl := lv_entry ([.int x]) (n := 7) (Nat.le_of_ble_eq_true rfl)
  rw [lg_entry_eq]
  generalize (lg_sl ([.int x]) ++ List.replicate (7 - (lg_sl ([.int x])).length) Slot.unset).toArray = ls at hl ⊢
  have hl : lv_has ls 7 [(0, .int x)] := hl
  have LOOP : ∀ (n : Nat) (i : Nat) (y : Int32), zc_d1 y 22 = zc_dec x → 1 ≤ i → i ≤ 22 → 22 < i + n → ∀ (ls : Array Slot), lv_has ls 7 [(6, .int (nI i)), (5, .int (nI (zc_k i))), (4, .int (zc_d1 y i)), (3, .int y)] → W p l e (headSpec (ws_ yX0_decode cX0_decode 7 (some .int)) ({ frames := 1, cells := 0, slots := 0, locals := 22 })).room s m ([.int x] : List Value).toArray below meth c s.heap [] 0 0 (MQ below (QcRead (zc_dec x)) ([.int x] : List Value).toArray s 0 0 (fun _ => False)) (F0 m 54 ls []) := by
    intro n
    induction n with
    | zero =>
      intro i y hy h0 h1 h2
      exact absurd h2 (by omega)
    | succ n ih =>
      intro i y hy h0 h1 h2 ls hl
      refine lv_iload (pc := 54) hx hb dX0_decode_54 (lv_at hl 0 rfl) ?_
      refine lv_bipush (pc := 56) (v := nI 22) hx hb dX0_decode_56 (by decide) ?_
      refine zr_icmp_ge (pc := 58) (tgt := 92) hx hb (by omega) (by omega) dX0_decode_58 (by decide) (fun c1 => ?_) (fun c1 => ?_)
      · have e : i = 22 := by omega
        subst e
        refine lv_iload (pc := 92) hx hb dX0_decode_92 (lv_at hl 2 rfl) ?_
        exact W.iret (pc := 94) hx hb hr (fun t ht _ => zr_retE (hy) ht) t_nil dX0_decode_94
      · refine lv_iload (pc := 61) hx hb dX0_decode_61 (lv_at hl 0 rfl) ?_
        refine zr_callR (pc := 63) (W.runS (As := [.int (nI i)]) (rest := []) ⟨hx, hb, hml, hown, hts⟩ (zx_met_isCheck l i h0 (by omega)) (va_cwS 1 hts (lw_S q69 q70 q10 q71) rfl rfl rfl (by decide +kernel) ⟨Nat.le_of_ble_eq_true rfl, Nat.le_of_ble_eq_true rfl⟩) (preEq) rfl rfl hl.1 rfl (lv_room (Nat.le_of_ble_eq_true rfl)) dX0_decode_63 ⟨Nat.le_of_ble_eq_true rfl, Nat.le_of_ble_eq_true rfl⟩) ?_
        refine zr_if_ne (pc := 66) (tgt := 86) hx hb (Nat.lt_of_le_of_lt (Bool.toNat_le _) (by omega)) dX0_decode_66 (by decide) (fun c2 => ?_) (fun c2 => ?_)
        · have c2 := zc_tn1 c2
          refine lv_iinc (pc := 86) (v := nI (i + 1)) (lv' := [(6, .int (nI (i + 1))), (5, .int (nI (zc_k i))), (4, .int (zc_d1 y i)), (3, .int y)]) hx hb dX0_decode_86 hl (k := 0) rfl (zr_inc _) (by decide) rfl (fun ls hl => ?_)
          refine lv_goto (pc := 89) (tgt := 54) hx hb dX0_decode_89 (by decide) ?_
          exact ih (i + 1) y hy (by omega) (by omega) (by omega) ls (by rw [zc_k_s1 c2, zc_d1_s1 c2]; exact lv_sub hl [0, 1, 2, 3] rfl)
        · have c2 := zc_tn0 c2
          refine lv_iload (pc := 69) hx hb dX0_decode_69 (lv_at hl 2 rfl) ?_
          refine lv_iload_n (pc := 71) hx hb dX0_decode_71 rfl (lv_at hl 3 rfl) ?_
          refine lv_iload (pc := 72) hx hb dX0_decode_72 (lv_at hl 0 rfl) ?_
          refine lv_iushr (pc := 74) hx hb dX0_decode_74 rfl ?_
          refine lv_iconst (pc := 75) (v := 1) hx hb dX0_decode_75 (by decide) ?_
          refine lv_iand (pc := 76) hx hb dX0_decode_76 ?_
          refine lv_iload (pc := 77) hx hb dX0_decode_77 (lv_at hl 1 rfl) ?_
          refine lv_ishl (pc := 79) hx hb dX0_decode_79 ?_
          refine lv_ior (pc := 80) hx hb dX0_decode_80 ?_
          refine lv_topi (fun z1 ez1 => ?_)
          obtain rfl : z1 = zc_d1 y (i + 1) := ez1.trans (zc_d1_s0 c2)
          refine lv_istore (pc := 81) (lv' := [(4, .int (zc_d1 y (i + 1))), (6, .int (nI i)), (5, .int (nI (zc_k i))), (3, .int y)]) hx hb dX0_decode_81 hl (by decide) rfl (fun ls hl => ?_)
          refine lv_iinc (pc := 83) (v := nI ((zc_k i) + 1)) (lv' := [(5, .int (nI ((zc_k i) + 1))), (4, .int (zc_d1 y (i + 1))), (6, .int (nI i)), (3, .int y)]) hx hb dX0_decode_83 hl (k := 2) rfl (zr_inc _) (by decide) rfl (fun ls hl => ?_)
          refine lv_iinc (pc := 86) (v := nI (i + 1)) (lv' := [(6, .int (nI (i + 1))), (5, .int (nI ((zc_k i) + 1))), (4, .int (zc_d1 y (i + 1))), (3, .int y)]) hx hb dX0_decode_86 hl (k := 2) rfl (zr_inc _) (by decide) rfl (fun ls hl => ?_)
          refine lv_goto (pc := 89) (tgt := 54) hx hb dX0_decode_89 (by decide) ?_
          exact ih (i + 1) y hy (by omega) (by omega) (by omega) ls (by rw [zc_k_s0 c2]; exact lv_sub hl [0, 1, 2, 3] rfl)
  refine lv_iload_n (pc := 0) hx hb dX0_decode_0 rfl (lv_at hl 0 rfl) ?_
  refine zr_callR (pc := 1) (W.runS (As := [.int x]) (rest := []) ⟨hx, hb, hml, hown, hts⟩ (zx_met_syndrome l _) (va_cwS 1 hts (lw_S q72 q73 q10 q74) rfl rfl rfl (by decide +kernel) ⟨Nat.le_of_ble_eq_true rfl, Nat.le_of_ble_eq_true rfl⟩) (preEq) rfl rfl hl.1 rfl (lv_room (Nat.le_of_ble_eq_true rfl)) dX0_decode_1 ⟨Nat.le_of_ble_eq_true rfl, Nat.le_of_ble_eq_true rfl⟩) ?_
  refine lv_istore_n (pc := 4) (lv' := [(1, .int (nI (zc_syn (bt x) 22))), (0, .int x)]) hx hb dX0_decode_4 rfl hl (by decide) rfl (fun ls hl => ?_)
  refine lv_iload_n (pc := 5) hx hb dX0_decode_5 rfl (lv_at hl 1 rfl) ?_
  refine zr_callR (pc := 6) (W.runS (As := [.int x]) (rest := []) ⟨hx, hb, hml, hown, hts⟩ (zx_met_ones l _) (va_cwS 1 hts (lw_S q75 q76 q10 q77) rfl rfl rfl (by decide +kernel) ⟨Nat.le_of_ble_eq_true rfl, Nat.le_of_ble_eq_true rfl⟩) (preEq) rfl rfl hl.1 rfl (lv_room (Nat.le_of_ble_eq_true rfl)) dX0_decode_6 ⟨Nat.le_of_ble_eq_true rfl, Nat.le_of_ble_eq_true rfl⟩) ?_
  refine lv_iconst (pc := 9) (v := 1) hx hb dX0_decode_9 (by decide) ?_
  refine lv_iand (pc := 10) hx hb dX0_decode_10 ?_
  refine lv_topi (fun z2 ez2 => ?_)
  obtain rfl : z2 = nI (zc_cnt (bt x) 22 % 2) := ez2.trans (zc_mod2 _)
  refine zr_if_eq (pc := 11) (tgt := 18) hx hb (by omega) dX0_decode_11 (by decide) (fun c1 => ?_) (fun c1 => ?_)
  · refine lv_iconst (pc := 18) (v := nI 0) hx hb dX0_decode_18 (by decide) ?_
    refine lv_istore_n (pc := 19) (lv' := [(2, .int (nI 0)), (1, .int (nI (zc_syn (bt x) 22))), (0, .int x)]) hx hb dX0_decode_19 rfl hl (by decide) rfl (fun ls hl => ?_)
    refine lv_iload_n (pc := 20) hx hb dX0_decode_20 rfl (lv_at hl 0 rfl) ?_
    refine zr_if_ne (pc := 21) (tgt := 31) hx hb (by omega) dX0_decode_21 (by decide) (fun c2 => ?_) (fun c2 => ?_)
    · exact absurd rfl c2
    · refine lv_iload_n (pc := 24) hx hb dX0_decode_24 rfl (lv_at hl 1 rfl) ?_
      refine zr_if_eq (pc := 25) (tgt := 31) hx hb (Nat.lt_trans (zc_syn_lt _ 22 (by omega)) (by omega)) dX0_decode_25 (by decide) (fun c3 => ?_) (fun c3 => ?_)
      · refine lv_iload_n (pc := 31) hx hb dX0_decode_31 rfl (lv_at hl 0 rfl) ?_
        refine zr_if_eq (pc := 32) (tgt := 43) hx hb (by omega) dX0_decode_32 (by decide) (fun c4 => ?_) (fun c4 => ?_)
        · refine lv_iload_n (pc := 43) hx hb dX0_decode_43 rfl (lv_at hl 2 rfl) ?_
          refine lv_istore_n (pc := 44) (lv' := [(3, .int x), (2, .int (nI 0)), (1, .int (nI (zc_syn (bt x) 22))), (0, .int x)]) hx hb dX0_decode_44 rfl hl (by decide) rfl (fun ls hl => ?_)
          refine lv_iconst (pc := 45) (v := nI 0) hx hb dX0_decode_45 (by decide) ?_
          refine lv_istore (pc := 46) (lv' := [(4, .int (nI 0)), (3, .int x), (2, .int (nI 0)), (1, .int (nI (zc_syn (bt x) 22))), (0, .int x)]) hx hb dX0_decode_46 hl (by decide) rfl (fun ls hl => ?_)
          refine lv_iconst (pc := 48) (v := nI 0) hx hb dX0_decode_48 (by decide) ?_
          refine lv_istore (pc := 49) (lv' := [(5, .int (nI 0)), (4, .int (nI 0)), (3, .int x), (2, .int (nI 0)), (1, .int (nI (zc_syn (bt x) 22))), (0, .int x)]) hx hb dX0_decode_49 hl (by decide) rfl (fun ls hl => ?_)
          refine lv_iconst (pc := 51) (v := nI 1) hx hb dX0_decode_51 (by decide) ?_
          refine lv_istore (pc := 52) (lv' := [(6, .int (nI 1)), (5, .int (nI 0)), (4, .int (nI 0)), (3, .int x), (2, .int (nI 0)), (1, .int (nI (zc_syn (bt x) 22))), (0, .int x)]) hx hb dX0_decode_52 hl (by decide) rfl (fun ls hl => ?_)
          exact LOOP 23 1 _ (by unfold zc_dec; rw [if_pos c1, if_pos c3]) (by omega) (by omega) (by omega) ls (lv_sub hl [0, 1, 2, 3] rfl)
        · exact absurd rfl c4
      · refine lv_bipush (pc := 28) (v := (-3)) hx hb dX0_decode_28 (by decide) ?_
        exact W.iret (pc := 30) hx hb hr (fun t ht _ => zr_retE (by unfold zc_dec; rw [if_pos c1, if_neg c3]) ht) t_nil dX0_decode_30
  · refine lv_iconst (pc := 14) (v := nI 1) hx hb dX0_decode_14 (by decide) ?_
    refine lv_goto (pc := 15) (tgt := 19) hx hb dX0_decode_15 (by decide) ?_
    refine lv_istore_n (pc := 19) (lv' := [(2, .int (nI 1)), (1, .int (nI (zc_syn (bt x) 22))), (0, .int x)]) hx hb dX0_decode_19 rfl hl (by decide) rfl (fun ls hl => ?_)
    refine lv_iload_n (pc := 20) hx hb dX0_decode_20 rfl (lv_at hl 0 rfl) ?_
    refine zr_if_ne (pc := 21) (tgt := 31) hx hb (by omega) dX0_decode_21 (by decide) (fun c2 => ?_) (fun c2 => ?_)
    · refine lv_iload_n (pc := 31) hx hb dX0_decode_31 rfl (lv_at hl 0 rfl) ?_
      refine zr_if_eq (pc := 32) (tgt := 43) hx hb (by omega) dX0_decode_32 (by decide) (fun c4 => ?_) (fun c4 => ?_)
      · exact absurd c4 (by decide)
      · refine lv_iload_n (pc := 35) hx hb dX0_decode_35 rfl (lv_at hl 2 rfl) ?_
        refine lv_iconst (pc := 36) (v := 1) hx hb dX0_decode_36 (by decide) ?_
        refine lv_iload_n (pc := 37) hx hb dX0_decode_37 rfl (lv_at hl 1 rfl) ?_
        refine lv_ishl (pc := 38) hx hb dX0_decode_38 ?_
        refine lv_ixor (pc := 39) hx hb dX0_decode_39 ?_
        refine lv_goto (pc := 40) (tgt := 44) hx hb dX0_decode_40 (by decide) ?_
        refine lv_istore_n (pc := 44) (lv' := [(3, .int (x ^^^ (1 <<< ((nI (zc_syn (bt x) 22)) &&& 31)))), (2, .int (nI 1)), (1, .int (nI (zc_syn (bt x) 22))), (0, .int x)]) hx hb dX0_decode_44 rfl hl (by decide) rfl (fun ls hl => ?_)
        refine lv_iconst (pc := 45) (v := nI 0) hx hb dX0_decode_45 (by decide) ?_
        refine lv_istore (pc := 46) (lv' := [(4, .int (nI 0)), (3, .int (x ^^^ (1 <<< ((nI (zc_syn (bt x) 22)) &&& 31)))), (2, .int (nI 1)), (1, .int (nI (zc_syn (bt x) 22))), (0, .int x)]) hx hb dX0_decode_46 hl (by decide) rfl (fun ls hl => ?_)
        refine lv_iconst (pc := 48) (v := nI 0) hx hb dX0_decode_48 (by decide) ?_
        refine lv_istore (pc := 49) (lv' := [(5, .int (nI 0)), (4, .int (nI 0)), (3, .int (x ^^^ (1 <<< ((nI (zc_syn (bt x) 22)) &&& 31)))), (2, .int (nI 1)), (1, .int (nI (zc_syn (bt x) 22))), (0, .int x)]) hx hb dX0_decode_49 hl (by decide) rfl (fun ls hl => ?_)
        refine lv_iconst (pc := 51) (v := nI 1) hx hb dX0_decode_51 (by decide) ?_
        refine lv_istore (pc := 52) (lv' := [(6, .int (nI 1)), (5, .int (nI 0)), (4, .int (nI 0)), (3, .int (x ^^^ (1 <<< ((nI (zc_syn (bt x) 22)) &&& 31)))), (2, .int (nI 1)), (1, .int (nI (zc_syn (bt x) 22))), (0, .int x)]) hx hb dX0_decode_52 hl (by decide) rfl (fun ls hl => ?_)
        exact LOOP 23 1 _ (by unfold zc_dec; rw [if_neg c1]; rfl) (by omega) (by omega) (by omega) ls (lv_sub hl [0, 1, 2, 3] rfl)
    · exact absurd c2 (by decide)
end
section
/-! the flash's reading methods, walked -/
theorem zr_nw_some (q : Nat) : zr_nw (some q) = nI q := rfl
/-- isWritten's answer -/
def zf_wr (u : zf_S) (j : Nat) : Int32 := match zf_v u j with
  | none => 0
  | some q => if q.1 = 1 then 1 else 0
/-- read's answer on a sector -/
def zf_rd (u : zf_S) (j : Nat) : Int32 := match zf_v u j with
  | none => -2
  | some q => if q.1 = 2 then -2 else zc_dec (q.2.1 ^^^ q.2.2)
def zx_rd (u : zf_S) (x : Int32) : Int32 := if zx_sec x = 0 then -1 else zf_rd u x.toNatClampNeg
theorem zx_rd_nI {u : zf_S} {j : Nat} (h : j < 16) : zx_rd u (nI j) = zf_rd u j := by
  unfold zx_rd
  rw [zx_sec_nI h, if_neg (by decide), nI_clamp (by omega)]
theorem zf_v_some {u : zf_S} {j q : Nat} (h : zf_n u j = some q) : zf_v u j = some (zf_k u q, zf_w u q, zf_t u q) := by
  unfold zf_v
  rw [h]
  rfl
theorem zf_v_none {u : zf_S} {j : Nat} (h : zf_n u j = none) : zf_v u j = none := by
  unfold zf_v
  rw [h]
  rfl
theorem zf_wr_none {u : zf_S} {j : Nat} (h : zf_n u j = none) : zf_wr u j = 0 := by
  unfold zf_wr
  rw [zf_v_none h]
theorem zf_wr_some {u : zf_S} {j q : Nat} (h : zf_n u j = some q) : zf_wr u j = if zf_k u q = 1 then 1 else 0 := by
  unfold zf_wr
  rw [zf_v_some h]
theorem zf_rd_none {u : zf_S} {j : Nat} (h : zf_n u j = none) : zf_rd u j = -2 := by
  unfold zf_rd
  rw [zf_v_none h]
theorem zf_rd_some {u : zf_S} {j q : Nat} (h : zf_n u j = some q) : zf_rd u j = if zf_k u q = 2 then -2 else zc_dec (zf_w u q ^^^ zf_t u q) := by
  unfold zf_rd
  rw [zf_v_some h]
/-- freeBlock's answer -/
def zf_FB (u : zf_S) (o : Option Nat) : Prop := (o = none → ∀ b, b < 8 → b ≠ zf_c u → zf_k u (4 * b) ≠ 0) ∧ ∀ b, o = some b → b < 8 ∧ b ≠ zf_c u ∧ zf_k u (4 * b) = 0
theorem zf_cnt_s0 {P : Nat → Bool} {i : Nat} (h : P i = false) : nI (zc_cnt P i + 0) = nI (zc_cnt P (i + 1)) := by
  show _ = nI (zc_cnt P i + (P i).toNat)
  rw [h]
  rfl
theorem zf_cnt_s1 {P : Nat → Bool} {i : Nat} (h : P i = true) : nI (zc_cnt P i + 1) = nI (zc_cnt P (i + 1)) := by
  show _ = nI (zc_cnt P i + (P i).toNat)
  rw [h]
  rfl
theorem zf_dead0 {u : zf_S} {p : Nat} (h : zf_k u p = 0) : zf_live u p = false := by
  cases hl : zf_live u p
  · rfl
  · exact absurd h (zf_lvK_iff.mp hl).1
theorem zf_dead1 {u : zf_S} {p : Nat} (h : zf_n u (zf_o u p) ≠ some p) : zf_live u p = false := by
  cases hl : zf_live u p
  · rfl
  · exact absurd (zf_lvK_iff.mp hl).2 h
/-- leastLive, so far -/
def zf_LI (u : zf_S) (o : Option Nat) (i : Nat) : Prop := (o = none → ∀ b, b < i → b ≠ zf_c u → zf_k u (4 * b) = 0) ∧ ∀ v, o = some v → v < 8 ∧ v ≠ zf_c u ∧ zf_k u (4 * v) ≠ 0 ∧ ∀ b, b < i → b ≠ zf_c u → zf_k u (4 * b) ≠ 0 → zf_lv u v ≤ zf_lv u b
theorem zf_LI_skip {u : zf_S} {o : Option Nat} {i : Nat} (h : zf_LI u o i) (hs : i = zf_c u ∨ zf_k u (4 * i) = 0) : zf_LI u o (i + 1) := by
  refine ⟨fun ho b hb hbc => ?_, fun v hv => ?_⟩
  · rcases Nat.eq_or_lt_of_le (Nat.le_of_lt_succ hb) with e | e
    · subst e
      rcases hs with z | z
      · exact absurd z hbc
      · exact z
    · exact h.1 ho b e hbc
  · obtain ⟨h1, h2, h3, h4⟩ := h.2 v hv
    refine ⟨h1, h2, h3, fun b hb hbc hk => ?_⟩
    rcases Nat.eq_or_lt_of_le (Nat.le_of_lt_succ hb) with e | e
    · subst e
      rcases hs with z | z
      · exact absurd z hbc
      · exact absurd z hk
    · exact h4 b e hbc hk
theorem zf_LI_keep {u : zf_S} {q i : Nat} (h : zf_LI u (some q) i) (hl : zf_lv u q ≤ zf_lv u i) : zf_LI u (some q) (i + 1) := by
  refine ⟨fun ho => by (cases ho), fun v hv => ?_⟩
  obtain ⟨h1, h2, h3, h4⟩ := h.2 v hv
  have e : q = v := Option.some.inj hv
  subst e
  refine ⟨h1, h2, h3, fun b hb hbc hk => ?_⟩
  rcases Nat.eq_or_lt_of_le (Nat.le_of_lt_succ hb) with e | e
  · rw [e]
    exact hl
  · exact h4 b e hbc hk
theorem zf_LI_first {u : zf_S} {i : Nat} (h : zf_LI u none i) (hi : i < 8) (hc : i ≠ zf_c u) (hk : zf_k u (4 * i) ≠ 0) : zf_LI u (some i) (i + 1) := by
  refine ⟨fun ho => by (cases ho), fun v hv => ?_⟩
  have e : i = v := Option.some.inj hv
  subst e
  refine ⟨hi, hc, hk, fun b hb hbc hkb => ?_⟩
  rcases Nat.eq_or_lt_of_le (Nat.le_of_lt_succ hb) with e | e
  · rw [e]
    exact Nat.le_refl _
  · exact absurd (h.1 rfl b e hbc) hkb
theorem zf_LI_new {u : zf_S} {q i : Nat} (h : zf_LI u (some q) i) (hi : i < 8) (hc : i ≠ zf_c u) (hk : zf_k u (4 * i) ≠ 0) (hl : zf_lv u i < zf_lv u q) : zf_LI u (some i) (i + 1) := by
  refine ⟨fun ho => by (cases ho), fun v hv => ?_⟩
  have e : i = v := Option.some.inj hv
  subst e
  obtain ⟨h1, h2, h3, h4⟩ := h.2 q rfl
  refine ⟨hi, hc, hk, fun b hb hbc hkb => ?_⟩
  rcases Nat.eq_or_lt_of_le (Nat.le_of_lt_succ hb) with e | e
  · rw [e]
    exact Nat.le_refl _
  · have := h4 b e hbc hkb
    omega
theorem zf_LI_lt {u : zf_S} {o : Option Nat} {i : Nat} (h : zf_LI u o i) : ∀ q, o = some q → q < 2147483648 := fun q hq => Nat.lt_trans (h.2 q hq).1 (by omega)
theorem zf_lv_lt (u : zf_S) (b : Nat) : zf_lv u b < 2147483648 := Nat.lt_of_le_of_lt (zc_cnt_le _ 4) (by omega)
theorem zf_lv_4 (u : zf_S) (b : Nat) : zf_lv u b ≤ 4 := zc_cnt_le _ 4

set_option maxHeartbeats 4000000 in
set_option maxRecDepth 100000 in
theorem zx_met_isWritten (l : Launch) (ad : zx_A) (u : zf_S) (hI : zf_I u) (j : Nat) (hj : j < 16) : Met l yX0_isWritten (ws_ yX0_isWritten cX0_isWritten 2 (some .boolean)) ({ frames := 0, cells := 0, slots := 0, locals := 0 }) (va_Pc [.ref (zx_h ad), .int (nI j)] (zx_I ad u)) (QcRead (zf_wr u j)) 0 0 (fun _ => False) := by
  refine Met.ofW (cc := cX0_isWritten) (maxL := 2) (ret := (some .boolean)) (by decide) rfl ?_
  intro p e s m args below meth c s₁ B hml hv
  obtain ⟨rfl, hP, hK⟩ := hv
  have hx := B.exec
  have hb := B.bytes
  have hr := B.returns
  have hts := atoms_spec (ws := (ws_ yX0_isWritten cX0_isWritten 2 (some .boolean))) B.pre
  have hts : ∀ w ∈ lw_all, w.before _ s = true := fun w h => hts w (List.mem_cons_of_mem _ h)
  have hown : s.vm.findClass RX0 = some m.cls := findClass_of_methodNamed B.named
  have hlocks := B.notSynchronized
  have E : zx_E s m _ ad := ⟨hts, hown, hK⟩
  have hl := lv_entry ([.ref (zx_h ad), .int (nI j)]) (n := 2) (Nat.le_of_ble_eq_true rfl)
  rw [lg_entry_eq]
  generalize (lg_sl ([.ref (zx_h ad), .int (nI j)]) ++ List.replicate (2 - (lg_sl ([.ref (zx_h ad), .int (nI j)])).length) Slot.unset).toArray = ls at hl ⊢
  have hl : lv_has ls 2 [(0, .ref (zx_h ad)), (1, .int (nI j))] := hl
  refine lv_aload_n (pc := 0) hx hb dX0_isWritten_0 rfl (lv_at hl 0 rfl) ?_
  refine zx_g6 (pc := 1) hx hb E hP dX0_isWritten_1 ?_
  refine lv_iload_n (pc := 4) hx hb dX0_isWritten_4 rfl (lv_at hl 1 rfl) ?_
  refine zx_l6 (pc := 5) hx hb E hP (by omega) dX0_isWritten_5 ?_
  refine zr_nif_lt (pc := 6) (tgt := 28) hx hb (fun q hq => Nat.lt_trans (hI.2.2.1 j q (hj) hq).1 (by omega)) dX0_isWritten_6 (by decide) (fun c1 => ?_) (fun q c1 => ?_)
  · refine lv_iconst (pc := 28) (v := 0) hx hb dX0_isWritten_28 (by decide) ?_
    exact W.zret (pc := 29) hx hb hr rfl (fun t ht _ => zr_retE ((zf_wr_none c1).symm) ht) t_nil dX0_isWritten_29
  · refine lv_aload_n (pc := 9) hx hb dX0_isWritten_9 rfl (lv_at hl 0 rfl) ?_
    refine zx_g1 (pc := 10) hx hb E hP dX0_isWritten_10 ?_
    refine lv_aload_n (pc := 13) hx hb dX0_isWritten_13 rfl (lv_at hl 0 rfl) ?_
    refine zx_g6 (pc := 14) hx hb E hP dX0_isWritten_14 ?_
    refine lv_iload_n (pc := 17) hx hb dX0_isWritten_17 rfl (lv_at hl 1 rfl) ?_
    refine zx_l6 (pc := 18) hx hb E hP (by omega) dX0_isWritten_18 ?_
    rw [c1, zr_nw_some]
    have hq := (hI.2.2.1 j q hj c1).1
    refine zx_l1 (pc := 19) hx hb E hP (by omega) dX0_isWritten_19 ?_
    refine lv_iconst (pc := 20) (v := nI 1) hx hb dX0_isWritten_20 (by decide) ?_
    refine zr_icmp_ne (pc := 21) (tgt := 28) hx hb (Nat.lt_of_le_of_lt (hI.1.1 q (by omega)) (by omega)) (by omega) dX0_isWritten_21 (by decide) (fun c2 => ?_) (fun c2 => ?_)
    · refine lv_iconst (pc := 28) (v := 0) hx hb dX0_isWritten_28 (by decide) ?_
      exact W.zret (pc := 29) hx hb hr rfl (fun t ht _ => zr_retE (by rw [zf_wr_some c1, if_neg c2]) ht) t_nil dX0_isWritten_29
    · refine lv_iconst (pc := 24) (v := 1) hx hb dX0_isWritten_24 (by decide) ?_
      refine lv_goto (pc := 25) (tgt := 29) hx hb dX0_isWritten_25 (by decide) ?_
      exact W.zret (pc := 29) hx hb hr rfl (fun t ht _ => zr_retE (by rw [zf_wr_some c1, if_pos c2]) ht) t_nil dX0_isWritten_29

set_option maxHeartbeats 4000000 in
set_option maxRecDepth 100000 in
theorem zx_met_read (l : Launch) (ad : zx_A) (u : zf_S) (hI : zf_I u) (x : Int32) : Met l yX0_read (ws_ yX0_read cX0_read 3 (some .int)) ({ frames := 2, cells := 0, slots := 0, locals := 48 }) (va_Pc [.ref (zx_h ad), .int x] (zx_I ad u)) (QcRead (zx_rd u x)) 0 0 (fun _ => False) := by
  refine Met.ofW (cc := cX0_read) (maxL := 3) (ret := (some .int)) (by decide) rfl ?_
  intro p e s m args below meth c s₁ B hml hv
  obtain ⟨rfl, hP, hK⟩ := hv
  have hx := B.exec
  have hb := B.bytes
  have hr := B.returns
  have hts := atoms_spec (ws := (ws_ yX0_read cX0_read 3 (some .int))) B.pre
  have hts : ∀ w ∈ lw_all, w.before _ s = true := fun w h => hts w (List.mem_cons_of_mem _ h)
  have hown : s.vm.findClass RX0 = some m.cls := findClass_of_methodNamed B.named
  have hlocks := B.notSynchronized
  have E : zx_E s m _ ad := ⟨hts, hown, hK⟩
  have hl := lv_entry ([.ref (zx_h ad), .int x]) (n := 3) (Nat.le_of_ble_eq_true rfl)
  rw [lg_entry_eq]
  generalize (lg_sl ([.ref (zx_h ad), .int x]) ++ List.replicate (3 - (lg_sl ([.ref (zx_h ad), .int x])).length) Slot.unset).toArray = ls at hl ⊢
  have hl : lv_has ls 3 [(0, .ref (zx_h ad)), (1, .int x)] := hl
  refine lv_iload_n (pc := 0) hx hb dX0_read_0 rfl (lv_at hl 1 rfl) ?_
  refine zr_callR (pc := 1) (W.runS (As := [.int x]) (rest := []) ⟨hx, hb, hml, hown, hts⟩ (zx_met_isSector l x) (va_cwS 1 hts (lw_S q62 q63 q10 q64) rfl rfl rfl (by decide +kernel) ⟨Nat.le_of_ble_eq_true rfl, Nat.le_of_ble_eq_true rfl⟩) (preEq) rfl rfl hl.1 rfl (lv_room (Nat.le_of_ble_eq_true rfl)) dX0_read_1 ⟨Nat.le_of_ble_eq_true rfl, Nat.le_of_ble_eq_true rfl⟩) ?_
  refine lv_if_ne (pc := 4) (tgt := 9) hx hb dX0_read_4 (by decide) (fun c0 => ?_) (fun c0 => ?_)
  · obtain ⟨j, hj, rfl⟩ := zx_sec_ne c0
    refine lv_aload_n (pc := 9) hx hb dX0_read_9 rfl (lv_at hl 0 rfl) ?_
    refine zx_g6 (pc := 10) hx hb E hP dX0_read_10 ?_
    refine lv_iload_n (pc := 13) hx hb dX0_read_13 rfl (lv_at hl 1 rfl) ?_
    refine zx_l6 (pc := 14) hx hb E hP (by omega) dX0_read_14 ?_
    refine lv_istore_n (pc := 15) (lv' := [(2, .int (zr_nw (zf_n u j))), (0, .ref (zx_h ad)), (1, .int (nI j))]) hx hb dX0_read_15 rfl hl (by decide) rfl (fun ls hl => ?_)
    refine lv_iload_n (pc := 16) hx hb dX0_read_16 rfl (lv_at hl 0 rfl) ?_
    refine zr_nif_lt (pc := 17) (tgt := 30) hx hb (fun q hq => Nat.lt_trans (hI.2.2.1 j q (hj) hq).1 (by omega)) dX0_read_17 (by decide) (fun c1 => ?_) (fun q c1 => ?_)
    · refine lv_bipush (pc := 30) (v := (-2)) hx hb dX0_read_30 (by decide) ?_
      exact W.iret (pc := 32) hx hb hr (fun t ht _ => zr_retE (by rw [zx_rd_nI hj, zf_rd_none c1]) ht) t_nil dX0_read_32
    · have hq := (hI.2.2.1 j q hj c1).1
      rw [c1] at hl
      have hl : lv_has ls 3 [(2, .int (nI q)), (0, .ref (zx_h ad)), (1, .int (nI j))] := hl
      refine lv_aload_n (pc := 20) hx hb dX0_read_20 rfl (lv_at hl 1 rfl) ?_
      refine zx_g1 (pc := 21) hx hb E hP dX0_read_21 ?_
      refine lv_iload_n (pc := 24) hx hb dX0_read_24 rfl (lv_at hl 0 rfl) ?_
      refine zx_l1 (pc := 25) hx hb E hP (by omega) dX0_read_25 ?_
      refine lv_iconst (pc := 26) (v := nI 2) hx hb dX0_read_26 (by decide) ?_
      refine zr_icmp_ne (pc := 27) (tgt := 33) hx hb (Nat.lt_of_le_of_lt (hI.1.1 q (by omega)) (by omega)) (by omega) dX0_read_27 (by decide) (fun c2 => ?_) (fun c2 => ?_)
      · refine lv_aload_n (pc := 33) hx hb dX0_read_33 rfl (lv_at hl 1 rfl) ?_
        refine zx_g4 (pc := 34) hx hb E hP dX0_read_34 ?_
        refine lv_iload_n (pc := 37) hx hb dX0_read_37 rfl (lv_at hl 0 rfl) ?_
        refine zx_l4 (pc := 38) hx hb E hP (by omega) dX0_read_38 ?_
        refine lv_aload_n (pc := 39) hx hb dX0_read_39 rfl (lv_at hl 1 rfl) ?_
        refine zx_g5 (pc := 40) hx hb E hP dX0_read_40 ?_
        refine lv_iload_n (pc := 43) hx hb dX0_read_43 rfl (lv_at hl 0 rfl) ?_
        refine zx_l5 (pc := 44) hx hb E hP (by omega) dX0_read_44 ?_
        refine lv_ixor (pc := 45) hx hb dX0_read_45 ?_
        refine zr_callR (pc := 46) (W.runS (As := [.int ((zf_w u q) ^^^ (zf_t u q))]) (rest := []) ⟨hx, hb, hml, hown, hts⟩ (zx_met_decode l _) (va_cwS 1 hts (lw_S q106 q107 q10 q108) rfl rfl rfl (by decide +kernel) ⟨Nat.le_of_ble_eq_true rfl, Nat.le_of_ble_eq_true rfl⟩) (preEq) rfl rfl hl.1 rfl (lv_room (Nat.le_of_ble_eq_true rfl)) dX0_read_46 ⟨Nat.le_of_ble_eq_true rfl, Nat.le_of_ble_eq_true rfl⟩) ?_
        exact W.iret (pc := 49) hx hb hr (fun t ht _ => zr_retE (by rw [zx_rd_nI hj, zf_rd_some c1, if_neg c2]) ht) t_nil dX0_read_49
      · refine lv_bipush (pc := 30) (v := (-2)) hx hb dX0_read_30 (by decide) ?_
        exact W.iret (pc := 32) hx hb hr (fun t ht _ => zr_retE (by rw [zx_rd_nI hj, zf_rd_some c1, if_pos c2]) ht) t_nil dX0_read_32
  · refine lv_iconst (pc := 7) (v := (-1)) hx hb dX0_read_7 (by decide) ?_
    exact W.iret (pc := 8) hx hb hr (fun t ht _ => zr_retE (by unfold zx_rd; rw [if_pos c0]) ht) t_nil dX0_read_8

set_option maxHeartbeats 4000000 in
set_option maxRecDepth 100000 in
theorem zx_met_freeBlock (l : Launch) (ad : zx_A) (u : zf_S) (hI : zf_I u) : Met l yX0_freeBlock (ws_ yX0_freeBlock cX0_freeBlock 2 (some .int)) ({ frames := 0, cells := 0, slots := 0, locals := 0 }) (va_Pc [.ref (zx_h ad)] (zx_I ad u)) (vp_Si (fun r => ∃ o, r = zr_nw o ∧ zf_FB u o)) 0 0 (fun _ => False) := by
  refine Met.ofW (cc := cX0_freeBlock) (maxL := 2) (ret := (some .int)) (by decide) rfl ?_
  intro p e s m args below meth c s₁ B hml hv
  obtain ⟨rfl, hP, hK⟩ := hv
  have hx := B.exec
  have hb := B.bytes
  have hr := B.returns
  have hts := atoms_spec (ws := (ws_ yX0_freeBlock cX0_freeBlock 2 (some .int))) B.pre
  have hts : ∀ w ∈ lw_all, w.before _ s = true := fun w h => hts w (List.mem_cons_of_mem _ h)
  have hown : s.vm.findClass RX0 = some m.cls := findClass_of_methodNamed B.named
  have hlocks := B.notSynchronized
  have E : zx_E s m _ ad := ⟨hts, hown, hK⟩
  have hl := lv_entry ([.ref (zx_h ad)]) (n := 2) (Nat.le_of_ble_eq_true rfl)
  rw [lg_entry_eq]
  generalize (lg_sl ([.ref (zx_h ad)]) ++ List.replicate (2 - (lg_sl ([.ref (zx_h ad)])).length) Slot.unset).toArray = ls at hl ⊢
  have hl : lv_has ls 2 [(0, .ref (zx_h ad))] := hl
  have LOOP : ∀ (n : Nat) (i : Nat), i ≤ 8 → 8 < i + n → (∀ b, b < i → b ≠ zf_c u → zf_k u (4 * b) ≠ 0) → ∀ (ls : Array Slot), lv_has ls 2 [(1, .int (nI i)), (0, .ref (zx_h ad))] → W p l e (headSpec (ws_ yX0_freeBlock cX0_freeBlock 2 (some .int)) ({ frames := 0, cells := 0, slots := 0, locals := 0 })).room s m ([.ref (zx_h ad)] : List Value).toArray below meth c s.heap [] 0 0 (MQ below (vp_Si (fun r => ∃ o, r = zr_nw o ∧ zf_FB u o)) ([.ref (zx_h ad)] : List Value).toArray s 0 0 (fun _ => False)) (F0 m 2 ls []) := by
    intro n
    induction n with
    | zero =>
      intro i h1 h2 h3
      exact absurd h2 (by omega)
    | succ n ih =>
      intro i h1 h2 h3 ls hl
      have hcc : zf_c u < 8 := hI.2.1.1
      refine lv_iload_n (pc := 2) hx hb dX0_freeBlock_2 rfl (lv_at hl 0 rfl) ?_
      refine lv_bipush (pc := 3) (v := nI 8) hx hb dX0_freeBlock_3 (by decide) ?_
      refine zr_icmp_ge (pc := 5) (tgt := 35) hx hb (by omega) (by omega) dX0_freeBlock_5 (by decide) (fun c1 => ?_) (fun c1 => ?_)
      · refine lv_iconst (pc := 35) (v := (-1)) hx hb dX0_freeBlock_35 (by decide) ?_
        exact W.iret (pc := 36) hx hb hr (fun t ht _ => ⟨_, rfl, ⟨none, rfl, ⟨fun _ b hb hbc => h3 b (by omega) hbc, fun b ho => by (cases ho)⟩⟩, ht⟩) t_nil dX0_freeBlock_36
      · refine lv_iload_n (pc := 8) hx hb dX0_freeBlock_8 rfl (lv_at hl 0 rfl) ?_
        refine lv_aload_n (pc := 9) hx hb dX0_freeBlock_9 rfl (lv_at hl 1 rfl) ?_
        refine zx_gc (pc := 10) hx hb E hP dX0_freeBlock_10 ?_
        refine zr_icmp_eq (pc := 13) (tgt := 29) hx hb (by omega) (by omega) dX0_freeBlock_13 (by decide) (fun c2 => ?_) (fun c2 => ?_)
        · refine lv_iinc (pc := 29) (v := nI (i + 1)) (lv' := [(1, .int (nI (i + 1))), (0, .ref (zx_h ad))]) hx hb dX0_freeBlock_29 hl (k := 0) rfl (zr_inc _) (by decide) rfl (fun ls hl => ?_)
          refine lv_goto (pc := 32) (tgt := 2) hx hb dX0_freeBlock_32 (by decide) ?_
          exact ih (i + 1) (by omega) (by omega) (fun b hb hbc => by
                            rcases Nat.eq_or_lt_of_le (Nat.le_of_lt_succ hb) with z | z
                            · exact absurd (z.trans c2) hbc
                            · exact h3 b z hbc) ls (lv_sub hl [0, 1] rfl)
        · refine lv_aload_n (pc := 16) hx hb dX0_freeBlock_16 rfl (lv_at hl 1 rfl) ?_
          refine zx_g1 (pc := 17) hx hb E hP dX0_freeBlock_17 ?_
          refine lv_iconst (pc := 20) (v := nI 4) hx hb dX0_freeBlock_20 (by decide) ?_
          refine lv_iload_n (pc := 21) hx hb dX0_freeBlock_21 rfl (lv_at hl 0 rfl) ?_
          refine zr_imul (pc := 22) hx hb dX0_freeBlock_22 ?_
          refine zx_l1 (pc := 23) hx hb E hP (by omega) dX0_freeBlock_23 ?_
          refine zr_if_ne (pc := 24) (tgt := 29) hx hb (Nat.lt_of_le_of_lt (hI.1.1 _ (by omega)) (by omega)) dX0_freeBlock_24 (by decide) (fun c3 => ?_) (fun c3 => ?_)
          · refine lv_iinc (pc := 29) (v := nI (i + 1)) (lv' := [(1, .int (nI (i + 1))), (0, .ref (zx_h ad))]) hx hb dX0_freeBlock_29 hl (k := 0) rfl (zr_inc _) (by decide) rfl (fun ls hl => ?_)
            refine lv_goto (pc := 32) (tgt := 2) hx hb dX0_freeBlock_32 (by decide) ?_
            exact ih (i + 1) (by omega) (by omega) (fun b hb hbc => by
                              rcases Nat.eq_or_lt_of_le (Nat.le_of_lt_succ hb) with z | z
                              · rw [z]; exact c3
                              · exact h3 b z hbc) ls (lv_sub hl [0, 1] rfl)
          · refine lv_iload_n (pc := 27) hx hb dX0_freeBlock_27 rfl (lv_at hl 0 rfl) ?_
            exact W.iret (pc := 28) hx hb hr (fun t ht _ => ⟨_, rfl, ⟨some i, rfl, ⟨fun ho => by (cases ho), fun b ho => by (cases ho; exact ⟨c1, c2, c3⟩)⟩⟩, ht⟩) t_nil dX0_freeBlock_28
  refine lv_iconst (pc := 0) (v := nI 0) hx hb dX0_freeBlock_0 (by decide) ?_
  refine lv_istore_n (pc := 1) (lv' := [(1, .int (nI 0)), (0, .ref (zx_h ad))]) hx hb dX0_freeBlock_1 rfl hl (by decide) rfl (fun ls hl => ?_)
  exact LOOP 9 0 (by omega) (by omega) (fun b hb => absurd hb (Nat.not_lt_zero _)) ls (lv_sub hl [0, 1] rfl)

set_option maxHeartbeats 4000000 in
set_option maxRecDepth 100000 in
theorem zx_met_livePages (l : Launch) (ad : zx_A) (u : zf_S) (hI : zf_I u) (b : Nat) (hb8 : b < 8) : Met l yX0_livePages (ws_ yX0_livePages cX0_livePages 4 (some .int)) ({ frames := 0, cells := 0, slots := 0, locals := 0 }) (va_Pc [.ref (zx_h ad), .int (nI b)] (zx_I ad u)) (QcRead (nI (zf_lv u b))) 0 0 (fun _ => False) := by
  refine Met.ofW (cc := cX0_livePages) (maxL := 4) (ret := (some .int)) (by decide) rfl ?_
  intro p e s m args below meth c s₁ B hml hv
  obtain ⟨rfl, hP, hK⟩ := hv
  have hx := B.exec
  have hb := B.bytes
  have hr := B.returns
  have hts := atoms_spec (ws := (ws_ yX0_livePages cX0_livePages 4 (some .int))) B.pre
  have hts : ∀ w ∈ lw_all, w.before _ s = true := fun w h => hts w (List.mem_cons_of_mem _ h)
  have hown : s.vm.findClass RX0 = some m.cls := findClass_of_methodNamed B.named
  have hlocks := B.notSynchronized
  have E : zx_E s m _ ad := ⟨hts, hown, hK⟩
  have hl := lv_entry ([.ref (zx_h ad), .int (nI b)]) (n := 4) (Nat.le_of_ble_eq_true rfl)
  rw [lg_entry_eq]
  generalize (lg_sl ([.ref (zx_h ad), .int (nI b)]) ++ List.replicate (4 - (lg_sl ([.ref (zx_h ad), .int (nI b)])).length) Slot.unset).toArray = ls at hl ⊢
  have hl : lv_has ls 4 [(0, .ref (zx_h ad)), (1, .int (nI b))] := hl
  have LOOP : ∀ (n : Nat) (i : Nat), i ≤ 4 → 4 < i + n → ∀ (ls : Array Slot), lv_has ls 4 [(3, .int (nI (4 * b + i))), (2, .int (nI (zc_cnt (fun j => zf_live u (4 * b + j)) i))), (1, .int (nI b)), (0, .ref (zx_h ad))] → W p l e (headSpec (ws_ yX0_livePages cX0_livePages 4 (some .int)) ({ frames := 0, cells := 0, slots := 0, locals := 0 })).room s m ([.ref (zx_h ad), .int (nI b)] : List Value).toArray below meth c s.heap [] 0 0 (MQ below (QcRead (nI (zf_lv u b))) ([.ref (zx_h ad), .int (nI b)] : List Value).toArray s 0 0 (fun _ => False)) (F0 m 6 ls []) := by
    intro n
    induction n with
    | zero =>
      intro i h1 h2
      exact absurd h2 (by omega)
    | succ n ih =>
      intro i h1 h2 ls hl
      refine lv_iload_n (pc := 6) hx hb dX0_livePages_6 rfl (lv_at hl 0 rfl) ?_
      refine lv_iconst (pc := 7) (v := nI 4) hx hb dX0_livePages_7 (by decide) ?_
      refine lv_iload_n (pc := 8) hx hb dX0_livePages_8 rfl (lv_at hl 2 rfl) ?_
      refine zr_imul (pc := 9) hx hb dX0_livePages_9 ?_
      refine lv_iconst (pc := 10) (v := nI 4) hx hb dX0_livePages_10 (by decide) ?_
      refine zr_iadd (pc := 11) hx hb dX0_livePages_11 ?_
      refine zr_icmp_ge (pc := 12) (tgt := 53) hx hb (by omega) (by omega) dX0_livePages_12 (by decide) (fun c1 => ?_) (fun c1 => ?_)
      · refine lv_iload_n (pc := 53) hx hb dX0_livePages_53 rfl (lv_at hl 1 rfl) ?_
        have e : i = 4 := by omega
        subst e
        exact W.iret (pc := 54) hx hb hr (fun t ht _ => zr_retE (rfl) ht) t_nil dX0_livePages_54
      · refine lv_iload_n (pc := 15) hx hb dX0_livePages_15 rfl (lv_at hl 1 rfl) ?_
        refine lv_aload_n (pc := 16) hx hb dX0_livePages_16 rfl (lv_at hl 3 rfl) ?_
        refine zx_g1 (pc := 17) hx hb E hP dX0_livePages_17 ?_
        refine lv_iload_n (pc := 20) hx hb dX0_livePages_20 rfl (lv_at hl 0 rfl) ?_
        refine zx_l1 (pc := 21) hx hb E hP (by omega) dX0_livePages_21 ?_
        refine zr_if_eq (pc := 22) (tgt := 44) hx hb (Nat.lt_of_le_of_lt (hI.1.1 _ (by omega)) (by omega)) dX0_livePages_22 (by decide) (fun c2 => ?_) (fun c2 => ?_)
        · refine lv_iconst (pc := 44) (v := nI 0) hx hb dX0_livePages_44 (by decide) ?_
          refine zr_iadd (pc := 45) hx hb dX0_livePages_45 ?_
          refine lv_topi (fun z1 ez1 => ?_)
          obtain rfl : z1 = nI (zc_cnt (fun j => zf_live u (4 * b + j)) (i + 1)) := ez1.trans (zf_cnt_s0 (P := (fun j => zf_live u (4 * b + j))) (zf_dead0 c2))
          refine lv_istore_n (pc := 46) (lv' := [(2, .int (nI (zc_cnt (fun j => zf_live u (4 * b + j)) (i + 1)))), (3, .int (nI (4 * b + i))), (1, .int (nI b)), (0, .ref (zx_h ad))]) hx hb dX0_livePages_46 rfl hl (by decide) rfl (fun ls hl => ?_)
          refine lv_iinc (pc := 47) (v := nI ((4 * b + i) + 1)) (lv' := [(3, .int (nI ((4 * b + i) + 1))), (2, .int (nI (zc_cnt (fun j => zf_live u (4 * b + j)) (i + 1)))), (1, .int (nI b)), (0, .ref (zx_h ad))]) hx hb dX0_livePages_47 hl (k := 1) rfl (zr_inc _) (by decide) rfl (fun ls hl => ?_)
          refine lv_goto (pc := 50) (tgt := 6) hx hb dX0_livePages_50 (by decide) ?_
          exact ih (i + 1) (by omega) (by omega) ls (lv_sub hl [0, 1, 2, 3] rfl)
        · have ho := (hI.1.2.1 _ (by omega) c2).1
          refine lv_aload_n (pc := 25) hx hb dX0_livePages_25 rfl (lv_at hl 3 rfl) ?_
          refine zx_g6 (pc := 26) hx hb E hP dX0_livePages_26 ?_
          refine lv_aload_n (pc := 29) hx hb dX0_livePages_29 rfl (lv_at hl 3 rfl) ?_
          refine zx_g2 (pc := 30) hx hb E hP dX0_livePages_30 ?_
          refine lv_iload_n (pc := 33) hx hb dX0_livePages_33 rfl (lv_at hl 0 rfl) ?_
          refine zx_l2 (pc := 34) hx hb E hP (by omega) dX0_livePages_34 ?_
          refine zx_l6 (pc := 35) hx hb E hP (ho) dX0_livePages_35 ?_
          refine lv_iload_n (pc := 36) hx hb dX0_livePages_36 rfl (lv_at hl 0 rfl) ?_
          refine zr_nicmp_ne (pc := 37) (tgt := 44) hx hb (fun q hq => Nat.lt_trans (hI.2.2.1 _ q (ho) hq).1 (by omega)) (by omega) dX0_livePages_37 (by decide) (fun c3 => ?_) (fun c3 => ?_)
          · refine lv_iconst (pc := 44) (v := nI 0) hx hb dX0_livePages_44 (by decide) ?_
            refine zr_iadd (pc := 45) hx hb dX0_livePages_45 ?_
            refine lv_topi (fun z2 ez2 => ?_)
            obtain rfl : z2 = nI (zc_cnt (fun j => zf_live u (4 * b + j)) (i + 1)) := ez2.trans (zf_cnt_s0 (P := (fun j => zf_live u (4 * b + j))) (zf_dead1 c3))
            refine lv_istore_n (pc := 46) (lv' := [(2, .int (nI (zc_cnt (fun j => zf_live u (4 * b + j)) (i + 1)))), (3, .int (nI (4 * b + i))), (1, .int (nI b)), (0, .ref (zx_h ad))]) hx hb dX0_livePages_46 rfl hl (by decide) rfl (fun ls hl => ?_)
            refine lv_iinc (pc := 47) (v := nI ((4 * b + i) + 1)) (lv' := [(3, .int (nI ((4 * b + i) + 1))), (2, .int (nI (zc_cnt (fun j => zf_live u (4 * b + j)) (i + 1)))), (1, .int (nI b)), (0, .ref (zx_h ad))]) hx hb dX0_livePages_47 hl (k := 1) rfl (zr_inc _) (by decide) rfl (fun ls hl => ?_)
            refine lv_goto (pc := 50) (tgt := 6) hx hb dX0_livePages_50 (by decide) ?_
            exact ih (i + 1) (by omega) (by omega) ls (lv_sub hl [0, 1, 2, 3] rfl)
          · refine lv_iconst (pc := 40) (v := nI 1) hx hb dX0_livePages_40 (by decide) ?_
            refine lv_goto (pc := 41) (tgt := 45) hx hb dX0_livePages_41 (by decide) ?_
            refine zr_iadd (pc := 45) hx hb dX0_livePages_45 ?_
            refine lv_topi (fun z3 ez3 => ?_)
            obtain rfl : z3 = nI (zc_cnt (fun j => zf_live u (4 * b + j)) (i + 1)) := ez3.trans (zf_cnt_s1 (P := (fun j => zf_live u (4 * b + j))) (zf_lvK_iff.mpr ⟨c2, c3⟩))
            refine lv_istore_n (pc := 46) (lv' := [(2, .int (nI (zc_cnt (fun j => zf_live u (4 * b + j)) (i + 1)))), (3, .int (nI (4 * b + i))), (1, .int (nI b)), (0, .ref (zx_h ad))]) hx hb dX0_livePages_46 rfl hl (by decide) rfl (fun ls hl => ?_)
            refine lv_iinc (pc := 47) (v := nI ((4 * b + i) + 1)) (lv' := [(3, .int (nI ((4 * b + i) + 1))), (2, .int (nI (zc_cnt (fun j => zf_live u (4 * b + j)) (i + 1)))), (1, .int (nI b)), (0, .ref (zx_h ad))]) hx hb dX0_livePages_47 hl (k := 1) rfl (zr_inc _) (by decide) rfl (fun ls hl => ?_)
            refine lv_goto (pc := 50) (tgt := 6) hx hb dX0_livePages_50 (by decide) ?_
            exact ih (i + 1) (by omega) (by omega) ls (lv_sub hl [0, 1, 2, 3] rfl)
  refine lv_iconst (pc := 0) (v := nI 0) hx hb dX0_livePages_0 (by decide) ?_
  refine lv_istore_n (pc := 1) (lv' := [(2, .int (nI 0)), (0, .ref (zx_h ad)), (1, .int (nI b))]) hx hb dX0_livePages_1 rfl hl (by decide) rfl (fun ls hl => ?_)
  refine lv_iconst (pc := 2) (v := nI 4) hx hb dX0_livePages_2 (by decide) ?_
  refine lv_iload_n (pc := 3) hx hb dX0_livePages_3 rfl (lv_at hl 2 rfl) ?_
  refine zr_imul (pc := 4) hx hb dX0_livePages_4 ?_
  refine lv_istore_n (pc := 5) (lv' := [(3, .int (nI (4 * b))), (2, .int (nI 0)), (0, .ref (zx_h ad)), (1, .int (nI b))]) hx hb dX0_livePages_5 rfl hl (by decide) rfl (fun ls hl => ?_)
  exact LOOP 5 0 (by omega) (by omega) ls (lv_sub hl [0, 1, 3, 2] rfl)

set_option maxHeartbeats 4000000 in
set_option maxRecDepth 100000 in
theorem zx_met_leastLive (l : Launch) (ad : zx_A) (u : zf_S) (hI : zf_I u) : Met l yX0_leastLive (ws_ yX0_leastLive cX0_leastLive 4 (some .int)) ({ frames := 1, cells := 0, slots := 0, locals := 23 }) (va_Pc [.ref (zx_h ad)] (zx_I ad u)) (vp_Si (fun r => ∃ o, r = zr_nw o ∧ zf_LL u o)) 0 0 (fun _ => False) := by
  refine Met.ofW (cc := cX0_leastLive) (maxL := 4) (ret := (some .int)) (by decide) rfl ?_
  intro p e s m args below meth c s₁ B hml hv
  obtain ⟨rfl, hP, hK⟩ := hv
  have hx := B.exec
  have hb := B.bytes
  have hr := B.returns
  have hts := atoms_spec (ws := (ws_ yX0_leastLive cX0_leastLive 4 (some .int))) B.pre
  have hts : ∀ w ∈ lw_all, w.before _ s = true := fun w h => hts w (List.mem_cons_of_mem _ h)
  have hown : s.vm.findClass RX0 = some m.cls := findClass_of_methodNamed B.named
  have hlocks := B.notSynchronized
  have E : zx_E s m _ ad := ⟨hts, hown, hK⟩
  have hl := lv_entry ([.ref (zx_h ad)]) (n := 4) (Nat.le_of_ble_eq_true rfl)
  rw [lg_entry_eq]
  generalize (lg_sl ([.ref (zx_h ad)]) ++ List.replicate (4 - (lg_sl ([.ref (zx_h ad)])).length) Slot.unset).toArray = ls at hl ⊢
  have hl : lv_has ls 4 [(0, .ref (zx_h ad))] := hl
  have LOOP : ∀ (n : Nat) (i : Nat) (o : Option Nat), i ≤ 8 → 8 < i + n → zf_LI u o i → ∀ (ls : Array Slot), lv_has ls 4 [(2, .int (nI i)), (1, .int (zr_nw o)), (0, .ref (zx_h ad))] → W p l e (headSpec (ws_ yX0_leastLive cX0_leastLive 4 (some .int)) ({ frames := 1, cells := 0, slots := 0, locals := 23 })).room s m ([.ref (zx_h ad)] : List Value).toArray below meth c s.heap [] 0 0 (MQ below (vp_Si (fun r => ∃ o, r = zr_nw o ∧ zf_LL u o)) ([.ref (zx_h ad)] : List Value).toArray s 0 0 (fun _ => False)) (F0 m 4 ls []) := by
    intro n
    induction n with
    | zero =>
      intro i o h1 h2 h3
      exact absurd h2 (by omega)
    | succ n ih =>
      intro i o h1 h2 h3 ls hl
      have hcc : zf_c u < 8 := hI.2.1.1
      refine lv_iload_n (pc := 4) hx hb dX0_leastLive_4 rfl (lv_at hl 0 rfl) ?_
      refine lv_bipush (pc := 5) (v := nI 8) hx hb dX0_leastLive_5 (by decide) ?_
      refine zr_icmp_ge (pc := 7) (tgt := 56) hx hb (by omega) (by omega) dX0_leastLive_7 (by decide) (fun c1 => ?_) (fun c1 => ?_)
      · have e : i = 8 := by omega
        subst e
        refine lv_iload_n (pc := 56) hx hb dX0_leastLive_56 rfl (lv_at hl 1 rfl) ?_
        exact W.iret (pc := 57) hx hb hr (fun t ht _ => ⟨_, rfl, ⟨o, rfl, h3⟩, ht⟩) t_nil dX0_leastLive_57
      · refine lv_iload_n (pc := 10) hx hb dX0_leastLive_10 rfl (lv_at hl 0 rfl) ?_
        refine lv_aload_n (pc := 11) hx hb dX0_leastLive_11 rfl (lv_at hl 2 rfl) ?_
        refine zx_gc (pc := 12) hx hb E hP dX0_leastLive_12 ?_
        refine zr_icmp_eq (pc := 15) (tgt := 50) hx hb (by omega) (by omega) dX0_leastLive_15 (by decide) (fun c2 => ?_) (fun c2 => ?_)
        · refine lv_iinc (pc := 50) (v := nI (i + 1)) (lv' := [(2, .int (nI (i + 1))), (1, .int (zr_nw o)), (0, .ref (zx_h ad))]) hx hb dX0_leastLive_50 hl (k := 0) rfl (zr_inc _) (by decide) rfl (fun ls hl => ?_)
          refine lv_goto (pc := 53) (tgt := 4) hx hb dX0_leastLive_53 (by decide) ?_
          exact ih (i + 1) o (by omega) (by omega) (zf_LI_skip h3 (Or.inl c2)) ls (lv_sub hl [0, 1, 2] rfl)
        · refine lv_aload_n (pc := 18) hx hb dX0_leastLive_18 rfl (lv_at hl 2 rfl) ?_
          refine zx_g1 (pc := 19) hx hb E hP dX0_leastLive_19 ?_
          refine lv_iconst (pc := 22) (v := nI 4) hx hb dX0_leastLive_22 (by decide) ?_
          refine lv_iload_n (pc := 23) hx hb dX0_leastLive_23 rfl (lv_at hl 0 rfl) ?_
          refine zr_imul (pc := 24) hx hb dX0_leastLive_24 ?_
          refine zx_l1 (pc := 25) hx hb E hP (by omega) dX0_leastLive_25 ?_
          refine zr_if_eq (pc := 26) (tgt := 50) hx hb (Nat.lt_of_le_of_lt (hI.1.1 _ (by omega)) (by omega)) dX0_leastLive_26 (by decide) (fun c3 => ?_) (fun c3 => ?_)
          · refine lv_iinc (pc := 50) (v := nI (i + 1)) (lv' := [(2, .int (nI (i + 1))), (1, .int (zr_nw o)), (0, .ref (zx_h ad))]) hx hb dX0_leastLive_50 hl (k := 0) rfl (zr_inc _) (by decide) rfl (fun ls hl => ?_)
            refine lv_goto (pc := 53) (tgt := 4) hx hb dX0_leastLive_53 (by decide) ?_
            exact ih (i + 1) o (by omega) (by omega) (zf_LI_skip h3 (Or.inr c3)) ls (lv_sub hl [0, 1, 2] rfl)
          · refine lv_aload_n (pc := 29) hx hb dX0_leastLive_29 rfl (lv_at hl 2 rfl) ?_
            refine lv_iload_n (pc := 30) hx hb dX0_leastLive_30 rfl (lv_at hl 0 rfl) ?_
            refine zr_callR (pc := 31) (W.runV (As := [.int (nI i)]) (rest := []) ⟨hx, hb, hml, hown, hts⟩ (zx_met_livePages l ad u hI i (by omega)) (cwV 1 hts (lw_V q90 q92 qs4 q10 q93) rfl rfl rfl (by decide +kernel) ⟨Nat.le_of_ble_eq_true rfl, Nat.le_of_ble_eq_true rfl⟩) (zx_pre hK hP) rfl rfl hl.1 rfl (lv_room (Nat.le_of_ble_eq_true rfl)) dX0_leastLive_31 ⟨Nat.le_of_ble_eq_true rfl, Nat.le_of_ble_eq_true rfl⟩) ?_
            refine lv_istore_n (pc := 34) (lv' := [(3, .int (nI (zf_lv u i))), (2, .int (nI i)), (1, .int (zr_nw o)), (0, .ref (zx_h ad))]) hx hb dX0_leastLive_34 rfl hl (by decide) rfl (fun ls hl => ?_)
            refine lv_iload_n (pc := 35) hx hb dX0_leastLive_35 rfl (lv_at hl 2 rfl) ?_
            refine zr_nif_lt (pc := 36) (tgt := 48) hx hb (zf_LI_lt h3) dX0_leastLive_36 (by decide) (fun c4 => ?_) (fun q c4 => ?_)
            · subst c4
              refine lv_iload_n (pc := 48) hx hb dX0_leastLive_48 rfl (lv_at hl 1 rfl) ?_
              refine lv_istore_n (pc := 49) (lv' := [(1, .int (nI i)), (3, .int (nI (zf_lv u i))), (2, .int (nI i)), (0, .ref (zx_h ad))]) hx hb dX0_leastLive_49 rfl hl (by decide) rfl (fun ls hl => ?_)
              refine lv_iinc (pc := 50) (v := nI (i + 1)) (lv' := [(2, .int (nI (i + 1))), (1, .int (nI i)), (3, .int (nI (zf_lv u i))), (0, .ref (zx_h ad))]) hx hb dX0_leastLive_50 hl (k := 2) rfl (zr_inc _) (by decide) rfl (fun ls hl => ?_)
              refine lv_goto (pc := 53) (tgt := 4) hx hb dX0_leastLive_53 (by decide) ?_
              have hl : lv_has ls 4 [(2, .int (nI (i + 1))), (1, .int (zr_nw (some i))), (3, .int (nI (zf_lv u i))), (0, .ref (zx_h ad))] := hl
              exact ih (i + 1) (some i) (by omega) (by omega) (zf_LI_first h3 c1 c2 c3) ls (lv_sub hl [0, 1, 3] rfl)
            · subst c4
              have hl : lv_has ls 4 [(3, .int (nI (zf_lv u i))), (2, .int (nI i)), (1, .int (nI q)), (0, .ref (zx_h ad))] := hl
              refine lv_iload_n (pc := 39) hx hb dX0_leastLive_39 rfl (lv_at hl 0 rfl) ?_
              refine lv_aload_n (pc := 40) hx hb dX0_leastLive_40 rfl (lv_at hl 3 rfl) ?_
              refine lv_iload_n (pc := 41) hx hb dX0_leastLive_41 rfl (lv_at hl 2 rfl) ?_
              refine zr_callR (pc := 42) (W.runV (As := [.int (nI q)]) (rest := [.int (nI (zf_lv u i))]) ⟨hx, hb, hml, hown, hts⟩ (zx_met_livePages l ad u hI q (h3.2 q rfl).1) (cwV 1 hts (lw_V q90 q92 qs4 q10 q93) rfl rfl rfl (by decide +kernel) ⟨Nat.le_of_ble_eq_true rfl, Nat.le_of_ble_eq_true rfl⟩) (zx_pre hK hP) rfl rfl hl.1 rfl (lv_room (Nat.le_of_ble_eq_true rfl)) dX0_leastLive_42 ⟨Nat.le_of_ble_eq_true rfl, Nat.le_of_ble_eq_true rfl⟩) ?_
              refine zr_icmp_ge (pc := 45) (tgt := 50) hx hb (zf_lv_lt u i) (zf_lv_lt u q) dX0_leastLive_45 (by decide) (fun c5 => ?_) (fun c5 => ?_)
              · refine lv_iinc (pc := 50) (v := nI (i + 1)) (lv' := [(2, .int (nI (i + 1))), (3, .int (nI (zf_lv u i))), (1, .int (nI q)), (0, .ref (zx_h ad))]) hx hb dX0_leastLive_50 hl (k := 1) rfl (zr_inc _) (by decide) rfl (fun ls hl => ?_)
                refine lv_goto (pc := 53) (tgt := 4) hx hb dX0_leastLive_53 (by decide) ?_
                have hl : lv_has ls 4 [(2, .int (nI (i + 1))), (3, .int (nI (zf_lv u i))), (1, .int (zr_nw (some q))), (0, .ref (zx_h ad))] := hl
                exact ih (i + 1) (some q) (by omega) (by omega) (zf_LI_keep h3 c5) ls (lv_sub hl [0, 2, 3] rfl)
              · refine lv_iload_n (pc := 48) hx hb dX0_leastLive_48 rfl (lv_at hl 1 rfl) ?_
                refine lv_istore_n (pc := 49) (lv' := [(1, .int (nI i)), (3, .int (nI (zf_lv u i))), (2, .int (nI i)), (0, .ref (zx_h ad))]) hx hb dX0_leastLive_49 rfl hl (by decide) rfl (fun ls hl => ?_)
                refine lv_iinc (pc := 50) (v := nI (i + 1)) (lv' := [(2, .int (nI (i + 1))), (1, .int (nI i)), (3, .int (nI (zf_lv u i))), (0, .ref (zx_h ad))]) hx hb dX0_leastLive_50 hl (k := 2) rfl (zr_inc _) (by decide) rfl (fun ls hl => ?_)
                refine lv_goto (pc := 53) (tgt := 4) hx hb dX0_leastLive_53 (by decide) ?_
                have hl : lv_has ls 4 [(2, .int (nI (i + 1))), (1, .int (zr_nw (some i))), (3, .int (nI (zf_lv u i))), (0, .ref (zx_h ad))] := hl
                exact ih (i + 1) (some i) (by omega) (by omega) (zf_LI_new h3 c1 c2 c3 c5) ls (lv_sub hl [0, 1, 3] rfl)
  refine lv_iconst (pc := 0) (v := (-1)) hx hb dX0_leastLive_0 (by decide) ?_
  refine lv_istore_n (pc := 1) (lv' := [(1, .int (-1)), (0, .ref (zx_h ad))]) hx hb dX0_leastLive_1 rfl hl (by decide) rfl (fun ls hl => ?_)
  refine lv_iconst (pc := 2) (v := nI 0) hx hb dX0_leastLive_2 (by decide) ?_
  refine lv_istore_n (pc := 3) (lv' := [(2, .int (nI 0)), (1, .int (-1)), (0, .ref (zx_h ad))]) hx hb dX0_leastLive_3 rfl hl (by decide) rfl (fun ls hl => ?_)
  have hl : lv_has ls 4 [(2, .int (nI 0)), (1, .int (zr_nw none)), (0, .ref (zx_h ad))] := hl
  exact LOOP 9 0 none (by omega) (by omega) ⟨fun _ b hb => absurd hb (Nat.not_lt_zero _), fun v hv => by (cases hv)⟩ ls (lv_sub hl [0, 1, 2] rfl)

theorem zf_wr_1 {u : zf_S} {j : Nat} (h : ¬ zf_wr u j = 0) : zf_wr u j = 1 := by
  unfold zf_wr at h ⊢
  cases hv : zf_v u j with
  | none => rw [hv] at h; exact absurd rfl h
  | some q =>
    rw [hv] at h
    by_cases e : q.1 = 1
    · exact if_pos e
    · exact absurd (if_neg e) h
/-- what damaged and sum add up -/
def zf_dm (r : Int32) : Int32 := if r = -3 then 1 else 0
def zf_sm (r : Int32) : Int32 := if 0 < r then r else 0

set_option maxHeartbeats 4000000 in
set_option maxRecDepth 100000 in
theorem zx_met_written (l : Launch) (ad : zx_A) (u : zf_S) (hI : zf_I u) : Met l yX0_written (ws_ yX0_written cX0_written 3 (some .int)) ({ frames := 1, cells := 0, slots := 0, locals := 21 }) (va_Pc [.ref (zx_h ad)] (zx_I ad u)) (QcRead (bx_sum (zf_wr u) 16)) 0 0 (fun _ => False) := by
  refine Met.ofW (cc := cX0_written) (maxL := 3) (ret := (some .int)) (by decide) rfl ?_
  intro p e s m args below meth c s₁ B hml hv
  obtain ⟨rfl, hP, hK⟩ := hv
  have hx := B.exec
  have hb := B.bytes
  have hr := B.returns
  have hts := atoms_spec (ws := (ws_ yX0_written cX0_written 3 (some .int))) B.pre
  have hts : ∀ w ∈ lw_all, w.before _ s = true := fun w h => hts w (List.mem_cons_of_mem _ h)
  have hown : s.vm.findClass RX0 = some m.cls := findClass_of_methodNamed B.named
  have hlocks := B.notSynchronized
  have E : zx_E s m _ ad := ⟨hts, hown, hK⟩
  have hl := lv_entry ([.ref (zx_h ad)]) (n := 3) (Nat.le_of_ble_eq_true rfl)
  rw [lg_entry_eq]
  generalize (lg_sl ([.ref (zx_h ad)]) ++ List.replicate (3 - (lg_sl ([.ref (zx_h ad)])).length) Slot.unset).toArray = ls at hl ⊢
  have hl : lv_has ls 3 [(0, .ref (zx_h ad))] := hl
  have LOOP : ∀ (n : Nat) (i : Nat), i ≤ 16 → 16 < i + n → ∀ (ls : Array Slot), lv_has ls 3 [(2, .int (nI i)), (1, .int (bx_sum (zf_wr u) i)), (0, .ref (zx_h ad))] → W p l e (headSpec (ws_ yX0_written cX0_written 3 (some .int)) ({ frames := 1, cells := 0, slots := 0, locals := 21 })).room s m ([.ref (zx_h ad)] : List Value).toArray below meth c s.heap [] 0 0 (MQ below (QcRead (bx_sum (zf_wr u) 16)) ([.ref (zx_h ad)] : List Value).toArray s 0 0 (fun _ => False)) (F0 m 4 ls []) := by
    intro n
    induction n with
    | zero =>
      intro i h1 h2
      exact absurd h2 (by omega)
    | succ n ih =>
      intro i h1 h2 ls hl
      refine lv_iload_n (pc := 4) hx hb dX0_written_4 rfl (lv_at hl 0 rfl) ?_
      refine lv_bipush (pc := 5) (v := nI 16) hx hb dX0_written_5 (by decide) ?_
      refine zr_icmp_ge (pc := 7) (tgt := 32) hx hb (by omega) (by omega) dX0_written_7 (by decide) (fun c1 => ?_) (fun c1 => ?_)
      · refine lv_iload_n (pc := 32) hx hb dX0_written_32 rfl (lv_at hl 1 rfl) ?_
        have e : i = 16 := by omega
        subst e
        exact W.iret (pc := 33) hx hb hr (fun t ht _ => zr_retE (rfl) ht) t_nil dX0_written_33
      · refine lv_iload_n (pc := 10) hx hb dX0_written_10 rfl (lv_at hl 1 rfl) ?_
        refine lv_aload_n (pc := 11) hx hb dX0_written_11 rfl (lv_at hl 2 rfl) ?_
        refine lv_iload_n (pc := 12) hx hb dX0_written_12 rfl (lv_at hl 0 rfl) ?_
        refine zr_callR (pc := 13) (W.runV (As := [.int (nI i)]) (rest := [.int (bx_sum (zf_wr u) i)]) ⟨hx, hb, hml, hown, hts⟩ (zx_met_isWritten l ad u hI i (by omega)) (cwV 1 hts (lw_V q113 q115 qs7 q10 q116) rfl rfl rfl (by decide +kernel) ⟨Nat.le_of_ble_eq_true rfl, Nat.le_of_ble_eq_true rfl⟩) (zx_pre hK hP) rfl rfl hl.1 rfl (lv_room (Nat.le_of_ble_eq_true rfl)) dX0_written_13 ⟨Nat.le_of_ble_eq_true rfl, Nat.le_of_ble_eq_true rfl⟩) ?_
        refine lv_if_eq (pc := 16) (tgt := 23) hx hb dX0_written_16 (by decide) (fun c2 => ?_) (fun c2 => ?_)
        · refine lv_iconst (pc := 23) (v := 0) hx hb dX0_written_23 (by decide) ?_
          refine lv_iadd (pc := 24) hx hb dX0_written_24 ?_
          refine lv_topi (fun z1 ez1 => ?_)
          obtain rfl : z1 = bx_sum (zf_wr u) (i + 1) := ez1.trans (by show _ = bx_sum (zf_wr u) i + zf_wr u i; rw [c2])
          refine lv_istore_n (pc := 25) (lv' := [(1, .int (bx_sum (zf_wr u) (i + 1))), (2, .int (nI i)), (0, .ref (zx_h ad))]) hx hb dX0_written_25 rfl hl (by decide) rfl (fun ls hl => ?_)
          refine lv_iinc (pc := 26) (v := nI (i + 1)) (lv' := [(2, .int (nI (i + 1))), (1, .int (bx_sum (zf_wr u) (i + 1))), (0, .ref (zx_h ad))]) hx hb dX0_written_26 hl (k := 1) rfl (zr_inc _) (by decide) rfl (fun ls hl => ?_)
          refine lv_goto (pc := 29) (tgt := 4) hx hb dX0_written_29 (by decide) ?_
          exact ih (i + 1) (by omega) (by omega) ls (lv_sub hl [0, 1, 2] rfl)
        · refine lv_iconst (pc := 19) (v := 1) hx hb dX0_written_19 (by decide) ?_
          refine lv_goto (pc := 20) (tgt := 24) hx hb dX0_written_20 (by decide) ?_
          refine lv_iadd (pc := 24) hx hb dX0_written_24 ?_
          refine lv_topi (fun z2 ez2 => ?_)
          obtain rfl : z2 = bx_sum (zf_wr u) (i + 1) := ez2.trans (by show _ = bx_sum (zf_wr u) i + zf_wr u i; rw [zf_wr_1 c2])
          refine lv_istore_n (pc := 25) (lv' := [(1, .int (bx_sum (zf_wr u) (i + 1))), (2, .int (nI i)), (0, .ref (zx_h ad))]) hx hb dX0_written_25 rfl hl (by decide) rfl (fun ls hl => ?_)
          refine lv_iinc (pc := 26) (v := nI (i + 1)) (lv' := [(2, .int (nI (i + 1))), (1, .int (bx_sum (zf_wr u) (i + 1))), (0, .ref (zx_h ad))]) hx hb dX0_written_26 hl (k := 1) rfl (zr_inc _) (by decide) rfl (fun ls hl => ?_)
          refine lv_goto (pc := 29) (tgt := 4) hx hb dX0_written_29 (by decide) ?_
          exact ih (i + 1) (by omega) (by omega) ls (lv_sub hl [0, 1, 2] rfl)
  refine lv_iconst (pc := 0) (v := 0) hx hb dX0_written_0 (by decide) ?_
  refine lv_istore_n (pc := 1) (lv' := [(1, .int 0), (0, .ref (zx_h ad))]) hx hb dX0_written_1 rfl hl (by decide) rfl (fun ls hl => ?_)
  refine lv_iconst (pc := 2) (v := nI 0) hx hb dX0_written_2 (by decide) ?_
  refine lv_istore_n (pc := 3) (lv' := [(2, .int (nI 0)), (1, .int 0), (0, .ref (zx_h ad))]) hx hb dX0_written_3 rfl hl (by decide) rfl (fun ls hl => ?_)
  exact LOOP 17 0 (by omega) (by omega) ls (lv_sub hl [0, 1, 2] rfl)

set_option maxHeartbeats 4000000 in
set_option maxRecDepth 100000 in
theorem zx_met_damaged (l : Launch) (ad : zx_A) (u : zf_S) (hI : zf_I u) : Met l yX0_damaged (ws_ yX0_damaged cX0_damaged 4 (some .int)) ({ frames := 3, cells := 0, slots := 0, locals := 70 }) (va_Pc [.ref (zx_h ad)] (zx_I ad u)) (QcRead (bx_sum (fun j => zf_dm (zf_rd u j)) 16)) 0 0 (fun _ => False) := by
  refine Met.ofW (cc := cX0_damaged) (maxL := 4) (ret := (some .int)) (by decide) rfl ?_
  intro p e s m args below meth c s₁ B hml hv
  obtain ⟨rfl, hP, hK⟩ := hv
  have hx := B.exec
  have hb := B.bytes
  have hr := B.returns
  have hts := atoms_spec (ws := (ws_ yX0_damaged cX0_damaged 4 (some .int))) B.pre
  have hts : ∀ w ∈ lw_all, w.before _ s = true := fun w h => hts w (List.mem_cons_of_mem _ h)
  have hown : s.vm.findClass RX0 = some m.cls := findClass_of_methodNamed B.named
  have hlocks := B.notSynchronized
  have E : zx_E s m _ ad := ⟨hts, hown, hK⟩
  have hl := lv_entry ([.ref (zx_h ad)]) (n := 4) (Nat.le_of_ble_eq_true rfl)
  rw [lg_entry_eq]
  generalize (lg_sl ([.ref (zx_h ad)]) ++ List.replicate (4 - (lg_sl ([.ref (zx_h ad)])).length) Slot.unset).toArray = ls at hl ⊢
  have hl : lv_has ls 4 [(0, .ref (zx_h ad))] := hl
  have LOOP : ∀ (n : Nat) (i : Nat), i ≤ 16 → 16 < i + n → ∀ (ls : Array Slot), lv_has ls 4 [(2, .int (nI i)), (1, .int (bx_sum (fun j => zf_dm (zf_rd u j)) i)), (0, .ref (zx_h ad))] → W p l e (headSpec (ws_ yX0_damaged cX0_damaged 4 (some .int)) ({ frames := 3, cells := 0, slots := 0, locals := 70 })).room s m ([.ref (zx_h ad)] : List Value).toArray below meth c s.heap [] 0 0 (MQ below (QcRead (bx_sum (fun j => zf_dm (zf_rd u j)) 16)) ([.ref (zx_h ad)] : List Value).toArray s 0 0 (fun _ => False)) (F0 m 4 ls []) := by
    intro n
    induction n with
    | zero =>
      intro i h1 h2
      exact absurd h2 (by omega)
    | succ n ih =>
      intro i h1 h2 ls hl
      refine lv_iload_n (pc := 4) hx hb dX0_damaged_4 rfl (lv_at hl 0 rfl) ?_
      refine lv_bipush (pc := 5) (v := nI 16) hx hb dX0_damaged_5 (by decide) ?_
      refine zr_icmp_ge (pc := 7) (tgt := 36) hx hb (by omega) (by omega) dX0_damaged_7 (by decide) (fun c1 => ?_) (fun c1 => ?_)
      · refine lv_iload_n (pc := 36) hx hb dX0_damaged_36 rfl (lv_at hl 1 rfl) ?_
        have e : i = 16 := by omega
        subst e
        exact W.iret (pc := 37) hx hb hr (fun t ht _ => zr_retE (rfl) ht) t_nil dX0_damaged_37
      · refine lv_aload_n (pc := 10) hx hb dX0_damaged_10 rfl (lv_at hl 2 rfl) ?_
        refine lv_iload_n (pc := 11) hx hb dX0_damaged_11 rfl (lv_at hl 0 rfl) ?_
        refine zr_callR (pc := 12) (W.runV (As := [.int (nI i)]) (rest := []) ⟨hx, hb, hml, hown, hts⟩ (zx_met_read l ad u hI (nI i)) (cwV 1 hts (lw_V q125 q103 q104 q10 q105) rfl rfl rfl (by decide +kernel) ⟨Nat.le_of_ble_eq_true rfl, Nat.le_of_ble_eq_true rfl⟩) (zx_pre hK hP) rfl rfl hl.1 rfl (lv_room (Nat.le_of_ble_eq_true rfl)) dX0_damaged_12 ⟨Nat.le_of_ble_eq_true rfl, Nat.le_of_ble_eq_true rfl⟩) ?_
        refine lv_topi (fun z1 ez1 => ?_)
        obtain rfl : z1 = zf_rd u i := ez1.trans (zx_rd_nI (by omega))
        refine lv_istore_n (pc := 15) (lv' := [(3, .int (zf_rd u i)), (2, .int (nI i)), (1, .int (bx_sum (fun j => zf_dm (zf_rd u j)) i)), (0, .ref (zx_h ad))]) hx hb dX0_damaged_15 rfl hl (by decide) rfl (fun ls hl => ?_)
        refine lv_iload_n (pc := 16) hx hb dX0_damaged_16 rfl (lv_at hl 2 rfl) ?_
        refine lv_iload_n (pc := 17) hx hb dX0_damaged_17 rfl (lv_at hl 0 rfl) ?_
        refine lv_bipush (pc := 18) (v := (-3)) hx hb dX0_damaged_18 (by decide) ?_
        refine lv_icmp_ne (pc := 20) (tgt := 27) hx hb dX0_damaged_20 (by decide) (fun c2 => ?_) (fun c2 => ?_)
        · refine lv_iconst (pc := 27) (v := 0) hx hb dX0_damaged_27 (by decide) ?_
          refine lv_iadd (pc := 28) hx hb dX0_damaged_28 ?_
          refine lv_topi (fun z2 ez2 => ?_)
          obtain rfl : z2 = bx_sum (fun j => zf_dm (zf_rd u j)) (i + 1) := ez2.trans (by show _ = bx_sum (fun j => zf_dm (zf_rd u j)) i + zf_dm (zf_rd u i); unfold zf_dm; rw [if_neg c2])
          refine lv_istore_n (pc := 29) (lv' := [(1, .int (bx_sum (fun j => zf_dm (zf_rd u j)) (i + 1))), (3, .int (zf_rd u i)), (2, .int (nI i)), (0, .ref (zx_h ad))]) hx hb dX0_damaged_29 rfl hl (by decide) rfl (fun ls hl => ?_)
          refine lv_iinc (pc := 30) (v := nI (i + 1)) (lv' := [(2, .int (nI (i + 1))), (1, .int (bx_sum (fun j => zf_dm (zf_rd u j)) (i + 1))), (3, .int (zf_rd u i)), (0, .ref (zx_h ad))]) hx hb dX0_damaged_30 hl (k := 2) rfl (zr_inc _) (by decide) rfl (fun ls hl => ?_)
          refine lv_goto (pc := 33) (tgt := 4) hx hb dX0_damaged_33 (by decide) ?_
          exact ih (i + 1) (by omega) (by omega) ls (lv_sub hl [0, 1, 3] rfl)
        · refine lv_iconst (pc := 23) (v := 1) hx hb dX0_damaged_23 (by decide) ?_
          refine lv_goto (pc := 24) (tgt := 28) hx hb dX0_damaged_24 (by decide) ?_
          refine lv_iadd (pc := 28) hx hb dX0_damaged_28 ?_
          refine lv_topi (fun z3 ez3 => ?_)
          obtain rfl : z3 = bx_sum (fun j => zf_dm (zf_rd u j)) (i + 1) := ez3.trans (by show _ = bx_sum (fun j => zf_dm (zf_rd u j)) i + zf_dm (zf_rd u i); unfold zf_dm; rw [if_pos c2])
          refine lv_istore_n (pc := 29) (lv' := [(1, .int (bx_sum (fun j => zf_dm (zf_rd u j)) (i + 1))), (3, .int (zf_rd u i)), (2, .int (nI i)), (0, .ref (zx_h ad))]) hx hb dX0_damaged_29 rfl hl (by decide) rfl (fun ls hl => ?_)
          refine lv_iinc (pc := 30) (v := nI (i + 1)) (lv' := [(2, .int (nI (i + 1))), (1, .int (bx_sum (fun j => zf_dm (zf_rd u j)) (i + 1))), (3, .int (zf_rd u i)), (0, .ref (zx_h ad))]) hx hb dX0_damaged_30 hl (k := 2) rfl (zr_inc _) (by decide) rfl (fun ls hl => ?_)
          refine lv_goto (pc := 33) (tgt := 4) hx hb dX0_damaged_33 (by decide) ?_
          exact ih (i + 1) (by omega) (by omega) ls (lv_sub hl [0, 1, 3] rfl)
  refine lv_iconst (pc := 0) (v := 0) hx hb dX0_damaged_0 (by decide) ?_
  refine lv_istore_n (pc := 1) (lv' := [(1, .int 0), (0, .ref (zx_h ad))]) hx hb dX0_damaged_1 rfl hl (by decide) rfl (fun ls hl => ?_)
  refine lv_iconst (pc := 2) (v := nI 0) hx hb dX0_damaged_2 (by decide) ?_
  refine lv_istore_n (pc := 3) (lv' := [(2, .int (nI 0)), (1, .int 0), (0, .ref (zx_h ad))]) hx hb dX0_damaged_3 rfl hl (by decide) rfl (fun ls hl => ?_)
  exact LOOP 17 0 (by omega) (by omega) ls (lv_sub hl [0, 1, 2] rfl)

theorem zf_nle {x : Int32} (h : ¬ x ≤ 0) : 0 < x := by
  rw [Int32.lt_iff_toInt_lt]
  rw [Int32.le_iff_toInt_le] at h
  omega
theorem zf_lt_le {x : Int32} (h : 0 < x) (h2 : x ≤ 0) : (0 : Int32) < 0 := by
  rw [Int32.lt_iff_toInt_lt] at h ⊢
  rw [Int32.le_iff_toInt_le] at h2
  omega

set_option maxHeartbeats 4000000 in
set_option maxRecDepth 100000 in
theorem zx_met_sum (l : Launch) (ad : zx_A) (u : zf_S) (hI : zf_I u) : Met l yX0_sum (ws_ yX0_sum cX0_sum 4 (some .int)) ({ frames := 3, cells := 0, slots := 0, locals := 70 }) (va_Pc [.ref (zx_h ad)] (zx_I ad u)) (QcRead (bx_sum (fun j => zf_sm (zf_rd u j)) 16)) 0 0 (fun _ => False) := by
  refine Met.ofW (cc := cX0_sum) (maxL := 4) (ret := (some .int)) (by decide) rfl ?_
  intro p e s m args below meth c s₁ B hml hv
  obtain ⟨rfl, hP, hK⟩ := hv
  have hx := B.exec
  have hb := B.bytes
  have hr := B.returns
  have hts := atoms_spec (ws := (ws_ yX0_sum cX0_sum 4 (some .int))) B.pre
  have hts : ∀ w ∈ lw_all, w.before _ s = true := fun w h => hts w (List.mem_cons_of_mem _ h)
  have hown : s.vm.findClass RX0 = some m.cls := findClass_of_methodNamed B.named
  have hlocks := B.notSynchronized
  have E : zx_E s m _ ad := ⟨hts, hown, hK⟩
  have hl := lv_entry ([.ref (zx_h ad)]) (n := 4) (Nat.le_of_ble_eq_true rfl)
  rw [lg_entry_eq]
  generalize (lg_sl ([.ref (zx_h ad)]) ++ List.replicate (4 - (lg_sl ([.ref (zx_h ad)])).length) Slot.unset).toArray = ls at hl ⊢
  have hl : lv_has ls 4 [(0, .ref (zx_h ad))] := hl
  have LOOP : ∀ (n : Nat) (i : Nat), i ≤ 16 → 16 < i + n → ∀ (ls : Array Slot), lv_has ls 4 [(2, .int (nI i)), (1, .int (bx_sum (fun j => zf_sm (zf_rd u j)) i)), (0, .ref (zx_h ad))] → W p l e (headSpec (ws_ yX0_sum cX0_sum 4 (some .int)) ({ frames := 3, cells := 0, slots := 0, locals := 70 })).room s m ([.ref (zx_h ad)] : List Value).toArray below meth c s.heap [] 0 0 (MQ below (QcRead (bx_sum (fun j => zf_sm (zf_rd u j)) 16)) ([.ref (zx_h ad)] : List Value).toArray s 0 0 (fun _ => False)) (F0 m 4 ls []) := by
    intro n
    induction n with
    | zero =>
      intro i h1 h2
      exact absurd h2 (by omega)
    | succ n ih =>
      intro i h1 h2 ls hl
      refine lv_iload_n (pc := 4) hx hb dX0_sum_4 rfl (lv_at hl 0 rfl) ?_
      refine lv_bipush (pc := 5) (v := nI 16) hx hb dX0_sum_5 (by decide) ?_
      refine zr_icmp_ge (pc := 7) (tgt := 34) hx hb (by omega) (by omega) dX0_sum_7 (by decide) (fun c1 => ?_) (fun c1 => ?_)
      · refine lv_iload_n (pc := 34) hx hb dX0_sum_34 rfl (lv_at hl 1 rfl) ?_
        have e : i = 16 := by omega
        subst e
        exact W.iret (pc := 35) hx hb hr (fun t ht _ => zr_retE (rfl) ht) t_nil dX0_sum_35
      · refine lv_aload_n (pc := 10) hx hb dX0_sum_10 rfl (lv_at hl 2 rfl) ?_
        refine lv_iload_n (pc := 11) hx hb dX0_sum_11 rfl (lv_at hl 0 rfl) ?_
        refine zr_callR (pc := 12) (W.runV (As := [.int (nI i)]) (rest := []) ⟨hx, hb, hml, hown, hts⟩ (zx_met_read l ad u hI (nI i)) (cwV 1 hts (lw_V q125 q103 q104 q10 q105) rfl rfl rfl (by decide +kernel) ⟨Nat.le_of_ble_eq_true rfl, Nat.le_of_ble_eq_true rfl⟩) (zx_pre hK hP) rfl rfl hl.1 rfl (lv_room (Nat.le_of_ble_eq_true rfl)) dX0_sum_12 ⟨Nat.le_of_ble_eq_true rfl, Nat.le_of_ble_eq_true rfl⟩) ?_
        refine lv_topi (fun z1 ez1 => ?_)
        obtain rfl : z1 = zf_rd u i := ez1.trans (zx_rd_nI (by omega))
        refine lv_istore_n (pc := 15) (lv' := [(3, .int (zf_rd u i)), (2, .int (nI i)), (1, .int (bx_sum (fun j => zf_sm (zf_rd u j)) i)), (0, .ref (zx_h ad))]) hx hb dX0_sum_15 rfl hl (by decide) rfl (fun ls hl => ?_)
        refine lv_iload_n (pc := 16) hx hb dX0_sum_16 rfl (lv_at hl 2 rfl) ?_
        refine lv_iload_n (pc := 17) hx hb dX0_sum_17 rfl (lv_at hl 0 rfl) ?_
        refine lv_if_le (pc := 18) (tgt := 25) hx hb dX0_sum_18 (by decide) (fun c2 => ?_) (fun c2 => ?_)
        · refine lv_iconst (pc := 25) (v := 0) hx hb dX0_sum_25 (by decide) ?_
          refine lv_iadd (pc := 26) hx hb dX0_sum_26 ?_
          refine lv_topi (fun z2 ez2 => ?_)
          obtain rfl : z2 = bx_sum (fun j => zf_sm (zf_rd u j)) (i + 1) := ez2.trans (by show _ = bx_sum (fun j => zf_sm (zf_rd u j)) i + zf_sm (zf_rd u i); unfold zf_sm; rw [if_neg (fun z => absurd (zf_lt_le z c2) (by decide))])
          refine lv_istore_n (pc := 27) (lv' := [(1, .int (bx_sum (fun j => zf_sm (zf_rd u j)) (i + 1))), (3, .int (zf_rd u i)), (2, .int (nI i)), (0, .ref (zx_h ad))]) hx hb dX0_sum_27 rfl hl (by decide) rfl (fun ls hl => ?_)
          refine lv_iinc (pc := 28) (v := nI (i + 1)) (lv' := [(2, .int (nI (i + 1))), (1, .int (bx_sum (fun j => zf_sm (zf_rd u j)) (i + 1))), (3, .int (zf_rd u i)), (0, .ref (zx_h ad))]) hx hb dX0_sum_28 hl (k := 2) rfl (zr_inc _) (by decide) rfl (fun ls hl => ?_)
          refine lv_goto (pc := 31) (tgt := 4) hx hb dX0_sum_31 (by decide) ?_
          exact ih (i + 1) (by omega) (by omega) ls (lv_sub hl [0, 1, 3] rfl)
        · refine lv_iload_n (pc := 21) hx hb dX0_sum_21 rfl (lv_at hl 0 rfl) ?_
          refine lv_goto (pc := 22) (tgt := 26) hx hb dX0_sum_22 (by decide) ?_
          refine lv_iadd (pc := 26) hx hb dX0_sum_26 ?_
          refine lv_topi (fun z3 ez3 => ?_)
          obtain rfl : z3 = bx_sum (fun j => zf_sm (zf_rd u j)) (i + 1) := ez3.trans (by show _ = bx_sum (fun j => zf_sm (zf_rd u j)) i + zf_sm (zf_rd u i); unfold zf_sm; rw [if_pos (zf_nle c2)])
          refine lv_istore_n (pc := 27) (lv' := [(1, .int (bx_sum (fun j => zf_sm (zf_rd u j)) (i + 1))), (3, .int (zf_rd u i)), (2, .int (nI i)), (0, .ref (zx_h ad))]) hx hb dX0_sum_27 rfl hl (by decide) rfl (fun ls hl => ?_)
          refine lv_iinc (pc := 28) (v := nI (i + 1)) (lv' := [(2, .int (nI (i + 1))), (1, .int (bx_sum (fun j => zf_sm (zf_rd u j)) (i + 1))), (3, .int (zf_rd u i)), (0, .ref (zx_h ad))]) hx hb dX0_sum_28 hl (k := 2) rfl (zr_inc _) (by decide) rfl (fun ls hl => ?_)
          refine lv_goto (pc := 31) (tgt := 4) hx hb dX0_sum_31 (by decide) ?_
          exact ih (i + 1) (by omega) (by omega) ls (lv_sub hl [0, 1, 3] rfl)
  refine lv_iconst (pc := 0) (v := 0) hx hb dX0_sum_0 (by decide) ?_
  refine lv_istore_n (pc := 1) (lv' := [(1, .int 0), (0, .ref (zx_h ad))]) hx hb dX0_sum_1 rfl hl (by decide) rfl (fun ls hl => ?_)
  refine lv_iconst (pc := 2) (v := nI 0) hx hb dX0_sum_2 (by decide) ?_
  refine lv_istore_n (pc := 3) (lv' := [(2, .int (nI 0)), (1, .int 0), (0, .ref (zx_h ad))]) hx hb dX0_sum_3 rfl hl (by decide) rfl (fun ls hl => ?_)
  exact LOOP 17 0 (by omega) (by omega) ls (lv_sub hl [0, 1, 2] rfl)
end
section
/-! the flash's writing methods, walked -/
theorem zx_back {ad : zx_A} {u : zf_S} {H : Heap} {t : State} (hP : zx_P ad u H) (ht : t.heap = H) : zx_P ad u t.heap := by
  rw [ht]
  exact hP
/-- what gather leaves -/
def zf_GP (u : zf_S) (b : Nat) (u1 : zf_S) : Prop := zf_I u1 ∧ zf_F u1 ∧ (∀ s, s < 16 → zf_v u1 s = zf_v u s) ∧ zf_f u1 ≤ zf_f u + zf_lv u b ∧ zf_x u1 ≤ zf_x u + 4 ∧ zf_c u1 = zf_c u
/-- what program leaves -/
def zf_PP (u : zf_S) (sec so : Nat) (cd fl : Int32) (u1 : zf_S) : Prop := zf_I u1 ∧ zf_F u1 ∧ (∀ s, s < 16 → zf_v u1 s = if s = sec then some (so, cd, fl) else zf_v u s) ∧ zf_x u1 ≤ zf_x u + 5
theorem zf_PP_put {u v : zf_S} {sec so : Nat} {cd fl : Int32} (hI : zf_I v) (hF : zf_F v) (hf : zf_f v < 4) (hs : sec < 16) (h1 : 1 ≤ so) (h2 : so ≤ 2) (hv : ∀ s, s < 16 → zf_v v s = zf_v u s) (hx : zf_x v ≤ zf_x u + 4) : zf_PP u sec so cd fl (zf_put v sec so cd fl) := by
  refine ⟨zf_put_I hI hf hs h1 h2, zf_put_F hF hf, fun s hs2 => ?_, ?_⟩
  · rw [zf_put_v hI hf hs2, hv s hs2]
  · show zf_x v + 1 ≤ _
    omega
/-- what write leaves and answers -/
def zf_WP (u : zf_S) (x y : Int32) (r : Int32) (u1 : zf_S) : Prop := (zx_sec x = 0 ∧ r = -1 ∧ u1 = u) ∨ ∃ j, j < 16 ∧ x = nI j ∧ r = 0 ∧ zf_PP u j 1 (zc_enc (y &&& 65535)) 0 u1
/-- what trim leaves and answers -/
def zf_TR (u : zf_S) (x : Int32) (r : Int32) (u1 : zf_S) : Prop := (zx_sec x = 0 ∧ r = -1 ∧ u1 = u) ∨ ∃ j, j < 16 ∧ x = nI j ∧ ((zf_wr u j = 0 ∧ r = -2 ∧ u1 = u) ∨ (¬ zf_wr u j = 0 ∧ r = 0 ∧ zf_PP u j 2 0 0 u1))
abbrev zf_fl (t : Int32) (i : Nat) : Int32 := t ^^^ ((1 : Int32) <<< (nI i &&& 31))
/-- what turn leaves and answers -/
def zf_TU (u : zf_S) (x y : Int32) (r : Int32) (u1 : zf_S) : Prop := ((zx_sec x = 0 ∨ y < 0 ∨ 21 < y) ∧ r = -1 ∧ u1 = u) ∨ ∃ j i, j < 16 ∧ x = nI j ∧ i < 22 ∧ y = nI i ∧ ((zf_wr u j = 0 ∧ r = -2 ∧ u1 = u) ∨ ∃ w t, zf_v u j = some (1, w, t) ∧ ((2 < zc_cnt (bt (zf_fl t i)) 22 ∧ r = -3 ∧ u1 = u) ∨ (zc_cnt (bt (zf_fl t i)) 22 ≤ 2 ∧ r = nI (zc_cnt (bt (zf_fl t i)) 22) ∧ zf_I u1 ∧ zf_F u1 ∧ (∀ s, s < 16 → zf_v u1 s = if s = j then some (1, w, zf_fl t i) else zf_v u s) ∧ zf_x u1 = zf_x u)))
theorem zf_wr_page {u : zf_S} {j : Nat} (h : ¬ zf_wr u j = 0) : ∃ q, zf_n u j = some q ∧ zf_k u q = 1 := by
  cases hn : zf_n u j with
  | none => exact absurd (zf_wr_none hn) h
  | some q =>
    rw [zf_wr_some hn] at h
    by_cases e : zf_k u q = 1
    · exact ⟨q, rfl, e⟩
    · exact absurd (if_neg e) h
theorem zf_turn_v {u : zf_S} {j q : Nat} {t : Int32} (hI : zf_I u) (hj : j < 16) (hn : zf_n u j = some q) (hk : zf_k u q = 1) : ∀ s, s < 16 → zf_v (zf_st u (va_up (zf_t u) q t)) s = if s = j then some (1, zf_w u q, t) else zf_v u s := by
  intro s hs
  show (zf_n u s).map (fun p => (zf_k u p, zf_w u p, va_up (zf_t u) q t p)) = if s = j then some (1, zf_w u q, t) else (zf_n u s).map (fun p => (zf_k u p, zf_w u p, zf_t u p))
  by_cases e : s = j
  · rw [if_pos e, e, hn, Option.map_some, hk, va_up_self]
  · rw [if_neg e]
    cases hs2 : zf_n u s with
    | none => rfl
    | some p =>
      have e1 := (hI.2.2.1 s p hs hs2).2.2
      have e2 := (hI.2.2.1 j q hj hn).2.2
      have ep : p ≠ q := fun z => by
        rw [z, e2] at e1
        exact e e1.symm
      rw [Option.map_some, Option.map_some, va_up_ne _ _ ep]
theorem zf_room3 : ∀ f, f < 5 → ∀ v, v < 5 → ¬ nI 3 - nI f < nI v → f + v ≤ 3 := by decide +kernel
/-- tidy, so far -/
def zf_TD (u v : zf_S) (k : Nat) : Prop := zf_I v ∧ zf_F v ∧ (∀ s, s < 16 → zf_v v s = zf_v u s) ∧ zf_x v ≤ zf_x u + 4 * k
theorem zf_TD_skip {u v : zf_S} {k : Nat} (h : zf_TD u v k) : zf_TD u v (k + 1) := ⟨h.1, h.2.1, h.2.2.1, Nat.le_trans h.2.2.2 (by omega)⟩
theorem zf_TD_go {u v u1 : zf_S} {k b : Nat} (h : zf_TD u v k) (h1 : zf_GP v b u1) : zf_TD u u1 (k + 1) := by
  obtain ⟨-, -, a3, a4⟩ := h
  obtain ⟨b1, b2, b3, -, b5, -⟩ := h1
  exact ⟨b1, b2, fun s hs => by rw [b3 s hs, a3 s hs], by omega⟩

set_option maxHeartbeats 4000000 in
set_option maxRecDepth 100000 in
theorem zx_met_put (l : Launch) (ad : zx_A) (hD : zx_Dj ad) (u : zf_S) (sec so : Nat) (cd fl : Int32) (hc8 : zf_c u < 8) (hf4 : zf_f u < 4) (hsec : sec < 16) : Met l yX0_put (ws_ yX0_put cX0_put 6 none) ({ frames := 0, cells := 0, slots := 0, locals := 0 }) (va_Pc [.ref (zx_h ad), .int (nI sec), .int (nI so), .int cd, .int fl] (zx_I ad u)) (va_Qv (fun u1 : zf_S => u1 = zf_put u sec so cd fl) (fun (u1 : zf_S) (t : State) => zx_P ad u1 t.heap) (zx_Ad ad)) 0 0 (zx_Ad ad) := by
  refine Met.ofW (cc := cX0_put) (maxL := 6) (ret := none) (by decide) rfl ?_
  intro p e s m args below meth c s₁ B hml hv
  obtain ⟨rfl, hP, hK⟩ := hv
  have hx := B.exec
  have hb := B.bytes
  have hr := B.returns
  have hts := atoms_spec (ws := (ws_ yX0_put cX0_put 6 none)) B.pre
  have hts : ∀ w ∈ lw_all, w.before _ s = true := fun w h => hts w (List.mem_cons_of_mem _ h)
  have hown : s.vm.findClass RX0 = some m.cls := findClass_of_methodNamed B.named
  have hlocks := B.notSynchronized
  have E : zx_E s m _ ad := ⟨hts, hown, hK⟩
  have hS : va_S (zx_Ad ad) s.heap s.heap [] := va_S.rf
  have hl := lv_entry ([.ref (zx_h ad), .int (nI sec), .int (nI so), .int cd, .int fl]) (n := 6) (Nat.le_of_ble_eq_true rfl)
  rw [lg_entry_eq]
  generalize (lg_sl ([.ref (zx_h ad), .int (nI sec), .int (nI so), .int cd, .int fl]) ++ List.replicate (6 - (lg_sl ([.ref (zx_h ad), .int (nI sec), .int (nI so), .int cd, .int fl])).length) Slot.unset).toArray = ls at hl ⊢
  have hl : lv_has ls 6 [(0, .ref (zx_h ad)), (1, .int (nI sec)), (2, .int (nI so)), (3, .int cd), (4, .int fl)] := hl
  refine lv_iconst (pc := 0) (v := nI 4) hx hb dX0_put_0 (by decide) ?_
  refine lv_aload_n (pc := 1) hx hb dX0_put_1 rfl (lv_at hl 0 rfl) ?_
  refine zx_gc (pc := 2) hx hb E hP dX0_put_2 ?_
  refine zr_imul (pc := 5) hx hb dX0_put_5 ?_
  refine lv_aload_n (pc := 6) hx hb dX0_put_6 rfl (lv_at hl 0 rfl) ?_
  refine zx_gf (pc := 7) hx hb E hP dX0_put_7 ?_
  refine zr_iadd (pc := 10) hx hb dX0_put_10 ?_
  refine lv_istore (pc := 11) (lv' := [(5, .int (nI ((4 * (zf_c u)) + (zf_f u)))), (0, .ref (zx_h ad)), (1, .int (nI sec)), (2, .int (nI so)), (3, .int cd), (4, .int fl)]) hx hb dX0_put_11 hl (by decide) rfl (fun ls hl => ?_)
  refine lv_aload_n (pc := 13) hx hb dX0_put_13 rfl (lv_at hl 1 rfl) ?_
  refine zx_g1 (pc := 14) hx hb E hP dX0_put_14 ?_
  refine lv_iload (pc := 17) hx hb dX0_put_17 (lv_at hl 0 rfl) ?_
  refine lv_iload_n (pc := 19) hx hb dX0_put_19 rfl (lv_at hl 3 rfl) ?_
  refine zx_s1 (pc := 20) hx hb E hD hP hS (by omega) dX0_put_20 (fun H locs hP hS => ?_)
  have hP : zx_P ad (va_up (zf_k u) ((4 * (zf_c u)) + (zf_f u)) so, zf_o u, zf_s u, zf_w u, zf_t u, zf_n u, zf_c u, zf_f u, zf_x u) H := hP
  refine lv_aload_n (pc := 21) hx hb dX0_put_21 rfl (lv_at hl 1 rfl) ?_
  refine zx_g2 (pc := 22) hx hb E hP dX0_put_22 ?_
  refine lv_iload (pc := 25) hx hb dX0_put_25 (lv_at hl 0 rfl) ?_
  refine lv_iload_n (pc := 27) hx hb dX0_put_27 rfl (lv_at hl 2 rfl) ?_
  refine zx_s2 (pc := 28) hx hb E hD hP hS (by omega) dX0_put_28 (fun H locs hP hS => ?_)
  have hP : zx_P ad (va_up (zf_k u) ((4 * (zf_c u)) + (zf_f u)) so, va_up (zf_o u) ((4 * (zf_c u)) + (zf_f u)) sec, zf_s u, zf_w u, zf_t u, zf_n u, zf_c u, zf_f u, zf_x u) H := hP
  refine lv_aload_n (pc := 29) hx hb dX0_put_29 rfl (lv_at hl 1 rfl) ?_
  refine zx_g3 (pc := 30) hx hb E hP dX0_put_30 ?_
  refine lv_iload (pc := 33) hx hb dX0_put_33 (lv_at hl 0 rfl) ?_
  refine lv_aload_n (pc := 35) hx hb dX0_put_35 rfl (lv_at hl 1 rfl) ?_
  refine zx_gx (pc := 36) hx hb E hP dX0_put_36 ?_
  refine zx_s3 (pc := 39) hx hb E hD hP hS (by omega) dX0_put_39 (fun H locs hP hS => ?_)
  have hP : zx_P ad (va_up (zf_k u) ((4 * (zf_c u)) + (zf_f u)) so, va_up (zf_o u) ((4 * (zf_c u)) + (zf_f u)) sec, va_up (zf_s u) ((4 * (zf_c u)) + (zf_f u)) (zf_x u), zf_w u, zf_t u, zf_n u, zf_c u, zf_f u, zf_x u) H := hP
  refine lv_aload_n (pc := 40) hx hb dX0_put_40 rfl (lv_at hl 1 rfl) ?_
  refine zx_g4 (pc := 41) hx hb E hP dX0_put_41 ?_
  refine lv_iload (pc := 44) hx hb dX0_put_44 (lv_at hl 0 rfl) ?_
  refine lv_iload_n (pc := 46) hx hb dX0_put_46 rfl (lv_at hl 4 rfl) ?_
  refine zx_s4 (pc := 47) hx hb E hD hP hS (by omega) dX0_put_47 (fun H locs hP hS => ?_)
  have hP : zx_P ad (va_up (zf_k u) ((4 * (zf_c u)) + (zf_f u)) so, va_up (zf_o u) ((4 * (zf_c u)) + (zf_f u)) sec, va_up (zf_s u) ((4 * (zf_c u)) + (zf_f u)) (zf_x u), va_up (zf_w u) ((4 * (zf_c u)) + (zf_f u)) cd, zf_t u, zf_n u, zf_c u, zf_f u, zf_x u) H := hP
  refine lv_aload_n (pc := 48) hx hb dX0_put_48 rfl (lv_at hl 1 rfl) ?_
  refine zx_g5 (pc := 49) hx hb E hP dX0_put_49 ?_
  refine lv_iload (pc := 52) hx hb dX0_put_52 (lv_at hl 0 rfl) ?_
  refine lv_iload (pc := 54) hx hb dX0_put_54 (lv_at hl 5 rfl) ?_
  refine zx_s5 (pc := 56) hx hb E hD hP hS (by omega) dX0_put_56 (fun H locs hP hS => ?_)
  have hP : zx_P ad (va_up (zf_k u) ((4 * (zf_c u)) + (zf_f u)) so, va_up (zf_o u) ((4 * (zf_c u)) + (zf_f u)) sec, va_up (zf_s u) ((4 * (zf_c u)) + (zf_f u)) (zf_x u), va_up (zf_w u) ((4 * (zf_c u)) + (zf_f u)) cd, va_up (zf_t u) ((4 * (zf_c u)) + (zf_f u)) fl, zf_n u, zf_c u, zf_f u, zf_x u) H := hP
  refine lv_aload_n (pc := 57) hx hb dX0_put_57 rfl (lv_at hl 1 rfl) ?_
  refine lv_dup (pc := 58) hx hb dX0_put_58 rfl ?_
  refine zx_gx (pc := 59) hx hb E hP dX0_put_59 ?_
  refine lv_lconst (pc := 62) (v := lN 1) hx hb dX0_put_62 (by decide) ?_
  refine lv_ladd (pc := 63) hx hb dX0_put_63 ?_
  rw [lN_add]
  refine zx_px (pc := 64) hx hb E hD hP hS dX0_put_64 (fun H locs hP hS => ?_)
  have hP : zx_P ad (va_up (zf_k u) ((4 * (zf_c u)) + (zf_f u)) so, va_up (zf_o u) ((4 * (zf_c u)) + (zf_f u)) sec, va_up (zf_s u) ((4 * (zf_c u)) + (zf_f u)) (zf_x u), va_up (zf_w u) ((4 * (zf_c u)) + (zf_f u)) cd, va_up (zf_t u) ((4 * (zf_c u)) + (zf_f u)) fl, zf_n u, zf_c u, zf_f u, ((zf_x u) + 1)) H := hP
  refine lv_aload_n (pc := 67) hx hb dX0_put_67 rfl (lv_at hl 1 rfl) ?_
  refine lv_dup (pc := 68) hx hb dX0_put_68 rfl ?_
  refine zx_gf (pc := 69) hx hb E hP dX0_put_69 ?_
  refine lv_iconst (pc := 72) (v := nI 1) hx hb dX0_put_72 (by decide) ?_
  refine zr_iadd (pc := 73) hx hb dX0_put_73 ?_
  refine zx_pf (pc := 74) hx hb E hD hP hS dX0_put_74 (fun H locs hP hS => ?_)
  have hP : zx_P ad (va_up (zf_k u) ((4 * (zf_c u)) + (zf_f u)) so, va_up (zf_o u) ((4 * (zf_c u)) + (zf_f u)) sec, va_up (zf_s u) ((4 * (zf_c u)) + (zf_f u)) (zf_x u), va_up (zf_w u) ((4 * (zf_c u)) + (zf_f u)) cd, va_up (zf_t u) ((4 * (zf_c u)) + (zf_f u)) fl, zf_n u, zf_c u, ((zf_f u) + 1), ((zf_x u) + 1)) H := hP
  refine lv_aload_n (pc := 77) hx hb dX0_put_77 rfl (lv_at hl 1 rfl) ?_
  refine zx_g6 (pc := 78) hx hb E hP dX0_put_78 ?_
  refine lv_iload_n (pc := 81) hx hb dX0_put_81 rfl (lv_at hl 2 rfl) ?_
  refine lv_iload (pc := 82) hx hb dX0_put_82 (lv_at hl 0 rfl) ?_
  refine zx_s6 (pc := 84) (v := (some ((4 * (zf_c u)) + (zf_f u)))) hx hb E hD hP hS (by omega) dX0_put_84 (fun H locs hP hS => ?_)
  have hP : zx_P ad (va_up (zf_k u) ((4 * (zf_c u)) + (zf_f u)) so, va_up (zf_o u) ((4 * (zf_c u)) + (zf_f u)) sec, va_up (zf_s u) ((4 * (zf_c u)) + (zf_f u)) (zf_x u), va_up (zf_w u) ((4 * (zf_c u)) + (zf_f u)) cd, va_up (zf_t u) ((4 * (zf_c u)) + (zf_f u)) fl, va_up (zf_n u) sec (some ((4 * (zf_c u)) + (zf_f u))), zf_c u, ((zf_f u) + 1), ((zf_x u) + 1)) H := hP
  exact W.vret (pc := 85) hx hb hr (fun t ht _ => ⟨⟨zf_put u sec so cd fl, rfl, rfl, zx_back hP ht⟩, hS.F ht⟩) hS.2.2 dX0_put_85

set_option maxHeartbeats 4000000 in
set_option maxRecDepth 100000 in
theorem zx_met_gather (l : Launch) (ad : zx_A) (hD : zx_Dj ad) (u : zf_S) (hI : zf_I u) (b : Nat) (hb8 : b < 8) (hbc : b ≠ zf_c u) (hr4 : zf_f u + zf_lv u b ≤ 4) : Met l yX0_gather (ws_ yX0_gather cX0_gather 3 none) ({ frames := 1, cells := 0, slots := 0, locals := 25 }) (va_Pc [.ref (zx_h ad), .int (nI b)] (zx_I ad u)) (va_Qv (fun u1 : zf_S => zf_GP u b u1) (fun (u1 : zf_S) (t : State) => zx_P ad u1 t.heap) (zx_Ad ad)) 0 0 (zx_Ad ad) := by
  refine Met.ofW (cc := cX0_gather) (maxL := 3) (ret := none) (by decide) rfl ?_
  intro p e s m args below meth c s₁ B hml hv
  obtain ⟨rfl, hP, hK⟩ := hv
  have hx := B.exec
  have hb := B.bytes
  have hr := B.returns
  have hts := atoms_spec (ws := (ws_ yX0_gather cX0_gather 3 none)) B.pre
  have hts : ∀ w ∈ lw_all, w.before _ s = true := fun w h => hts w (List.mem_cons_of_mem _ h)
  have hown : s.vm.findClass RX0 = some m.cls := findClass_of_methodNamed B.named
  have hlocks := B.notSynchronized
  have E : zx_E s m _ ad := ⟨hts, hown, hK⟩
  have hS : va_S (zx_Ad ad) s.heap s.heap [] := va_S.rf
  have hl := lv_entry ([.ref (zx_h ad), .int (nI b)]) (n := 3) (Nat.le_of_ble_eq_true rfl)
  rw [lg_entry_eq]
  generalize (lg_sl ([.ref (zx_h ad), .int (nI b)]) ++ List.replicate (3 - (lg_sl ([.ref (zx_h ad), .int (nI b)])).length) Slot.unset).toArray = ls at hl ⊢
  have hl : lv_has ls 3 [(0, .ref (zx_h ad)), (1, .int (nI b))] := hl
  have LOOP2 : ∀ (n : Nat) (j : Nat) (v : zf_S) (H : Heap) (locs : List Loc), zf_G u v b 4 → j ≤ 4 → 4 < j + n → zx_P ad (zf_sk v (zf_er (zf_k v) b j)) H → va_S (zx_Ad ad) s.heap H locs → ∀ (ls : Array Slot), lv_has ls 3 [(2, .int (nI (4 * b + j))), (1, .int (nI b)), (0, .ref (zx_h ad))] → W p l e (headSpec (ws_ yX0_gather cX0_gather 3 none) ({ frames := 1, cells := 0, slots := 0, locals := 25 })).room s m ([.ref (zx_h ad), .int (nI b)] : List Value).toArray below meth c H locs 0 0 (MQ below (va_Qv (fun u1 : zf_S => zf_GP u b u1) (fun (u1 : zf_S) (t : State) => zx_P ad u1 t.heap) (zx_Ad ad)) ([.ref (zx_h ad), .int (nI b)] : List Value).toArray s 0 0 (zx_Ad ad)) (F0 m 88 ls []) := by
    intro n
    induction n with
    | zero =>
      intro j v H locs hG h1 h2 hP hS
      exact absurd h2 (by omega)
    | succ n ih =>
      intro j v H locs hG h1 h2 hP hS ls hl
      refine lv_iload_n (pc := 88) hx hb dX0_gather_88 rfl (lv_at hl 0 rfl) ?_
      refine lv_iconst (pc := 89) (v := nI 4) hx hb dX0_gather_89 (by decide) ?_
      refine lv_iload_n (pc := 90) hx hb dX0_gather_90 rfl (lv_at hl 1 rfl) ?_
      refine zr_imul (pc := 91) hx hb dX0_gather_91 ?_
      refine lv_iconst (pc := 92) (v := nI 4) hx hb dX0_gather_92 (by decide) ?_
      refine zr_iadd (pc := 93) hx hb dX0_gather_93 ?_
      refine zr_icmp_ge (pc := 94) (tgt := 110) hx hb (by omega) (by omega) dX0_gather_94 (by decide) (fun c1 => ?_) (fun c1 => ?_)
      · have e : j = 4 := by omega
        subst e
        exact W.vret (pc := 110) hx hb hr (fun t ht _ => ⟨⟨_, rfl, zf_G_end hG hb8 hbc, zx_back hP ht⟩, hS.F ht⟩) hS.2.2 dX0_gather_110
      · refine lv_aload_n (pc := 97) hx hb dX0_gather_97 rfl (lv_at hl 2 rfl) ?_
        refine zx_g1 (pc := 98) hx hb E hP dX0_gather_98 ?_
        refine lv_iload_n (pc := 101) hx hb dX0_gather_101 rfl (lv_at hl 0 rfl) ?_
        refine lv_iconst (pc := 102) (v := nI 0) hx hb dX0_gather_102 (by decide) ?_
        refine zx_s1 (pc := 103) hx hb E hD hP hS (by omega) dX0_gather_103 (fun H locs hP hS => ?_)
        have hP : zx_P ad (va_up (zf_er (zf_k v) b j) (4 * b + j) 0, zf_o v, zf_s v, zf_w v, zf_t v, zf_n v, zf_c v, zf_f v, zf_x v) H := hP
        have hP : zx_P ad (zf_sk v (zf_er (zf_k v) b (j + 1))) H := by rw [← zf_er_up]; exact hP
        refine lv_iinc (pc := 104) (v := nI ((4 * b + j) + 1)) (lv' := [(2, .int (nI ((4 * b + j) + 1))), (1, .int (nI b)), (0, .ref (zx_h ad))]) hx hb dX0_gather_104 hl (k := 0) rfl (zr_inc _) (by decide) rfl (fun ls hl => ?_)
        refine lv_goto (pc := 107) (tgt := 88) hx hb dX0_gather_107 (by decide) ?_
        exact ih (j + 1) v H locs hG (by omega) (by omega) hP hS ls (lv_sub hl [0, 1, 2] rfl)
  have LOOP1 : ∀ (n : Nat) (j : Nat) (v : zf_S) (H : Heap) (locs : List Loc), zf_G u v b j → j ≤ 4 → 4 < j + n → zx_P ad v H → va_S (zx_Ad ad) s.heap H locs → ∀ (ls : Array Slot), lv_has ls 3 [(2, .int (nI (4 * b + j))), (1, .int (nI b)), (0, .ref (zx_h ad))] → W p l e (headSpec (ws_ yX0_gather cX0_gather 3 none) ({ frames := 1, cells := 0, slots := 0, locals := 25 })).room s m ([.ref (zx_h ad), .int (nI b)] : List Value).toArray below meth c H locs 0 0 (MQ below (va_Qv (fun u1 : zf_S => zf_GP u b u1) (fun (u1 : zf_S) (t : State) => zx_P ad u1 t.heap) (zx_Ad ad)) ([.ref (zx_h ad), .int (nI b)] : List Value).toArray s 0 0 (zx_Ad ad)) (F0 m 9 ls []) := by
    intro n
    induction n with
    | zero =>
      intro j v H locs hG h1 h2 hP hS
      exact absurd h2 (by omega)
    | succ n ih =>
      intro j v H locs hG h1 h2 hP hS ls hl
      have hV : zf_I v := hG.1
      have hf4 : zf_f v ≤ 4 := hV.2.1.2.1
      have hc8 : zf_c v < 8 := hV.2.1.1
      refine lv_iload_n (pc := 9) hx hb dX0_gather_9 rfl (lv_at hl 0 rfl) ?_
      refine lv_iconst (pc := 10) (v := nI 4) hx hb dX0_gather_10 (by decide) ?_
      refine lv_iload_n (pc := 11) hx hb dX0_gather_11 rfl (lv_at hl 1 rfl) ?_
      refine zr_imul (pc := 12) hx hb dX0_gather_12 ?_
      refine lv_iconst (pc := 13) (v := nI 4) hx hb dX0_gather_13 (by decide) ?_
      refine zr_iadd (pc := 14) hx hb dX0_gather_14 ?_
      refine zr_icmp_ge (pc := 15) (tgt := 84) hx hb (by omega) (by omega) dX0_gather_15 (by decide) (fun c1 => ?_) (fun c1 => ?_)
      · have e : j = 4 := by omega
        subst e
        refine lv_iconst (pc := 84) (v := nI 4) hx hb dX0_gather_84 (by decide) ?_
        refine lv_iload_n (pc := 85) hx hb dX0_gather_85 rfl (lv_at hl 1 rfl) ?_
        refine zr_imul (pc := 86) hx hb dX0_gather_86 ?_
        refine lv_istore_n (pc := 87) (lv' := [(2, .int (nI (4 * b))), (1, .int (nI b)), (0, .ref (zx_h ad))]) hx hb dX0_gather_87 rfl hl (by decide) rfl (fun ls hl => ?_)
        have hP : zx_P ad (zf_sk v (zf_er (zf_k v) b 0)) H := by rw [zf_er_0]; exact hP
        exact LOOP2 5 0 v H locs hG (by omega) (by omega) hP hS ls (lv_sub hl [0, 1, 2] rfl)
      · refine lv_aload_n (pc := 18) hx hb dX0_gather_18 rfl (lv_at hl 2 rfl) ?_
        refine zx_g1 (pc := 19) hx hb E hP dX0_gather_19 ?_
        refine lv_iload_n (pc := 22) hx hb dX0_gather_22 rfl (lv_at hl 0 rfl) ?_
        refine zx_l1 (pc := 23) hx hb E hP (by omega) dX0_gather_23 ?_
        refine zr_if_eq (pc := 24) (tgt := 78) hx hb (Nat.lt_of_le_of_lt (hV.1.1 _ (by omega)) (by omega)) dX0_gather_24 (by decide) (fun c2 => ?_) (fun c2 => ?_)
        · refine lv_iinc (pc := 78) (v := nI ((4 * b + j) + 1)) (lv' := [(2, .int (nI ((4 * b + j) + 1))), (1, .int (nI b)), (0, .ref (zx_h ad))]) hx hb dX0_gather_78 hl (k := 0) rfl (zr_inc _) (by decide) rfl (fun ls hl => ?_)
          refine lv_goto (pc := 81) (tgt := 9) hx hb dX0_gather_81 (by decide) ?_
          exact ih (j + 1) v H locs (zf_G_skip hG (by omega) (zf_dead0 c2)) (by omega) (by omega) hP hS ls (lv_sub hl [0, 1, 2] rfl)
        · have ho := (hV.1.2.1 _ (by omega) c2).1
          refine lv_aload_n (pc := 27) hx hb dX0_gather_27 rfl (lv_at hl 2 rfl) ?_
          refine zx_g6 (pc := 28) hx hb E hP dX0_gather_28 ?_
          refine lv_aload_n (pc := 31) hx hb dX0_gather_31 rfl (lv_at hl 2 rfl) ?_
          refine zx_g2 (pc := 32) hx hb E hP dX0_gather_32 ?_
          refine lv_iload_n (pc := 35) hx hb dX0_gather_35 rfl (lv_at hl 0 rfl) ?_
          refine zx_l2 (pc := 36) hx hb E hP (by omega) dX0_gather_36 ?_
          refine zx_l6 (pc := 37) hx hb E hP (ho) dX0_gather_37 ?_
          refine lv_iload_n (pc := 38) hx hb dX0_gather_38 rfl (lv_at hl 0 rfl) ?_
          refine zr_nicmp_ne (pc := 39) (tgt := 78) hx hb (fun q hq => Nat.lt_trans (hV.2.2.1 _ q (ho) hq).1 (by omega)) (by omega) dX0_gather_39 (by decide) (fun c3 => ?_) (fun c3 => ?_)
          · refine lv_iinc (pc := 78) (v := nI ((4 * b + j) + 1)) (lv' := [(2, .int (nI ((4 * b + j) + 1))), (1, .int (nI b)), (0, .ref (zx_h ad))]) hx hb dX0_gather_78 hl (k := 0) rfl (zr_inc _) (by decide) rfl (fun ls hl => ?_)
            refine lv_goto (pc := 81) (tgt := 9) hx hb dX0_gather_81 (by decide) ?_
            exact ih (j + 1) v H locs (zf_G_skip hG (by omega) (zf_dead1 c3)) (by omega) (by omega) hP hS ls (lv_sub hl [0, 1, 2] rfl)
          · have hlv : zf_live v (4 * b + j) = true := zf_lvK_iff.mpr ⟨c2, c3⟩
            have hroom := zf_G_room hG (by omega) hlv hr4
            refine lv_aload_n (pc := 42) hx hb dX0_gather_42 rfl (lv_at hl 2 rfl) ?_
            refine zx_gf (pc := 43) hx hb E hP dX0_gather_43 ?_
            refine lv_iconst (pc := 46) (v := nI 4) hx hb dX0_gather_46 (by decide) ?_
            refine zr_icmp_ge (pc := 47) (tgt := 78) hx hb (by omega) (by omega) dX0_gather_47 (by decide) (fun c4 => ?_) (fun c4 => ?_)
            · exact absurd c4 (by omega)
            · refine lv_aload_n (pc := 50) hx hb dX0_gather_50 rfl (lv_at hl 2 rfl) ?_
              refine lv_aload_n (pc := 51) hx hb dX0_gather_51 rfl (lv_at hl 2 rfl) ?_
              refine zx_g2 (pc := 52) hx hb E hP dX0_gather_52 ?_
              refine lv_iload_n (pc := 55) hx hb dX0_gather_55 rfl (lv_at hl 0 rfl) ?_
              refine zx_l2 (pc := 56) hx hb E hP (by omega) dX0_gather_56 ?_
              refine lv_aload_n (pc := 57) hx hb dX0_gather_57 rfl (lv_at hl 2 rfl) ?_
              refine zx_g1 (pc := 58) hx hb E hP dX0_gather_58 ?_
              refine lv_iload_n (pc := 61) hx hb dX0_gather_61 rfl (lv_at hl 0 rfl) ?_
              refine zx_l1 (pc := 62) hx hb E hP (by omega) dX0_gather_62 ?_
              refine lv_aload_n (pc := 63) hx hb dX0_gather_63 rfl (lv_at hl 2 rfl) ?_
              refine zx_g4 (pc := 64) hx hb E hP dX0_gather_64 ?_
              refine lv_iload_n (pc := 67) hx hb dX0_gather_67 rfl (lv_at hl 0 rfl) ?_
              refine zx_l4 (pc := 68) hx hb E hP (by omega) dX0_gather_68 ?_
              refine lv_aload_n (pc := 69) hx hb dX0_gather_69 rfl (lv_at hl 2 rfl) ?_
              refine zx_g5 (pc := 70) hx hb E hP dX0_gather_70 ?_
              refine lv_iload_n (pc := 73) hx hb dX0_gather_73 rfl (lv_at hl 0 rfl) ?_
              refine zx_l5 (pc := 74) hx hb E hP (by omega) dX0_gather_74 ?_
              refine va_callv (pc := 75) (va_runV (As := [.int (nI (zf_o v (4 * b + j))), .int (nI (zf_k v (4 * b + j))), .int (zf_w v (4 * b + j)), .int (zf_t v (4 * b + j))]) (rest := []) ⟨hx, hb, hml, hown, hts⟩ (zx_met_put l ad hD v (zf_o v (4 * b + j)) (zf_k v (4 * b + j)) (zf_w v (4 * b + j)) (zf_t v (4 * b + j)) hc8 c4 ho) (cwV 4 hts (lw_V q98 q100 qs6 q10 q101) rfl rfl rfl (by decide +kernel) ⟨Nat.le_of_ble_eq_true rfl, Nat.le_of_ble_eq_true rfl⟩) (zx_pre hK hP) rfl rfl hl.1 rfl (lv_room (Nat.le_of_ble_eq_true rfl)) dX0_gather_75 ⟨Nat.le_of_ble_eq_true rfl, Nat.le_of_ble_eq_true rfl⟩) hS (fun _ _ h => h) (fun _ h => h) (fun u1 t H1 locs ht hvm hw hP hz1 hk1 hS => ?_)
              have hP : zx_P ad u1 t.heap := hP
              rw [ht] at hP
              clear ht hvm hz1 hk1
              generalize H1 = H at hP hS ⊢
              refine lv_iinc (pc := 78) (v := nI ((4 * b + j) + 1)) (lv' := [(2, .int (nI ((4 * b + j) + 1))), (1, .int (nI b)), (0, .ref (zx_h ad))]) hx hb dX0_gather_78 hl (k := 0) rfl (zr_inc _) (by decide) rfl (fun ls hl => ?_)
              refine lv_goto (pc := 81) (tgt := 9) hx hb dX0_gather_81 (by decide) ?_
              exact ih (j + 1) u1 H locs (by rw [hw]; exact zf_G_put hG hb8 hbc (by omega) hlv hr4) (by omega) (by omega) hP hS ls (lv_sub hl [0, 1, 2] rfl)
  refine lv_iload_n (pc := 0) hx hb dX0_gather_0 rfl (lv_at hl 1 rfl) ?_
  refine lv_if_ge (pc := 1) (tgt := 5) hx hb dX0_gather_1 (by decide) (fun c0 => ?_) (fun c0 => ?_)
  · refine lv_iconst (pc := 5) (v := nI 4) hx hb dX0_gather_5 (by decide) ?_
    refine lv_iload_n (pc := 6) hx hb dX0_gather_6 rfl (lv_at hl 1 rfl) ?_
    refine zr_imul (pc := 7) hx hb dX0_gather_7 ?_
    refine lv_istore_n (pc := 8) (lv' := [(2, .int (nI (4 * b))), (0, .ref (zx_h ad)), (1, .int (nI b))]) hx hb dX0_gather_8 rfl hl (by decide) rfl (fun ls hl => ?_)
    exact LOOP1 5 0 u s.heap [] (zf_G_0 hI) (by omega) (by omega) hP hS ls (lv_sub hl [0, 2, 1] rfl)
  · exact absurd (nI_pos' (by omega)) c0

set_option maxHeartbeats 4000000 in
set_option maxRecDepth 100000 in
theorem zx_met_program (l : Launch) (ad : zx_A) (hD : zx_Dj ad) (u : zf_S) (hI : zf_I u) (hF : zf_F u) (sec so : Nat) (cd fl : Int32) (hsec : sec < 16) (hs1 : 1 ≤ so) (hs2 : so ≤ 2) : Met l yX0_program (ws_ yX0_program cX0_program 6 none) ({ frames := 2, cells := 0, slots := 0, locals := 47 }) (va_Pc [.ref (zx_h ad), .int (nI sec), .int (nI so), .int cd, .int fl] (zx_I ad u)) (va_Qv (fun u1 : zf_S => zf_PP u sec so cd fl u1) (fun (u1 : zf_S) (t : State) => zx_P ad u1 t.heap) (zx_Ad ad)) 0 0 (zx_Ad ad) := by
  refine Met.ofW (cc := cX0_program) (maxL := 6) (ret := none) (by decide) rfl ?_
  intro p e s m args below meth c s₁ B hml hv
  obtain ⟨rfl, hP, hK⟩ := hv
  have hx := B.exec
  have hb := B.bytes
  have hr := B.returns
  have hts := atoms_spec (ws := (ws_ yX0_program cX0_program 6 none)) B.pre
  have hts : ∀ w ∈ lw_all, w.before _ s = true := fun w h => hts w (List.mem_cons_of_mem _ h)
  have hown : s.vm.findClass RX0 = some m.cls := findClass_of_methodNamed B.named
  have hlocks := B.notSynchronized
  have E : zx_E s m _ ad := ⟨hts, hown, hK⟩
  have hS : va_S (zx_Ad ad) s.heap s.heap [] := va_S.rf
  have hl := lv_entry ([.ref (zx_h ad), .int (nI sec), .int (nI so), .int cd, .int fl]) (n := 6) (Nat.le_of_ble_eq_true rfl)
  rw [lg_entry_eq]
  generalize (lg_sl ([.ref (zx_h ad), .int (nI sec), .int (nI so), .int cd, .int fl]) ++ List.replicate (6 - (lg_sl ([.ref (zx_h ad), .int (nI sec), .int (nI so), .int cd, .int fl])).length) Slot.unset).toArray = ls at hl ⊢
  have hl : lv_has ls 6 [(0, .ref (zx_h ad)), (1, .int (nI sec)), (2, .int (nI so)), (3, .int cd), (4, .int fl)] := hl
  have hc8 : zf_c u < 8 := hI.2.1.1
  have hf4 : zf_f u ≤ 4 := hI.2.1.2.1
  refine lv_aload_n (pc := 0) hx hb dX0_program_0 rfl (lv_at hl 0 rfl) ?_
  refine zx_gf (pc := 1) hx hb E hP dX0_program_1 ?_
  refine lv_iconst (pc := 4) (v := nI 4) hx hb dX0_program_4 (by decide) ?_
  refine zr_icmp_ne (pc := 5) (tgt := 40) hx hb (by omega) (by omega) dX0_program_5 (by decide) (fun c1 => ?_) (fun c1 => ?_)
  · have hlt : zf_f u < 4 := by omega
    refine lv_aload_n (pc := 40) hx hb dX0_program_40 rfl (lv_at hl 0 rfl) ?_
    refine lv_iload_n (pc := 41) hx hb dX0_program_41 rfl (lv_at hl 1 rfl) ?_
    refine lv_iload_n (pc := 42) hx hb dX0_program_42 rfl (lv_at hl 2 rfl) ?_
    refine lv_iload_n (pc := 43) hx hb dX0_program_43 rfl (lv_at hl 3 rfl) ?_
    refine lv_iload (pc := 44) hx hb dX0_program_44 (lv_at hl 4 rfl) ?_
    refine va_callv (pc := 46) (va_runV (As := [.int (nI sec), .int (nI so), .int cd, .int fl]) (rest := []) ⟨hx, hb, hml, hown, hts⟩ (zx_met_put l ad hD u sec so cd fl (hc8) (hlt) hsec) (cwV 4 hts (lw_V q98 q100 qs6 q10 q101) rfl rfl rfl (by decide +kernel) ⟨Nat.le_of_ble_eq_true rfl, Nat.le_of_ble_eq_true rfl⟩) (zx_pre hK hP) rfl rfl hl.1 rfl (lv_room (Nat.le_of_ble_eq_true rfl)) dX0_program_46 ⟨Nat.le_of_ble_eq_true rfl, Nat.le_of_ble_eq_true rfl⟩) hS (fun _ _ h => h) (fun _ h => h) (fun u9 t H1 locs ht hvm hw hP hz1 hk1 hS => ?_)
    have hP : zx_P ad u9 t.heap := hP
    rw [ht] at hP
    clear ht hvm hz1 hk1
    generalize H1 = H at hP hS ⊢
    exact W.vret (pc := 49) hx hb hr (fun t ht _ => ⟨⟨u9, rfl, by rw [hw]; exact zf_PP_put (hI) (hF) (hlt) hsec hs1 hs2 (fun _ _ => rfl) (Nat.le_add_right _ _), zx_back hP ht⟩, hS.F ht⟩) hS.2.2 dX0_program_49
  · refine lv_aload_n (pc := 8) hx hb dX0_program_8 rfl (lv_at hl 0 rfl) ?_
    refine lv_aload_n (pc := 9) hx hb dX0_program_9 rfl (lv_at hl 0 rfl) ?_
    refine vp_callSi (pc := 10) (W.runV (As := []) (rest := [.ref (zx_h ad)]) ⟨hx, hb, hml, hown, hts⟩ (zx_met_freeBlock l ad u hI) (cwV 0 hts (lw_V q82 q84 qs2 q10 q85) rfl rfl rfl (by decide +kernel) ⟨Nat.le_of_ble_eq_true rfl, Nat.le_of_ble_eq_true rfl⟩) (zx_pre hK hP) rfl rfl hl.1 rfl (lv_room (Nat.le_of_ble_eq_true rfl)) dX0_program_10 ⟨Nat.le_of_ble_eq_true rfl, Nat.le_of_ble_eq_true rfl⟩) (fun r0 ⟨o, hr0, ho⟩ => ?_)
    subst hr0
    obtain ⟨b0, rfl⟩ : ∃ b0, o = some b0 := by
      cases o with
      | none =>
        obtain ⟨b9, k1, k2, k3⟩ := hF
        exact absurd k3 (ho.1 rfl b9 k1 k2)
      | some b9 => exact ⟨b9, rfl⟩
    obtain ⟨g1, g2, g3⟩ := ho.2 b0 rfl
    rw [zr_nw_some]
    refine zx_pc (pc := 13) hx hb E hD hP hS dX0_program_13 (fun H locs hP hS => ?_)
    have hP : zx_P ad (zf_k u, zf_o u, zf_s u, zf_w u, zf_t u, zf_n u, b0, zf_f u, zf_x u) H := hP
    refine lv_aload_n (pc := 16) hx hb dX0_program_16 rfl (lv_at hl 0 rfl) ?_
    refine lv_iconst (pc := 17) (v := nI 0) hx hb dX0_program_17 (by decide) ?_
    refine zx_pf (pc := 18) hx hb E hD hP hS dX0_program_18 (fun H locs hP hS => ?_)
    have hP : zx_P ad (zf_k u, zf_o u, zf_s u, zf_w u, zf_t u, zf_n u, b0, 0, zf_x u) H := hP
    obtain ⟨v, hv⟩ : ∃ v, v = zf_sf (zf_sc u b0) 0 := ⟨_, rfl⟩
    have hP : zx_P ad v H := by rw [hv]; exact hP
    have hV : zf_I v := by rw [hv]; exact zf_switch_I hI c1 g1 g3 g2
    have hvv : ∀ s, s < 16 → zf_v v s = zf_v u s := fun s _ => by rw [hv]; rfl
    have hvx : zf_x v = zf_x u := by rw [hv]
    have hvf : zf_f v = 0 := by rw [hv]
    refine lv_aload_n (pc := 21) hx hb dX0_program_21 rfl (lv_at hl 0 rfl) ?_
    refine vp_callSi (pc := 22) (W.runV (As := []) (rest := []) ⟨hx, hb, hml, hown, hts⟩ (zx_met_freeBlock l ad v hV) (cwV 0 hts (lw_V q82 q84 qs2 q10 q85) rfl rfl rfl (by decide +kernel) ⟨Nat.le_of_ble_eq_true rfl, Nat.le_of_ble_eq_true rfl⟩) (zx_pre hK hP) rfl rfl hl.1 rfl (lv_room (Nat.le_of_ble_eq_true rfl)) dX0_program_22 ⟨Nat.le_of_ble_eq_true rfl, Nat.le_of_ble_eq_true rfl⟩) (fun r1 ⟨o1, hr1, ho1⟩ => ?_)
    subst hr1
    refine zr_nif_ge (pc := 25) (tgt := 40) hx hb (fun q hq => Nat.lt_trans (ho1.2 q hq).1 (by omega)) dX0_program_25 (by decide) (fun q c2 => ?_) (fun c2 => ?_)
    · refine lv_aload_n (pc := 40) hx hb dX0_program_40 rfl (lv_at hl 0 rfl) ?_
      refine lv_iload_n (pc := 41) hx hb dX0_program_41 rfl (lv_at hl 1 rfl) ?_
      refine lv_iload_n (pc := 42) hx hb dX0_program_42 rfl (lv_at hl 2 rfl) ?_
      refine lv_iload_n (pc := 43) hx hb dX0_program_43 rfl (lv_at hl 3 rfl) ?_
      refine lv_iload (pc := 44) hx hb dX0_program_44 (lv_at hl 4 rfl) ?_
      refine va_callv (pc := 46) (va_runV (As := [.int (nI sec), .int (nI so), .int cd, .int fl]) (rest := []) ⟨hx, hb, hml, hown, hts⟩ (zx_met_put l ad hD v sec so cd fl (hV.2.1.1) (by omega) hsec) (cwV 4 hts (lw_V q98 q100 qs6 q10 q101) rfl rfl rfl (by decide +kernel) ⟨Nat.le_of_ble_eq_true rfl, Nat.le_of_ble_eq_true rfl⟩) (zx_pre hK hP) rfl rfl hl.1 rfl (lv_room (Nat.le_of_ble_eq_true rfl)) dX0_program_46 ⟨Nat.le_of_ble_eq_true rfl, Nat.le_of_ble_eq_true rfl⟩) hS (fun _ _ h => h) (fun _ h => h) (fun u9 t H1 locs ht hvm hw hP hz1 hk1 hS => ?_)
      have hP : zx_P ad u9 t.heap := hP
      rw [ht] at hP
      clear ht hvm hz1 hk1
      generalize H1 = H at hP hS ⊢
      exact W.vret (pc := 49) hx hb hr (fun t ht _ => ⟨⟨u9, rfl, by rw [hw]; exact zf_PP_put (hV) (⟨q, ho1.2 q c2⟩) (by omega) hsec hs1 hs2 (hvv) (by omega), zx_back hP ht⟩, hS.F ht⟩) hS.2.2 dX0_program_49
    · refine lv_aload_n (pc := 28) hx hb dX0_program_28 rfl (lv_at hl 0 rfl) ?_
      refine vp_callSi (pc := 29) (W.runV (As := []) (rest := []) ⟨hx, hb, hml, hown, hts⟩ (zx_met_leastLive l ad v hV) (cwV 0 hts (lw_V q86 q88 qs3 q10 q89) rfl rfl rfl (by decide +kernel) ⟨Nat.le_of_ble_eq_true rfl, Nat.le_of_ble_eq_true rfl⟩) (zx_pre hK hP) rfl rfl hl.1 rfl (lv_room (Nat.le_of_ble_eq_true rfl)) dX0_program_29 ⟨Nat.le_of_ble_eq_true rfl, Nat.le_of_ble_eq_true rfl⟩) (fun r2 ⟨o2, hr2, ho2⟩ => ?_)
      subst hr2
      obtain ⟨b1, rfl, k1, k2, k3⟩ := zf_LL_two hV ho2 (ho1.1 c2)
      rw [zr_nw_some]
      refine lv_istore (pc := 32) (lv' := [(5, .int (nI b1)), (0, .ref (zx_h ad)), (1, .int (nI sec)), (2, .int (nI so)), (3, .int cd), (4, .int fl)]) hx hb dX0_program_32 hl (by decide) rfl (fun ls hl => ?_)
      refine lv_aload_n (pc := 34) hx hb dX0_program_34 rfl (lv_at hl 1 rfl) ?_
      refine lv_iload (pc := 35) hx hb dX0_program_35 (lv_at hl 0 rfl) ?_
      refine va_callv (pc := 37) (va_runV (As := [.int (nI b1)]) (rest := []) ⟨hx, hb, hml, hown, hts⟩ (zx_met_gather l ad hD v hV b1 k1 k2 (by omega)) (cwV 1 hts (lw_V q94 q96 qs5 q10 q97) rfl rfl rfl (by decide +kernel) ⟨Nat.le_of_ble_eq_true rfl, Nat.le_of_ble_eq_true rfl⟩) (zx_pre hK hP) rfl rfl hl.1 rfl (lv_room (Nat.le_of_ble_eq_true rfl)) dX0_program_37 ⟨Nat.le_of_ble_eq_true rfl, Nat.le_of_ble_eq_true rfl⟩) hS (fun _ _ h => h) (fun _ h => h) (fun u1 t H1 locs ht hvm hw1 hP hz1 hk1 hS => ?_)
      have hP : zx_P ad u1 t.heap := hP
      rw [ht] at hP
      clear ht hvm hz1 hk1
      generalize H1 = H at hP hS ⊢
      obtain ⟨m1, m2, m3, m4, m5, m6⟩ := hw1
      refine lv_aload_n (pc := 40) hx hb dX0_program_40 rfl (lv_at hl 1 rfl) ?_
      refine lv_iload_n (pc := 41) hx hb dX0_program_41 rfl (lv_at hl 2 rfl) ?_
      refine lv_iload_n (pc := 42) hx hb dX0_program_42 rfl (lv_at hl 3 rfl) ?_
      refine lv_iload_n (pc := 43) hx hb dX0_program_43 rfl (lv_at hl 4 rfl) ?_
      refine lv_iload (pc := 44) hx hb dX0_program_44 (lv_at hl 5 rfl) ?_
      refine va_callv (pc := 46) (va_runV (As := [.int (nI sec), .int (nI so), .int cd, .int fl]) (rest := []) ⟨hx, hb, hml, hown, hts⟩ (zx_met_put l ad hD u1 sec so cd fl (m1.2.1.1) (by omega) hsec) (cwV 4 hts (lw_V q98 q100 qs6 q10 q101) rfl rfl rfl (by decide +kernel) ⟨Nat.le_of_ble_eq_true rfl, Nat.le_of_ble_eq_true rfl⟩) (zx_pre hK hP) rfl rfl hl.1 rfl (lv_room (Nat.le_of_ble_eq_true rfl)) dX0_program_46 ⟨Nat.le_of_ble_eq_true rfl, Nat.le_of_ble_eq_true rfl⟩) hS (fun _ _ h => h) (fun _ h => h) (fun u9 t H1 locs ht hvm hw hP hz1 hk1 hS => ?_)
      have hP : zx_P ad u9 t.heap := hP
      rw [ht] at hP
      clear ht hvm hz1 hk1
      generalize H1 = H at hP hS ⊢
      exact W.vret (pc := 49) hx hb hr (fun t ht _ => ⟨⟨u9, rfl, by rw [hw]; exact zf_PP_put (m1) (m2) (by omega) hsec hs1 hs2 (fun s hs => by rw [m3 s hs, hvv s hs]) (by omega), zx_back hP ht⟩, hS.F ht⟩) hS.2.2 dX0_program_49

set_option maxHeartbeats 4000000 in
set_option maxRecDepth 100000 in
theorem zx_met_write (l : Launch) (ad : zx_A) (hD : zx_Dj ad) (u : zf_S) (hI : zf_I u) (hF : zf_F u) (x y : Int32) : Met l yX0_write (ws_ yX0_write cX0_write 4 (some .int)) ({ frames := 3, cells := 0, slots := 0, locals := 72 }) (va_Pc [.ref (zx_h ad), .int x, .int y] (zx_I ad u)) (va_Qi (fun (r : Int32) (u1 : zf_S) => zf_WP u x y r u1) (fun (u1 : zf_S) (t : State) => zx_P ad u1 t.heap) (zx_Ad ad)) 0 0 (zx_Ad ad) := by
  refine Met.ofW (cc := cX0_write) (maxL := 4) (ret := (some .int)) (by decide) rfl ?_
  intro p e s m args below meth c s₁ B hml hv
  obtain ⟨rfl, hP, hK⟩ := hv
  have hx := B.exec
  have hb := B.bytes
  have hr := B.returns
  have hts := atoms_spec (ws := (ws_ yX0_write cX0_write 4 (some .int))) B.pre
  have hts : ∀ w ∈ lw_all, w.before _ s = true := fun w h => hts w (List.mem_cons_of_mem _ h)
  have hown : s.vm.findClass RX0 = some m.cls := findClass_of_methodNamed B.named
  have hlocks := B.notSynchronized
  have E : zx_E s m _ ad := ⟨hts, hown, hK⟩
  have hS : va_S (zx_Ad ad) s.heap s.heap [] := va_S.rf
  have hl := lv_entry ([.ref (zx_h ad), .int x, .int y]) (n := 4) (Nat.le_of_ble_eq_true rfl)
  rw [lg_entry_eq]
  generalize (lg_sl ([.ref (zx_h ad), .int x, .int y]) ++ List.replicate (4 - (lg_sl ([.ref (zx_h ad), .int x, .int y])).length) Slot.unset).toArray = ls at hl ⊢
  have hl : lv_has ls 4 [(0, .ref (zx_h ad)), (1, .int x), (2, .int y)] := hl
  refine lv_iload_n (pc := 0) hx hb dX0_write_0 rfl (lv_at hl 1 rfl) ?_
  refine zr_callR (pc := 1) (W.runS (As := [.int x]) (rest := []) ⟨hx, hb, hml, hown, hts⟩ (zx_met_isSector l x) (va_cwS 1 hts (lw_S q62 q63 q10 q64) rfl rfl rfl (by decide +kernel) ⟨Nat.le_of_ble_eq_true rfl, Nat.le_of_ble_eq_true rfl⟩) (preEq) rfl rfl hl.1 rfl (lv_room (Nat.le_of_ble_eq_true rfl)) dX0_write_1 ⟨Nat.le_of_ble_eq_true rfl, Nat.le_of_ble_eq_true rfl⟩) ?_
  refine lv_if_ne (pc := 4) (tgt := 9) hx hb dX0_write_4 (by decide) (fun c0 => ?_) (fun c0 => ?_)
  · obtain ⟨j, hj, rfl⟩ := zx_sec_ne c0
    refine lv_iload_n (pc := 9) hx hb dX0_write_9 rfl (lv_at hl 2 rfl) ?_
    refine lv_ldc (pc := 10) (v := 65535) hx hb hown (hts _ q65) dX0_write_10 ?_
    refine lv_iand (pc := 12) hx hb dX0_write_12 ?_
    refine zr_callR (pc := 13) (W.runS (As := [.int (y &&& 65535)]) (rest := []) ⟨hx, hb, hml, hown, hts⟩ (zx_met_encode l _) (va_cwS 1 hts (lw_S q66 q67 q10 q68) rfl rfl rfl (by decide +kernel) ⟨Nat.le_of_ble_eq_true rfl, Nat.le_of_ble_eq_true rfl⟩) (preEq) rfl rfl hl.1 rfl (lv_room (Nat.le_of_ble_eq_true rfl)) dX0_write_13 ⟨Nat.le_of_ble_eq_true rfl, Nat.le_of_ble_eq_true rfl⟩) ?_
    refine lv_istore_n (pc := 16) (lv' := [(3, .int (zc_enc (y &&& 65535))), (0, .ref (zx_h ad)), (1, .int (nI j)), (2, .int y)]) hx hb dX0_write_16 rfl hl (by decide) rfl (fun ls hl => ?_)
    refine lv_aload_n (pc := 17) hx hb dX0_write_17 rfl (lv_at hl 1 rfl) ?_
    refine lv_iload_n (pc := 18) hx hb dX0_write_18 rfl (lv_at hl 2 rfl) ?_
    refine lv_iconst (pc := 19) (v := nI 1) hx hb dX0_write_19 (by decide) ?_
    refine lv_iload_n (pc := 20) hx hb dX0_write_20 rfl (lv_at hl 0 rfl) ?_
    refine lv_iconst (pc := 21) (v := 0) hx hb dX0_write_21 (by decide) ?_
    refine va_callv (pc := 22) (va_runV (As := [.int (nI j), .int (nI 1), .int (zc_enc (y &&& 65535)), .int 0]) (rest := []) ⟨hx, hb, hml, hown, hts⟩ (zx_met_program l ad hD u hI hF j 1 (zc_enc (y &&& 65535)) 0 hj (by omega) (by omega)) (cwV 4 hts (lw_V q78 q80 qs1 q10 q81) rfl rfl rfl (by decide +kernel) ⟨Nat.le_of_ble_eq_true rfl, Nat.le_of_ble_eq_true rfl⟩) (zx_pre hK hP) rfl rfl hl.1 rfl (lv_room (Nat.le_of_ble_eq_true rfl)) dX0_write_22 ⟨Nat.le_of_ble_eq_true rfl, Nat.le_of_ble_eq_true rfl⟩) hS (fun _ _ h => h) (fun _ h => h) (fun u1 t H1 locs ht hvm hw hP hz1 hk1 hS => ?_)
    have hP : zx_P ad u1 t.heap := hP
    rw [ht] at hP
    clear ht hvm hz1 hk1
    generalize H1 = H at hP hS ⊢
    refine lv_iconst (pc := 25) (v := 0) hx hb dX0_write_25 (by decide) ?_
    exact W.iret (pc := 26) hx hb hr (fun t ht _ => ⟨⟨_, u1, rfl, Or.inr ⟨j, hj, rfl, rfl, hw⟩, zx_back hP ht⟩, hS.F ht⟩) hS.2.2 dX0_write_26
  · refine lv_iconst (pc := 7) (v := (-1)) hx hb dX0_write_7 (by decide) ?_
    exact W.iret (pc := 8) hx hb hr (fun t ht _ => ⟨⟨_, u, rfl, Or.inl ⟨c0, rfl, rfl⟩, zx_back hP ht⟩, hS.F ht⟩) hS.2.2 dX0_write_8

set_option maxHeartbeats 4000000 in
set_option maxRecDepth 100000 in
theorem zx_met_trim (l : Launch) (ad : zx_A) (hD : zx_Dj ad) (u : zf_S) (hI : zf_I u) (hF : zf_F u) (x : Int32) : Met l yX0_trim (ws_ yX0_trim cX0_trim 2 (some .int)) ({ frames := 3, cells := 0, slots := 0, locals := 72 }) (va_Pc [.ref (zx_h ad), .int x] (zx_I ad u)) (va_Qi (fun (r : Int32) (u1 : zf_S) => zf_TR u x r u1) (fun (u1 : zf_S) (t : State) => zx_P ad u1 t.heap) (zx_Ad ad)) 0 0 (zx_Ad ad) := by
  refine Met.ofW (cc := cX0_trim) (maxL := 2) (ret := (some .int)) (by decide) rfl ?_
  intro p e s m args below meth c s₁ B hml hv
  obtain ⟨rfl, hP, hK⟩ := hv
  have hx := B.exec
  have hb := B.bytes
  have hr := B.returns
  have hts := atoms_spec (ws := (ws_ yX0_trim cX0_trim 2 (some .int))) B.pre
  have hts : ∀ w ∈ lw_all, w.before _ s = true := fun w h => hts w (List.mem_cons_of_mem _ h)
  have hown : s.vm.findClass RX0 = some m.cls := findClass_of_methodNamed B.named
  have hlocks := B.notSynchronized
  have E : zx_E s m _ ad := ⟨hts, hown, hK⟩
  have hS : va_S (zx_Ad ad) s.heap s.heap [] := va_S.rf
  have hl := lv_entry ([.ref (zx_h ad), .int x]) (n := 2) (Nat.le_of_ble_eq_true rfl)
  rw [lg_entry_eq]
  generalize (lg_sl ([.ref (zx_h ad), .int x]) ++ List.replicate (2 - (lg_sl ([.ref (zx_h ad), .int x])).length) Slot.unset).toArray = ls at hl ⊢
  have hl : lv_has ls 2 [(0, .ref (zx_h ad)), (1, .int x)] := hl
  refine lv_iload_n (pc := 0) hx hb dX0_trim_0 rfl (lv_at hl 1 rfl) ?_
  refine zr_callR (pc := 1) (W.runS (As := [.int x]) (rest := []) ⟨hx, hb, hml, hown, hts⟩ (zx_met_isSector l x) (va_cwS 1 hts (lw_S q62 q63 q10 q64) rfl rfl rfl (by decide +kernel) ⟨Nat.le_of_ble_eq_true rfl, Nat.le_of_ble_eq_true rfl⟩) (preEq) rfl rfl hl.1 rfl (lv_room (Nat.le_of_ble_eq_true rfl)) dX0_trim_1 ⟨Nat.le_of_ble_eq_true rfl, Nat.le_of_ble_eq_true rfl⟩) ?_
  refine lv_if_ne (pc := 4) (tgt := 9) hx hb dX0_trim_4 (by decide) (fun c0 => ?_) (fun c0 => ?_)
  · obtain ⟨j, hj, rfl⟩ := zx_sec_ne c0
    refine lv_aload_n (pc := 9) hx hb dX0_trim_9 rfl (lv_at hl 0 rfl) ?_
    refine lv_iload_n (pc := 10) hx hb dX0_trim_10 rfl (lv_at hl 1 rfl) ?_
    refine zr_callR (pc := 11) (W.runV (As := [.int (nI j)]) (rest := []) ⟨hx, hb, hml, hown, hts⟩ (zx_met_isWritten l ad u hI j hj) (cwV 1 hts (lw_V q113 q115 qs7 q10 q116) rfl rfl rfl (by decide +kernel) ⟨Nat.le_of_ble_eq_true rfl, Nat.le_of_ble_eq_true rfl⟩) (zx_pre hK hP) rfl rfl hl.1 rfl (lv_room (Nat.le_of_ble_eq_true rfl)) dX0_trim_11 ⟨Nat.le_of_ble_eq_true rfl, Nat.le_of_ble_eq_true rfl⟩) ?_
    refine lv_if_ne (pc := 14) (tgt := 20) hx hb dX0_trim_14 (by decide) (fun c1 => ?_) (fun c1 => ?_)
    · refine lv_aload_n (pc := 20) hx hb dX0_trim_20 rfl (lv_at hl 0 rfl) ?_
      refine lv_iload_n (pc := 21) hx hb dX0_trim_21 rfl (lv_at hl 1 rfl) ?_
      refine lv_iconst (pc := 22) (v := nI 2) hx hb dX0_trim_22 (by decide) ?_
      refine lv_iconst (pc := 23) (v := 0) hx hb dX0_trim_23 (by decide) ?_
      refine lv_iconst (pc := 24) (v := 0) hx hb dX0_trim_24 (by decide) ?_
      refine va_callv (pc := 25) (va_runV (As := [.int (nI j), .int (nI 2), .int 0, .int 0]) (rest := []) ⟨hx, hb, hml, hown, hts⟩ (zx_met_program l ad hD u hI hF j 2 0 0 hj (by omega) (by omega)) (cwV 4 hts (lw_V q78 q80 qs1 q10 q81) rfl rfl rfl (by decide +kernel) ⟨Nat.le_of_ble_eq_true rfl, Nat.le_of_ble_eq_true rfl⟩) (zx_pre hK hP) rfl rfl hl.1 rfl (lv_room (Nat.le_of_ble_eq_true rfl)) dX0_trim_25 ⟨Nat.le_of_ble_eq_true rfl, Nat.le_of_ble_eq_true rfl⟩) hS (fun _ _ h => h) (fun _ h => h) (fun u1 t H1 locs ht hvm hw hP hz1 hk1 hS => ?_)
      have hP : zx_P ad u1 t.heap := hP
      rw [ht] at hP
      clear ht hvm hz1 hk1
      generalize H1 = H at hP hS ⊢
      refine lv_iconst (pc := 28) (v := 0) hx hb dX0_trim_28 (by decide) ?_
      exact W.iret (pc := 29) hx hb hr (fun t ht _ => ⟨⟨_, u1, rfl, Or.inr ⟨j, hj, rfl, Or.inr ⟨c1, rfl, hw⟩⟩, zx_back hP ht⟩, hS.F ht⟩) hS.2.2 dX0_trim_29
    · refine lv_bipush (pc := 17) (v := (-2)) hx hb dX0_trim_17 (by decide) ?_
      exact W.iret (pc := 19) hx hb hr (fun t ht _ => ⟨⟨_, u, rfl, Or.inr ⟨j, hj, rfl, Or.inl ⟨c1, rfl, rfl⟩⟩, zx_back hP ht⟩, hS.F ht⟩) hS.2.2 dX0_trim_19
  · refine lv_iconst (pc := 7) (v := (-1)) hx hb dX0_trim_7 (by decide) ?_
    exact W.iret (pc := 8) hx hb hr (fun t ht _ => ⟨⟨_, u, rfl, Or.inl ⟨c0, rfl, rfl⟩, zx_back hP ht⟩, hS.F ht⟩) hS.2.2 dX0_trim_8

theorem zf_nle2 {y : Int32} (h : ¬ y ≤ 21) : 21 < y := by
  rw [Int32.lt_iff_toInt_lt]
  rw [Int32.le_iff_toInt_le] at h
  omega
theorem zf_le21 {y : Int32} (h1 : ¬ y < 0) (h2 : y ≤ 21) : ∃ i, i < 22 ∧ y = nI i := by
  obtain ⟨i, g1, g2⟩ := nI_of h1
  refine ⟨i, ?_, g2⟩
  rw [g2] at h2
  have : nI i ≤ nI 21 := h2
  rw [nI_leI g1 (by omega)] at this
  omega

set_option maxHeartbeats 4000000 in
set_option maxRecDepth 100000 in
theorem zx_met_turn (l : Launch) (ad : zx_A) (hD : zx_Dj ad) (u : zf_S) (hI : zf_I u) (hF : zf_F u) (x y : Int32) : Met l yX0_turn (ws_ yX0_turn cX0_turn 6 (some .int)) ({ frames := 1, cells := 0, slots := 0, locals := 22 }) (va_Pc [.ref (zx_h ad), .int x, .int y] (zx_I ad u)) (va_Qi (fun (r : Int32) (u1 : zf_S) => zf_TU u x y r u1) (fun (u1 : zf_S) (t : State) => zx_P ad u1 t.heap) (zx_Ad ad)) 0 0 (zx_Ad ad) := by
  refine Met.ofW (cc := cX0_turn) (maxL := 6) (ret := (some .int)) (by decide) rfl ?_
  intro p e s m args below meth c s₁ B hml hv
  obtain ⟨rfl, hP, hK⟩ := hv
  have hx := B.exec
  have hb := B.bytes
  have hr := B.returns
  have hts := atoms_spec (ws := (ws_ yX0_turn cX0_turn 6 (some .int))) B.pre
  have hts : ∀ w ∈ lw_all, w.before _ s = true := fun w h => hts w (List.mem_cons_of_mem _ h)
  have hown : s.vm.findClass RX0 = some m.cls := findClass_of_methodNamed B.named
  have hlocks := B.notSynchronized
  have E : zx_E s m _ ad := ⟨hts, hown, hK⟩
  have hS : va_S (zx_Ad ad) s.heap s.heap [] := va_S.rf
  have hl := lv_entry ([.ref (zx_h ad), .int x, .int y]) (n := 6) (Nat.le_of_ble_eq_true rfl)
  rw [lg_entry_eq]
  generalize (lg_sl ([.ref (zx_h ad), .int x, .int y]) ++ List.replicate (6 - (lg_sl ([.ref (zx_h ad), .int x, .int y])).length) Slot.unset).toArray = ls at hl ⊢
  have hl : lv_has ls 6 [(0, .ref (zx_h ad)), (1, .int x), (2, .int y)] := hl
  refine lv_iload_n (pc := 0) hx hb dX0_turn_0 rfl (lv_at hl 1 rfl) ?_
  refine zr_callR (pc := 1) (W.runS (As := [.int x]) (rest := []) ⟨hx, hb, hml, hown, hts⟩ (zx_met_isSector l x) (va_cwS 1 hts (lw_S q62 q63 q10 q64) rfl rfl rfl (by decide +kernel) ⟨Nat.le_of_ble_eq_true rfl, Nat.le_of_ble_eq_true rfl⟩) (preEq) rfl rfl hl.1 rfl (lv_room (Nat.le_of_ble_eq_true rfl)) dX0_turn_1 ⟨Nat.le_of_ble_eq_true rfl, Nat.le_of_ble_eq_true rfl⟩) ?_
  refine lv_if_eq (pc := 4) (tgt := 17) hx hb dX0_turn_4 (by decide) (fun c0 => ?_) (fun c0 => ?_)
  · refine lv_iconst (pc := 17) (v := (-1)) hx hb dX0_turn_17 (by decide) ?_
    exact W.iret (pc := 18) hx hb hr (fun t ht _ => ⟨⟨_, u, rfl, Or.inl ⟨Or.inl c0, rfl, rfl⟩, zx_back hP ht⟩, hS.F ht⟩) hS.2.2 dX0_turn_18
  · refine lv_iload_n (pc := 7) hx hb dX0_turn_7 rfl (lv_at hl 2 rfl) ?_
    refine lv_if_lt (pc := 8) (tgt := 17) hx hb dX0_turn_8 (by decide) (fun c1 => ?_) (fun c1 => ?_)
    · refine lv_iconst (pc := 17) (v := (-1)) hx hb dX0_turn_17 (by decide) ?_
      exact W.iret (pc := 18) hx hb hr (fun t ht _ => ⟨⟨_, u, rfl, Or.inl ⟨Or.inr (Or.inl c1), rfl, rfl⟩, zx_back hP ht⟩, hS.F ht⟩) hS.2.2 dX0_turn_18
    · refine lv_iload_n (pc := 11) hx hb dX0_turn_11 rfl (lv_at hl 2 rfl) ?_
      refine lv_bipush (pc := 12) (v := 21) hx hb dX0_turn_12 (by decide) ?_
      refine lv_icmp_le (pc := 14) (tgt := 19) hx hb dX0_turn_14 (by decide) (fun c2 => ?_) (fun c2 => ?_)
      · obtain ⟨j, hj, rfl⟩ := zx_sec_ne c0
        obtain ⟨i, hi, rfl⟩ := zf_le21 c1 c2
        refine lv_aload_n (pc := 19) hx hb dX0_turn_19 rfl (lv_at hl 0 rfl) ?_
        refine lv_iload_n (pc := 20) hx hb dX0_turn_20 rfl (lv_at hl 1 rfl) ?_
        refine zr_callR (pc := 21) (W.runV (As := [.int (nI j)]) (rest := []) ⟨hx, hb, hml, hown, hts⟩ (zx_met_isWritten l ad u hI j hj) (cwV 1 hts (lw_V q113 q115 qs7 q10 q116) rfl rfl rfl (by decide +kernel) ⟨Nat.le_of_ble_eq_true rfl, Nat.le_of_ble_eq_true rfl⟩) (zx_pre hK hP) rfl rfl hl.1 rfl (lv_room (Nat.le_of_ble_eq_true rfl)) dX0_turn_21 ⟨Nat.le_of_ble_eq_true rfl, Nat.le_of_ble_eq_true rfl⟩) ?_
        refine lv_if_ne (pc := 24) (tgt := 30) hx hb dX0_turn_24 (by decide) (fun c3 => ?_) (fun c3 => ?_)
        · obtain ⟨q, hq, hkq⟩ := zf_wr_page c3
          have hq32 := (hI.2.2.1 j q hj hq).1
          refine lv_aload_n (pc := 30) hx hb dX0_turn_30 rfl (lv_at hl 0 rfl) ?_
          refine zx_g6 (pc := 31) hx hb E hP dX0_turn_31 ?_
          refine lv_iload_n (pc := 34) hx hb dX0_turn_34 rfl (lv_at hl 1 rfl) ?_
          refine zx_l6 (pc := 35) hx hb E hP (by omega) dX0_turn_35 ?_
          rw [hq, zr_nw_some]
          refine lv_istore_n (pc := 36) (lv' := [(3, .int (nI q)), (0, .ref (zx_h ad)), (1, .int (nI j)), (2, .int (nI i))]) hx hb dX0_turn_36 rfl hl (by decide) rfl (fun ls hl => ?_)
          refine lv_aload_n (pc := 37) hx hb dX0_turn_37 rfl (lv_at hl 1 rfl) ?_
          refine zx_g5 (pc := 38) hx hb E hP dX0_turn_38 ?_
          refine lv_iload_n (pc := 41) hx hb dX0_turn_41 rfl (lv_at hl 0 rfl) ?_
          refine zx_l5 (pc := 42) hx hb E hP (by omega) dX0_turn_42 ?_
          refine lv_iconst (pc := 43) (v := 1) hx hb dX0_turn_43 (by decide) ?_
          refine lv_iload_n (pc := 44) hx hb dX0_turn_44 rfl (lv_at hl 3 rfl) ?_
          refine lv_ishl (pc := 45) hx hb dX0_turn_45 ?_
          refine lv_ixor (pc := 46) hx hb dX0_turn_46 ?_
          refine lv_topi (fun z1 ez1 => ?_)
          obtain rfl : z1 = zf_fl (zf_t u q) i := ez1.trans (rfl)
          refine lv_istore (pc := 47) (lv' := [(4, .int (zf_fl (zf_t u q) i)), (3, .int (nI q)), (0, .ref (zx_h ad)), (1, .int (nI j)), (2, .int (nI i))]) hx hb dX0_turn_47 hl (by decide) rfl (fun ls hl => ?_)
          refine lv_iload (pc := 49) hx hb dX0_turn_49 (lv_at hl 0 rfl) ?_
          refine zr_callR (pc := 51) (W.runS (As := [.int (zf_fl (zf_t u q) i)]) (rest := []) ⟨hx, hb, hml, hown, hts⟩ (zx_met_ones l _) (va_cwS 1 hts (lw_S q75 q76 q10 q77) rfl rfl rfl (by decide +kernel) ⟨Nat.le_of_ble_eq_true rfl, Nat.le_of_ble_eq_true rfl⟩) (preEq) rfl rfl hl.1 rfl (lv_room (Nat.le_of_ble_eq_true rfl)) dX0_turn_51 ⟨Nat.le_of_ble_eq_true rfl, Nat.le_of_ble_eq_true rfl⟩) ?_
          refine lv_istore (pc := 54) (lv' := [(5, .int (nI (zc_cnt (bt (zf_fl (zf_t u q) i)) 22))), (4, .int (zf_fl (zf_t u q) i)), (3, .int (nI q)), (0, .ref (zx_h ad)), (1, .int (nI j)), (2, .int (nI i))]) hx hb dX0_turn_54 hl (by decide) rfl (fun ls hl => ?_)
          refine lv_iload (pc := 56) hx hb dX0_turn_56 (lv_at hl 0 rfl) ?_
          refine lv_iconst (pc := 58) (v := nI 2) hx hb dX0_turn_58 (by decide) ?_
          have hcl := zc_cnt_le (bt (zf_fl (zf_t u q) i)) 22
          have hvj : zf_v u j = some (1, zf_w u q, zf_t u q) := by rw [zf_v_some hq, hkq]
          refine zr_icmp_le (pc := 59) (tgt := 65) hx hb (by omega) (by omega) dX0_turn_59 (by decide) (fun c4 => ?_) (fun c4 => ?_)
          · refine lv_aload_n (pc := 65) hx hb dX0_turn_65 rfl (lv_at hl 3 rfl) ?_
            refine zx_g5 (pc := 66) hx hb E hP dX0_turn_66 ?_
            refine lv_iload_n (pc := 69) hx hb dX0_turn_69 rfl (lv_at hl 2 rfl) ?_
            refine lv_iload (pc := 70) hx hb dX0_turn_70 (lv_at hl 1 rfl) ?_
            refine zx_s5 (pc := 72) hx hb E hD hP hS (by omega) dX0_turn_72 (fun H locs hP hS => ?_)
            have hP : zx_P ad (zf_k u, zf_o u, zf_s u, zf_w u, va_up (zf_t u) q (zf_fl (zf_t u q) i), zf_n u, zf_c u, zf_f u, zf_x u) H := hP
            refine lv_iload (pc := 73) hx hb dX0_turn_73 (lv_at hl 0 rfl) ?_
            exact W.iret (pc := 75) hx hb hr (fun t ht _ => ⟨⟨_, zf_st u (va_up (zf_t u) q (zf_fl (zf_t u q) i)), rfl, Or.inr ⟨j, i, hj, rfl, hi, rfl, Or.inr ⟨_, _, hvj, Or.inr ⟨c4, rfl, hI, hF, zf_turn_v hI hj hq hkq, rfl⟩⟩⟩, zx_back hP ht⟩, hS.F ht⟩) hS.2.2 dX0_turn_75
          · refine lv_bipush (pc := 62) (v := (-3)) hx hb dX0_turn_62 (by decide) ?_
            exact W.iret (pc := 64) hx hb hr (fun t ht _ => ⟨⟨_, u, rfl, Or.inr ⟨j, i, hj, rfl, hi, rfl, Or.inr ⟨_, _, hvj, Or.inl ⟨c4, rfl, rfl⟩⟩⟩, zx_back hP ht⟩, hS.F ht⟩) hS.2.2 dX0_turn_64
        · refine lv_bipush (pc := 27) (v := (-2)) hx hb dX0_turn_27 (by decide) ?_
          exact W.iret (pc := 29) hx hb hr (fun t ht _ => ⟨⟨_, u, rfl, Or.inr ⟨j, i, hj, rfl, hi, rfl, Or.inl ⟨c3, rfl, rfl⟩⟩, zx_back hP ht⟩, hS.F ht⟩) hS.2.2 dX0_turn_29
      · refine lv_iconst (pc := 17) (v := (-1)) hx hb dX0_turn_17 (by decide) ?_
        exact W.iret (pc := 18) hx hb hr (fun t ht _ => ⟨⟨_, u, rfl, Or.inl ⟨Or.inr (Or.inr (zf_nle2 c2)), rfl, rfl⟩, zx_back hP ht⟩, hS.F ht⟩) hS.2.2 dX0_turn_18

/-- what repair leaves and answers -/
def zf_RP (u : zf_S) (x : Int32) (r : Int32) (u1 : zf_S) : Prop := r = zx_rd u x ∧ ((r < 0 ∧ u1 = u) ∨ (¬ r < 0 ∧ ∃ r2, zf_WP u x r r2 u1))

set_option maxHeartbeats 4000000 in
set_option maxRecDepth 100000 in
theorem zx_met_repair (l : Launch) (ad : zx_A) (hD : zx_Dj ad) (u : zf_S) (hI : zf_I u) (hF : zf_F u) (x : Int32) : Met l yX0_repair (ws_ yX0_repair cX0_repair 3 (some .int)) ({ frames := 4, cells := 0, slots := 0, locals := 95 }) (va_Pc [.ref (zx_h ad), .int x] (zx_I ad u)) (va_Qi (fun (r : Int32) (u1 : zf_S) => zf_RP u x r u1) (fun (u1 : zf_S) (t : State) => zx_P ad u1 t.heap) (zx_Ad ad)) 0 0 (zx_Ad ad) := by
  refine Met.ofW (cc := cX0_repair) (maxL := 3) (ret := (some .int)) (by decide) rfl ?_
  intro p e s m args below meth c s₁ B hml hv
  obtain ⟨rfl, hP, hK⟩ := hv
  have hx := B.exec
  have hb := B.bytes
  have hr := B.returns
  have hts := atoms_spec (ws := (ws_ yX0_repair cX0_repair 3 (some .int))) B.pre
  have hts : ∀ w ∈ lw_all, w.before _ s = true := fun w h => hts w (List.mem_cons_of_mem _ h)
  have hown : s.vm.findClass RX0 = some m.cls := findClass_of_methodNamed B.named
  have hlocks := B.notSynchronized
  have E : zx_E s m _ ad := ⟨hts, hown, hK⟩
  have hS : va_S (zx_Ad ad) s.heap s.heap [] := va_S.rf
  have hl := lv_entry ([.ref (zx_h ad), .int x]) (n := 3) (Nat.le_of_ble_eq_true rfl)
  rw [lg_entry_eq]
  generalize (lg_sl ([.ref (zx_h ad), .int x]) ++ List.replicate (3 - (lg_sl ([.ref (zx_h ad), .int x])).length) Slot.unset).toArray = ls at hl ⊢
  have hl : lv_has ls 3 [(0, .ref (zx_h ad)), (1, .int x)] := hl
  refine lv_aload_n (pc := 0) hx hb dX0_repair_0 rfl (lv_at hl 0 rfl) ?_
  refine lv_iload_n (pc := 1) hx hb dX0_repair_1 rfl (lv_at hl 1 rfl) ?_
  refine zr_callR (pc := 2) (W.runV (As := [.int x]) (rest := []) ⟨hx, hb, hml, hown, hts⟩ (zx_met_read l ad u hI x) (cwV 1 hts (lw_V q125 q103 q104 q10 q105) rfl rfl rfl (by decide +kernel) ⟨Nat.le_of_ble_eq_true rfl, Nat.le_of_ble_eq_true rfl⟩) (zx_pre hK hP) rfl rfl hl.1 rfl (lv_room (Nat.le_of_ble_eq_true rfl)) dX0_repair_2 ⟨Nat.le_of_ble_eq_true rfl, Nat.le_of_ble_eq_true rfl⟩) ?_
  refine lv_istore_n (pc := 5) (lv' := [(2, .int (zx_rd u x)), (0, .ref (zx_h ad)), (1, .int x)]) hx hb dX0_repair_5 rfl hl (by decide) rfl (fun ls hl => ?_)
  refine lv_iload_n (pc := 6) hx hb dX0_repair_6 rfl (lv_at hl 0 rfl) ?_
  refine lv_if_lt (pc := 7) (tgt := 17) hx hb dX0_repair_7 (by decide) (fun c1 => ?_) (fun c1 => ?_)
  · refine lv_iload_n (pc := 17) hx hb dX0_repair_17 rfl (lv_at hl 0 rfl) ?_
    exact W.iret (pc := 18) hx hb hr (fun t ht _ => ⟨⟨_, u, rfl, ⟨rfl, Or.inl ⟨c1, rfl⟩⟩, zx_back hP ht⟩, hS.F ht⟩) hS.2.2 dX0_repair_18
  · refine lv_aload_n (pc := 10) hx hb dX0_repair_10 rfl (lv_at hl 1 rfl) ?_
    refine lv_iload_n (pc := 11) hx hb dX0_repair_11 rfl (lv_at hl 2 rfl) ?_
    refine lv_iload_n (pc := 12) hx hb dX0_repair_12 rfl (lv_at hl 0 rfl) ?_
    refine va_calli (pc := 13) (va_runV (As := [.int x, .int (zx_rd u x)]) (rest := []) ⟨hx, hb, hml, hown, hts⟩ (zx_met_write l ad hD u hI hF x (zx_rd u x)) (cwV 2 hts (lw_V q126 q59 q60 q10 q61) rfl rfl rfl (by decide +kernel) ⟨Nat.le_of_ble_eq_true rfl, Nat.le_of_ble_eq_true rfl⟩) (zx_pre hK hP) rfl rfl hl.1 rfl (lv_room (Nat.le_of_ble_eq_true rfl)) dX0_repair_13 ⟨Nat.le_of_ble_eq_true rfl, Nat.le_of_ble_eq_true rfl⟩) hS (fun _ _ h => h) (fun _ h => h) (fun r2 u1 t H1 locs ht hvm hw hP hz1 hk1 hS => ?_)
    have hP : zx_P ad u1 t.heap := hP
    rw [ht] at hP
    clear ht hvm hz1 hk1
    generalize H1 = H at hP hS ⊢
    refine lv_pop (pc := 16) hx hb dX0_repair_16 rfl ?_
    refine lv_iload_n (pc := 17) hx hb dX0_repair_17 rfl (lv_at hl 0 rfl) ?_
    exact W.iret (pc := 18) hx hb hr (fun t ht _ => ⟨⟨_, u1, rfl, ⟨rfl, Or.inr ⟨c1, r2, hw⟩⟩, zx_back hP ht⟩, hS.F ht⟩) hS.2.2 dX0_repair_18

set_option maxHeartbeats 4000000 in
set_option maxRecDepth 100000 in
theorem zx_met_tidy (l : Launch) (ad : zx_A) (hD : zx_Dj ad) (u : zf_S) (hI : zf_I u) (hF : zf_F u) (y : Int32) : Met l yX0_tidy (ws_ yX0_tidy cX0_tidy 4 none) ({ frames := 2, cells := 0, slots := 0, locals := 47 }) (va_Pc [.ref (zx_h ad), .int y] (zx_I ad u)) (va_Qv (fun u1 : zf_S => zf_TD u u1 4) (fun (u1 : zf_S) (t : State) => zx_P ad u1 t.heap) (zx_Ad ad)) 0 0 (zx_Ad ad) := by
  refine Met.ofW (cc := cX0_tidy) (maxL := 4) (ret := none) (by decide) rfl ?_
  intro p e s m args below meth c s₁ B hml hv
  obtain ⟨rfl, hP, hK⟩ := hv
  have hx := B.exec
  have hb := B.bytes
  have hr := B.returns
  have hts := atoms_spec (ws := (ws_ yX0_tidy cX0_tidy 4 none)) B.pre
  have hts : ∀ w ∈ lw_all, w.before _ s = true := fun w h => hts w (List.mem_cons_of_mem _ h)
  have hown : s.vm.findClass RX0 = some m.cls := findClass_of_methodNamed B.named
  have hlocks := B.notSynchronized
  have E : zx_E s m _ ad := ⟨hts, hown, hK⟩
  have hS : va_S (zx_Ad ad) s.heap s.heap [] := va_S.rf
  have hl := lv_entry ([.ref (zx_h ad), .int y]) (n := 4) (Nat.le_of_ble_eq_true rfl)
  rw [lg_entry_eq]
  generalize (lg_sl ([.ref (zx_h ad), .int y]) ++ List.replicate (4 - (lg_sl ([.ref (zx_h ad), .int y])).length) Slot.unset).toArray = ls at hl ⊢
  have hl : lv_has ls 4 [(0, .ref (zx_h ad)), (1, .int y)] := hl
  have LOOP : ∀ (n : Nat) (k : Nat) (v : zf_S) (H : Heap) (locs : List Loc), zf_TD u v k → k ≤ 4 → 4 < k + n → zx_P ad v H → va_S (zx_Ad ad) s.heap H locs → ∀ (ls : Array Slot), lv_has ls 4 [(2, .int (nI k)), (1, .int y), (0, .ref (zx_h ad))] → W p l e (headSpec (ws_ yX0_tidy cX0_tidy 4 none) ({ frames := 2, cells := 0, slots := 0, locals := 47 })).room s m ([.ref (zx_h ad), .int y] : List Value).toArray below meth c H locs 0 0 (MQ below (va_Qv (fun u1 : zf_S => zf_TD u u1 4) (fun (u1 : zf_S) (t : State) => zx_P ad u1 t.heap) (zx_Ad ad)) ([.ref (zx_h ad), .int y] : List Value).toArray s 0 0 (zx_Ad ad)) (F0 m 2 ls []) := by
    intro n
    induction n with
    | zero =>
      intro k v H locs hT h1 h2 hP hS
      exact absurd h2 (by omega)
    | succ n ih =>
      intro k v H locs hT h1 h2 hP hS ls hl
      have hV : zf_I v := hT.1
      have hTe : zf_TD u v 4 := ⟨hT.1, hT.2.1, hT.2.2.1, Nat.le_trans hT.2.2.2 (by omega)⟩
      refine lv_iload_n (pc := 2) hx hb dX0_tidy_2 rfl (lv_at hl 0 rfl) ?_
      refine lv_iload_n (pc := 3) hx hb dX0_tidy_3 rfl (lv_at hl 1 rfl) ?_
      refine lv_icmp_ge (pc := 4) (tgt := 46) hx hb dX0_tidy_4 (by decide) (fun c1 => ?_) (fun c1 => ?_)
      · exact W.vret (pc := 46) hx hb hr (fun t ht _ => ⟨⟨v, rfl, hTe, zx_back hP ht⟩, hS.F ht⟩) hS.2.2 dX0_tidy_46
      · refine lv_iload_n (pc := 7) hx hb dX0_tidy_7 rfl (lv_at hl 0 rfl) ?_
        refine lv_iconst (pc := 8) (v := nI 4) hx hb dX0_tidy_8 (by decide) ?_
        refine zr_icmp_ge (pc := 9) (tgt := 46) hx hb (by omega) (by omega) dX0_tidy_9 (by decide) (fun c2 => ?_) (fun c2 => ?_)
        · exact W.vret (pc := 46) hx hb hr (fun t ht _ => ⟨⟨v, rfl, hTe, zx_back hP ht⟩, hS.F ht⟩) hS.2.2 dX0_tidy_46
        · refine lv_aload_n (pc := 12) hx hb dX0_tidy_12 rfl (lv_at hl 2 rfl) ?_
          refine vp_callSi (pc := 13) (W.runV (As := []) (rest := []) ⟨hx, hb, hml, hown, hts⟩ (zx_met_leastLive l ad v hV) (cwV 0 hts (lw_V q86 q88 qs3 q10 q89) rfl rfl rfl (by decide +kernel) ⟨Nat.le_of_ble_eq_true rfl, Nat.le_of_ble_eq_true rfl⟩) (zx_pre hK hP) rfl rfl hl.1 rfl (lv_room (Nat.le_of_ble_eq_true rfl)) dX0_tidy_13 ⟨Nat.le_of_ble_eq_true rfl, Nat.le_of_ble_eq_true rfl⟩) (fun r0 ⟨o, hr0, ho⟩ => ?_)
          subst hr0
          refine lv_istore_n (pc := 16) (lv' := [(3, .int (zr_nw o)), (2, .int (nI k)), (1, .int y), (0, .ref (zx_h ad))]) hx hb dX0_tidy_16 rfl hl (by decide) rfl (fun ls hl => ?_)
          refine lv_iload_n (pc := 17) hx hb dX0_tidy_17 rfl (lv_at hl 0 rfl) ?_
          refine zr_nif_lt (pc := 18) (tgt := 40) hx hb (fun q hq => Nat.lt_trans (ho.2 q hq).1 (by omega)) dX0_tidy_18 (by decide) (fun c3 => ?_) (fun q c3 => ?_)
          · refine lv_iinc (pc := 40) (v := nI (k + 1)) (lv' := [(2, .int (nI (k + 1))), (3, .int (zr_nw o)), (1, .int y), (0, .ref (zx_h ad))]) hx hb dX0_tidy_40 hl (k := 1) rfl (zr_inc _) (by decide) rfl (fun ls hl => ?_)
            refine lv_goto (pc := 43) (tgt := 2) hx hb dX0_tidy_43 (by decide) ?_
            exact ih (k + 1) v H locs (zf_TD_skip hT) (by omega) (by omega) hP hS ls (lv_sub hl [0, 2, 3] rfl)
          · subst c3
            have hl : lv_has ls 4 [(3, .int (nI q)), (2, .int (nI k)), (1, .int y), (0, .ref (zx_h ad))] := hl
            obtain ⟨k1, k2, k3, -⟩ := ho.2 q rfl
            refine lv_aload_n (pc := 21) hx hb dX0_tidy_21 rfl (lv_at hl 3 rfl) ?_
            refine lv_iload_n (pc := 22) hx hb dX0_tidy_22 rfl (lv_at hl 0 rfl) ?_
            refine zr_callR (pc := 23) (W.runV (As := [.int (nI q)]) (rest := []) ⟨hx, hb, hml, hown, hts⟩ (zx_met_livePages l ad v hV q k1) (cwV 1 hts (lw_V q90 q92 qs4 q10 q93) rfl rfl rfl (by decide +kernel) ⟨Nat.le_of_ble_eq_true rfl, Nat.le_of_ble_eq_true rfl⟩) (zx_pre hK hP) rfl rfl hl.1 rfl (lv_room (Nat.le_of_ble_eq_true rfl)) dX0_tidy_23 ⟨Nat.le_of_ble_eq_true rfl, Nat.le_of_ble_eq_true rfl⟩) ?_
            refine lv_iconst (pc := 26) (v := nI 3) hx hb dX0_tidy_26 (by decide) ?_
            refine lv_aload_n (pc := 27) hx hb dX0_tidy_27 rfl (lv_at hl 3 rfl) ?_
            refine zx_gf (pc := 28) hx hb E hP dX0_tidy_28 ?_
            refine lv_isub (pc := 31) hx hb dX0_tidy_31 ?_
            refine lv_icmp_gt (pc := 32) (tgt := 40) hx hb dX0_tidy_32 (by decide) (fun c4 => ?_) (fun c4 => ?_)
            · refine lv_iinc (pc := 40) (v := nI (k + 1)) (lv' := [(2, .int (nI (k + 1))), (3, .int (nI q)), (1, .int y), (0, .ref (zx_h ad))]) hx hb dX0_tidy_40 hl (k := 1) rfl (zr_inc _) (by decide) rfl (fun ls hl => ?_)
              refine lv_goto (pc := 43) (tgt := 2) hx hb dX0_tidy_43 (by decide) ?_
              exact ih (k + 1) v H locs (zf_TD_skip hT) (by omega) (by omega) hP hS ls (lv_sub hl [0, 2, 3] rfl)
            · have hrm := zf_room3 (zf_f v) (Nat.lt_succ_of_le hV.2.1.2.1) (zf_lv v q) (Nat.lt_succ_of_le (zf_lv_4 v q)) c4
              refine lv_aload_n (pc := 35) hx hb dX0_tidy_35 rfl (lv_at hl 3 rfl) ?_
              refine lv_iload_n (pc := 36) hx hb dX0_tidy_36 rfl (lv_at hl 0 rfl) ?_
              refine va_callv (pc := 37) (va_runV (As := [.int (nI q)]) (rest := []) ⟨hx, hb, hml, hown, hts⟩ (zx_met_gather l ad hD v hV q k1 k2 (by omega)) (cwV 1 hts (lw_V q94 q96 qs5 q10 q97) rfl rfl rfl (by decide +kernel) ⟨Nat.le_of_ble_eq_true rfl, Nat.le_of_ble_eq_true rfl⟩) (zx_pre hK hP) rfl rfl hl.1 rfl (lv_room (Nat.le_of_ble_eq_true rfl)) dX0_tidy_37 ⟨Nat.le_of_ble_eq_true rfl, Nat.le_of_ble_eq_true rfl⟩) hS (fun _ _ h => h) (fun _ h => h) (fun u1 t H1 locs ht hvm hw hP hz1 hk1 hS => ?_)
              have hP : zx_P ad u1 t.heap := hP
              rw [ht] at hP
              clear ht hvm hz1 hk1
              generalize H1 = H at hP hS ⊢
              refine lv_iinc (pc := 40) (v := nI (k + 1)) (lv' := [(2, .int (nI (k + 1))), (3, .int (nI q)), (1, .int y), (0, .ref (zx_h ad))]) hx hb dX0_tidy_40 hl (k := 1) rfl (zr_inc _) (by decide) rfl (fun ls hl => ?_)
              refine lv_goto (pc := 43) (tgt := 2) hx hb dX0_tidy_43 (by decide) ?_
              exact ih (k + 1) u1 H locs (zf_TD_go hT hw) (by omega) (by omega) hP hS ls (lv_sub hl [0, 2, 3] rfl)
  refine lv_iconst (pc := 0) (v := nI 0) hx hb dX0_tidy_0 (by decide) ?_
  refine lv_istore_n (pc := 1) (lv' := [(2, .int (nI 0)), (0, .ref (zx_h ad)), (1, .int y)]) hx hb dX0_tidy_1 rfl hl (by decide) rfl (fun ls hl => ?_)
  exact LOOP 5 0 u s.heap [] ⟨hI, hF, fun _ _ => rfl, Nat.le_add_right _ _⟩ (by omega) (by omega) hP hS ls (lv_sub hl [0, 2, 1] rfl)
end
section
/-! power-up, walked -/
section
variable {p : Program} {l : Launch} {e : Env} {R : Room} {s : State} {m : MethodId} {args : Array Value} {below : List Frame} {meth : Method} {c : Code} {H : Heap} {locs : List Loc} {cells slots : Nat} {Q : State → Prop}
variable {cc : ByteArray} {pc : Nat} {ls : Array Slot} {rest : List Value} {ad : zx_A} {u : zf_S}
theorem zx_gcv (hx : p.tables.exec = Jvm.exec) (hb : c.code = cc) (E : zx_E s m args ad) (hP : zx_P ad u H) {v : Nat} (hv : zf_c u = v) (hdg : decode cc pc = .ok (.getfield 86, 3)) (kk : W p l e R s m args below meth c H locs cells slots Q (F0 m (pc + 3) ls (.int (nI v) :: rest))) : W p l e R s m args below meth c H locs cells slots Q (F0 m pc ls (.ref (zx_h ad) :: rest)) := by
  subst hv
  exact zx_gc hx hb E hP hdg kk
theorem zx_gfv (hx : p.tables.exec = Jvm.exec) (hb : c.code = cc) (E : zx_E s m args ad) (hP : zx_P ad u H) {v : Nat} (hv : zf_f u = v) (hdg : decode cc pc = .ok (.getfield 75, 3)) (kk : W p l e R s m args below meth c H locs cells slots Q (F0 m (pc + 3) ls (.int (nI v) :: rest))) : W p l e R s m args below meth c H locs cells slots Q (F0 m pc ls (.ref (zx_h ad) :: rest)) := by
  subst hv
  exact zx_gf hx hb E hP hdg kk
theorem zx_gxv (hx : p.tables.exec = Jvm.exec) (hb : c.code = cc) (E : zx_E s m args ad) (hP : zx_P ad u H) {v : Nat} (hv : zf_x u = v) (hdg : decode cc pc = .ok (.getfield 61, 3)) (kk : W p l e R s m args below meth c H locs cells slots Q (F0 m (pc + 3) ls (.long (lN v) :: rest))) : W p l e R s m args below meth c H locs cells slots Q (F0 m pc ls (.ref (zx_h ad) :: rest)) := by
  subst hv
  exact zx_gx hx hb E hP hdg kk
theorem zx_l1v (hx : p.tables.exec = Jvm.exec) (hb : c.code = cc) (E : zx_E s m args ad) (hP : zx_P ad u H) {i : Nat} {v : Nat} (hi : i < 32) (hv : zf_k u i = v) (hdg : decode cc pc = .ok (.iaload, 1)) (kk : W p l e R s m args below meth c H locs cells slots Q (F0 m (pc + 1) ls (.int (nI v) :: rest))) : W p l e R s m args below meth c H locs cells slots Q (F0 m pc ls (.int (nI i) :: .ref (zx_1 ad) :: rest)) := by
  subst hv
  exact zx_l1 hx hb E hP hi hdg kk
theorem zx_l2v (hx : p.tables.exec = Jvm.exec) (hb : c.code = cc) (E : zx_E s m args ad) (hP : zx_P ad u H) {i : Nat} {v : Nat} (hi : i < 32) (hv : zf_o u i = v) (hdg : decode cc pc = .ok (.iaload, 1)) (kk : W p l e R s m args below meth c H locs cells slots Q (F0 m (pc + 1) ls (.int (nI v) :: rest))) : W p l e R s m args below meth c H locs cells slots Q (F0 m pc ls (.int (nI i) :: .ref (zx_2 ad) :: rest)) := by
  subst hv
  exact zx_l2 hx hb E hP hi hdg kk
theorem zx_l3v (hx : p.tables.exec = Jvm.exec) (hb : c.code = cc) (E : zx_E s m args ad) (hP : zx_P ad u H) {i : Nat} {v : Nat} (hi : i < 32) (hv : zf_s u i = v) (hdg : decode cc pc = .ok (.laload, 1)) (kk : W p l e R s m args below meth c H locs cells slots Q (F0 m (pc + 1) ls (.long (lN v) :: rest))) : W p l e R s m args below meth c H locs cells slots Q (F0 m pc ls (.int (nI i) :: .ref (zx_3 ad) :: rest)) := by
  subst hv
  exact zx_l3 hx hb E hP hi hdg kk
theorem zx_l4v (hx : p.tables.exec = Jvm.exec) (hb : c.code = cc) (E : zx_E s m args ad) (hP : zx_P ad u H) {i : Nat} {v : Int32} (hi : i < 32) (hv : zf_w u i = v) (hdg : decode cc pc = .ok (.iaload, 1)) (kk : W p l e R s m args below meth c H locs cells slots Q (F0 m (pc + 1) ls (.int v :: rest))) : W p l e R s m args below meth c H locs cells slots Q (F0 m pc ls (.int (nI i) :: .ref (zx_4 ad) :: rest)) := by
  subst hv
  exact zx_l4 hx hb E hP hi hdg kk
theorem zx_l5v (hx : p.tables.exec = Jvm.exec) (hb : c.code = cc) (E : zx_E s m args ad) (hP : zx_P ad u H) {i : Nat} {v : Int32} (hi : i < 32) (hv : zf_t u i = v) (hdg : decode cc pc = .ok (.iaload, 1)) (kk : W p l e R s m args below meth c H locs cells slots Q (F0 m (pc + 1) ls (.int v :: rest))) : W p l e R s m args below meth c H locs cells slots Q (F0 m pc ls (.int (nI i) :: .ref (zx_5 ad) :: rest)) := by
  subst hv
  exact zx_l5 hx hb E hP hi hdg kk
theorem zx_l6v (hx : p.tables.exec = Jvm.exec) (hb : c.code = cc) (E : zx_E s m args ad) (hP : zx_P ad u H) {i : Nat} {v : Option Nat} (hi : i < 16) (hv : zf_n u i = v) (hdg : decode cc pc = .ok (.iaload, 1)) (kk : W p l e R s m args below meth c H locs cells slots Q (F0 m (pc + 1) ls (.int (zr_nw v) :: rest))) : W p l e R s m args below meth c H locs cells slots Q (F0 m pc ls (.int (nI i) :: .ref (zx_6 ad) :: rest)) := by
  subst hv
  exact zx_l6 hx hb E hP hi hdg kk
end
/-- what findCurrent leaves -/
def zf_FP (u u1 : zf_S) : Prop := ∃ c f, u1 = zf_sf (zf_sc u c) f ∧ zf_BL (zf_k u) c f ∧ zf_FR (zf_k u) c
theorem zf_c1_lt {K : Nat → Nat} {c : Nat} (h : zf_c1 K c 8) : c < 8 := by
  rcases h with h | h
  · omega
  · exact h.1
theorem zf_c2_lt {K : Nat → Nat} {c1 c : Nat} (h1 : zf_c1 K c1 8) (h : zf_c2 K c1 c 8) : c < 8 := by
  rcases h with h | h
  · rw [h.1]
    exact zf_c1_lt h1
  · exact h.1
theorem zf_pg_1 {K : Nat → Nat} {c j : Nat} (h : K (4 * c + j) ≠ 0) : zf_pg K c j = true := decide_eq_true h
theorem zf_pg_0 {K : Nat → Nat} {c j : Nat} (h : K (4 * c + j) = 0) : zf_pg K c j = false := decide_eq_false (fun z => z h)
/-- what power leaves -/
def zf_PW (u : zf_S) (X : Nat) (u1 : zf_S) : Prop := zf_k u1 = zf_k u ∧ zf_o u1 = zf_o u ∧ zf_s u1 = zf_s u ∧ zf_w u1 = zf_w u ∧ zf_t u1 = zf_t u ∧ zf_I u1 ∧ zf_F u1 ∧ zf_x u1 ≤ X + 1
theorem zf_lle {a b : Nat} (ha : a < 2147483648) (hb : b < 2147483648) (h : lg_cmp (lN a) (lN b) ≤ 0) : a ≤ b := (lN_le ha hb).mp ((lg_cmp_le _ _).mp h)
theorem zf_nlle {a b : Nat} (ha : a < 2147483648) (hb : b < 2147483648) (h : ¬ lg_cmp (lN a) (lN b) ≤ 0) : b < a := Nat.lt_of_not_le (fun z => h ((lg_cmp_le _ _).mpr ((lN_le ha hb).mpr z)))
theorem zf_llt {a b : Nat} (ha : a < 2147483648) (hb : b < 2147483648) (h : lg_cmp (lN a) (lN b) < 0) : a < b := (lN_lt ha hb).mp ((lg_cmp_lt _ _).mp h)
theorem zf_nllt {a b : Nat} (ha : a < 2147483648) (hb : b < 2147483648) (h : ¬ lg_cmp (lN a) (lN b) < 0) : b ≤ a := Nat.le_of_not_lt (fun z => h ((lg_cmp_lt _ _).mpr ((lN_lt ha hb).mpr z)))
theorem zf_PW_end {u u1 : zf_S} {X c f x : Nat} {N : Nat → Option Nat} (hP : zf_PG (zf_k u) (zf_o u) (zf_s u) X) (hM : zf_M (zf_k u) (zf_o u) (zf_s u) X N x 32) (hw : zf_FP (zf_k u, zf_o u, zf_s u, zf_w u, zf_t u, N, c, f, x) u1) : zf_PW u X u1 := by
  obtain ⟨c', f', rfl, hB, hF⟩ := hw
  obtain ⟨hN, hG⟩ := zf_M_end hM hP
  exact ⟨rfl, rfl, rfl, rfl, rfl, ⟨hG, hB, hN⟩, hF, hM.2.2.2⟩

set_option maxHeartbeats 4000000 in
set_option maxRecDepth 100000 in
theorem zx_met_findCurrent (l : Launch) (ad : zx_A) (hD : zx_Dj ad) (u : zf_S) (c0 f0 : Nat) (hk2 : ∀ p, p < 32 → zf_k u p ≤ 2) (hB : zf_BL (zf_k u) c0 f0) (hF : zf_FR (zf_k u) c0) : Met l yX0_findCurrent (ws_ yX0_findCurrent cX0_findCurrent 2 none) ({ frames := 0, cells := 0, slots := 0, locals := 0 }) (va_Pc [.ref (zx_h ad)] (zx_I ad u)) (va_Qv (fun u1 : zf_S => zf_FP u u1) (fun (u1 : zf_S) (t : State) => zx_P ad u1 t.heap) (zx_Ad ad)) 0 0 (zx_Ad ad) := by
  refine Met.ofW (cc := cX0_findCurrent) (maxL := 2) (ret := none) (by decide) rfl ?_
  intro p e s m args below meth c s₁ B hml hv
  obtain ⟨rfl, hP, hK⟩ := hv
  have hx := B.exec
  have hb := B.bytes
  have hr := B.returns
  have hts := atoms_spec (ws := (ws_ yX0_findCurrent cX0_findCurrent 2 none)) B.pre
  have hts : ∀ w ∈ lw_all, w.before _ s = true := fun w h => hts w (List.mem_cons_of_mem _ h)
  have hown : s.vm.findClass RX0 = some m.cls := findClass_of_methodNamed B.named
  have hlocks := B.notSynchronized
  have E : zx_E s m _ ad := ⟨hts, hown, hK⟩
  have hS : va_S (zx_Ad ad) s.heap s.heap [] := va_S.rf
  have hl := lv_entry ([.ref (zx_h ad)]) (n := 2) (Nat.le_of_ble_eq_true rfl)
  rw [lg_entry_eq]
  generalize (lg_sl ([.ref (zx_h ad)]) ++ List.replicate (2 - (lg_sl ([.ref (zx_h ad)])).length) Slot.unset).toArray = ls at hl ⊢
  have hl : lv_has ls 2 [(0, .ref (zx_h ad))] := hl
  have LOOP3 : ∀ (n : Nat) (j : Nat) (ca : Nat) (cb : Nat) (H : Heap) (locs : List Loc), zf_c1 (zf_k u) cb 8 → zf_c2 (zf_k u) cb ca 8 → ca < 8 → j ≤ 4 → 4 < j + n → zx_P ad (zf_k u, zf_o u, zf_s u, zf_w u, zf_t u, zf_n u, ca, zc_cnt (zf_pg (zf_k u) ca) j, zf_x u) H → va_S (zx_Ad ad) s.heap H locs → ∀ (ls : Array Slot), lv_has ls 2 [(1, .int (nI (4 * ca + j))), (0, .ref (zx_h ad))] → W p l e (headSpec (ws_ yX0_findCurrent cX0_findCurrent 2 none) ({ frames := 0, cells := 0, slots := 0, locals := 0 })).room s m ([.ref (zx_h ad)] : List Value).toArray below meth c H locs 0 0 (MQ below (va_Qv (fun u1 : zf_S => zf_FP u u1) (fun (u1 : zf_S) (t : State) => zx_P ad u1 t.heap) (zx_Ad ad)) ([.ref (zx_h ad)] : List Value).toArray s 0 0 (zx_Ad ad)) (F0 m 97 ls []) := by
    intro n
    induction n with
    | zero =>
      intro j ca cb H locs h3 h4 h5 h1 h2 hP hS
      exact absurd h2 (by omega)
    | succ n ih =>
      intro j ca cb H locs h3 h4 h5 h1 h2 hP hS ls hl
      refine lv_iload_n (pc := 97) hx hb dX0_findCurrent_97 rfl (lv_at hl 0 rfl) ?_
      refine lv_iconst (pc := 98) (v := nI 4) hx hb dX0_findCurrent_98 (by decide) ?_
      refine lv_aload_n (pc := 99) hx hb dX0_findCurrent_99 rfl (lv_at hl 1 rfl) ?_
      refine zx_gcv (pc := 100) (v := ca) hx hb E hP rfl dX0_findCurrent_100 ?_
      refine zr_imul (pc := 103) hx hb dX0_findCurrent_103 ?_
      refine lv_iconst (pc := 104) (v := nI 4) hx hb dX0_findCurrent_104 (by decide) ?_
      refine zr_iadd (pc := 105) hx hb dX0_findCurrent_105 ?_
      refine zr_icmp_ge (pc := 106) (tgt := 138) hx hb (by omega) (by omega) dX0_findCurrent_106 (by decide) (fun k0 => ?_) (fun k0 => ?_)
      · have e : j = 4 := by omega
        subst e
        exact W.vret (pc := 138) hx hb hr (fun t ht _ => ⟨⟨(zf_k u, zf_o u, zf_s u, zf_w u, zf_t u, zf_n u, ca, zc_cnt (zf_pg (zf_k u) ca) 4, zf_x u), rfl, ⟨ca, _, rfl, zf_FC hB hF h3 h4⟩, zx_back hP ht⟩, hS.F ht⟩) hS.2.2 dX0_findCurrent_138
      · refine lv_aload_n (pc := 109) hx hb dX0_findCurrent_109 rfl (lv_at hl 1 rfl) ?_
        refine lv_dup (pc := 110) hx hb dX0_findCurrent_110 rfl ?_
        refine zx_gfv (pc := 111) (v := zc_cnt (zf_pg (zf_k u) ca) j) hx hb E hP rfl dX0_findCurrent_111 ?_
        refine lv_aload_n (pc := 114) hx hb dX0_findCurrent_114 rfl (lv_at hl 1 rfl) ?_
        refine zx_g1 (pc := 115) hx hb E hP dX0_findCurrent_115 ?_
        refine lv_iload_n (pc := 118) hx hb dX0_findCurrent_118 rfl (lv_at hl 0 rfl) ?_
        refine zx_l1v (pc := 119) (v := zf_k u (4 * ca + j)) hx hb E hP (by omega) rfl dX0_findCurrent_119 ?_
        refine zr_if_eq (pc := 120) (tgt := 127) hx hb (Nat.lt_of_le_of_lt (hk2 _ (by omega)) (by omega)) dX0_findCurrent_120 (by decide) (fun k1 => ?_) (fun k1 => ?_)
        · refine lv_iconst (pc := 127) (v := nI 0) hx hb dX0_findCurrent_127 (by decide) ?_
          refine zr_iadd (pc := 128) hx hb dX0_findCurrent_128 ?_
          refine lv_topi (fun z1 ez1 => ?_)
          obtain rfl : z1 = nI (zc_cnt (zf_pg (zf_k u) ca) (j + 1)) := ez1.trans (zf_cnt_s0 (zf_pg_0 k1))
          refine zx_pf (pc := 129) hx hb E hD hP hS dX0_findCurrent_129 (fun H locs hP hS => ?_)
          have hP : zx_P ad (zf_k u, zf_o u, zf_s u, zf_w u, zf_t u, zf_n u, ca, (zc_cnt (zf_pg (zf_k u) ca) (j + 1)), zf_x u) H := hP
          refine lv_iinc (pc := 132) (v := nI ((4 * ca + j) + 1)) (lv' := [(1, .int (nI ((4 * ca + j) + 1))), (0, .ref (zx_h ad))]) hx hb dX0_findCurrent_132 hl (k := 0) rfl (zr_inc _) (by decide) rfl (fun ls hl => ?_)
          refine lv_goto (pc := 135) (tgt := 97) hx hb dX0_findCurrent_135 (by decide) ?_
          exact ih (j + 1) ca cb H locs h3 h4 h5 (by omega) (by omega) hP hS ls (lv_sub hl [0, 1] rfl)
        · refine lv_iconst (pc := 123) (v := nI 1) hx hb dX0_findCurrent_123 (by decide) ?_
          refine lv_goto (pc := 124) (tgt := 128) hx hb dX0_findCurrent_124 (by decide) ?_
          refine zr_iadd (pc := 128) hx hb dX0_findCurrent_128 ?_
          refine lv_topi (fun z2 ez2 => ?_)
          obtain rfl : z2 = nI (zc_cnt (zf_pg (zf_k u) ca) (j + 1)) := ez2.trans (zf_cnt_s1 (zf_pg_1 k1))
          refine zx_pf (pc := 129) hx hb E hD hP hS dX0_findCurrent_129 (fun H locs hP hS => ?_)
          have hP : zx_P ad (zf_k u, zf_o u, zf_s u, zf_w u, zf_t u, zf_n u, ca, (zc_cnt (zf_pg (zf_k u) ca) (j + 1)), zf_x u) H := hP
          refine lv_iinc (pc := 132) (v := nI ((4 * ca + j) + 1)) (lv' := [(1, .int (nI ((4 * ca + j) + 1))), (0, .ref (zx_h ad))]) hx hb dX0_findCurrent_132 hl (k := 0) rfl (zr_inc _) (by decide) rfl (fun ls hl => ?_)
          refine lv_goto (pc := 135) (tgt := 97) hx hb dX0_findCurrent_135 (by decide) ?_
          exact ih (j + 1) ca cb H locs h3 h4 h5 (by omega) (by omega) hP hS ls (lv_sub hl [0, 1] rfl)
  have LOOP2 : ∀ (n : Nat) (b : Nat) (ca : Nat) (cb : Nat) (H : Heap) (locs : List Loc), zf_c1 (zf_k u) cb 8 → zf_c2 (zf_k u) cb ca b → b ≤ 8 → 8 < b + n → zx_P ad (zf_k u, zf_o u, zf_s u, zf_w u, zf_t u, zf_n u, ca, 0, zf_x u) H → va_S (zx_Ad ad) s.heap H locs → ∀ (ls : Array Slot), lv_has ls 2 [(1, .int (nI b)), (0, .ref (zx_h ad))] → W p l e (headSpec (ws_ yX0_findCurrent cX0_findCurrent 2 none) ({ frames := 0, cells := 0, slots := 0, locals := 0 })).room s m ([.ref (zx_h ad)] : List Value).toArray below meth c H locs 0 0 (MQ below (va_Qv (fun u1 : zf_S => zf_FP u u1) (fun (u1 : zf_S) (t : State) => zx_P ad u1 t.heap) (zx_Ad ad)) ([.ref (zx_h ad)] : List Value).toArray s 0 0 (zx_Ad ad)) (F0 m 49 ls []) := by
    intro n
    induction n with
    | zero =>
      intro b ca cb H locs h3 h4 h1 h2 hP hS
      exact absurd h2 (by omega)
    | succ n ih =>
      intro b ca cb H locs h3 h4 h1 h2 hP hS ls hl
      refine lv_iload_n (pc := 49) hx hb dX0_findCurrent_49 rfl (lv_at hl 0 rfl) ?_
      refine lv_bipush (pc := 50) (v := nI 8) hx hb dX0_findCurrent_50 (by decide) ?_
      refine zr_icmp_ge (pc := 52) (tgt := 90) hx hb (by omega) (by omega) dX0_findCurrent_52 (by decide) (fun k0 => ?_) (fun k0 => ?_)
      · have e : b = 8 := by omega
        subst e
        refine lv_iconst (pc := 90) (v := nI 4) hx hb dX0_findCurrent_90 (by decide) ?_
        refine lv_aload_n (pc := 91) hx hb dX0_findCurrent_91 rfl (lv_at hl 1 rfl) ?_
        refine zx_gcv (pc := 92) (v := ca) hx hb E hP rfl dX0_findCurrent_92 ?_
        refine zr_imul (pc := 95) hx hb dX0_findCurrent_95 ?_
        refine lv_istore_n (pc := 96) (lv' := [(1, .int (nI (4 * ca))), (0, .ref (zx_h ad))]) hx hb dX0_findCurrent_96 rfl hl (by decide) rfl (fun ls hl => ?_)
        exact LOOP3 5 0 ca cb H locs h3 h4 (zf_c2_lt h3 h4) (by omega) (by omega) hP hS ls (lv_sub hl [0, 1] rfl)
      · refine lv_aload_n (pc := 55) hx hb dX0_findCurrent_55 rfl (lv_at hl 1 rfl) ?_
        refine zx_g1 (pc := 56) hx hb E hP dX0_findCurrent_56 ?_
        refine lv_iconst (pc := 59) (v := nI 4) hx hb dX0_findCurrent_59 (by decide) ?_
        refine lv_iload_n (pc := 60) hx hb dX0_findCurrent_60 rfl (lv_at hl 0 rfl) ?_
        refine zr_imul (pc := 61) hx hb dX0_findCurrent_61 ?_
        refine zx_l1v (pc := 62) (v := zf_k u (4 * b)) hx hb E hP (by omega) rfl dX0_findCurrent_62 ?_
        refine zr_if_eq (pc := 63) (tgt := 84) hx hb (Nat.lt_of_le_of_lt (hk2 _ (by omega)) (by omega)) dX0_findCurrent_63 (by decide) (fun k1 => ?_) (fun k1 => ?_)
        · refine lv_iinc (pc := 84) (v := nI (b + 1)) (lv' := [(1, .int (nI (b + 1))), (0, .ref (zx_h ad))]) hx hb dX0_findCurrent_84 hl (k := 0) rfl (zr_inc _) (by decide) rfl (fun ls hl => ?_)
          refine lv_goto (pc := 87) (tgt := 49) hx hb dX0_findCurrent_87 (by decide) ?_
          exact ih (b + 1) ca cb H locs h3 (zf_c2_n h4 (Or.inl k1)) (by omega) (by omega) hP hS ls (lv_sub hl [0, 1] rfl)
        · refine lv_aload_n (pc := 66) hx hb dX0_findCurrent_66 rfl (lv_at hl 1 rfl) ?_
          refine zx_g1 (pc := 67) hx hb E hP dX0_findCurrent_67 ?_
          refine lv_iconst (pc := 70) (v := nI 4) hx hb dX0_findCurrent_70 (by decide) ?_
          refine lv_iload_n (pc := 71) hx hb dX0_findCurrent_71 rfl (lv_at hl 0 rfl) ?_
          refine zr_imul (pc := 72) hx hb dX0_findCurrent_72 ?_
          refine lv_iconst (pc := 73) (v := nI 3) hx hb dX0_findCurrent_73 (by decide) ?_
          refine zr_iadd (pc := 74) hx hb dX0_findCurrent_74 ?_
          refine zx_l1v (pc := 75) (v := zf_k u ((4 * b) + 3)) hx hb E hP (by omega) rfl dX0_findCurrent_75 ?_
          refine zr_if_ne (pc := 76) (tgt := 84) hx hb (Nat.lt_of_le_of_lt (hk2 _ (by omega)) (by omega)) dX0_findCurrent_76 (by decide) (fun k2 => ?_) (fun k2 => ?_)
          · refine lv_iinc (pc := 84) (v := nI (b + 1)) (lv' := [(1, .int (nI (b + 1))), (0, .ref (zx_h ad))]) hx hb dX0_findCurrent_84 hl (k := 0) rfl (zr_inc _) (by decide) rfl (fun ls hl => ?_)
            refine lv_goto (pc := 87) (tgt := 49) hx hb dX0_findCurrent_87 (by decide) ?_
            exact ih (b + 1) ca cb H locs h3 (zf_c2_n h4 (Or.inr k2)) (by omega) (by omega) hP hS ls (lv_sub hl [0, 1] rfl)
          · refine lv_aload_n (pc := 79) hx hb dX0_findCurrent_79 rfl (lv_at hl 1 rfl) ?_
            refine lv_iload_n (pc := 80) hx hb dX0_findCurrent_80 rfl (lv_at hl 0 rfl) ?_
            refine zx_pc (pc := 81) hx hb E hD hP hS dX0_findCurrent_81 (fun H locs hP hS => ?_)
            have hP : zx_P ad (zf_k u, zf_o u, zf_s u, zf_w u, zf_t u, zf_n u, b, 0, zf_x u) H := hP
            refine lv_iinc (pc := 84) (v := nI (b + 1)) (lv' := [(1, .int (nI (b + 1))), (0, .ref (zx_h ad))]) hx hb dX0_findCurrent_84 hl (k := 0) rfl (zr_inc _) (by decide) rfl (fun ls hl => ?_)
            refine lv_goto (pc := 87) (tgt := 49) hx hb dX0_findCurrent_87 (by decide) ?_
            exact ih (b + 1) b cb H locs h3 (zf_c2_y k1 k2) (by omega) (by omega) hP hS ls (lv_sub hl [0, 1] rfl)
  have LOOP1 : ∀ (n : Nat) (b : Nat) (ca : Nat) (H : Heap) (locs : List Loc), zf_c1 (zf_k u) ca b → b ≤ 8 → 8 < b + n → zx_P ad (zf_k u, zf_o u, zf_s u, zf_w u, zf_t u, zf_n u, ca, 0, zf_x u) H → va_S (zx_Ad ad) s.heap H locs → ∀ (ls : Array Slot), lv_has ls 2 [(1, .int (nI b)), (0, .ref (zx_h ad))] → W p l e (headSpec (ws_ yX0_findCurrent cX0_findCurrent 2 none) ({ frames := 0, cells := 0, slots := 0, locals := 0 })).room s m ([.ref (zx_h ad)] : List Value).toArray below meth c H locs 0 0 (MQ below (va_Qv (fun u1 : zf_S => zf_FP u u1) (fun (u1 : zf_S) (t : State) => zx_P ad u1 t.heap) (zx_Ad ad)) ([.ref (zx_h ad)] : List Value).toArray s 0 0 (zx_Ad ad)) (F0 m 12 ls []) := by
    intro n
    induction n with
    | zero =>
      intro b ca H locs h3 h1 h2 hP hS
      exact absurd h2 (by omega)
    | succ n ih =>
      intro b ca H locs h3 h1 h2 hP hS ls hl
      refine lv_iload_n (pc := 12) hx hb dX0_findCurrent_12 rfl (lv_at hl 0 rfl) ?_
      refine lv_bipush (pc := 13) (v := nI 8) hx hb dX0_findCurrent_13 (by decide) ?_
      refine zr_icmp_ge (pc := 15) (tgt := 47) hx hb (by omega) (by omega) dX0_findCurrent_15 (by decide) (fun k0 => ?_) (fun k0 => ?_)
      · have e : b = 8 := by omega
        subst e
        refine lv_iconst (pc := 47) (v := nI 0) hx hb dX0_findCurrent_47 (by decide) ?_
        refine lv_istore_n (pc := 48) (lv' := [(1, .int (nI 0)), (0, .ref (zx_h ad))]) hx hb dX0_findCurrent_48 rfl hl (by decide) rfl (fun ls hl => ?_)
        exact LOOP2 9 0 ca ca H locs h3 (zf_c2_0 _ _) (by omega) (by omega) hP hS ls (lv_sub hl [0, 1] rfl)
      · refine lv_aload_n (pc := 18) hx hb dX0_findCurrent_18 rfl (lv_at hl 1 rfl) ?_
        refine lv_aload_n (pc := 19) hx hb dX0_findCurrent_19 rfl (lv_at hl 1 rfl) ?_
        refine zx_g1 (pc := 20) hx hb E hP dX0_findCurrent_20 ?_
        refine lv_iconst (pc := 23) (v := nI 4) hx hb dX0_findCurrent_23 (by decide) ?_
        refine lv_iload_n (pc := 24) hx hb dX0_findCurrent_24 rfl (lv_at hl 0 rfl) ?_
        refine zr_imul (pc := 25) hx hb dX0_findCurrent_25 ?_
        refine zx_l1v (pc := 26) (v := zf_k u (4 * b)) hx hb E hP (by omega) rfl dX0_findCurrent_26 ?_
        refine zr_if_eq (pc := 27) (tgt := 34) hx hb (Nat.lt_of_le_of_lt (hk2 _ (by omega)) (by omega)) dX0_findCurrent_27 (by decide) (fun k1 => ?_) (fun k1 => ?_)
        · refine lv_aload_n (pc := 34) hx hb dX0_findCurrent_34 rfl (lv_at hl 1 rfl) ?_
          refine zx_gcv (pc := 35) (v := ca) hx hb E hP rfl dX0_findCurrent_35 ?_
          refine zx_pc (pc := 38) hx hb E hD hP hS dX0_findCurrent_38 (fun H locs hP hS => ?_)
          have hP : zx_P ad (zf_k u, zf_o u, zf_s u, zf_w u, zf_t u, zf_n u, ca, 0, zf_x u) H := hP
          refine lv_iinc (pc := 41) (v := nI (b + 1)) (lv' := [(1, .int (nI (b + 1))), (0, .ref (zx_h ad))]) hx hb dX0_findCurrent_41 hl (k := 0) rfl (zr_inc _) (by decide) rfl (fun ls hl => ?_)
          refine lv_goto (pc := 44) (tgt := 12) hx hb dX0_findCurrent_44 (by decide) ?_
          exact ih (b + 1) ca H locs (zf_c1_n h3 k1) (by omega) (by omega) hP hS ls (lv_sub hl [0, 1] rfl)
        · refine lv_iload_n (pc := 30) hx hb dX0_findCurrent_30 rfl (lv_at hl 0 rfl) ?_
          refine lv_goto (pc := 31) (tgt := 38) hx hb dX0_findCurrent_31 (by decide) ?_
          refine zx_pc (pc := 38) hx hb E hD hP hS dX0_findCurrent_38 (fun H locs hP hS => ?_)
          have hP : zx_P ad (zf_k u, zf_o u, zf_s u, zf_w u, zf_t u, zf_n u, b, 0, zf_x u) H := hP
          refine lv_iinc (pc := 41) (v := nI (b + 1)) (lv' := [(1, .int (nI (b + 1))), (0, .ref (zx_h ad))]) hx hb dX0_findCurrent_41 hl (k := 0) rfl (zr_inc _) (by decide) rfl (fun ls hl => ?_)
          refine lv_goto (pc := 44) (tgt := 12) hx hb dX0_findCurrent_44 (by decide) ?_
          exact ih (b + 1) b H locs (zf_c1_y k1) (by omega) (by omega) hP hS ls (lv_sub hl [0, 1] rfl)
  refine lv_aload_n (pc := 0) hx hb dX0_findCurrent_0 rfl (lv_at hl 0 rfl) ?_
  refine lv_iconst (pc := 1) (v := nI 0) hx hb dX0_findCurrent_1 (by decide) ?_
  refine zx_pc (pc := 2) hx hb E hD hP hS dX0_findCurrent_2 (fun H locs hP hS => ?_)
  have hP : zx_P ad (zf_k u, zf_o u, zf_s u, zf_w u, zf_t u, zf_n u, 0, zf_f u, zf_x u) H := hP
  refine lv_aload_n (pc := 5) hx hb dX0_findCurrent_5 rfl (lv_at hl 0 rfl) ?_
  refine lv_iconst (pc := 6) (v := nI 0) hx hb dX0_findCurrent_6 (by decide) ?_
  refine zx_pf (pc := 7) hx hb E hD hP hS dX0_findCurrent_7 (fun H locs hP hS => ?_)
  have hP : zx_P ad (zf_k u, zf_o u, zf_s u, zf_w u, zf_t u, zf_n u, 0, 0, zf_x u) H := hP
  refine lv_iconst (pc := 10) (v := nI 0) hx hb dX0_findCurrent_10 (by decide) ?_
  refine lv_istore_n (pc := 11) (lv' := [(1, .int (nI 0)), (0, .ref (zx_h ad))]) hx hb dX0_findCurrent_11 rfl hl (by decide) rfl (fun ls hl => ?_)
  exact LOOP1 9 0 0 H locs (zf_c1_0 _) (by omega) (by omega) hP hS ls (lv_sub hl [0, 1] rfl)

theorem zf_none {N : Nat → Option Nat} {i : Nat} (h : ∀ j, j < i → N j = none) : ∀ j, j < i + 1 → va_up N i none j = none := by
  intro j hj
  by_cases e : j = i
  · rw [e, va_up_self]
  · rw [va_up_ne _ _ e]
    exact h j (by omega)

set_option maxHeartbeats 4000000 in
set_option maxRecDepth 100000 in
theorem zx_met_power (l : Launch) (ad : zx_A) (hD : zx_Dj ad) (u : zf_S) (X c0 f0 : Nat) (hPG : zf_PG (zf_k u) (zf_o u) (zf_s u) X) (hB : zf_BL (zf_k u) c0 f0) (hF : zf_FR (zf_k u) c0) (hX : X < 2000000000) : Met l yX0_power (ws_ yX0_power cX0_power 3 none) ({ frames := 1, cells := 0, slots := 0, locals := 21 }) (va_Pc [.ref (zx_h ad)] (zx_I ad u)) (va_Qv (fun u1 : zf_S => zf_PW u X u1) (fun (u1 : zf_S) (t : State) => zx_P ad u1 t.heap) (zx_Ad ad)) 0 0 (zx_Ad ad) := by
  refine Met.ofW (cc := cX0_power) (maxL := 3) (ret := none) (by decide) rfl ?_
  intro p e s m args below meth c s₁ B hml hv
  obtain ⟨rfl, hP, hK⟩ := hv
  have hx := B.exec
  have hb := B.bytes
  have hr := B.returns
  have hts := atoms_spec (ws := (ws_ yX0_power cX0_power 3 none)) B.pre
  have hts : ∀ w ∈ lw_all, w.before _ s = true := fun w h => hts w (List.mem_cons_of_mem _ h)
  have hown : s.vm.findClass RX0 = some m.cls := findClass_of_methodNamed B.named
  have hlocks := B.notSynchronized
  have E : zx_E s m _ ad := ⟨hts, hown, hK⟩
  have hS : va_S (zx_Ad ad) s.heap s.heap [] := va_S.rf
  have hl := lv_entry ([.ref (zx_h ad)]) (n := 3) (Nat.le_of_ble_eq_true rfl)
  rw [lg_entry_eq]
  generalize (lg_sl ([.ref (zx_h ad)]) ++ List.replicate (3 - (lg_sl ([.ref (zx_h ad)])).length) Slot.unset).toArray = ls at hl ⊢
  have hl : lv_has ls 3 [(0, .ref (zx_h ad))] := hl
  have LOOPB : ∀ (n : Nat) (g : Nat) (N : Nat → Option Nat) (x : Nat) (H : Heap) (locs : List Loc), zf_M (zf_k u) (zf_o u) (zf_s u) X N x g → g ≤ 32 → 32 < g + n → zx_P ad (zf_k u, zf_o u, zf_s u, zf_w u, zf_t u, N, zf_c u, zf_f u, x) H → va_S (zx_Ad ad) s.heap H locs → ∀ (ls : Array Slot), lv_has ls 3 [(1, .int (nI g)), (0, .ref (zx_h ad))] → W p l e (headSpec (ws_ yX0_power cX0_power 3 none) ({ frames := 1, cells := 0, slots := 0, locals := 21 })).room s m ([.ref (zx_h ad)] : List Value).toArray below meth c H locs 0 0 (MQ below (va_Qv (fun u1 : zf_S => zf_PW u X u1) (fun (u1 : zf_S) (t : State) => zx_P ad u1 t.heap) (zx_Ad ad)) ([.ref (zx_h ad)] : List Value).toArray s 0 0 (zx_Ad ad)) (F0 m 28 ls []) := by
    intro n
    induction n with
    | zero =>
      intro g N x H locs hM h1 h2 hP hS
      exact absurd h2 (by omega)
    | succ n ih =>
      intro g N x H locs hM h1 h2 hP hS ls hl
      refine lv_iload_n (pc := 28) hx hb dX0_power_28 rfl (lv_at hl 0 rfl) ?_
      refine lv_bipush (pc := 29) (v := nI 32) hx hb dX0_power_29 (by decide) ?_
      refine zr_icmp_ge (pc := 31) (tgt := 126) hx hb (by omega) (by omega) dX0_power_31 (by decide) (fun k0 => ?_) (fun k0 => ?_)
      · have e : g = 32 := by omega
        subst e
        refine lv_aload_n (pc := 126) hx hb dX0_power_126 rfl (lv_at hl 1 rfl) ?_
        refine va_callv (pc := 127) (va_runV (As := []) (rest := []) ⟨hx, hb, hml, hown, hts⟩ (zx_met_findCurrent l ad hD (zf_k u, zf_o u, zf_s u, zf_w u, zf_t u, N, zf_c u, zf_f u, x) c0 f0 hPG.1 hB hF) (cwV 0 hts (lw_V q24 q26 qs0 q10 q27) rfl rfl rfl (by decide +kernel) ⟨Nat.le_of_ble_eq_true rfl, Nat.le_of_ble_eq_true rfl⟩) (zx_pre hK hP) rfl rfl hl.1 rfl (lv_room (Nat.le_of_ble_eq_true rfl)) dX0_power_127 ⟨Nat.le_of_ble_eq_true rfl, Nat.le_of_ble_eq_true rfl⟩) hS (fun _ _ h => h) (fun _ h => h) (fun u1 t H1 locs ht hvm hw hP hz1 hk1 hS => ?_)
        have hP : zx_P ad u1 t.heap := hP
        rw [ht] at hP
        clear ht hvm hz1 hk1
        generalize H1 = H at hP hS ⊢
        exact W.vret (pc := 130) hx hb hr (fun t ht _ => ⟨⟨u1, rfl, zf_PW_end hPG hM hw, zx_back hP ht⟩, hS.F ht⟩) hS.2.2 dX0_power_130
      · refine lv_aload_n (pc := 34) hx hb dX0_power_34 rfl (lv_at hl 1 rfl) ?_
        refine zx_g1 (pc := 35) hx hb E hP dX0_power_35 ?_
        refine lv_iload_n (pc := 38) hx hb dX0_power_38 rfl (lv_at hl 0 rfl) ?_
        refine zx_l1v (pc := 39) (v := zf_k u g) hx hb E hP (by omega) rfl dX0_power_39 ?_
        refine zr_if_eq (pc := 40) (tgt := 120) hx hb (Nat.lt_of_le_of_lt (hPG.1 _ (by omega)) (by omega)) dX0_power_40 (by decide) (fun k1 => ?_) (fun k1 => ?_)
        · refine lv_iinc (pc := 120) (v := nI (g + 1)) (lv' := [(1, .int (nI (g + 1))), (0, .ref (zx_h ad))]) hx hb dX0_power_120 hl (k := 0) rfl (zr_inc _) (by decide) rfl (fun ls hl => ?_)
          refine lv_goto (pc := 123) (tgt := 28) hx hb dX0_power_123 (by decide) ?_
          exact ih (g + 1) N x H locs (zf_M_skip hM k1) (by omega) (by omega) hP hS ls (lv_sub hl [0, 1] rfl)
        · obtain ⟨hO, hSX⟩ := hPG.2.1 g (by omega) k1
          have hxX := hM.2.2.2
          have hNb : ∀ q, N (zf_o u g) = some q → q < g ∧ zf_k u q ≠ 0 ∧ zf_o u q = zf_o u g := fun q hq => hM.1 _ q hO hq
          refine lv_aload_n (pc := 43) hx hb dX0_power_43 rfl (lv_at hl 1 rfl) ?_
          refine zx_g2 (pc := 44) hx hb E hP dX0_power_44 ?_
          refine lv_iload_n (pc := 47) hx hb dX0_power_47 rfl (lv_at hl 0 rfl) ?_
          refine zx_l2v (pc := 48) (v := zf_o u g) hx hb E hP (by omega) rfl dX0_power_48 ?_
          refine lv_istore_n (pc := 49) (lv' := [(2, .int (nI (zf_o u g))), (1, .int (nI g)), (0, .ref (zx_h ad))]) hx hb dX0_power_49 rfl hl (by decide) rfl (fun ls hl => ?_)
          refine lv_aload_n (pc := 50) hx hb dX0_power_50 rfl (lv_at hl 2 rfl) ?_
          refine zx_g6 (pc := 51) hx hb E hP dX0_power_51 ?_
          refine lv_iload_n (pc := 54) hx hb dX0_power_54 rfl (lv_at hl 0 rfl) ?_
          refine zx_l6v (pc := 55) (v := N (zf_o u g)) hx hb E hP (hO) rfl dX0_power_55 ?_
          refine zr_nif_lt (pc := 56) (tgt := 80) hx hb (fun q hq => Nat.lt_trans (hNb q hq).1 (by omega)) dX0_power_56 (by decide) (fun k3 => ?_) (fun r k3 => ?_)
          · refine lv_aload_n (pc := 80) hx hb dX0_power_80 rfl (lv_at hl 2 rfl) ?_
            refine zx_g6 (pc := 81) hx hb E hP dX0_power_81 ?_
            refine lv_iload_n (pc := 84) hx hb dX0_power_84 rfl (lv_at hl 0 rfl) ?_
            refine lv_iload_n (pc := 85) hx hb dX0_power_85 rfl (lv_at hl 1 rfl) ?_
            refine zx_s6 (pc := 86) (v := (some g)) hx hb E hD hP hS (hO) dX0_power_86 (fun H locs hP hS => ?_)
            have hP : zx_P ad (zf_k u, zf_o u, zf_s u, zf_w u, zf_t u, va_up (N) (zf_o u g) (some g), zf_c u, zf_f u, x) H := hP
            refine lv_aload_n (pc := 87) hx hb dX0_power_87 rfl (lv_at hl 2 rfl) ?_
            refine lv_aload_n (pc := 88) hx hb dX0_power_88 rfl (lv_at hl 2 rfl) ?_
            refine zx_g3 (pc := 89) hx hb E hP dX0_power_89 ?_
            refine lv_iload_n (pc := 92) hx hb dX0_power_92 rfl (lv_at hl 1 rfl) ?_
            refine zx_l3v (pc := 93) (v := zf_s u g) hx hb E hP (by omega) rfl dX0_power_93 ?_
            refine lv_aload_n (pc := 94) hx hb dX0_power_94 rfl (lv_at hl 2 rfl) ?_
            refine zx_gxv (pc := 95) (v := x) hx hb E hP rfl dX0_power_95 ?_
            refine W.lcmp (pc := 98) hx hb dX0_power_98 ?_
            refine lv_if_lt (pc := 99) (tgt := 113) hx hb dX0_power_99 (by decide) (fun k5 => ?_) (fun k5 => ?_)
            · have k5 := zf_llt (by omega) (by omega) k5
              refine lv_aload_n (pc := 113) hx hb dX0_power_113 rfl (lv_at hl 2 rfl) ?_
              refine zx_gxv (pc := 114) (v := x) hx hb E hP rfl dX0_power_114 ?_
              refine zx_px (pc := 117) hx hb E hD hP hS dX0_power_117 (fun H locs hP hS => ?_)
              have hP : zx_P ad (zf_k u, zf_o u, zf_s u, zf_w u, zf_t u, va_up (N) (zf_o u g) (some g), zf_c u, zf_f u, x) H := hP
              refine lv_iinc (pc := 120) (v := nI (g + 1)) (lv' := [(1, .int (nI (g + 1))), (2, .int (nI (zf_o u g))), (0, .ref (zx_h ad))]) hx hb dX0_power_120 hl (k := 1) rfl (zr_inc _) (by decide) rfl (fun ls hl => ?_)
              refine lv_goto (pc := 123) (tgt := 28) hx hb dX0_power_123 (by decide) ?_
              exact ih (g + 1) (va_up N (zf_o u g) (some g)) x H locs (zf_M_new hM k1 hO hSX ((if_neg (by omega)).symm) (fun q hq => by (rw [k3] at hq; cases hq))) (by omega) (by omega) hP hS ls (lv_sub hl [0, 2] rfl)
            · have k5 := zf_nllt (by omega) (by omega) k5
              refine lv_aload_n (pc := 102) hx hb dX0_power_102 rfl (lv_at hl 2 rfl) ?_
              refine zx_g3 (pc := 103) hx hb E hP dX0_power_103 ?_
              refine lv_iload_n (pc := 106) hx hb dX0_power_106 rfl (lv_at hl 1 rfl) ?_
              refine zx_l3v (pc := 107) (v := zf_s u g) hx hb E hP (by omega) rfl dX0_power_107 ?_
              refine lv_lconst (pc := 108) (v := lN 1) hx hb dX0_power_108 (by decide) ?_
              refine lv_ladd (pc := 109) hx hb dX0_power_109 ?_
              rw [lN_add]
              refine lv_goto (pc := 110) (tgt := 117) hx hb dX0_power_110 (by decide) ?_
              refine zx_px (pc := 117) hx hb E hD hP hS dX0_power_117 (fun H locs hP hS => ?_)
              have hP : zx_P ad (zf_k u, zf_o u, zf_s u, zf_w u, zf_t u, va_up (N) (zf_o u g) (some g), zf_c u, zf_f u, ((zf_s u g) + 1)) H := hP
              refine lv_iinc (pc := 120) (v := nI (g + 1)) (lv' := [(1, .int (nI (g + 1))), (2, .int (nI (zf_o u g))), (0, .ref (zx_h ad))]) hx hb dX0_power_120 hl (k := 1) rfl (zr_inc _) (by decide) rfl (fun ls hl => ?_)
              refine lv_goto (pc := 123) (tgt := 28) hx hb dX0_power_123 (by decide) ?_
              exact ih (g + 1) (va_up N (zf_o u g) (some g)) (zf_s u g + 1) H locs (zf_M_new hM k1 hO hSX ((if_pos k5).symm) (fun q hq => by (rw [k3] at hq; cases hq))) (by omega) (by omega) hP hS ls (lv_sub hl [0, 2] rfl)
          · have hr32 := (hNb r k3).1
            have hrX := (hPG.2.1 r (by omega) (hNb r k3).2.1).2
            refine lv_aload_n (pc := 59) hx hb dX0_power_59 rfl (lv_at hl 2 rfl) ?_
            refine zx_g3 (pc := 60) hx hb E hP dX0_power_60 ?_
            refine lv_iload_n (pc := 63) hx hb dX0_power_63 rfl (lv_at hl 1 rfl) ?_
            refine zx_l3v (pc := 64) (v := zf_s u g) hx hb E hP (by omega) rfl dX0_power_64 ?_
            refine lv_aload_n (pc := 65) hx hb dX0_power_65 rfl (lv_at hl 2 rfl) ?_
            refine zx_g3 (pc := 66) hx hb E hP dX0_power_66 ?_
            refine lv_aload_n (pc := 69) hx hb dX0_power_69 rfl (lv_at hl 2 rfl) ?_
            refine zx_g6 (pc := 70) hx hb E hP dX0_power_70 ?_
            refine lv_iload_n (pc := 73) hx hb dX0_power_73 rfl (lv_at hl 0 rfl) ?_
            refine zx_l6v (pc := 74) (v := N (zf_o u g)) hx hb E hP (hO) rfl dX0_power_74 ?_
            rw [k3, zr_nw_some]
            refine zx_l3v (pc := 75) (v := zf_s u r) hx hb E hP (by omega) rfl dX0_power_75 ?_
            refine W.lcmp (pc := 76) hx hb dX0_power_76 ?_
            refine lv_if_le (pc := 77) (tgt := 87) hx hb dX0_power_77 (by decide) (fun k4 => ?_) (fun k4 => ?_)
            · have k4 := zf_lle (by omega) (by omega) k4
              refine lv_aload_n (pc := 87) hx hb dX0_power_87 rfl (lv_at hl 2 rfl) ?_
              refine lv_aload_n (pc := 88) hx hb dX0_power_88 rfl (lv_at hl 2 rfl) ?_
              refine zx_g3 (pc := 89) hx hb E hP dX0_power_89 ?_
              refine lv_iload_n (pc := 92) hx hb dX0_power_92 rfl (lv_at hl 1 rfl) ?_
              refine zx_l3v (pc := 93) (v := zf_s u g) hx hb E hP (by omega) rfl dX0_power_93 ?_
              refine lv_aload_n (pc := 94) hx hb dX0_power_94 rfl (lv_at hl 2 rfl) ?_
              refine zx_gxv (pc := 95) (v := x) hx hb E hP rfl dX0_power_95 ?_
              refine W.lcmp (pc := 98) hx hb dX0_power_98 ?_
              refine lv_if_lt (pc := 99) (tgt := 113) hx hb dX0_power_99 (by decide) (fun k5 => ?_) (fun k5 => ?_)
              · have k5 := zf_llt (by omega) (by omega) k5
                refine lv_aload_n (pc := 113) hx hb dX0_power_113 rfl (lv_at hl 2 rfl) ?_
                refine zx_gxv (pc := 114) (v := x) hx hb E hP rfl dX0_power_114 ?_
                refine zx_px (pc := 117) hx hb E hD hP hS dX0_power_117 (fun H locs hP hS => ?_)
                have hP : zx_P ad (zf_k u, zf_o u, zf_s u, zf_w u, zf_t u, N, zf_c u, zf_f u, x) H := hP
                refine lv_iinc (pc := 120) (v := nI (g + 1)) (lv' := [(1, .int (nI (g + 1))), (2, .int (nI (zf_o u g))), (0, .ref (zx_h ad))]) hx hb dX0_power_120 hl (k := 1) rfl (zr_inc _) (by decide) rfl (fun ls hl => ?_)
                refine lv_goto (pc := 123) (tgt := 28) hx hb dX0_power_123 (by decide) ?_
                exact ih (g + 1) N x H locs (zf_M_old hM k1 hSX ((if_neg (by omega)).symm) k3 k4) (by omega) (by omega) hP hS ls (lv_sub hl [0, 2] rfl)
              · have k5 := zf_nllt (by omega) (by omega) k5
                refine lv_aload_n (pc := 102) hx hb dX0_power_102 rfl (lv_at hl 2 rfl) ?_
                refine zx_g3 (pc := 103) hx hb E hP dX0_power_103 ?_
                refine lv_iload_n (pc := 106) hx hb dX0_power_106 rfl (lv_at hl 1 rfl) ?_
                refine zx_l3v (pc := 107) (v := zf_s u g) hx hb E hP (by omega) rfl dX0_power_107 ?_
                refine lv_lconst (pc := 108) (v := lN 1) hx hb dX0_power_108 (by decide) ?_
                refine lv_ladd (pc := 109) hx hb dX0_power_109 ?_
                rw [lN_add]
                refine lv_goto (pc := 110) (tgt := 117) hx hb dX0_power_110 (by decide) ?_
                refine zx_px (pc := 117) hx hb E hD hP hS dX0_power_117 (fun H locs hP hS => ?_)
                have hP : zx_P ad (zf_k u, zf_o u, zf_s u, zf_w u, zf_t u, N, zf_c u, zf_f u, ((zf_s u g) + 1)) H := hP
                refine lv_iinc (pc := 120) (v := nI (g + 1)) (lv' := [(1, .int (nI (g + 1))), (2, .int (nI (zf_o u g))), (0, .ref (zx_h ad))]) hx hb dX0_power_120 hl (k := 1) rfl (zr_inc _) (by decide) rfl (fun ls hl => ?_)
                refine lv_goto (pc := 123) (tgt := 28) hx hb dX0_power_123 (by decide) ?_
                exact ih (g + 1) N (zf_s u g + 1) H locs (zf_M_old hM k1 hSX ((if_pos k5).symm) k3 k4) (by omega) (by omega) hP hS ls (lv_sub hl [0, 2] rfl)
            · have k4 := zf_nlle (by omega) (by omega) k4
              refine lv_aload_n (pc := 80) hx hb dX0_power_80 rfl (lv_at hl 2 rfl) ?_
              refine zx_g6 (pc := 81) hx hb E hP dX0_power_81 ?_
              refine lv_iload_n (pc := 84) hx hb dX0_power_84 rfl (lv_at hl 0 rfl) ?_
              refine lv_iload_n (pc := 85) hx hb dX0_power_85 rfl (lv_at hl 1 rfl) ?_
              refine zx_s6 (pc := 86) (v := (some g)) hx hb E hD hP hS (hO) dX0_power_86 (fun H locs hP hS => ?_)
              have hP : zx_P ad (zf_k u, zf_o u, zf_s u, zf_w u, zf_t u, va_up (N) (zf_o u g) (some g), zf_c u, zf_f u, x) H := hP
              refine lv_aload_n (pc := 87) hx hb dX0_power_87 rfl (lv_at hl 2 rfl) ?_
              refine lv_aload_n (pc := 88) hx hb dX0_power_88 rfl (lv_at hl 2 rfl) ?_
              refine zx_g3 (pc := 89) hx hb E hP dX0_power_89 ?_
              refine lv_iload_n (pc := 92) hx hb dX0_power_92 rfl (lv_at hl 1 rfl) ?_
              refine zx_l3v (pc := 93) (v := zf_s u g) hx hb E hP (by omega) rfl dX0_power_93 ?_
              refine lv_aload_n (pc := 94) hx hb dX0_power_94 rfl (lv_at hl 2 rfl) ?_
              refine zx_gxv (pc := 95) (v := x) hx hb E hP rfl dX0_power_95 ?_
              refine W.lcmp (pc := 98) hx hb dX0_power_98 ?_
              refine lv_if_lt (pc := 99) (tgt := 113) hx hb dX0_power_99 (by decide) (fun k5 => ?_) (fun k5 => ?_)
              · have k5 := zf_llt (by omega) (by omega) k5
                refine lv_aload_n (pc := 113) hx hb dX0_power_113 rfl (lv_at hl 2 rfl) ?_
                refine zx_gxv (pc := 114) (v := x) hx hb E hP rfl dX0_power_114 ?_
                refine zx_px (pc := 117) hx hb E hD hP hS dX0_power_117 (fun H locs hP hS => ?_)
                have hP : zx_P ad (zf_k u, zf_o u, zf_s u, zf_w u, zf_t u, va_up (N) (zf_o u g) (some g), zf_c u, zf_f u, x) H := hP
                refine lv_iinc (pc := 120) (v := nI (g + 1)) (lv' := [(1, .int (nI (g + 1))), (2, .int (nI (zf_o u g))), (0, .ref (zx_h ad))]) hx hb dX0_power_120 hl (k := 1) rfl (zr_inc _) (by decide) rfl (fun ls hl => ?_)
                refine lv_goto (pc := 123) (tgt := 28) hx hb dX0_power_123 (by decide) ?_
                exact ih (g + 1) (va_up N (zf_o u g) (some g)) x H locs (zf_M_new hM k1 hO hSX ((if_neg (by omega)).symm) (fun q hq => by (rw [k3] at hq; cases hq; exact k4))) (by omega) (by omega) hP hS ls (lv_sub hl [0, 2] rfl)
              · have k5 := zf_nllt (by omega) (by omega) k5
                refine lv_aload_n (pc := 102) hx hb dX0_power_102 rfl (lv_at hl 2 rfl) ?_
                refine zx_g3 (pc := 103) hx hb E hP dX0_power_103 ?_
                refine lv_iload_n (pc := 106) hx hb dX0_power_106 rfl (lv_at hl 1 rfl) ?_
                refine zx_l3v (pc := 107) (v := zf_s u g) hx hb E hP (by omega) rfl dX0_power_107 ?_
                refine lv_lconst (pc := 108) (v := lN 1) hx hb dX0_power_108 (by decide) ?_
                refine lv_ladd (pc := 109) hx hb dX0_power_109 ?_
                rw [lN_add]
                refine lv_goto (pc := 110) (tgt := 117) hx hb dX0_power_110 (by decide) ?_
                refine zx_px (pc := 117) hx hb E hD hP hS dX0_power_117 (fun H locs hP hS => ?_)
                have hP : zx_P ad (zf_k u, zf_o u, zf_s u, zf_w u, zf_t u, va_up (N) (zf_o u g) (some g), zf_c u, zf_f u, ((zf_s u g) + 1)) H := hP
                refine lv_iinc (pc := 120) (v := nI (g + 1)) (lv' := [(1, .int (nI (g + 1))), (2, .int (nI (zf_o u g))), (0, .ref (zx_h ad))]) hx hb dX0_power_120 hl (k := 1) rfl (zr_inc _) (by decide) rfl (fun ls hl => ?_)
                refine lv_goto (pc := 123) (tgt := 28) hx hb dX0_power_123 (by decide) ?_
                exact ih (g + 1) (va_up N (zf_o u g) (some g)) (zf_s u g + 1) H locs (zf_M_new hM k1 hO hSX ((if_pos k5).symm) (fun q hq => by (rw [k3] at hq; cases hq; exact k4))) (by omega) (by omega) hP hS ls (lv_sub hl [0, 2] rfl)
  have LOOPA : ∀ (n : Nat) (i : Nat) (N : Nat → Option Nat) (H : Heap) (locs : List Loc), (∀ j, j < i → N j = none) → i ≤ 16 → 16 < i + n → zx_P ad (zf_k u, zf_o u, zf_s u, zf_w u, zf_t u, N, zf_c u, zf_f u, 1) H → va_S (zx_Ad ad) s.heap H locs → ∀ (ls : Array Slot), lv_has ls 3 [(1, .int (nI i)), (0, .ref (zx_h ad))] → W p l e (headSpec (ws_ yX0_power cX0_power 3 none) ({ frames := 1, cells := 0, slots := 0, locals := 21 })).room s m ([.ref (zx_h ad)] : List Value).toArray below meth c H locs 0 0 (MQ below (va_Qv (fun u1 : zf_S => zf_PW u X u1) (fun (u1 : zf_S) (t : State) => zx_P ad u1 t.heap) (zx_Ad ad)) ([.ref (zx_h ad)] : List Value).toArray s 0 0 (zx_Ad ad)) (F0 m 7 ls []) := by
    intro n
    induction n with
    | zero =>
      intro i N H locs hN h1 h2 hP hS
      exact absurd h2 (by omega)
    | succ n ih =>
      intro i N H locs hN h1 h2 hP hS ls hl
      refine lv_iload_n (pc := 7) hx hb dX0_power_7 rfl (lv_at hl 0 rfl) ?_
      refine lv_bipush (pc := 8) (v := nI 16) hx hb dX0_power_8 (by decide) ?_
      refine zr_icmp_ge (pc := 10) (tgt := 26) hx hb (by omega) (by omega) dX0_power_10 (by decide) (fun k0 => ?_) (fun k0 => ?_)
      · refine lv_iconst (pc := 26) (v := nI 0) hx hb dX0_power_26 (by decide) ?_
        refine lv_istore_n (pc := 27) (lv' := [(1, .int (nI 0)), (0, .ref (zx_h ad))]) hx hb dX0_power_27 rfl hl (by decide) rfl (fun ls hl => ?_)
        exact LOOPB 33 0 N 1 H locs (zf_M_0 (fun s hs => hN s (by omega))) (by omega) (by omega) hP hS ls (lv_sub hl [0, 1] rfl)
      · refine lv_aload_n (pc := 13) hx hb dX0_power_13 rfl (lv_at hl 1 rfl) ?_
        refine zx_g6 (pc := 14) hx hb E hP dX0_power_14 ?_
        refine lv_iload_n (pc := 17) hx hb dX0_power_17 rfl (lv_at hl 0 rfl) ?_
        refine lv_iconst (pc := 18) (v := (-1)) hx hb dX0_power_18 (by decide) ?_
        refine zx_s6 (pc := 19) (v := none) hx hb E hD hP hS (by omega) dX0_power_19 (fun H locs hP hS => ?_)
        have hP : zx_P ad (zf_k u, zf_o u, zf_s u, zf_w u, zf_t u, va_up (N) i none, zf_c u, zf_f u, 1) H := hP
        refine lv_iinc (pc := 20) (v := nI (i + 1)) (lv' := [(1, .int (nI (i + 1))), (0, .ref (zx_h ad))]) hx hb dX0_power_20 hl (k := 0) rfl (zr_inc _) (by decide) rfl (fun ls hl => ?_)
        refine lv_goto (pc := 23) (tgt := 7) hx hb dX0_power_23 (by decide) ?_
        exact ih (i + 1) (va_up N i none) H locs (zf_none hN) (by omega) (by omega) hP hS ls (lv_sub hl [0, 1] rfl)
  refine lv_aload_n (pc := 0) hx hb dX0_power_0 rfl (lv_at hl 0 rfl) ?_
  refine lv_lconst (pc := 1) (v := lN 1) hx hb dX0_power_1 (by decide) ?_
  refine zx_px (pc := 2) hx hb E hD hP hS dX0_power_2 (fun H locs hP hS => ?_)
  have hP : zx_P ad (zf_k u, zf_o u, zf_s u, zf_w u, zf_t u, zf_n u, zf_c u, zf_f u, 1) H := hP
  refine lv_iconst (pc := 5) (v := nI 0) hx hb dX0_power_5 (by decide) ?_
  refine lv_istore_n (pc := 6) (lv' := [(1, .int (nI 0)), (0, .ref (zx_h ad))]) hx hb dX0_power_6 rfl hl (by decide) rfl (fun ls hl => ?_)
  exact LOOPA 17 0 (zf_n u) H locs (fun j hj => absurd hj (Nat.not_lt_zero _)) (by omega) (by omega) hP hS ls (lv_sub hl [0, 1] rfl)
end
section
/-! the reference's world, and its methods walked -/
abbrev zm_S : Type := (Nat → Bool) × (Nat → Int32) × (Nat → Int32)
abbrev zm_f (u : zm_S) : Nat → Bool := u.1
abbrev zm_v (u : zm_S) : Nat → Int32 := u.2.1
abbrev zm_t (u : zm_S) : Nat → Int32 := u.2.2
abbrev zm_A : Type := va_G × ClassId × ClassId × Nat × Nat × Nat × Nat
abbrev zm_G (ad : zm_A) : va_G := ad.1
abbrev zm_z (ad : zm_A) : ClassId := ad.2.1
abbrev zm_d (ad : zm_A) : ClassId := ad.2.2.1
abbrev zm_h (ad : zm_A) : Nat := ad.2.2.2.1
abbrev zm_1 (ad : zm_A) : Nat := ad.2.2.2.2.1
abbrev zm_2 (ad : zm_A) : Nat := ad.2.2.2.2.2.1
abbrev zm_3 (ad : zm_A) : Nat := ad.2.2.2.2.2.2
abbrev zm_W (ad : zm_A) (u : zm_S) : va_W := [(zm_h ad, .inr (1, [.ref (zm_1 ad), .ref (zm_2 ad), .ref (zm_3 ad)])), (zm_1 ad, .inl (zm_z ad, 16, .inl (fun j => nI (zm_f u j).toNat))), (zm_2 ad, .inl (zm_d ad, 16, .inl (fun j => zm_v u j))), (zm_3 ad, .inl (zm_d ad, 16, .inl (fun j => zm_t u j)))]
def zm_P (ad : zm_A) (u : zm_S) (H : Heap) : Prop := va_P (zm_G ad) vwCl (zm_W ad u) H
def zm_K (ad : zm_A) (U : State) : Prop := va_K (zm_G ad) vwCl [(zm_z ad, .boolean), (zm_d ad, .int)] U
def zm_I (ad : zm_A) (u : zm_S) (U : State) : Prop := zm_P ad u U.heap ∧ zm_K ad U
def zm_Ad (ad : zm_A) : Nat → Prop := fun q => q = zm_h ad ∨ q = zm_1 ad ∨ q = zm_2 ad ∨ q = zm_3 ad
def zm_Dj (ad : zm_A) : Prop := ∀ u, va_D (zm_Ad ad) (zm_W ad u)
def zm_E (s : State) (m : MethodId) (args : Array Value) (ad : zm_A) : Prop := (∀ w ∈ lw_all, w.before args s = true) ∧ s.vm.findClass RX1 = some m.cls ∧ zm_K ad s
theorem zm_pre {s : State} {H : Heap} {ad : zm_A} {u : zm_S} (hK : zm_K ad s) (hP : zm_P ad u H) {As : List Value} : PreV s H RX1 (zm_h ad) (va_Pc (.ref (zm_h ad) :: As) (zm_I ad u)) As :=
  ⟨fun a U g mk q => ⟨q.1, q.2.1, va_K.moved (u := U) (U := U.calling g mk a) (Vm.Alike.refl U.vm) q.2.2⟩, va_recv hK hP (ci := 1) (q0 := 0) rfl rfl, fun U hU hW => ⟨rfl, by rw [hU]; exact hP, va_K.moved hW.alike hK⟩⟩
theorem zm_back {ad : zm_A} {u : zm_S} {H : Heap} {t : State} (hP : zm_P ad u H) (ht : t.heap = H) : zm_P ad u t.heap := by
  rw [ht]
  exact hP
section
variable {p : Program} {l : Launch} {e : Env} {R : Room} {s : State} {m : MethodId} {args : Array Value} {below : List Frame} {meth : Method} {c : Code} {H H0 : Heap} {locs : List Loc} {cells slots : Nat} {Q : State → Prop}
variable {cc : ByteArray} {pc : Nat} {ls : Array Slot} {rest : List Value} {ad : zm_A} {u : zm_S}
theorem zm_g1 (hx : p.tables.exec = Jvm.exec) (hb : c.code = cc) (E : zm_E s m args ad) (hP : zm_P ad u H) (hdg : decode cc pc = .ok (.getfield 7, 3)) (kk : W p l e R s m args below meth c H locs cells slots Q (F0 m (pc + 3) ls (.ref (zm_1 ad) :: rest))) : W p l e R s m args below meth c H locs cells slots Q (F0 m pc ls (.ref (zm_h ad) :: rest)) :=
  va_get (D := zm_G ad) (ci := 1) (v := .ref (zm_1 ad)) (C := RX1) (T := TX1) (N := 3) hx hb E.1 in_X1 E.2.1 E.2.2 hP 0 rfl rfl 0 (by decide) (E.1 _ q150) (fun _ h9 => h9) rfl hdg kk
theorem zm_g2 (hx : p.tables.exec = Jvm.exec) (hb : c.code = cc) (E : zm_E s m args ad) (hP : zm_P ad u H) (hdg : decode cc pc = .ok (.getfield 13, 3)) (kk : W p l e R s m args below meth c H locs cells slots Q (F0 m (pc + 3) ls (.ref (zm_2 ad) :: rest))) : W p l e R s m args below meth c H locs cells slots Q (F0 m pc ls (.ref (zm_h ad) :: rest)) :=
  va_get (D := zm_G ad) (ci := 1) (v := .ref (zm_2 ad)) (C := RX1) (T := TX1) (N := 3) hx hb E.1 in_X1 E.2.1 E.2.2 hP 0 rfl rfl 1 (by decide) (E.1 _ q151) (fun _ h9 => h9) rfl hdg kk
theorem zm_g3 (hx : p.tables.exec = Jvm.exec) (hb : c.code = cc) (E : zm_E s m args ad) (hP : zm_P ad u H) (hdg : decode cc pc = .ok (.getfield 17, 3)) (kk : W p l e R s m args below meth c H locs cells slots Q (F0 m (pc + 3) ls (.ref (zm_3 ad) :: rest))) : W p l e R s m args below meth c H locs cells slots Q (F0 m pc ls (.ref (zm_h ad) :: rest)) :=
  va_get (D := zm_G ad) (ci := 1) (v := .ref (zm_3 ad)) (C := RX1) (T := TX1) (N := 3) hx hb E.1 in_X1 E.2.1 E.2.2 hP 0 rfl rfl 2 (by decide) (E.1 _ q152) (fun _ h9 => h9) rfl hdg kk
theorem zm_l1 (hx : p.tables.exec = Jvm.exec) (hb : c.code = cc) (E : zm_E s m args ad) (hP : zm_P ad u H) {i : Nat} (hi : i < 16) (hdg : decode cc pc = .ok (.baload, 1)) (kk : W p l e R s m args below meth c H locs cells slots Q (F0 m (pc + 1) ls (.int (nI (zm_f u i).toNat) :: rest))) : W p l e R s m args below meth c H locs cells slots Q (F0 m pc ls (.int (nI i) :: .ref (zm_1 ad) :: rest)) := by
  refine va_zald hx hb E.2.2 hP 1 0 rfl rfl (vp_in_nI hi (by decide)) hdg ?_
  rw [zr_cl hi (by decide)]
  exact kk
theorem zm_l2 (hx : p.tables.exec = Jvm.exec) (hb : c.code = cc) (E : zm_E s m args ad) (hP : zm_P ad u H) {i : Nat} (hi : i < 16) (hdg : decode cc pc = .ok (.iaload, 1)) (kk : W p l e R s m args below meth c H locs cells slots Q (F0 m (pc + 1) ls (.int (zm_v u i) :: rest))) : W p l e R s m args below meth c H locs cells slots Q (F0 m pc ls (.int (nI i) :: .ref (zm_2 ad) :: rest)) := by
  refine va_iald hx hb E.2.2 hP 2 1 rfl rfl (vp_in_nI hi (by decide)) hdg ?_
  rw [zr_cl hi (by decide)]
  exact kk
theorem zm_l3 (hx : p.tables.exec = Jvm.exec) (hb : c.code = cc) (E : zm_E s m args ad) (hP : zm_P ad u H) {i : Nat} (hi : i < 16) (hdg : decode cc pc = .ok (.iaload, 1)) (kk : W p l e R s m args below meth c H locs cells slots Q (F0 m (pc + 1) ls (.int (zm_t u i) :: rest))) : W p l e R s m args below meth c H locs cells slots Q (F0 m pc ls (.int (nI i) :: .ref (zm_3 ad) :: rest)) := by
  refine va_iald hx hb E.2.2 hP 3 1 rfl rfl (vp_in_nI hi (by decide)) hdg ?_
  rw [zr_cl hi (by decide)]
  exact kk
theorem zm_upB (f : Nat → Bool) (i : Nat) (v : Bool) : upd (fun j => nI (f j).toNat) i (vp_nar .boolean (nI v.toNat)) = fun j => nI (va_up f i v j).toNat := by
  funext j
  unfold upd va_up
  by_cases h : j = i
  · rw [if_pos h, if_pos h]
    cases v
    · decide +kernel
    · decide +kernel
  · rw [if_neg h, if_neg h]
theorem zm_s1 (hx : p.tables.exec = Jvm.exec) (hb : c.code = cc) (E : zm_E s m args ad) (hD : zm_Dj ad) (hP : zm_P ad u H) (hS : va_S (zm_Ad ad) H0 H locs) {i : Nat} {v : Bool} (hi : i < 16) (hdg : decode cc pc = .ok (.bastore, 1)) (kk : ∀ (H1 : Heap) (locs1 : List Loc), zm_P ad (va_up (zm_f u) i v, zm_v u, zm_t u) H1 → va_S (zm_Ad ad) H0 H1 locs1 → W p l e R s m args below meth c H1 locs1 cells slots Q (F0 m (pc + 1) ls rest)) : W p l e R s m args below meth c H locs cells slots Q (F0 m pc ls (.int (nI v.toNat) :: .int (nI i) :: .ref (zm_1 ad) :: rest)) := by
  refine va_zast hx hb E.2.2 hP (hD u) hS 1 0 rfl rfl (vp_in_nI hi (by decide)) hdg (fun H1 locs1 hP1 _ hS1 => kk H1 locs1 ?_ hS1)
  rw [zr_cl hi (by decide), zm_upB] at hP1
  exact hP1
theorem zm_s2 (hx : p.tables.exec = Jvm.exec) (hb : c.code = cc) (E : zm_E s m args ad) (hD : zm_Dj ad) (hP : zm_P ad u H) (hS : va_S (zm_Ad ad) H0 H locs) {i : Nat} {v : Int32} (hi : i < 16) (hdg : decode cc pc = .ok (.iastore, 1)) (kk : ∀ (H1 : Heap) (locs1 : List Loc), zm_P ad (zm_f u, va_up (zm_v u) i v, zm_t u) H1 → va_S (zm_Ad ad) H0 H1 locs1 → W p l e R s m args below meth c H1 locs1 cells slots Q (F0 m (pc + 1) ls rest)) : W p l e R s m args below meth c H locs cells slots Q (F0 m pc ls (.int (v) :: .int (nI i) :: .ref (zm_2 ad) :: rest)) := by
  refine va_iast hx hb E.2.2 hP (hD u) hS 2 1 rfl rfl (vp_in_nI hi (by decide)) hdg (fun H1 locs1 hP1 _ hS1 => kk H1 locs1 ?_ hS1)
  rw [zr_cl hi (by decide), zx_upI] at hP1
  exact hP1
theorem zm_s3 (hx : p.tables.exec = Jvm.exec) (hb : c.code = cc) (E : zm_E s m args ad) (hD : zm_Dj ad) (hP : zm_P ad u H) (hS : va_S (zm_Ad ad) H0 H locs) {i : Nat} {v : Int32} (hi : i < 16) (hdg : decode cc pc = .ok (.iastore, 1)) (kk : ∀ (H1 : Heap) (locs1 : List Loc), zm_P ad (zm_f u, zm_v u, va_up (zm_t u) i v) H1 → va_S (zm_Ad ad) H0 H1 locs1 → W p l e R s m args below meth c H1 locs1 cells slots Q (F0 m (pc + 1) ls rest)) : W p l e R s m args below meth c H locs cells slots Q (F0 m pc ls (.int (v) :: .int (nI i) :: .ref (zm_3 ad) :: rest)) := by
  refine va_iast hx hb E.2.2 hP (hD u) hS 3 1 rfl rfl (vp_in_nI hi (by decide)) hdg (fun H1 locs1 hP1 _ hS1 => kk H1 locs1 ?_ hS1)
  rw [zr_cl hi (by decide), zx_upI] at hP1
  exact hP1
end

/-- bad's answer -/
def zm_bad (x : Int32) : Int32 := if zx_sec x = 0 then 1 else 0
theorem zm_bad_lt {x : Int32} (h : x < 0) : zm_bad x = 1 := by
  unfold zm_bad zx_sec
  rw [if_pos h]
  rfl
theorem zm_bad_le {x : Int32} (h : ¬ x < 0) (h2 : x ≤ 15) : zm_bad x = 0 := by
  unfold zm_bad zx_sec
  have h3 : ¬ 15 < x := by
    rw [Int32.lt_iff_toInt_lt]
    rw [Int32.le_iff_toInt_le] at h2
    omega
  rw [if_neg h, if_neg h3]
  rfl
theorem zm_bad_gt {x : Int32} (h : ¬ x < 0) (h2 : ¬ x ≤ 15) : zm_bad x = 1 := by
  unfold zm_bad zx_sec
  have h3 : 15 < x := by
    rw [Int32.lt_iff_toInt_lt]
    rw [Int32.le_iff_toInt_le] at h2
    omega
  rw [if_neg h, if_pos h3]
  rfl
theorem zm_bad_0 {x : Int32} (h : zm_bad x = 0) : ¬ zx_sec x = 0 := fun z => by
  unfold zm_bad at h
  rw [if_pos z] at h
  exact absurd h (by decide)
theorem zm_bad_1 {x : Int32} (h : ¬ zm_bad x = 0) : zx_sec x = 0 := by
  by_cases z : zx_sec x = 0
  · exact z
  · unfold zm_bad at h
    rw [if_neg z] at h
    exact absurd rfl h
abbrev zm_c (u : zm_S) (j : Nat) : Nat := zc_cnt (bt (zm_t u j)) 22
/-- read's answer on a sector -/
def zm_r (u : zm_S) (j : Nat) : Int32 := if zm_f u j = true then (if zm_c u j = 2 then -3 else zm_v u j) else -2
def zm_rd (u : zm_S) (x : Int32) : Int32 := if zx_sec x = 0 then -1 else zm_r u x.toNatClampNeg
theorem zm_rd_nI {u : zm_S} {j : Nat} (h : j < 16) : zm_rd u (nI j) = zm_r u j := by
  unfold zm_rd
  rw [zx_sec_nI h, if_neg (by decide), nI_clamp (by omega)]
def zm_WP (u : zm_S) (x y : Int32) (r : Int32) (u1 : zm_S) : Prop := (zx_sec x = 0 ∧ r = -1 ∧ u1 = u) ∨ ∃ j, j < 16 ∧ x = nI j ∧ r = 0 ∧ u1 = (va_up (zm_f u) j true, va_up (zm_v u) j (y &&& 65535), va_up (zm_t u) j 0)
def zm_TR (u : zm_S) (x : Int32) (r : Int32) (u1 : zm_S) : Prop := (zx_sec x = 0 ∧ r = -1 ∧ u1 = u) ∨ ∃ j, j < 16 ∧ x = nI j ∧ ((zm_f u j = false ∧ r = -2 ∧ u1 = u) ∨ (zm_f u j = true ∧ r = 0 ∧ u1 = (va_up (zm_f u) j false, zm_v u, zm_t u)))
def zm_TU (u : zm_S) (x y : Int32) (r : Int32) (u1 : zm_S) : Prop := ((zx_sec x = 0 ∨ y < 0 ∨ 21 < y) ∧ r = -1 ∧ u1 = u) ∨ ∃ j i, j < 16 ∧ x = nI j ∧ i < 22 ∧ y = nI i ∧ ((zm_f u j = false ∧ r = -2 ∧ u1 = u) ∨ (zm_f u j = true ∧ ((zm_c u j = 2 ∧ bt (zm_t u j) i = false ∧ r = -3 ∧ u1 = u) ∨ ((zm_c u j ≠ 2 ∨ bt (zm_t u j) i = true) ∧ r = nI (zc_cnt (bt (zf_fl (zm_t u j) i)) 22) ∧ u1 = (zm_f u, zm_v u, va_up (zm_t u) j (zf_fl (zm_t u j) i))))))
def zm_RP (u : zm_S) (x : Int32) (r : Int32) (u1 : zm_S) : Prop := r = zm_rd u x ∧ ((r < 0 ∧ u1 = u) ∨ ∃ j, j < 16 ∧ x = nI j ∧ ¬ r < 0 ∧ u1 = (zm_f u, zm_v u, va_up (zm_t u) j 0))
def zm_w (u : zm_S) (j : Nat) : Int32 := nI (zm_f u j).toNat
theorem zm_b0 {f : Nat → Int32} {i : Nat} (h : f i = 0) : bx_sum f (i + 1) = bx_sum f i := by
  show bx_sum f i + f i = _
  rw [h]
  exact Int32.add_zero _
theorem zm_b1 {f : Nat → Int32} {i : Nat} (h : f i = 1) : bx_sum f (i + 1) = bx_sum f i + 1 := by
  show bx_sum f i + f i = _
  rw [h]
theorem zm_br {f : Nat → Int32} {i : Nat} {r : Int32} (h : f i = r) : bx_sum f (i + 1) = bx_sum f i + r := by
  show bx_sum f i + f i = _
  rw [h]
theorem zm_sm_neg {r : Int32} (h : r < 0) : zf_sm r = 0 := by
  unfold zf_sm
  refine if_neg (fun z => ?_)
  rw [Int32.lt_iff_toInt_lt] at h z
  omega
theorem zm_sm_pos {r : Int32} (h : ¬ r < 0) : zf_sm r = r := by
  unfold zf_sm
  by_cases z : 0 < r
  · exact if_pos z
  · rw [if_neg z]
    apply Int32.toInt_inj.mp
    rw [Int32.lt_iff_toInt_lt] at h z
    have e0 : (0 : Int32).toInt = 0 := by decide
    rw [e0] at h z ⊢
    omega

set_option maxHeartbeats 4000000 in
set_option maxRecDepth 100000 in
theorem zm_met_bad (l : Launch) (x : Int32) : Met l yX1_bad (ws_ yX1_bad cX1_bad 1 (some .boolean)) ({ frames := 0, cells := 0, slots := 0, locals := 0 }) (fun v _ => v = ([.int x] : List Value).toArray) (QcRead (zm_bad x)) 0 0 (fun _ => False) := by
  refine Met.ofW (cc := cX1_bad) (maxL := 1) (ret := (some .boolean)) (by decide) rfl ?_
  intro p e s m args below meth c s₁ B hml hv
  have hv : args = ([.int x] : List Value).toArray := hv
  subst hv
  have hx := B.exec
  have hb := B.bytes
  have hr := B.returns
  have hts := atoms_spec (ws := (ws_ yX1_bad cX1_bad 1 (some .boolean))) B.pre
  have hts : ∀ w ∈ lw_all, w.before _ s = true := fun w h => hts w (List.mem_cons_of_mem _ h)
  have hown : s.vm.findClass RX1 = some m.cls := findClass_of_methodNamed B.named
  have hlocks := B.notSynchronized
  have hl := lv_entry ([.int x]) (n := 1) (Nat.le_of_ble_eq_true rfl)
  rw [lg_entry_eq]
  generalize (lg_sl ([.int x]) ++ List.replicate (1 - (lg_sl ([.int x])).length) Slot.unset).toArray = ls at hl ⊢
  have hl : lv_has ls 1 [(0, .int x)] := hl
  refine lv_iload_n (pc := 0) hx hb dX1_bad_0 rfl (lv_at hl 0 rfl) ?_
  refine lv_if_lt (pc := 1) (tgt := 10) hx hb dX1_bad_1 (by decide) (fun c1 => ?_) (fun c1 => ?_)
  · refine lv_iconst (pc := 10) (v := 1) hx hb dX1_bad_10 (by decide) ?_
    refine lv_goto (pc := 11) (tgt := 15) hx hb dX1_bad_11 (by decide) ?_
    exact W.zret (pc := 15) hx hb hr rfl (fun t ht _ => zr_retE ((zm_bad_lt c1).symm) ht) t_nil dX1_bad_15
  · refine lv_iload_n (pc := 4) hx hb dX1_bad_4 rfl (lv_at hl 0 rfl) ?_
    refine lv_bipush (pc := 5) (v := 15) hx hb dX1_bad_5 (by decide) ?_
    refine lv_icmp_le (pc := 7) (tgt := 14) hx hb dX1_bad_7 (by decide) (fun c2 => ?_) (fun c2 => ?_)
    · refine lv_iconst (pc := 14) (v := 0) hx hb dX1_bad_14 (by decide) ?_
      exact W.zret (pc := 15) hx hb hr rfl (fun t ht _ => zr_retE ((zm_bad_le c1 c2).symm) ht) t_nil dX1_bad_15
    · refine lv_iconst (pc := 10) (v := 1) hx hb dX1_bad_10 (by decide) ?_
      refine lv_goto (pc := 11) (tgt := 15) hx hb dX1_bad_11 (by decide) ?_
      exact W.zret (pc := 15) hx hb hr rfl (fun t ht _ => zr_retE ((zm_bad_gt c1 c2).symm) ht) t_nil dX1_bad_15

set_option maxHeartbeats 4000000 in
set_option maxRecDepth 100000 in
theorem zm_met_turns (l : Launch) (ad : zm_A) (u : zm_S) (j : Nat) (hj : j < 16) : Met l yX1_turns (ws_ yX1_turns cX1_turns 4 (some .int)) ({ frames := 0, cells := 0, slots := 0, locals := 0 }) (va_Pc [.ref (zm_h ad), .int (nI j)] (zm_I ad u)) (QcRead (nI (zm_c u j))) 0 0 (fun _ => False) := by
  refine Met.ofW (cc := cX1_turns) (maxL := 4) (ret := (some .int)) (by decide) rfl ?_
  intro p e s m args below meth c s₁ B hml hv
  obtain ⟨rfl, hP, hK⟩ := hv
  have hx := B.exec
  have hb := B.bytes
  have hr := B.returns
  have hts := atoms_spec (ws := (ws_ yX1_turns cX1_turns 4 (some .int))) B.pre
  have hts : ∀ w ∈ lw_all, w.before _ s = true := fun w h => hts w (List.mem_cons_of_mem _ h)
  have hown : s.vm.findClass RX1 = some m.cls := findClass_of_methodNamed B.named
  have hlocks := B.notSynchronized
  have E : zm_E s m _ ad := ⟨hts, hown, hK⟩
  have hl := lv_entry ([.ref (zm_h ad), .int (nI j)]) (n := 4) (Nat.le_of_ble_eq_true rfl)
  rw [lg_entry_eq]
  generalize (lg_sl ([.ref (zm_h ad), .int (nI j)]) ++ List.replicate (4 - (lg_sl ([.ref (zm_h ad), .int (nI j)])).length) Slot.unset).toArray = ls at hl ⊢
  have hl : lv_has ls 4 [(0, .ref (zm_h ad)), (1, .int (nI j))] := hl
  have LOOP : ∀ (n : Nat) (i : Nat), i ≤ 22 → 22 < i + n → ∀ (ls : Array Slot), lv_has ls 4 [(3, .int (nI i)), (2, .int (nI (zc_cnt (bt (zm_t u j)) i))), (1, .int (nI j)), (0, .ref (zm_h ad))] → W p l e (headSpec (ws_ yX1_turns cX1_turns 4 (some .int)) ({ frames := 0, cells := 0, slots := 0, locals := 0 })).room s m ([.ref (zm_h ad), .int (nI j)] : List Value).toArray below meth c s.heap [] 0 0 (MQ below (QcRead (nI (zm_c u j))) ([.ref (zm_h ad), .int (nI j)] : List Value).toArray s 0 0 (fun _ => False)) (F0 m 4 ls []) := by
    intro n
    induction n with
    | zero =>
      intro i h1 h2
      exact absurd h2 (by omega)
    | succ n ih =>
      intro i h1 h2 ls hl
      refine lv_iload_n (pc := 4) hx hb dX1_turns_4 rfl (lv_at hl 0 rfl) ?_
      refine lv_bipush (pc := 5) (v := nI 22) hx hb dX1_turns_5 (by decide) ?_
      refine zr_icmp_ge (pc := 7) (tgt := 29) hx hb (by omega) (by omega) dX1_turns_7 (by decide) (fun c1 => ?_) (fun c1 => ?_)
      · refine lv_iload_n (pc := 29) hx hb dX1_turns_29 rfl (lv_at hl 1 rfl) ?_
        have e : i = 22 := by omega
        subst e
        exact W.iret (pc := 30) hx hb hr (fun t ht _ => zr_retE (rfl) ht) t_nil dX1_turns_30
      · refine lv_iload_n (pc := 10) hx hb dX1_turns_10 rfl (lv_at hl 1 rfl) ?_
        refine lv_aload_n (pc := 11) hx hb dX1_turns_11 rfl (lv_at hl 3 rfl) ?_
        refine zm_g3 (pc := 12) hx hb E hP dX1_turns_12 ?_
        refine lv_iload_n (pc := 15) hx hb dX1_turns_15 rfl (lv_at hl 2 rfl) ?_
        refine zm_l3 (pc := 16) hx hb E hP (by omega) dX1_turns_16 ?_
        refine lv_iload_n (pc := 17) hx hb dX1_turns_17 rfl (lv_at hl 0 rfl) ?_
        refine lv_ishr (pc := 18) hx hb dX1_turns_18 ?_
        refine lv_iconst (pc := 19) (v := 1) hx hb dX1_turns_19 (by decide) ?_
        refine lv_iand (pc := 20) hx hb dX1_turns_20 ?_
        refine lv_topi (fun z1 ez1 => ?_)
        obtain rfl : z1 = nI (bt (zm_t u j) i).toNat := ez1.trans (zc_sb_eq _ (by omega))
        refine zr_iadd (pc := 21) hx hb dX1_turns_21 ?_
        refine lv_istore_n (pc := 22) (lv' := [(2, .int (nI ((zc_cnt (bt (zm_t u j)) i) + ((bt (zm_t u j) i).toNat)))), (3, .int (nI i)), (1, .int (nI j)), (0, .ref (zm_h ad))]) hx hb dX1_turns_22 rfl hl (by decide) rfl (fun ls hl => ?_)
        refine lv_iinc (pc := 23) (v := nI (i + 1)) (lv' := [(3, .int (nI (i + 1))), (2, .int (nI ((zc_cnt (bt (zm_t u j)) i) + ((bt (zm_t u j) i).toNat)))), (1, .int (nI j)), (0, .ref (zm_h ad))]) hx hb dX1_turns_23 hl (k := 1) rfl (zr_inc _) (by decide) rfl (fun ls hl => ?_)
        refine lv_goto (pc := 26) (tgt := 4) hx hb dX1_turns_26 (by decide) ?_
        exact ih (i + 1) (by omega) (by omega) ls (lv_sub hl [0, 1, 2, 3] rfl)
  refine lv_iconst (pc := 0) (v := nI 0) hx hb dX1_turns_0 (by decide) ?_
  refine lv_istore_n (pc := 1) (lv' := [(2, .int (nI 0)), (0, .ref (zm_h ad)), (1, .int (nI j))]) hx hb dX1_turns_1 rfl hl (by decide) rfl (fun ls hl => ?_)
  refine lv_iconst (pc := 2) (v := nI 0) hx hb dX1_turns_2 (by decide) ?_
  refine lv_istore_n (pc := 3) (lv' := [(3, .int (nI 0)), (2, .int (nI 0)), (0, .ref (zm_h ad)), (1, .int (nI j))]) hx hb dX1_turns_3 rfl hl (by decide) rfl (fun ls hl => ?_)
  exact LOOP 23 0 (by omega) (by omega) ls (lv_sub hl [0, 1, 3, 2] rfl)

set_option maxHeartbeats 4000000 in
set_option maxRecDepth 100000 in
theorem zm_met_write (l : Launch) (ad : zm_A) (hD : zm_Dj ad) (u : zm_S) (x y : Int32) : Met l yX1_write (ws_ yX1_write cX1_write 3 (some .int)) ({ frames := 1, cells := 0, slots := 0, locals := 20 }) (va_Pc [.ref (zm_h ad), .int x, .int y] (zm_I ad u)) (va_Qi (fun (r : Int32) (u1 : zm_S) => zm_WP u x y r u1) (fun (u1 : zm_S) (t : State) => zm_P ad u1 t.heap) (zm_Ad ad)) 0 0 (zm_Ad ad) := by
  refine Met.ofW (cc := cX1_write) (maxL := 3) (ret := (some .int)) (by decide) rfl ?_
  intro p e s m args below meth c s₁ B hml hv
  obtain ⟨rfl, hP, hK⟩ := hv
  have hx := B.exec
  have hb := B.bytes
  have hr := B.returns
  have hts := atoms_spec (ws := (ws_ yX1_write cX1_write 3 (some .int))) B.pre
  have hts : ∀ w ∈ lw_all, w.before _ s = true := fun w h => hts w (List.mem_cons_of_mem _ h)
  have hown : s.vm.findClass RX1 = some m.cls := findClass_of_methodNamed B.named
  have hlocks := B.notSynchronized
  have E : zm_E s m _ ad := ⟨hts, hown, hK⟩
  have hS : va_S (zm_Ad ad) s.heap s.heap [] := va_S.rf
  have hl := lv_entry ([.ref (zm_h ad), .int x, .int y]) (n := 3) (Nat.le_of_ble_eq_true rfl)
  rw [lg_entry_eq]
  generalize (lg_sl ([.ref (zm_h ad), .int x, .int y]) ++ List.replicate (3 - (lg_sl ([.ref (zm_h ad), .int x, .int y])).length) Slot.unset).toArray = ls at hl ⊢
  have hl : lv_has ls 3 [(0, .ref (zm_h ad)), (1, .int x), (2, .int y)] := hl
  refine lv_iload_n (pc := 0) hx hb dX1_write_0 rfl (lv_at hl 1 rfl) ?_
  refine zr_callR (pc := 1) (W.runS (As := [.int x]) (rest := []) ⟨hx, hb, hml, hown, hts⟩ (zm_met_bad l x) (va_cwS 1 hts (lw_S q165 q166 q11 q167) rfl rfl rfl (by decide +kernel) ⟨Nat.le_of_ble_eq_true rfl, Nat.le_of_ble_eq_true rfl⟩) (preEq) rfl rfl hl.1 rfl (lv_room (Nat.le_of_ble_eq_true rfl)) dX1_write_1 ⟨Nat.le_of_ble_eq_true rfl, Nat.le_of_ble_eq_true rfl⟩) ?_
  refine lv_if_eq (pc := 4) (tgt := 9) hx hb dX1_write_4 (by decide) (fun c0 => ?_) (fun c0 => ?_)
  · obtain ⟨j, hj, rfl⟩ := zx_sec_ne (zm_bad_0 c0)
    refine lv_aload_n (pc := 9) hx hb dX1_write_9 rfl (lv_at hl 0 rfl) ?_
    refine zm_g1 (pc := 10) hx hb E hP dX1_write_10 ?_
    refine lv_iload_n (pc := 13) hx hb dX1_write_13 rfl (lv_at hl 1 rfl) ?_
    refine lv_iconst (pc := 14) (v := nI 1) hx hb dX1_write_14 (by decide) ?_
    refine zm_s1 (pc := 15) (v := true) hx hb E hD hP hS (by omega) dX1_write_15 (fun H locs hP hS => ?_)
    have hP : zm_P ad (va_up (zm_f u) j true, zm_v u, zm_t u) H := hP
    refine lv_aload_n (pc := 16) hx hb dX1_write_16 rfl (lv_at hl 0 rfl) ?_
    refine zm_g2 (pc := 17) hx hb E hP dX1_write_17 ?_
    refine lv_iload_n (pc := 20) hx hb dX1_write_20 rfl (lv_at hl 1 rfl) ?_
    refine lv_iload_n (pc := 21) hx hb dX1_write_21 rfl (lv_at hl 2 rfl) ?_
    refine lv_ldc (pc := 22) (v := 65535) hx hb hown (hts _ q168) dX1_write_22 ?_
    refine lv_iand (pc := 24) hx hb dX1_write_24 ?_
    refine zm_s2 (pc := 25) hx hb E hD hP hS (by omega) dX1_write_25 (fun H locs hP hS => ?_)
    have hP : zm_P ad (va_up (zm_f u) j true, va_up (zm_v u) j (y &&& 65535), zm_t u) H := hP
    refine lv_aload_n (pc := 26) hx hb dX1_write_26 rfl (lv_at hl 0 rfl) ?_
    refine zm_g3 (pc := 27) hx hb E hP dX1_write_27 ?_
    refine lv_iload_n (pc := 30) hx hb dX1_write_30 rfl (lv_at hl 1 rfl) ?_
    refine lv_iconst (pc := 31) (v := 0) hx hb dX1_write_31 (by decide) ?_
    refine zm_s3 (pc := 32) hx hb E hD hP hS (by omega) dX1_write_32 (fun H locs hP hS => ?_)
    have hP : zm_P ad (va_up (zm_f u) j true, va_up (zm_v u) j (y &&& 65535), va_up (zm_t u) j 0) H := hP
    refine lv_iconst (pc := 33) (v := 0) hx hb dX1_write_33 (by decide) ?_
    exact W.iret (pc := 34) hx hb hr (fun t ht _ => ⟨⟨_, (va_up (zm_f u) j true, va_up (zm_v u) j (y &&& 65535), va_up (zm_t u) j 0), rfl, Or.inr ⟨j, hj, rfl, rfl, rfl⟩, zm_back hP ht⟩, hS.F ht⟩) hS.2.2 dX1_write_34
  · refine lv_iconst (pc := 7) (v := (-1)) hx hb dX1_write_7 (by decide) ?_
    exact W.iret (pc := 8) hx hb hr (fun t ht _ => ⟨⟨_, u, rfl, Or.inl ⟨zm_bad_1 c0, rfl, rfl⟩, zm_back hP ht⟩, hS.F ht⟩) hS.2.2 dX1_write_8

set_option maxHeartbeats 4000000 in
set_option maxRecDepth 100000 in
theorem zm_met_read (l : Launch) (ad : zm_A) (u : zm_S) (x : Int32) : Met l yX1_read (ws_ yX1_read cX1_read 2 (some .int)) ({ frames := 1, cells := 0, slots := 0, locals := 23 }) (va_Pc [.ref (zm_h ad), .int x] (zm_I ad u)) (QcRead (zm_rd u x)) 0 0 (fun _ => False) := by
  refine Met.ofW (cc := cX1_read) (maxL := 2) (ret := (some .int)) (by decide) rfl ?_
  intro p e s m args below meth c s₁ B hml hv
  obtain ⟨rfl, hP, hK⟩ := hv
  have hx := B.exec
  have hb := B.bytes
  have hr := B.returns
  have hts := atoms_spec (ws := (ws_ yX1_read cX1_read 2 (some .int))) B.pre
  have hts : ∀ w ∈ lw_all, w.before _ s = true := fun w h => hts w (List.mem_cons_of_mem _ h)
  have hown : s.vm.findClass RX1 = some m.cls := findClass_of_methodNamed B.named
  have hlocks := B.notSynchronized
  have E : zm_E s m _ ad := ⟨hts, hown, hK⟩
  have hl := lv_entry ([.ref (zm_h ad), .int x]) (n := 2) (Nat.le_of_ble_eq_true rfl)
  rw [lg_entry_eq]
  generalize (lg_sl ([.ref (zm_h ad), .int x]) ++ List.replicate (2 - (lg_sl ([.ref (zm_h ad), .int x])).length) Slot.unset).toArray = ls at hl ⊢
  have hl : lv_has ls 2 [(0, .ref (zm_h ad)), (1, .int x)] := hl
  refine lv_iload_n (pc := 0) hx hb dX1_read_0 rfl (lv_at hl 1 rfl) ?_
  refine zr_callR (pc := 1) (W.runS (As := [.int x]) (rest := []) ⟨hx, hb, hml, hown, hts⟩ (zm_met_bad l x) (va_cwS 1 hts (lw_S q165 q166 q11 q167) rfl rfl rfl (by decide +kernel) ⟨Nat.le_of_ble_eq_true rfl, Nat.le_of_ble_eq_true rfl⟩) (preEq) rfl rfl hl.1 rfl (lv_room (Nat.le_of_ble_eq_true rfl)) dX1_read_1 ⟨Nat.le_of_ble_eq_true rfl, Nat.le_of_ble_eq_true rfl⟩) ?_
  refine lv_if_eq (pc := 4) (tgt := 9) hx hb dX1_read_4 (by decide) (fun c0 => ?_) (fun c0 => ?_)
  · obtain ⟨j, hj, rfl⟩ := zx_sec_ne (zm_bad_0 c0)
    refine lv_aload_n (pc := 9) hx hb dX1_read_9 rfl (lv_at hl 0 rfl) ?_
    refine zm_g1 (pc := 10) hx hb E hP dX1_read_10 ?_
    refine lv_iload_n (pc := 13) hx hb dX1_read_13 rfl (lv_at hl 1 rfl) ?_
    refine zm_l1 (pc := 14) hx hb E hP (by omega) dX1_read_14 ?_
    refine zr_if_ne (pc := 15) (tgt := 21) hx hb (Nat.lt_of_le_of_lt (Bool.toNat_le _) (by omega)) dX1_read_15 (by decide) (fun c1 => ?_) (fun c1 => ?_)
    · refine lv_aload_n (pc := 21) hx hb dX1_read_21 rfl (lv_at hl 0 rfl) ?_
      refine lv_iload_n (pc := 22) hx hb dX1_read_22 rfl (lv_at hl 1 rfl) ?_
      refine zr_callR (pc := 23) (W.runV (As := [.int (nI j)]) (rest := []) ⟨hx, hb, hml, hown, hts⟩ (zm_met_turns l ad u j hj) (cwV 1 hts (lw_V q173 q175 qs8 q11 q176) rfl rfl rfl (by decide +kernel) ⟨Nat.le_of_ble_eq_true rfl, Nat.le_of_ble_eq_true rfl⟩) (zm_pre hK hP) rfl rfl hl.1 rfl (lv_room (Nat.le_of_ble_eq_true rfl)) dX1_read_23 ⟨Nat.le_of_ble_eq_true rfl, Nat.le_of_ble_eq_true rfl⟩) ?_
      refine lv_iconst (pc := 26) (v := nI 2) hx hb dX1_read_26 (by decide) ?_
      have hcl : zm_c u j ≤ 22 := zc_cnt_le _ 22
      refine zr_icmp_ne (pc := 27) (tgt := 35) hx hb (by omega) (by omega) dX1_read_27 (by decide) (fun c2 => ?_) (fun c2 => ?_)
      · refine lv_aload_n (pc := 35) hx hb dX1_read_35 rfl (lv_at hl 0 rfl) ?_
        refine zm_g2 (pc := 36) hx hb E hP dX1_read_36 ?_
        refine lv_iload_n (pc := 39) hx hb dX1_read_39 rfl (lv_at hl 1 rfl) ?_
        refine zm_l2 (pc := 40) hx hb E hP (by omega) dX1_read_40 ?_
        exact W.iret (pc := 41) hx hb hr (fun t ht _ => zr_retE (by rw [zm_rd_nI hj]; unfold zm_r; rw [if_pos (zc_tn1 c1), if_neg c2]) ht) t_nil dX1_read_41
      · refine lv_bipush (pc := 30) (v := (-3)) hx hb dX1_read_30 (by decide) ?_
        refine lv_goto (pc := 32) (tgt := 41) hx hb dX1_read_32 (by decide) ?_
        exact W.iret (pc := 41) hx hb hr (fun t ht _ => zr_retE (by rw [zm_rd_nI hj]; unfold zm_r; rw [if_pos (zc_tn1 c1), if_pos c2]) ht) t_nil dX1_read_41
    · refine lv_bipush (pc := 18) (v := (-2)) hx hb dX1_read_18 (by decide) ?_
      exact W.iret (pc := 20) hx hb hr (fun t ht _ => zr_retE (by rw [zm_rd_nI hj]; unfold zm_r; rw [zc_tn0 c1]; rfl) ht) t_nil dX1_read_20
  · refine lv_iconst (pc := 7) (v := (-1)) hx hb dX1_read_7 (by decide) ?_
    exact W.iret (pc := 8) hx hb hr (fun t ht _ => zr_retE (by unfold zm_rd; rw [if_pos (zm_bad_1 c0)]) ht) t_nil dX1_read_8

set_option maxHeartbeats 4000000 in
set_option maxRecDepth 100000 in
theorem zm_met_trim (l : Launch) (ad : zm_A) (hD : zm_Dj ad) (u : zm_S) (x : Int32) : Met l yX1_trim (ws_ yX1_trim cX1_trim 2 (some .int)) ({ frames := 1, cells := 0, slots := 0, locals := 20 }) (va_Pc [.ref (zm_h ad), .int x] (zm_I ad u)) (va_Qi (fun (r : Int32) (u1 : zm_S) => zm_TR u x r u1) (fun (u1 : zm_S) (t : State) => zm_P ad u1 t.heap) (zm_Ad ad)) 0 0 (zm_Ad ad) := by
  refine Met.ofW (cc := cX1_trim) (maxL := 2) (ret := (some .int)) (by decide) rfl ?_
  intro p e s m args below meth c s₁ B hml hv
  obtain ⟨rfl, hP, hK⟩ := hv
  have hx := B.exec
  have hb := B.bytes
  have hr := B.returns
  have hts := atoms_spec (ws := (ws_ yX1_trim cX1_trim 2 (some .int))) B.pre
  have hts : ∀ w ∈ lw_all, w.before _ s = true := fun w h => hts w (List.mem_cons_of_mem _ h)
  have hown : s.vm.findClass RX1 = some m.cls := findClass_of_methodNamed B.named
  have hlocks := B.notSynchronized
  have E : zm_E s m _ ad := ⟨hts, hown, hK⟩
  have hS : va_S (zm_Ad ad) s.heap s.heap [] := va_S.rf
  have hl := lv_entry ([.ref (zm_h ad), .int x]) (n := 2) (Nat.le_of_ble_eq_true rfl)
  rw [lg_entry_eq]
  generalize (lg_sl ([.ref (zm_h ad), .int x]) ++ List.replicate (2 - (lg_sl ([.ref (zm_h ad), .int x])).length) Slot.unset).toArray = ls at hl ⊢
  have hl : lv_has ls 2 [(0, .ref (zm_h ad)), (1, .int x)] := hl
  refine lv_iload_n (pc := 0) hx hb dX1_trim_0 rfl (lv_at hl 1 rfl) ?_
  refine zr_callR (pc := 1) (W.runS (As := [.int x]) (rest := []) ⟨hx, hb, hml, hown, hts⟩ (zm_met_bad l x) (va_cwS 1 hts (lw_S q165 q166 q11 q167) rfl rfl rfl (by decide +kernel) ⟨Nat.le_of_ble_eq_true rfl, Nat.le_of_ble_eq_true rfl⟩) (preEq) rfl rfl hl.1 rfl (lv_room (Nat.le_of_ble_eq_true rfl)) dX1_trim_1 ⟨Nat.le_of_ble_eq_true rfl, Nat.le_of_ble_eq_true rfl⟩) ?_
  refine lv_if_eq (pc := 4) (tgt := 9) hx hb dX1_trim_4 (by decide) (fun c0 => ?_) (fun c0 => ?_)
  · obtain ⟨j, hj, rfl⟩ := zx_sec_ne (zm_bad_0 c0)
    refine lv_aload_n (pc := 9) hx hb dX1_trim_9 rfl (lv_at hl 0 rfl) ?_
    refine zm_g1 (pc := 10) hx hb E hP dX1_trim_10 ?_
    refine lv_iload_n (pc := 13) hx hb dX1_trim_13 rfl (lv_at hl 1 rfl) ?_
    refine zm_l1 (pc := 14) hx hb E hP (by omega) dX1_trim_14 ?_
    refine zr_if_ne (pc := 15) (tgt := 21) hx hb (Nat.lt_of_le_of_lt (Bool.toNat_le _) (by omega)) dX1_trim_15 (by decide) (fun c1 => ?_) (fun c1 => ?_)
    · refine lv_aload_n (pc := 21) hx hb dX1_trim_21 rfl (lv_at hl 0 rfl) ?_
      refine zm_g1 (pc := 22) hx hb E hP dX1_trim_22 ?_
      refine lv_iload_n (pc := 25) hx hb dX1_trim_25 rfl (lv_at hl 1 rfl) ?_
      refine lv_iconst (pc := 26) (v := nI 0) hx hb dX1_trim_26 (by decide) ?_
      refine zm_s1 (pc := 27) (v := false) hx hb E hD hP hS (by omega) dX1_trim_27 (fun H locs hP hS => ?_)
      have hP : zm_P ad (va_up (zm_f u) j false, zm_v u, zm_t u) H := hP
      refine lv_iconst (pc := 28) (v := 0) hx hb dX1_trim_28 (by decide) ?_
      exact W.iret (pc := 29) hx hb hr (fun t ht _ => ⟨⟨_, (va_up (zm_f u) j false, zm_v u, zm_t u), rfl, Or.inr ⟨j, hj, rfl, Or.inr ⟨zc_tn1 c1, rfl, rfl⟩⟩, zm_back hP ht⟩, hS.F ht⟩) hS.2.2 dX1_trim_29
    · refine lv_bipush (pc := 18) (v := (-2)) hx hb dX1_trim_18 (by decide) ?_
      exact W.iret (pc := 20) hx hb hr (fun t ht _ => ⟨⟨_, u, rfl, Or.inr ⟨j, hj, rfl, Or.inl ⟨zc_tn0 c1, rfl, rfl⟩⟩, zm_back hP ht⟩, hS.F ht⟩) hS.2.2 dX1_trim_20
  · refine lv_iconst (pc := 7) (v := (-1)) hx hb dX1_trim_7 (by decide) ?_
    exact W.iret (pc := 8) hx hb hr (fun t ht _ => ⟨⟨_, u, rfl, Or.inl ⟨zm_bad_1 c0, rfl, rfl⟩, zm_back hP ht⟩, hS.F ht⟩) hS.2.2 dX1_trim_8

set_option maxHeartbeats 4000000 in
set_option maxRecDepth 100000 in
theorem zm_met_turn (l : Launch) (ad : zm_A) (hD : zm_Dj ad) (u : zm_S) (x y : Int32) : Met l yX1_turn (ws_ yX1_turn cX1_turn 3 (some .int)) ({ frames := 1, cells := 0, slots := 0, locals := 23 }) (va_Pc [.ref (zm_h ad), .int x, .int y] (zm_I ad u)) (va_Qi (fun (r : Int32) (u1 : zm_S) => zm_TU u x y r u1) (fun (u1 : zm_S) (t : State) => zm_P ad u1 t.heap) (zm_Ad ad)) 0 0 (zm_Ad ad) := by
  refine Met.ofW (cc := cX1_turn) (maxL := 3) (ret := (some .int)) (by decide) rfl ?_
  intro p e s m args below meth c s₁ B hml hv
  obtain ⟨rfl, hP, hK⟩ := hv
  have hx := B.exec
  have hb := B.bytes
  have hr := B.returns
  have hts := atoms_spec (ws := (ws_ yX1_turn cX1_turn 3 (some .int))) B.pre
  have hts : ∀ w ∈ lw_all, w.before _ s = true := fun w h => hts w (List.mem_cons_of_mem _ h)
  have hown : s.vm.findClass RX1 = some m.cls := findClass_of_methodNamed B.named
  have hlocks := B.notSynchronized
  have E : zm_E s m _ ad := ⟨hts, hown, hK⟩
  have hS : va_S (zm_Ad ad) s.heap s.heap [] := va_S.rf
  have hl := lv_entry ([.ref (zm_h ad), .int x, .int y]) (n := 3) (Nat.le_of_ble_eq_true rfl)
  rw [lg_entry_eq]
  generalize (lg_sl ([.ref (zm_h ad), .int x, .int y]) ++ List.replicate (3 - (lg_sl ([.ref (zm_h ad), .int x, .int y])).length) Slot.unset).toArray = ls at hl ⊢
  have hl : lv_has ls 3 [(0, .ref (zm_h ad)), (1, .int x), (2, .int y)] := hl
  refine lv_iload_n (pc := 0) hx hb dX1_turn_0 rfl (lv_at hl 1 rfl) ?_
  refine zr_callR (pc := 1) (W.runS (As := [.int x]) (rest := []) ⟨hx, hb, hml, hown, hts⟩ (zm_met_bad l x) (va_cwS 1 hts (lw_S q165 q166 q11 q167) rfl rfl rfl (by decide +kernel) ⟨Nat.le_of_ble_eq_true rfl, Nat.le_of_ble_eq_true rfl⟩) (preEq) rfl rfl hl.1 rfl (lv_room (Nat.le_of_ble_eq_true rfl)) dX1_turn_1 ⟨Nat.le_of_ble_eq_true rfl, Nat.le_of_ble_eq_true rfl⟩) ?_
  refine lv_if_ne (pc := 4) (tgt := 17) hx hb dX1_turn_4 (by decide) (fun c0 => ?_) (fun c0 => ?_)
  · refine lv_iconst (pc := 17) (v := (-1)) hx hb dX1_turn_17 (by decide) ?_
    exact W.iret (pc := 18) hx hb hr (fun t ht _ => ⟨⟨_, u, rfl, Or.inl ⟨Or.inl (zm_bad_1 c0), rfl, rfl⟩, zm_back hP ht⟩, hS.F ht⟩) hS.2.2 dX1_turn_18
  · refine lv_iload_n (pc := 7) hx hb dX1_turn_7 rfl (lv_at hl 2 rfl) ?_
    refine lv_if_lt (pc := 8) (tgt := 17) hx hb dX1_turn_8 (by decide) (fun c1 => ?_) (fun c1 => ?_)
    · refine lv_iconst (pc := 17) (v := (-1)) hx hb dX1_turn_17 (by decide) ?_
      exact W.iret (pc := 18) hx hb hr (fun t ht _ => ⟨⟨_, u, rfl, Or.inl ⟨Or.inr (Or.inl c1), rfl, rfl⟩, zm_back hP ht⟩, hS.F ht⟩) hS.2.2 dX1_turn_18
    · refine lv_iload_n (pc := 11) hx hb dX1_turn_11 rfl (lv_at hl 2 rfl) ?_
      refine lv_bipush (pc := 12) (v := 21) hx hb dX1_turn_12 (by decide) ?_
      refine lv_icmp_le (pc := 14) (tgt := 19) hx hb dX1_turn_14 (by decide) (fun c2 => ?_) (fun c2 => ?_)
      · obtain ⟨j, hj, rfl⟩ := zx_sec_ne (zm_bad_0 c0)
        obtain ⟨i, hi, rfl⟩ := zf_le21 c1 c2
        refine lv_aload_n (pc := 19) hx hb dX1_turn_19 rfl (lv_at hl 0 rfl) ?_
        refine zm_g1 (pc := 20) hx hb E hP dX1_turn_20 ?_
        refine lv_iload_n (pc := 23) hx hb dX1_turn_23 rfl (lv_at hl 1 rfl) ?_
        refine zm_l1 (pc := 24) hx hb E hP (by omega) dX1_turn_24 ?_
        refine zr_if_ne (pc := 25) (tgt := 31) hx hb (Nat.lt_of_le_of_lt (Bool.toNat_le _) (by omega)) dX1_turn_25 (by decide) (fun c3 => ?_) (fun c3 => ?_)
        · have hcl : zm_c u j ≤ 22 := zc_cnt_le _ 22
          refine lv_aload_n (pc := 31) hx hb dX1_turn_31 rfl (lv_at hl 0 rfl) ?_
          refine lv_iload_n (pc := 32) hx hb dX1_turn_32 rfl (lv_at hl 1 rfl) ?_
          refine zr_callR (pc := 33) (W.runV (As := [.int (nI j)]) (rest := []) ⟨hx, hb, hml, hown, hts⟩ (zm_met_turns l ad u j hj) (cwV 1 hts (lw_V q173 q175 qs8 q11 q176) rfl rfl rfl (by decide +kernel) ⟨Nat.le_of_ble_eq_true rfl, Nat.le_of_ble_eq_true rfl⟩) (zm_pre hK hP) rfl rfl hl.1 rfl (lv_room (Nat.le_of_ble_eq_true rfl)) dX1_turn_33 ⟨Nat.le_of_ble_eq_true rfl, Nat.le_of_ble_eq_true rfl⟩) ?_
          refine lv_iconst (pc := 36) (v := nI 2) hx hb dX1_turn_36 (by decide) ?_
          refine zr_icmp_ne (pc := 37) (tgt := 56) hx hb (by omega) (by omega) dX1_turn_37 (by decide) (fun c4 => ?_) (fun c4 => ?_)
          · refine lv_aload_n (pc := 56) hx hb dX1_turn_56 rfl (lv_at hl 0 rfl) ?_
            refine zm_g3 (pc := 57) hx hb E hP dX1_turn_57 ?_
            refine lv_iload_n (pc := 60) hx hb dX1_turn_60 rfl (lv_at hl 1 rfl) ?_
            refine lv_dup2_11 (pc := 61) hx hb dX1_turn_61 rfl rfl ?_
            refine zm_l3 (pc := 62) hx hb E hP (by omega) dX1_turn_62 ?_
            refine lv_iconst (pc := 63) (v := 1) hx hb dX1_turn_63 (by decide) ?_
            refine lv_iload_n (pc := 64) hx hb dX1_turn_64 rfl (lv_at hl 2 rfl) ?_
            refine lv_ishl (pc := 65) hx hb dX1_turn_65 ?_
            refine lv_ixor (pc := 66) hx hb dX1_turn_66 ?_
            refine lv_topi (fun z1 ez1 => ?_)
            obtain rfl : z1 = zf_fl (zm_t u j) i := ez1.trans (rfl)
            refine zm_s3 (pc := 67) hx hb E hD hP hS (by omega) dX1_turn_67 (fun H locs hP hS => ?_)
            have hP : zm_P ad (zm_f u, zm_v u, va_up (zm_t u) j (zf_fl (zm_t u j) i)) H := hP
            obtain ⟨v, hv⟩ : ∃ v : zm_S, v = (zm_f u, zm_v u, va_up (zm_t u) j (zf_fl (zm_t u j) i)) := ⟨_, rfl⟩
            have hP : zm_P ad v H := by rw [hv]; exact hP
            refine lv_aload_n (pc := 68) hx hb dX1_turn_68 rfl (lv_at hl 0 rfl) ?_
            refine lv_iload_n (pc := 69) hx hb dX1_turn_69 rfl (lv_at hl 1 rfl) ?_
            refine zr_callR (pc := 70) (W.runV (As := [.int (nI j)]) (rest := []) ⟨hx, hb, hml, hown, hts⟩ (zm_met_turns l ad v j hj) (cwV 1 hts (lw_V q173 q175 qs8 q11 q176) rfl rfl rfl (by decide +kernel) ⟨Nat.le_of_ble_eq_true rfl, Nat.le_of_ble_eq_true rfl⟩) (zm_pre hK hP) rfl rfl hl.1 rfl (lv_room (Nat.le_of_ble_eq_true rfl)) dX1_turn_70 ⟨Nat.le_of_ble_eq_true rfl, Nat.le_of_ble_eq_true rfl⟩) ?_
            refine lv_topi (fun z2 ez2 => ?_)
            obtain rfl : z2 = nI (zc_cnt (bt (zf_fl (zm_t u j) i)) 22) := ez2.trans (by rw [hv]; show nI (zc_cnt (bt (va_up (zm_t u) j (zf_fl (zm_t u j) i) j)) 22) = _; rw [va_up_self])
            exact W.iret (pc := 73) hx hb hr (fun t ht _ => ⟨⟨_, v, rfl, Or.inr ⟨j, i, hj, rfl, hi, rfl, Or.inr ⟨zc_tn1 c3, Or.inr ⟨Or.inl c4, rfl, hv⟩⟩⟩, zm_back hP ht⟩, hS.F ht⟩) hS.2.2 dX1_turn_73
          · refine lv_aload_n (pc := 40) hx hb dX1_turn_40 rfl (lv_at hl 0 rfl) ?_
            refine zm_g3 (pc := 41) hx hb E hP dX1_turn_41 ?_
            refine lv_iload_n (pc := 44) hx hb dX1_turn_44 rfl (lv_at hl 1 rfl) ?_
            refine zm_l3 (pc := 45) hx hb E hP (by omega) dX1_turn_45 ?_
            refine lv_iload_n (pc := 46) hx hb dX1_turn_46 rfl (lv_at hl 2 rfl) ?_
            refine lv_ishr (pc := 47) hx hb dX1_turn_47 ?_
            refine lv_iconst (pc := 48) (v := 1) hx hb dX1_turn_48 (by decide) ?_
            refine lv_iand (pc := 49) hx hb dX1_turn_49 ?_
            refine lv_topi (fun z3 ez3 => ?_)
            obtain rfl : z3 = nI (bt (zm_t u j) i).toNat := ez3.trans (zc_sb_eq _ (by omega))
            refine zr_if_ne (pc := 50) (tgt := 56) hx hb (Nat.lt_of_le_of_lt (Bool.toNat_le _) (by omega)) dX1_turn_50 (by decide) (fun c5 => ?_) (fun c5 => ?_)
            · refine lv_aload_n (pc := 56) hx hb dX1_turn_56 rfl (lv_at hl 0 rfl) ?_
              refine zm_g3 (pc := 57) hx hb E hP dX1_turn_57 ?_
              refine lv_iload_n (pc := 60) hx hb dX1_turn_60 rfl (lv_at hl 1 rfl) ?_
              refine lv_dup2_11 (pc := 61) hx hb dX1_turn_61 rfl rfl ?_
              refine zm_l3 (pc := 62) hx hb E hP (by omega) dX1_turn_62 ?_
              refine lv_iconst (pc := 63) (v := 1) hx hb dX1_turn_63 (by decide) ?_
              refine lv_iload_n (pc := 64) hx hb dX1_turn_64 rfl (lv_at hl 2 rfl) ?_
              refine lv_ishl (pc := 65) hx hb dX1_turn_65 ?_
              refine lv_ixor (pc := 66) hx hb dX1_turn_66 ?_
              refine lv_topi (fun z4 ez4 => ?_)
              obtain rfl : z4 = zf_fl (zm_t u j) i := ez4.trans (rfl)
              refine zm_s3 (pc := 67) hx hb E hD hP hS (by omega) dX1_turn_67 (fun H locs hP hS => ?_)
              have hP : zm_P ad (zm_f u, zm_v u, va_up (zm_t u) j (zf_fl (zm_t u j) i)) H := hP
              obtain ⟨v, hv⟩ : ∃ v : zm_S, v = (zm_f u, zm_v u, va_up (zm_t u) j (zf_fl (zm_t u j) i)) := ⟨_, rfl⟩
              have hP : zm_P ad v H := by rw [hv]; exact hP
              refine lv_aload_n (pc := 68) hx hb dX1_turn_68 rfl (lv_at hl 0 rfl) ?_
              refine lv_iload_n (pc := 69) hx hb dX1_turn_69 rfl (lv_at hl 1 rfl) ?_
              refine zr_callR (pc := 70) (W.runV (As := [.int (nI j)]) (rest := []) ⟨hx, hb, hml, hown, hts⟩ (zm_met_turns l ad v j hj) (cwV 1 hts (lw_V q173 q175 qs8 q11 q176) rfl rfl rfl (by decide +kernel) ⟨Nat.le_of_ble_eq_true rfl, Nat.le_of_ble_eq_true rfl⟩) (zm_pre hK hP) rfl rfl hl.1 rfl (lv_room (Nat.le_of_ble_eq_true rfl)) dX1_turn_70 ⟨Nat.le_of_ble_eq_true rfl, Nat.le_of_ble_eq_true rfl⟩) ?_
              refine lv_topi (fun z5 ez5 => ?_)
              obtain rfl : z5 = nI (zc_cnt (bt (zf_fl (zm_t u j) i)) 22) := ez5.trans (by rw [hv]; show nI (zc_cnt (bt (va_up (zm_t u) j (zf_fl (zm_t u j) i) j)) 22) = _; rw [va_up_self])
              exact W.iret (pc := 73) hx hb hr (fun t ht _ => ⟨⟨_, v, rfl, Or.inr ⟨j, i, hj, rfl, hi, rfl, Or.inr ⟨zc_tn1 c3, Or.inr ⟨Or.inr (zc_tn1 c5), rfl, hv⟩⟩⟩, zm_back hP ht⟩, hS.F ht⟩) hS.2.2 dX1_turn_73
            · refine lv_bipush (pc := 53) (v := (-3)) hx hb dX1_turn_53 (by decide) ?_
              exact W.iret (pc := 55) hx hb hr (fun t ht _ => ⟨⟨_, u, rfl, Or.inr ⟨j, i, hj, rfl, hi, rfl, Or.inr ⟨zc_tn1 c3, Or.inl ⟨c4, zc_tn0 c5, rfl, rfl⟩⟩⟩, zm_back hP ht⟩, hS.F ht⟩) hS.2.2 dX1_turn_55
        · refine lv_bipush (pc := 28) (v := (-2)) hx hb dX1_turn_28 (by decide) ?_
          exact W.iret (pc := 30) hx hb hr (fun t ht _ => ⟨⟨_, u, rfl, Or.inr ⟨j, i, hj, rfl, hi, rfl, Or.inl ⟨zc_tn0 c3, rfl, rfl⟩⟩, zm_back hP ht⟩, hS.F ht⟩) hS.2.2 dX1_turn_30
      · refine lv_iconst (pc := 17) (v := (-1)) hx hb dX1_turn_17 (by decide) ?_
        exact W.iret (pc := 18) hx hb hr (fun t ht _ => ⟨⟨_, u, rfl, Or.inl ⟨Or.inr (Or.inr (zf_nle2 c2)), rfl, rfl⟩, zm_back hP ht⟩, hS.F ht⟩) hS.2.2 dX1_turn_18

set_option maxHeartbeats 4000000 in
set_option maxRecDepth 100000 in
theorem zm_met_repair (l : Launch) (ad : zm_A) (hD : zm_Dj ad) (u : zm_S) (x : Int32) : Met l yX1_repair (ws_ yX1_repair cX1_repair 3 (some .int)) ({ frames := 2, cells := 0, slots := 0, locals := 44 }) (va_Pc [.ref (zm_h ad), .int x] (zm_I ad u)) (va_Qi (fun (r : Int32) (u1 : zm_S) => zm_RP u x r u1) (fun (u1 : zm_S) (t : State) => zm_P ad u1 t.heap) (zm_Ad ad)) 0 0 (zm_Ad ad) := by
  refine Met.ofW (cc := cX1_repair) (maxL := 3) (ret := (some .int)) (by decide) rfl ?_
  intro p e s m args below meth c s₁ B hml hv
  obtain ⟨rfl, hP, hK⟩ := hv
  have hx := B.exec
  have hb := B.bytes
  have hr := B.returns
  have hts := atoms_spec (ws := (ws_ yX1_repair cX1_repair 3 (some .int))) B.pre
  have hts : ∀ w ∈ lw_all, w.before _ s = true := fun w h => hts w (List.mem_cons_of_mem _ h)
  have hown : s.vm.findClass RX1 = some m.cls := findClass_of_methodNamed B.named
  have hlocks := B.notSynchronized
  have E : zm_E s m _ ad := ⟨hts, hown, hK⟩
  have hS : va_S (zm_Ad ad) s.heap s.heap [] := va_S.rf
  have hl := lv_entry ([.ref (zm_h ad), .int x]) (n := 3) (Nat.le_of_ble_eq_true rfl)
  rw [lg_entry_eq]
  generalize (lg_sl ([.ref (zm_h ad), .int x]) ++ List.replicate (3 - (lg_sl ([.ref (zm_h ad), .int x])).length) Slot.unset).toArray = ls at hl ⊢
  have hl : lv_has ls 3 [(0, .ref (zm_h ad)), (1, .int x)] := hl
  refine lv_aload_n (pc := 0) hx hb dX1_repair_0 rfl (lv_at hl 0 rfl) ?_
  refine lv_iload_n (pc := 1) hx hb dX1_repair_1 rfl (lv_at hl 1 rfl) ?_
  refine zr_callR (pc := 2) (W.runV (As := [.int x]) (rest := []) ⟨hx, hb, hml, hown, hts⟩ (zm_met_read l ad u x) (cwV 1 hts (lw_V q189 q170 q171 q11 q172) rfl rfl rfl (by decide +kernel) ⟨Nat.le_of_ble_eq_true rfl, Nat.le_of_ble_eq_true rfl⟩) (zm_pre hK hP) rfl rfl hl.1 rfl (lv_room (Nat.le_of_ble_eq_true rfl)) dX1_repair_2 ⟨Nat.le_of_ble_eq_true rfl, Nat.le_of_ble_eq_true rfl⟩) ?_
  refine lv_istore_n (pc := 5) (lv' := [(2, .int (zm_rd u x)), (0, .ref (zm_h ad)), (1, .int x)]) hx hb dX1_repair_5 rfl hl (by decide) rfl (fun ls hl => ?_)
  refine lv_iload_n (pc := 6) hx hb dX1_repair_6 rfl (lv_at hl 0 rfl) ?_
  refine lv_if_lt (pc := 7) (tgt := 17) hx hb dX1_repair_7 (by decide) (fun c1 => ?_) (fun c1 => ?_)
  · refine lv_iload_n (pc := 17) hx hb dX1_repair_17 rfl (lv_at hl 0 rfl) ?_
    exact W.iret (pc := 18) hx hb hr (fun t ht _ => ⟨⟨_, u, rfl, ⟨rfl, Or.inl ⟨c1, rfl⟩⟩, zm_back hP ht⟩, hS.F ht⟩) hS.2.2 dX1_repair_18
  · obtain ⟨j, hj, rfl⟩ := zx_sec_ne (x := x) (fun z => c1 (by unfold zm_rd; rw [if_pos z]; decide))
    refine lv_aload_n (pc := 10) hx hb dX1_repair_10 rfl (lv_at hl 1 rfl) ?_
    refine zm_g3 (pc := 11) hx hb E hP dX1_repair_11 ?_
    refine lv_iload_n (pc := 14) hx hb dX1_repair_14 rfl (lv_at hl 2 rfl) ?_
    refine lv_iconst (pc := 15) (v := 0) hx hb dX1_repair_15 (by decide) ?_
    refine zm_s3 (pc := 16) hx hb E hD hP hS (by omega) dX1_repair_16 (fun H locs hP hS => ?_)
    have hP : zm_P ad (zm_f u, zm_v u, va_up (zm_t u) j 0) H := hP
    refine lv_iload_n (pc := 17) hx hb dX1_repair_17 rfl (lv_at hl 0 rfl) ?_
    exact W.iret (pc := 18) hx hb hr (fun t ht _ => ⟨⟨_, (zm_f u, zm_v u, va_up (zm_t u) j 0), rfl, ⟨rfl, Or.inr ⟨j, hj, rfl, c1, rfl⟩⟩, zm_back hP ht⟩, hS.F ht⟩) hS.2.2 dX1_repair_18

set_option maxHeartbeats 4000000 in
set_option maxRecDepth 100000 in
theorem zm_met_power (l : Launch) (ad : zm_A) (u : zm_S) : Met l yX1_power (ws_ yX1_power cX1_power 1 none) ({ frames := 0, cells := 0, slots := 0, locals := 0 }) (va_Pc [.ref (zm_h ad)] (zm_I ad u)) (va_Sv (fun _ => True)) 0 0 (fun _ => False) := by
  refine Met.ofW (cc := cX1_power) (maxL := 1) (ret := none) (by decide) rfl ?_
  intro p e s m args below meth c s₁ B hml hv
  obtain ⟨rfl, hP, hK⟩ := hv
  have hx := B.exec
  have hb := B.bytes
  have hr := B.returns
  have hts := atoms_spec (ws := (ws_ yX1_power cX1_power 1 none)) B.pre
  have hts : ∀ w ∈ lw_all, w.before _ s = true := fun w h => hts w (List.mem_cons_of_mem _ h)
  have hown : s.vm.findClass RX1 = some m.cls := findClass_of_methodNamed B.named
  have hlocks := B.notSynchronized
  have E : zm_E s m _ ad := ⟨hts, hown, hK⟩
  have hl := lv_entry ([.ref (zm_h ad)]) (n := 1) (Nat.le_of_ble_eq_true rfl)
  rw [lg_entry_eq]
  generalize (lg_sl ([.ref (zm_h ad)]) ++ List.replicate (1 - (lg_sl ([.ref (zm_h ad)])).length) Slot.unset).toArray = ls at hl ⊢
  have hl : lv_has ls 1 [(0, .ref (zm_h ad))] := hl
  exact W.vret (pc := 0) hx hb hr (fun t ht _ => ⟨rfl, trivial, ht⟩) t_nil dX1_power_0

set_option maxHeartbeats 4000000 in
set_option maxRecDepth 100000 in
theorem zm_met_tidy (l : Launch) (ad : zm_A) (u : zm_S) (y : Int32) : Met l yX1_tidy (ws_ yX1_tidy cX1_tidy 2 none) ({ frames := 0, cells := 0, slots := 0, locals := 0 }) (va_Pc [.ref (zm_h ad), .int y] (zm_I ad u)) (va_Sv (fun _ => True)) 0 0 (fun _ => False) := by
  refine Met.ofW (cc := cX1_tidy) (maxL := 2) (ret := none) (by decide) rfl ?_
  intro p e s m args below meth c s₁ B hml hv
  obtain ⟨rfl, hP, hK⟩ := hv
  have hx := B.exec
  have hb := B.bytes
  have hr := B.returns
  have hts := atoms_spec (ws := (ws_ yX1_tidy cX1_tidy 2 none)) B.pre
  have hts : ∀ w ∈ lw_all, w.before _ s = true := fun w h => hts w (List.mem_cons_of_mem _ h)
  have hown : s.vm.findClass RX1 = some m.cls := findClass_of_methodNamed B.named
  have hlocks := B.notSynchronized
  have E : zm_E s m _ ad := ⟨hts, hown, hK⟩
  have hl := lv_entry ([.ref (zm_h ad), .int y]) (n := 2) (Nat.le_of_ble_eq_true rfl)
  rw [lg_entry_eq]
  generalize (lg_sl ([.ref (zm_h ad), .int y]) ++ List.replicate (2 - (lg_sl ([.ref (zm_h ad), .int y])).length) Slot.unset).toArray = ls at hl ⊢
  have hl : lv_has ls 2 [(0, .ref (zm_h ad)), (1, .int y)] := hl
  exact W.vret (pc := 0) hx hb hr (fun t ht _ => ⟨rfl, trivial, ht⟩) t_nil dX1_tidy_0

set_option maxHeartbeats 4000000 in
set_option maxRecDepth 100000 in
theorem zm_met_written (l : Launch) (ad : zm_A) (u : zm_S) : Met l yX1_written (ws_ yX1_written cX1_written 3 (some .int)) ({ frames := 0, cells := 0, slots := 0, locals := 0 }) (va_Pc [.ref (zm_h ad)] (zm_I ad u)) (QcRead (bx_sum (zm_w u) 16)) 0 0 (fun _ => False) := by
  refine Met.ofW (cc := cX1_written) (maxL := 3) (ret := (some .int)) (by decide) rfl ?_
  intro p e s m args below meth c s₁ B hml hv
  obtain ⟨rfl, hP, hK⟩ := hv
  have hx := B.exec
  have hb := B.bytes
  have hr := B.returns
  have hts := atoms_spec (ws := (ws_ yX1_written cX1_written 3 (some .int))) B.pre
  have hts : ∀ w ∈ lw_all, w.before _ s = true := fun w h => hts w (List.mem_cons_of_mem _ h)
  have hown : s.vm.findClass RX1 = some m.cls := findClass_of_methodNamed B.named
  have hlocks := B.notSynchronized
  have E : zm_E s m _ ad := ⟨hts, hown, hK⟩
  have hl := lv_entry ([.ref (zm_h ad)]) (n := 3) (Nat.le_of_ble_eq_true rfl)
  rw [lg_entry_eq]
  generalize (lg_sl ([.ref (zm_h ad)]) ++ List.replicate (3 - (lg_sl ([.ref (zm_h ad)])).length) Slot.unset).toArray = ls at hl ⊢
  have hl : lv_has ls 3 [(0, .ref (zm_h ad))] := hl
  have LOOP : ∀ (n : Nat) (i : Nat), i ≤ 16 → 16 < i + n → ∀ (ls : Array Slot), lv_has ls 3 [(2, .int (nI i)), (1, .int (bx_sum (zm_w u) i)), (0, .ref (zm_h ad))] → W p l e (headSpec (ws_ yX1_written cX1_written 3 (some .int)) ({ frames := 0, cells := 0, slots := 0, locals := 0 })).room s m ([.ref (zm_h ad)] : List Value).toArray below meth c s.heap [] 0 0 (MQ below (QcRead (bx_sum (zm_w u) 16)) ([.ref (zm_h ad)] : List Value).toArray s 0 0 (fun _ => False)) (F0 m 4 ls []) := by
    intro n
    induction n with
    | zero =>
      intro i h1 h2
      exact absurd h2 (by omega)
    | succ n ih =>
      intro i h1 h2 ls hl
      refine lv_iload_n (pc := 4) hx hb dX1_written_4 rfl (lv_at hl 0 rfl) ?_
      refine lv_bipush (pc := 5) (v := nI 16) hx hb dX1_written_5 (by decide) ?_
      refine zr_icmp_ge (pc := 7) (tgt := 28) hx hb (by omega) (by omega) dX1_written_7 (by decide) (fun c1 => ?_) (fun c1 => ?_)
      · refine lv_iload_n (pc := 28) hx hb dX1_written_28 rfl (lv_at hl 1 rfl) ?_
        have e : i = 16 := by omega
        subst e
        exact W.iret (pc := 29) hx hb hr (fun t ht _ => zr_retE (rfl) ht) t_nil dX1_written_29
      · refine lv_aload_n (pc := 10) hx hb dX1_written_10 rfl (lv_at hl 2 rfl) ?_
        refine zm_g1 (pc := 11) hx hb E hP dX1_written_11 ?_
        refine lv_iload_n (pc := 14) hx hb dX1_written_14 rfl (lv_at hl 0 rfl) ?_
        refine zm_l1 (pc := 15) hx hb E hP (by omega) dX1_written_15 ?_
        refine zr_if_eq (pc := 16) (tgt := 22) hx hb (Nat.lt_of_le_of_lt (Bool.toNat_le _) (by omega)) dX1_written_16 (by decide) (fun c2 => ?_) (fun c2 => ?_)
        · refine lv_iinc (pc := 22) (v := nI (i + 1)) (lv' := [(2, .int (nI (i + 1))), (1, .int (bx_sum (zm_w u) i)), (0, .ref (zm_h ad))]) hx hb dX1_written_22 hl (k := 0) rfl (zr_inc _) (by decide) rfl (fun ls hl => ?_)
          refine lv_goto (pc := 25) (tgt := 4) hx hb dX1_written_25 (by decide) ?_
          exact ih (i + 1) (by omega) (by omega) ls (by rw [zm_b0 (f := zm_w u) (by unfold zm_w; rw [c2]; rfl)]; exact lv_sub hl [0, 1, 2] rfl)
        · refine lv_iinc (pc := 19) (v := bx_sum (zm_w u) i + 1) (lv' := [(1, .int (bx_sum (zm_w u) i + 1)), (2, .int (nI i)), (0, .ref (zm_h ad))]) hx hb dX1_written_19 hl (k := 1) rfl (rfl) (by decide) rfl (fun ls hl => ?_)
          refine lv_iinc (pc := 22) (v := nI (i + 1)) (lv' := [(2, .int (nI (i + 1))), (1, .int (bx_sum (zm_w u) i + 1)), (0, .ref (zm_h ad))]) hx hb dX1_written_22 hl (k := 1) rfl (zr_inc _) (by decide) rfl (fun ls hl => ?_)
          refine lv_goto (pc := 25) (tgt := 4) hx hb dX1_written_25 (by decide) ?_
          exact ih (i + 1) (by omega) (by omega) ls (by rw [zm_b1 (f := zm_w u) (by unfold zm_w; rw [zc_tn1 c2]; rfl)]; exact lv_sub hl [0, 1, 2] rfl)
  refine lv_iconst (pc := 0) (v := 0) hx hb dX1_written_0 (by decide) ?_
  refine lv_istore_n (pc := 1) (lv' := [(1, .int 0), (0, .ref (zm_h ad))]) hx hb dX1_written_1 rfl hl (by decide) rfl (fun ls hl => ?_)
  refine lv_iconst (pc := 2) (v := nI 0) hx hb dX1_written_2 (by decide) ?_
  refine lv_istore_n (pc := 3) (lv' := [(2, .int (nI 0)), (1, .int 0), (0, .ref (zm_h ad))]) hx hb dX1_written_3 rfl hl (by decide) rfl (fun ls hl => ?_)
  exact LOOP 17 0 (by omega) (by omega) ls (lv_sub hl [0, 1, 2] rfl)

set_option maxHeartbeats 4000000 in
set_option maxRecDepth 100000 in
theorem zm_met_damaged (l : Launch) (ad : zm_A) (u : zm_S) : Met l yX1_damaged (ws_ yX1_damaged cX1_damaged 3 (some .int)) ({ frames := 2, cells := 0, slots := 0, locals := 44 }) (va_Pc [.ref (zm_h ad)] (zm_I ad u)) (QcRead (bx_sum (fun j => zf_dm (zm_r u j)) 16)) 0 0 (fun _ => False) := by
  refine Met.ofW (cc := cX1_damaged) (maxL := 3) (ret := (some .int)) (by decide) rfl ?_
  intro p e s m args below meth c s₁ B hml hv
  obtain ⟨rfl, hP, hK⟩ := hv
  have hx := B.exec
  have hb := B.bytes
  have hr := B.returns
  have hts := atoms_spec (ws := (ws_ yX1_damaged cX1_damaged 3 (some .int))) B.pre
  have hts : ∀ w ∈ lw_all, w.before _ s = true := fun w h => hts w (List.mem_cons_of_mem _ h)
  have hown : s.vm.findClass RX1 = some m.cls := findClass_of_methodNamed B.named
  have hlocks := B.notSynchronized
  have E : zm_E s m _ ad := ⟨hts, hown, hK⟩
  have hl := lv_entry ([.ref (zm_h ad)]) (n := 3) (Nat.le_of_ble_eq_true rfl)
  rw [lg_entry_eq]
  generalize (lg_sl ([.ref (zm_h ad)]) ++ List.replicate (3 - (lg_sl ([.ref (zm_h ad)])).length) Slot.unset).toArray = ls at hl ⊢
  have hl : lv_has ls 3 [(0, .ref (zm_h ad))] := hl
  have LOOP : ∀ (n : Nat) (i : Nat), i ≤ 16 → 16 < i + n → ∀ (ls : Array Slot), lv_has ls 3 [(2, .int (nI i)), (1, .int (bx_sum (fun j => zf_dm (zm_r u j)) i)), (0, .ref (zm_h ad))] → W p l e (headSpec (ws_ yX1_damaged cX1_damaged 3 (some .int)) ({ frames := 2, cells := 0, slots := 0, locals := 44 })).room s m ([.ref (zm_h ad)] : List Value).toArray below meth c s.heap [] 0 0 (MQ below (QcRead (bx_sum (fun j => zf_dm (zm_r u j)) 16)) ([.ref (zm_h ad)] : List Value).toArray s 0 0 (fun _ => False)) (F0 m 4 ls []) := by
    intro n
    induction n with
    | zero =>
      intro i h1 h2
      exact absurd h2 (by omega)
    | succ n ih =>
      intro i h1 h2 ls hl
      refine lv_iload_n (pc := 4) hx hb dX1_damaged_4 rfl (lv_at hl 0 rfl) ?_
      refine lv_bipush (pc := 5) (v := nI 16) hx hb dX1_damaged_5 (by decide) ?_
      refine zr_icmp_ge (pc := 7) (tgt := 29) hx hb (by omega) (by omega) dX1_damaged_7 (by decide) (fun c1 => ?_) (fun c1 => ?_)
      · refine lv_iload_n (pc := 29) hx hb dX1_damaged_29 rfl (lv_at hl 1 rfl) ?_
        have e : i = 16 := by omega
        subst e
        exact W.iret (pc := 30) hx hb hr (fun t ht _ => zr_retE (rfl) ht) t_nil dX1_damaged_30
      · refine lv_aload_n (pc := 10) hx hb dX1_damaged_10 rfl (lv_at hl 2 rfl) ?_
        refine lv_iload_n (pc := 11) hx hb dX1_damaged_11 rfl (lv_at hl 0 rfl) ?_
        refine zr_callR (pc := 12) (W.runV (As := [.int (nI i)]) (rest := []) ⟨hx, hb, hml, hown, hts⟩ (zm_met_read l ad u (nI i)) (cwV 1 hts (lw_V q189 q170 q171 q11 q172) rfl rfl rfl (by decide +kernel) ⟨Nat.le_of_ble_eq_true rfl, Nat.le_of_ble_eq_true rfl⟩) (zm_pre hK hP) rfl rfl hl.1 rfl (lv_room (Nat.le_of_ble_eq_true rfl)) dX1_damaged_12 ⟨Nat.le_of_ble_eq_true rfl, Nat.le_of_ble_eq_true rfl⟩) ?_
        refine lv_topi (fun z1 ez1 => ?_)
        obtain rfl : z1 = zm_r u i := ez1.trans (zm_rd_nI (by omega))
        refine lv_bipush (pc := 15) (v := (-3)) hx hb dX1_damaged_15 (by decide) ?_
        refine lv_icmp_ne (pc := 17) (tgt := 23) hx hb dX1_damaged_17 (by decide) (fun c2 => ?_) (fun c2 => ?_)
        · refine lv_iinc (pc := 23) (v := nI (i + 1)) (lv' := [(2, .int (nI (i + 1))), (1, .int (bx_sum (fun j => zf_dm (zm_r u j)) i)), (0, .ref (zm_h ad))]) hx hb dX1_damaged_23 hl (k := 0) rfl (zr_inc _) (by decide) rfl (fun ls hl => ?_)
          refine lv_goto (pc := 26) (tgt := 4) hx hb dX1_damaged_26 (by decide) ?_
          exact ih (i + 1) (by omega) (by omega) ls (by rw [zm_b0 (f := (fun j => zf_dm (zm_r u j))) (show zf_dm (zm_r u i) = 0 from if_neg c2)]; exact lv_sub hl [0, 1, 2] rfl)
        · refine lv_iinc (pc := 20) (v := bx_sum (fun j => zf_dm (zm_r u j)) i + 1) (lv' := [(1, .int (bx_sum (fun j => zf_dm (zm_r u j)) i + 1)), (2, .int (nI i)), (0, .ref (zm_h ad))]) hx hb dX1_damaged_20 hl (k := 1) rfl (rfl) (by decide) rfl (fun ls hl => ?_)
          refine lv_iinc (pc := 23) (v := nI (i + 1)) (lv' := [(2, .int (nI (i + 1))), (1, .int (bx_sum (fun j => zf_dm (zm_r u j)) i + 1)), (0, .ref (zm_h ad))]) hx hb dX1_damaged_23 hl (k := 1) rfl (zr_inc _) (by decide) rfl (fun ls hl => ?_)
          refine lv_goto (pc := 26) (tgt := 4) hx hb dX1_damaged_26 (by decide) ?_
          exact ih (i + 1) (by omega) (by omega) ls (by rw [zm_b1 (f := (fun j => zf_dm (zm_r u j))) (show zf_dm (zm_r u i) = 1 from if_pos c2)]; exact lv_sub hl [0, 1, 2] rfl)
  refine lv_iconst (pc := 0) (v := 0) hx hb dX1_damaged_0 (by decide) ?_
  refine lv_istore_n (pc := 1) (lv' := [(1, .int 0), (0, .ref (zm_h ad))]) hx hb dX1_damaged_1 rfl hl (by decide) rfl (fun ls hl => ?_)
  refine lv_iconst (pc := 2) (v := nI 0) hx hb dX1_damaged_2 (by decide) ?_
  refine lv_istore_n (pc := 3) (lv' := [(2, .int (nI 0)), (1, .int 0), (0, .ref (zm_h ad))]) hx hb dX1_damaged_3 rfl hl (by decide) rfl (fun ls hl => ?_)
  exact LOOP 17 0 (by omega) (by omega) ls (lv_sub hl [0, 1, 2] rfl)

set_option maxHeartbeats 4000000 in
set_option maxRecDepth 100000 in
theorem zm_met_sum (l : Launch) (ad : zm_A) (u : zm_S) : Met l yX1_sum (ws_ yX1_sum cX1_sum 4 (some .int)) ({ frames := 2, cells := 0, slots := 0, locals := 44 }) (va_Pc [.ref (zm_h ad)] (zm_I ad u)) (QcRead (bx_sum (fun j => zf_sm (zm_r u j)) 16)) 0 0 (fun _ => False) := by
  refine Met.ofW (cc := cX1_sum) (maxL := 4) (ret := (some .int)) (by decide) rfl ?_
  intro p e s m args below meth c s₁ B hml hv
  obtain ⟨rfl, hP, hK⟩ := hv
  have hx := B.exec
  have hb := B.bytes
  have hr := B.returns
  have hts := atoms_spec (ws := (ws_ yX1_sum cX1_sum 4 (some .int))) B.pre
  have hts : ∀ w ∈ lw_all, w.before _ s = true := fun w h => hts w (List.mem_cons_of_mem _ h)
  have hown : s.vm.findClass RX1 = some m.cls := findClass_of_methodNamed B.named
  have hlocks := B.notSynchronized
  have E : zm_E s m _ ad := ⟨hts, hown, hK⟩
  have hl := lv_entry ([.ref (zm_h ad)]) (n := 4) (Nat.le_of_ble_eq_true rfl)
  rw [lg_entry_eq]
  generalize (lg_sl ([.ref (zm_h ad)]) ++ List.replicate (4 - (lg_sl ([.ref (zm_h ad)])).length) Slot.unset).toArray = ls at hl ⊢
  have hl : lv_has ls 4 [(0, .ref (zm_h ad))] := hl
  have LOOP : ∀ (n : Nat) (i : Nat), i ≤ 16 → 16 < i + n → ∀ (ls : Array Slot), lv_has ls 4 [(2, .int (nI i)), (1, .int (bx_sum (fun j => zf_sm (zm_r u j)) i)), (0, .ref (zm_h ad))] → W p l e (headSpec (ws_ yX1_sum cX1_sum 4 (some .int)) ({ frames := 2, cells := 0, slots := 0, locals := 44 })).room s m ([.ref (zm_h ad)] : List Value).toArray below meth c s.heap [] 0 0 (MQ below (QcRead (bx_sum (fun j => zf_sm (zm_r u j)) 16)) ([.ref (zm_h ad)] : List Value).toArray s 0 0 (fun _ => False)) (F0 m 4 ls []) := by
    intro n
    induction n with
    | zero =>
      intro i h1 h2
      exact absurd h2 (by omega)
    | succ n ih =>
      intro i h1 h2 ls hl
      refine lv_iload_n (pc := 4) hx hb dX1_sum_4 rfl (lv_at hl 0 rfl) ?_
      refine lv_bipush (pc := 5) (v := nI 16) hx hb dX1_sum_5 (by decide) ?_
      refine zr_icmp_ge (pc := 7) (tgt := 30) hx hb (by omega) (by omega) dX1_sum_7 (by decide) (fun c1 => ?_) (fun c1 => ?_)
      · refine lv_iload_n (pc := 30) hx hb dX1_sum_30 rfl (lv_at hl 1 rfl) ?_
        have e : i = 16 := by omega
        subst e
        exact W.iret (pc := 31) hx hb hr (fun t ht _ => zr_retE (rfl) ht) t_nil dX1_sum_31
      · refine lv_aload_n (pc := 10) hx hb dX1_sum_10 rfl (lv_at hl 2 rfl) ?_
        refine lv_iload_n (pc := 11) hx hb dX1_sum_11 rfl (lv_at hl 0 rfl) ?_
        refine zr_callR (pc := 12) (W.runV (As := [.int (nI i)]) (rest := []) ⟨hx, hb, hml, hown, hts⟩ (zm_met_read l ad u (nI i)) (cwV 1 hts (lw_V q189 q170 q171 q11 q172) rfl rfl rfl (by decide +kernel) ⟨Nat.le_of_ble_eq_true rfl, Nat.le_of_ble_eq_true rfl⟩) (zm_pre hK hP) rfl rfl hl.1 rfl (lv_room (Nat.le_of_ble_eq_true rfl)) dX1_sum_12 ⟨Nat.le_of_ble_eq_true rfl, Nat.le_of_ble_eq_true rfl⟩) ?_
        refine lv_topi (fun z1 ez1 => ?_)
        obtain rfl : z1 = zm_r u i := ez1.trans (zm_rd_nI (by omega))
        refine lv_istore_n (pc := 15) (lv' := [(3, .int (zm_r u i)), (2, .int (nI i)), (1, .int (bx_sum (fun j => zf_sm (zm_r u j)) i)), (0, .ref (zm_h ad))]) hx hb dX1_sum_15 rfl hl (by decide) rfl (fun ls hl => ?_)
        refine lv_iload_n (pc := 16) hx hb dX1_sum_16 rfl (lv_at hl 0 rfl) ?_
        refine lv_if_lt (pc := 17) (tgt := 24) hx hb dX1_sum_17 (by decide) (fun c2 => ?_) (fun c2 => ?_)
        · refine lv_iinc (pc := 24) (v := nI (i + 1)) (lv' := [(2, .int (nI (i + 1))), (3, .int (zm_r u i)), (1, .int (bx_sum (fun j => zf_sm (zm_r u j)) i)), (0, .ref (zm_h ad))]) hx hb dX1_sum_24 hl (k := 1) rfl (zr_inc _) (by decide) rfl (fun ls hl => ?_)
          refine lv_goto (pc := 27) (tgt := 4) hx hb dX1_sum_27 (by decide) ?_
          exact ih (i + 1) (by omega) (by omega) ls (by rw [zm_b0 (f := (fun j => zf_sm (zm_r u j))) (zm_sm_neg c2)]; exact lv_sub hl [0, 2, 3] rfl)
        · refine lv_iload_n (pc := 20) hx hb dX1_sum_20 rfl (lv_at hl 2 rfl) ?_
          refine lv_iload_n (pc := 21) hx hb dX1_sum_21 rfl (lv_at hl 0 rfl) ?_
          refine lv_iadd (pc := 22) hx hb dX1_sum_22 ?_
          refine lv_istore_n (pc := 23) (lv' := [(1, .int ((bx_sum (fun j => zf_sm (zm_r u j)) i) + (zm_r u i))), (3, .int (zm_r u i)), (2, .int (nI i)), (0, .ref (zm_h ad))]) hx hb dX1_sum_23 rfl hl (by decide) rfl (fun ls hl => ?_)
          refine lv_iinc (pc := 24) (v := nI (i + 1)) (lv' := [(2, .int (nI (i + 1))), (1, .int ((bx_sum (fun j => zf_sm (zm_r u j)) i) + (zm_r u i))), (3, .int (zm_r u i)), (0, .ref (zm_h ad))]) hx hb dX1_sum_24 hl (k := 2) rfl (zr_inc _) (by decide) rfl (fun ls hl => ?_)
          refine lv_goto (pc := 27) (tgt := 4) hx hb dX1_sum_27 (by decide) ?_
          exact ih (i + 1) (by omega) (by omega) ls (by rw [zm_br (f := (fun j => zf_sm (zm_r u j))) (zm_sm_pos c2)]; exact lv_sub hl [0, 1, 3] rfl)
  refine lv_iconst (pc := 0) (v := 0) hx hb dX1_sum_0 (by decide) ?_
  refine lv_istore_n (pc := 1) (lv' := [(1, .int 0), (0, .ref (zm_h ad))]) hx hb dX1_sum_1 rfl hl (by decide) rfl (fun ls hl => ?_)
  refine lv_iconst (pc := 2) (v := nI 0) hx hb dX1_sum_2 (by decide) ?_
  refine lv_istore_n (pc := 3) (lv' := [(2, .int (nI 0)), (1, .int 0), (0, .ref (zm_h ad))]) hx hb dX1_sum_3 rfl hl (by decide) rfl (fun ls hl => ?_)
  exact LOOP 17 0 (by omega) (by omega) ls (lv_sub hl [0, 1, 2] rfl)
end
section
/-! the two constructors, walked -/
theorem zr_D1 {A : Nat → Prop} {a : Nat} {e : va_E} (h : A a) : va_D A [(a, e)] := by
  refine ⟨fun i j p q hi hj _ => ?_, fun k q hk => ?_⟩
  · have h1 := (List.getElem?_eq_some_iff.mp hi).1
    have h2 := (List.getElem?_eq_some_iff.mp hj).1
    simp only [List.length_cons, List.length_nil] at h1 h2
    omega
  · have h1 := List.mem_of_getElem? hk
    rw [List.mem_singleton] at h1
    rw [h1]
    exact h
theorem zr_Dre {A B : Nat → Prop} {ws ws' : va_W} (h : va_D A ws) (e : ws'.map (·.1) = ws.map (·.1)) (hB : ∀ a ∈ ws'.map (·.1), B a) : va_D B ws' := by
  have at' : ∀ (k : Nat) (q : Nat × va_E), ws'[k]? = some q → ∃ q', ws[k]? = some q' ∧ q'.1 = q.1 := by
    intro k q hk
    have h1 : (ws'.map (·.1))[k]? = some q.1 := by rw [List.getElem?_map, hk]; rfl
    rw [e, List.getElem?_map] at h1
    cases hw : ws[k]? with
    | none => rw [hw] at h1; cases h1
    | some q' => rw [hw] at h1; exact ⟨q', rfl, Option.some.inj h1⟩
  refine ⟨fun i j p q hi hj hpq => ?_, fun k q hk => ?_⟩
  · obtain ⟨p', hp', ep⟩ := at' i p hi
    obtain ⟨q', hq', eq⟩ := at' j q hj
    exact h.1 i j p' q' hp' hq' (by rw [ep, eq, hpq])
  · exact hB q.1 (List.mem_map.mpr ⟨q, List.mem_of_getElem? hk, rfl⟩)
theorem zr_cls {s : State} {d d' : ClassId} (h : va_RA s d .int) (h' : va_RA s d' .int) : d = d' := by
  have h : s.vm.findClass ("[" ++ FieldType.int.toString) = some d := h
  have h' : s.vm.findClass ("[" ++ FieldType.int.toString) = some d' := h'
  exact Option.some.inj (h.symm.trans h')
theorem zx_in {ad : zx_A} {q : Nat} (u : zf_S) (h : zx_Ad ad q) : ∃ (k : Nat) (e : va_E), k < 7 ∧ (zx_W ad u)[k]? = some (q, e) := by
  rcases h with rfl | rfl | rfl | rfl | rfl | rfl | rfl
  · exact ⟨0, _, by omega, rfl⟩
  · exact ⟨1, _, by omega, rfl⟩
  · exact ⟨2, _, by omega, rfl⟩
  · exact ⟨3, _, by omega, rfl⟩
  · exact ⟨4, _, by omega, rfl⟩
  · exact ⟨5, _, by omega, rfl⟩
  · exact ⟨6, _, by omega, rfl⟩
theorem zm_in {ad : zm_A} {q : Nat} (u : zm_S) (h : zm_Ad ad q) : ∃ (k : Nat) (e : va_E), k < 4 ∧ (zm_W ad u)[k]? = some (q, e) := by
  rcases h with rfl | rfl | rfl | rfl
  · exact ⟨0, _, by omega, rfl⟩
  · exact ⟨1, _, by omega, rfl⟩
  · exact ⟨2, _, by omega, rfl⟩
  · exact ⟨3, _, by omega, rfl⟩
theorem zx_Dj_of {A : Nat → Prop} {ad : zx_A} {u : zf_S} (h : va_D A (zx_W ad u)) : zx_Dj ad := fun v => by
  refine zr_Dre h rfl (fun a ha => ?_)
  simp only [List.map_cons, List.map_nil, List.mem_cons, List.not_mem_nil, or_false] at ha
  exact ha
theorem zm_Dj_of {A : Nat → Prop} {ad : zm_A} {u : zm_S} (h : va_D A (zm_W ad u)) : zm_Dj ad := fun v => by
  refine zr_Dre h rfl (fun a ha => ?_)
  simp only [List.map_cons, List.map_nil, List.mem_cons, List.not_mem_nil, or_false] at ha
  exact ha
abbrev zx_u0 : zf_S := (fun _ => 0, fun _ => 0, fun _ => 0, fun _ => 0, fun _ => 0, fun _ => some 0, 0, 0, 0)
abbrev zm_u0 : zm_S := (fun _ => false, fun _ => 0, fun _ => 0)
abbrev zx_f0 : List Value := [.null, .null, .null, .null, .null, .null, .int 0, .int 0, .long 0]
abbrev zm_f0 : List Value := [.null, .null, .null]
/-- what CardFlash() leaves -/
def zx_IP (D : va_G) (h0 sz : Nat) (z : zx_A × zf_S) : Prop := zx_G z.1 = D ∧ zx_h z.1 = h0 ∧ zx_Dj z.1 ∧ (∀ q, zx_Ad z.1 q → q = h0 ∨ sz ≤ q) ∧ zf_I z.2 ∧ zf_F z.2 ∧ (∀ s, s < 16 → zf_v z.2 s = none) ∧ zf_x z.2 ≤ 1
def zm_IP (D : va_G) (h0 sz : Nat) (z : zm_A × zm_S) : Prop := zm_G z.1 = D ∧ zm_h z.1 = h0 ∧ zm_Dj z.1 ∧ (∀ q, zm_Ad z.1 q → q = h0 ∨ sz ≤ q) ∧ z.2 = zm_u0
theorem zx_u0_PG : zf_PG (zf_k zx_u0) (zf_o zx_u0) (zf_s zx_u0) 0 := ⟨fun p _ => Nat.zero_le _, fun p _ h => absurd rfl h, fun p q _ _ h => absurd rfl h⟩
theorem zx_u0_BL : zf_BL (zf_k zx_u0) 0 0 := ⟨by omega, by omega, fun j _ => ⟨fun h => absurd rfl h, fun h => absurd h (Nat.not_lt_zero _)⟩, fun b _ _ j _ => Iff.rfl⟩
theorem zx_u0_FR : zf_FR (zf_k zx_u0) 0 := ⟨1, by omega, by omega, rfl⟩
theorem zx_none {u1 : zf_S} (h : zf_PW zx_u0 0 u1) : ∀ s, s < 16 → zf_v u1 s = none := by
  intro s hs
  obtain ⟨hk, -, -, -, -, hI, -, -⟩ := h
  cases hn : zf_n u1 s with
  | none => exact zf_v_none hn
  | some p =>
    have h1 := (hI.2.2.1 s p hs hn).2.1
    rw [hk] at h1
    exact absurd rfl h1

set_option maxHeartbeats 4000000 in
set_option maxRecDepth 100000 in
theorem zx_met_init (l : Launch) (D : va_G) (h0 sz : Nat) : Met l yX0_init (ws_ yX0_init cX0_init 1 none) ({ frames := 2, cells := 6, slots := 176, locals := 43 }) (va_Pc [.ref h0] (fun U => U.heap.size = sz ∧ va_P D vwCl [(h0, .inr (0, zx_f0))] U.heap ∧ va_K D vwCl [] U)) (va_Qv (fun z : zx_A × zf_S => zx_IP D h0 sz z) (fun (z : zx_A × zf_S) (t : State) => zx_P z.1 z.2 t.heap ∧ zx_K z.1 t) (fun q => q = h0 ∨ sz ≤ q)) 6 176 (fun q => q = h0 ∨ sz ≤ q) := by
  refine Met.ofW (cc := cX0_init) (maxL := 1) (ret := none) (by decide) rfl ?_
  intro p e s m args below meth c s₁ B hml hv
  obtain ⟨rfl, hsz, hP, hK⟩ := hv
  have hx := B.exec
  have hb := B.bytes
  have hr := B.returns
  have hts := atoms_spec (ws := (ws_ yX0_init cX0_init 1 none)) B.pre
  have hts : ∀ w ∈ lw_all, w.before _ s = true := fun w h => hts w (List.mem_cons_of_mem _ h)
  have hown : s.vm.findClass RX0 = some m.cls := findClass_of_methodNamed B.named
  have hlocks := B.notSynchronized
  have hin : meth.name = "<init>" := (name_of_methodNamed B.named B.method).1
  subst hsz
  have hD : va_D (fun q => q = h0 ∨ s.heap.size ≤ q) [(h0, .inr (0, zx_f0))] := zr_D1 (Or.inl rfl)
  generalize hAe : (fun q => q = h0 ∨ s.heap.size ≤ q) = A at hD ⊢
  have hA : ∀ q : Nat, s.heap.size ≤ q → A q := fun q h => by rw [← hAe]; exact Or.inr h
  have hS : va_S A s.heap s.heap [] := va_S.rf
  have hl := lv_entry ([.ref h0]) (n := 1) (Nat.le_of_ble_eq_true rfl)
  rw [lg_entry_eq]
  generalize (lg_sl ([.ref h0]) ++ List.replicate (1 - (lg_sl ([.ref h0])).length) Slot.unset).toArray = ls at hl ⊢
  have hl : lv_has ls 1 [(0, .ref h0)] := hl
  refine lv_aload_n (pc := 0) hx hb dX0_init_0 rfl (lv_at hl 0 rfl) ?_
  refine W.objInit hx hb hown (hts _ q17) (hts _ q18) (hts _ q19) rfl (by rw [hml]; exact hl.1) rfl dX0_init_1 (Nat.le_of_ble_eq_true rfl) (Nat.le_of_ble_eq_true rfl) ?_
  refine W.eq (g2 := F0 m 4 ls []) rfl ?_
  refine lv_aload_n (pc := 4) hx hb dX0_init_4 rfl (lv_at hl 0 rfl) ?_
  refine lv_bipush (pc := 5) (v := 32) hx hb dX0_init_5 (by decide) ?_
  refine va_newa (pc := 7) (atype := .int) (ty := .int) (N' := 32) (a0 := (32, .inl (fun _ => 0))) hx hb (hts _ q56) rfl hK hP hD hS hA (fun _ => rfl) (by decide) (by decide) (Nat.le_of_ble_eq_true rfl) (Nat.le_of_ble_eq_true rfl) (Nat.le_of_ble_eq_true rfl) dX0_init_7 (fun q1 d1 H hK hP hD hS => ?_)
  refine W.widen (k := 1) (n := 32) (Nat.le_refl _) (Nat.le_refl _) ?_
  have hK : va_K D vwCl [(d1, .int)] s := hK
  have hP : va_P D vwCl [(h0, .inr (0, [.null, .null, .null, .null, .null, .null, .int 0, .int 0, .long 0])), (q1, .inl (d1, 32, .inl (fun _ => 0)))] H := hP
  have hD : va_D A [(h0, .inr (0, [.null, .null, .null, .null, .null, .null, .int 0, .int 0, .long 0])), (q1, .inl (d1, 32, .inl (fun _ => 0)))] := hD
  refine va_putF (pc := 9) (D := D) (ci := 0) (v := .ref q1) (ty := .array .int) (C := RX0) (T := TX0) (N := 9) hx hb hts in_X0 tyX0 tyX0_ok nmX0 hown hK hP hD hS 0 rfl rfl 0 (by decide) (hts _ q28) (fun _ h9 => h9) rfl hin rfl (by decide +kernel) rfl rfl (Nat.le_of_ble_eq_true rfl) dX0_init_9 (fun H locs hP hD hS => ?_)
  have hP : va_P D vwCl [(h0, .inr (0, [.ref q1, .null, .null, .null, .null, .null, .int 0, .int 0, .long 0])), (q1, .inl (d1, 32, .inl (fun _ => 0)))] H := hP
  have hD : va_D A [(h0, .inr (0, [.ref q1, .null, .null, .null, .null, .null, .int 0, .int 0, .long 0])), (q1, .inl (d1, 32, .inl (fun _ => 0)))] := hD
  refine lv_aload_n (pc := 12) hx hb dX0_init_12 rfl (lv_at hl 0 rfl) ?_
  refine lv_bipush (pc := 13) (v := 32) hx hb dX0_init_13 (by decide) ?_
  refine va_newa (pc := 15) (atype := .int) (ty := .int) (N' := 32) (a0 := (32, .inl (fun _ => 0))) hx hb (hts _ q56) rfl hK hP hD hS hA (fun _ => rfl) (by decide) (by decide) (Nat.le_of_ble_eq_true rfl) (Nat.le_of_ble_eq_true rfl) (Nat.le_of_ble_eq_true rfl) dX0_init_15 (fun q2 d2 H hK hP hD hS => ?_)
  refine W.widen (k := 2) (n := 64) (Nat.le_refl _) (Nat.le_refl _) ?_
  have hK : va_K D vwCl [(d1, .int), (d2, .int)] s := hK
  have ed2 : d1 = d2 := zr_cls (hK.2 0 _ rfl).2 (hK.2 1 _ rfl).2
  subst ed2
  have hK : va_K D vwCl [(d1, .int)] s := hK.sub [0] rfl
  have hP : va_P D vwCl [(h0, .inr (0, [.ref q1, .null, .null, .null, .null, .null, .int 0, .int 0, .long 0])), (q1, .inl (d1, 32, .inl (fun _ => 0))), (q2, .inl (d1, 32, .inl (fun _ => 0)))] H := hP
  have hD : va_D A [(h0, .inr (0, [.ref q1, .null, .null, .null, .null, .null, .int 0, .int 0, .long 0])), (q1, .inl (d1, 32, .inl (fun _ => 0))), (q2, .inl (d1, 32, .inl (fun _ => 0)))] := hD
  refine va_putF (pc := 17) (D := D) (ci := 0) (v := .ref q2) (ty := .array .int) (C := RX0) (T := TX0) (N := 9) hx hb hts in_X0 tyX0 tyX0_ok nmX0 hown hK hP hD hS 0 rfl rfl 1 (by decide) (hts _ q29) (fun _ h9 => h9) rfl hin rfl (by decide +kernel) rfl rfl (Nat.le_of_ble_eq_true rfl) dX0_init_17 (fun H locs hP hD hS => ?_)
  have hP : va_P D vwCl [(h0, .inr (0, [.ref q1, .ref q2, .null, .null, .null, .null, .int 0, .int 0, .long 0])), (q1, .inl (d1, 32, .inl (fun _ => 0))), (q2, .inl (d1, 32, .inl (fun _ => 0)))] H := hP
  have hD : va_D A [(h0, .inr (0, [.ref q1, .ref q2, .null, .null, .null, .null, .int 0, .int 0, .long 0])), (q1, .inl (d1, 32, .inl (fun _ => 0))), (q2, .inl (d1, 32, .inl (fun _ => 0)))] := hD
  refine lv_aload_n (pc := 20) hx hb dX0_init_20 rfl (lv_at hl 0 rfl) ?_
  refine lv_bipush (pc := 21) (v := 32) hx hb dX0_init_21 (by decide) ?_
  refine va_newa (pc := 23) (atype := .long) (ty := .long) (N' := 32) (a0 := (32, .inr (.inl (fun _ => 0)))) hx hb (hts _ q57) rfl hK hP hD hS hA (fun _ => rfl) (by decide) (by decide) (Nat.le_of_ble_eq_true rfl) (Nat.le_of_ble_eq_true rfl) (Nat.le_of_ble_eq_true rfl) dX0_init_23 (fun q3 d3 H hK hP hD hS => ?_)
  refine W.widen (k := 3) (n := 96) (Nat.le_refl _) (Nat.le_refl _) ?_
  have hK : va_K D vwCl [(d1, .int), (d3, .long)] s := hK
  have hP : va_P D vwCl [(h0, .inr (0, [.ref q1, .ref q2, .null, .null, .null, .null, .int 0, .int 0, .long 0])), (q1, .inl (d1, 32, .inl (fun _ => 0))), (q2, .inl (d1, 32, .inl (fun _ => 0))), (q3, .inl (d3, 32, .inr (.inl (fun _ => 0))))] H := hP
  have hD : va_D A [(h0, .inr (0, [.ref q1, .ref q2, .null, .null, .null, .null, .int 0, .int 0, .long 0])), (q1, .inl (d1, 32, .inl (fun _ => 0))), (q2, .inl (d1, 32, .inl (fun _ => 0))), (q3, .inl (d3, 32, .inr (.inl (fun _ => 0))))] := hD
  refine va_putF (pc := 25) (D := D) (ci := 0) (v := .ref q3) (ty := .array .long) (C := RX0) (T := TX0) (N := 9) hx hb hts in_X0 tyX0 tyX0_ok nmX0 hown hK hP hD hS 0 rfl rfl 2 (by decide) (hts _ q30) (fun _ h9 => h9) rfl hin rfl (by decide +kernel) rfl rfl (Nat.le_of_ble_eq_true rfl) dX0_init_25 (fun H locs hP hD hS => ?_)
  have hP : va_P D vwCl [(h0, .inr (0, [.ref q1, .ref q2, .ref q3, .null, .null, .null, .int 0, .int 0, .long 0])), (q1, .inl (d1, 32, .inl (fun _ => 0))), (q2, .inl (d1, 32, .inl (fun _ => 0))), (q3, .inl (d3, 32, .inr (.inl (fun _ => 0))))] H := hP
  have hD : va_D A [(h0, .inr (0, [.ref q1, .ref q2, .ref q3, .null, .null, .null, .int 0, .int 0, .long 0])), (q1, .inl (d1, 32, .inl (fun _ => 0))), (q2, .inl (d1, 32, .inl (fun _ => 0))), (q3, .inl (d3, 32, .inr (.inl (fun _ => 0))))] := hD
  refine lv_aload_n (pc := 28) hx hb dX0_init_28 rfl (lv_at hl 0 rfl) ?_
  refine lv_bipush (pc := 29) (v := 32) hx hb dX0_init_29 (by decide) ?_
  refine va_newa (pc := 31) (atype := .int) (ty := .int) (N' := 32) (a0 := (32, .inl (fun _ => 0))) hx hb (hts _ q56) rfl hK hP hD hS hA (fun _ => rfl) (by decide) (by decide) (Nat.le_of_ble_eq_true rfl) (Nat.le_of_ble_eq_true rfl) (Nat.le_of_ble_eq_true rfl) dX0_init_31 (fun q4 d4 H hK hP hD hS => ?_)
  refine W.widen (k := 4) (n := 128) (Nat.le_refl _) (Nat.le_refl _) ?_
  have hK : va_K D vwCl [(d1, .int), (d3, .long), (d4, .int)] s := hK
  have ed4 : d1 = d4 := zr_cls (hK.2 0 _ rfl).2 (hK.2 2 _ rfl).2
  subst ed4
  have hK : va_K D vwCl [(d1, .int), (d3, .long)] s := hK.sub [0, 1] rfl
  have hP : va_P D vwCl [(h0, .inr (0, [.ref q1, .ref q2, .ref q3, .null, .null, .null, .int 0, .int 0, .long 0])), (q1, .inl (d1, 32, .inl (fun _ => 0))), (q2, .inl (d1, 32, .inl (fun _ => 0))), (q3, .inl (d3, 32, .inr (.inl (fun _ => 0)))), (q4, .inl (d1, 32, .inl (fun _ => 0)))] H := hP
  have hD : va_D A [(h0, .inr (0, [.ref q1, .ref q2, .ref q3, .null, .null, .null, .int 0, .int 0, .long 0])), (q1, .inl (d1, 32, .inl (fun _ => 0))), (q2, .inl (d1, 32, .inl (fun _ => 0))), (q3, .inl (d3, 32, .inr (.inl (fun _ => 0)))), (q4, .inl (d1, 32, .inl (fun _ => 0)))] := hD
  refine va_putF (pc := 33) (D := D) (ci := 0) (v := .ref q4) (ty := .array .int) (C := RX0) (T := TX0) (N := 9) hx hb hts in_X0 tyX0 tyX0_ok nmX0 hown hK hP hD hS 0 rfl rfl 3 (by decide) (hts _ q31) (fun _ h9 => h9) rfl hin rfl (by decide +kernel) rfl rfl (Nat.le_of_ble_eq_true rfl) dX0_init_33 (fun H locs hP hD hS => ?_)
  have hP : va_P D vwCl [(h0, .inr (0, [.ref q1, .ref q2, .ref q3, .ref q4, .null, .null, .int 0, .int 0, .long 0])), (q1, .inl (d1, 32, .inl (fun _ => 0))), (q2, .inl (d1, 32, .inl (fun _ => 0))), (q3, .inl (d3, 32, .inr (.inl (fun _ => 0)))), (q4, .inl (d1, 32, .inl (fun _ => 0)))] H := hP
  have hD : va_D A [(h0, .inr (0, [.ref q1, .ref q2, .ref q3, .ref q4, .null, .null, .int 0, .int 0, .long 0])), (q1, .inl (d1, 32, .inl (fun _ => 0))), (q2, .inl (d1, 32, .inl (fun _ => 0))), (q3, .inl (d3, 32, .inr (.inl (fun _ => 0)))), (q4, .inl (d1, 32, .inl (fun _ => 0)))] := hD
  refine lv_aload_n (pc := 36) hx hb dX0_init_36 rfl (lv_at hl 0 rfl) ?_
  refine lv_bipush (pc := 37) (v := 32) hx hb dX0_init_37 (by decide) ?_
  refine va_newa (pc := 39) (atype := .int) (ty := .int) (N' := 32) (a0 := (32, .inl (fun _ => 0))) hx hb (hts _ q56) rfl hK hP hD hS hA (fun _ => rfl) (by decide) (by decide) (Nat.le_of_ble_eq_true rfl) (Nat.le_of_ble_eq_true rfl) (Nat.le_of_ble_eq_true rfl) dX0_init_39 (fun q5 d5 H hK hP hD hS => ?_)
  refine W.widen (k := 5) (n := 160) (Nat.le_refl _) (Nat.le_refl _) ?_
  have hK : va_K D vwCl [(d1, .int), (d3, .long), (d5, .int)] s := hK
  have ed5 : d1 = d5 := zr_cls (hK.2 0 _ rfl).2 (hK.2 2 _ rfl).2
  subst ed5
  have hK : va_K D vwCl [(d1, .int), (d3, .long)] s := hK.sub [0, 1] rfl
  have hP : va_P D vwCl [(h0, .inr (0, [.ref q1, .ref q2, .ref q3, .ref q4, .null, .null, .int 0, .int 0, .long 0])), (q1, .inl (d1, 32, .inl (fun _ => 0))), (q2, .inl (d1, 32, .inl (fun _ => 0))), (q3, .inl (d3, 32, .inr (.inl (fun _ => 0)))), (q4, .inl (d1, 32, .inl (fun _ => 0))), (q5, .inl (d1, 32, .inl (fun _ => 0)))] H := hP
  have hD : va_D A [(h0, .inr (0, [.ref q1, .ref q2, .ref q3, .ref q4, .null, .null, .int 0, .int 0, .long 0])), (q1, .inl (d1, 32, .inl (fun _ => 0))), (q2, .inl (d1, 32, .inl (fun _ => 0))), (q3, .inl (d3, 32, .inr (.inl (fun _ => 0)))), (q4, .inl (d1, 32, .inl (fun _ => 0))), (q5, .inl (d1, 32, .inl (fun _ => 0)))] := hD
  refine va_putF (pc := 41) (D := D) (ci := 0) (v := .ref q5) (ty := .array .int) (C := RX0) (T := TX0) (N := 9) hx hb hts in_X0 tyX0 tyX0_ok nmX0 hown hK hP hD hS 0 rfl rfl 4 (by decide) (hts _ q32) (fun _ h9 => h9) rfl hin rfl (by decide +kernel) rfl rfl (Nat.le_of_ble_eq_true rfl) dX0_init_41 (fun H locs hP hD hS => ?_)
  have hP : va_P D vwCl [(h0, .inr (0, [.ref q1, .ref q2, .ref q3, .ref q4, .ref q5, .null, .int 0, .int 0, .long 0])), (q1, .inl (d1, 32, .inl (fun _ => 0))), (q2, .inl (d1, 32, .inl (fun _ => 0))), (q3, .inl (d3, 32, .inr (.inl (fun _ => 0)))), (q4, .inl (d1, 32, .inl (fun _ => 0))), (q5, .inl (d1, 32, .inl (fun _ => 0)))] H := hP
  have hD : va_D A [(h0, .inr (0, [.ref q1, .ref q2, .ref q3, .ref q4, .ref q5, .null, .int 0, .int 0, .long 0])), (q1, .inl (d1, 32, .inl (fun _ => 0))), (q2, .inl (d1, 32, .inl (fun _ => 0))), (q3, .inl (d3, 32, .inr (.inl (fun _ => 0)))), (q4, .inl (d1, 32, .inl (fun _ => 0))), (q5, .inl (d1, 32, .inl (fun _ => 0)))] := hD
  refine lv_aload_n (pc := 44) hx hb dX0_init_44 rfl (lv_at hl 0 rfl) ?_
  refine lv_bipush (pc := 45) (v := 16) hx hb dX0_init_45 (by decide) ?_
  refine va_newa (pc := 47) (atype := .int) (ty := .int) (N' := 16) (a0 := (16, .inl (fun _ => 0))) hx hb (hts _ q56) rfl hK hP hD hS hA (fun _ => rfl) (by decide) (by decide) (Nat.le_of_ble_eq_true rfl) (Nat.le_of_ble_eq_true rfl) (Nat.le_of_ble_eq_true rfl) dX0_init_47 (fun q6 d6 H hK hP hD hS => ?_)
  refine W.widen (k := 6) (n := 176) (Nat.le_refl _) (Nat.le_refl _) ?_
  have hK : va_K D vwCl [(d1, .int), (d3, .long), (d6, .int)] s := hK
  have ed6 : d1 = d6 := zr_cls (hK.2 0 _ rfl).2 (hK.2 2 _ rfl).2
  subst ed6
  have hK : va_K D vwCl [(d1, .int), (d3, .long)] s := hK.sub [0, 1] rfl
  have hP : va_P D vwCl [(h0, .inr (0, [.ref q1, .ref q2, .ref q3, .ref q4, .ref q5, .null, .int 0, .int 0, .long 0])), (q1, .inl (d1, 32, .inl (fun _ => 0))), (q2, .inl (d1, 32, .inl (fun _ => 0))), (q3, .inl (d3, 32, .inr (.inl (fun _ => 0)))), (q4, .inl (d1, 32, .inl (fun _ => 0))), (q5, .inl (d1, 32, .inl (fun _ => 0))), (q6, .inl (d1, 16, .inl (fun _ => 0)))] H := hP
  have hD : va_D A [(h0, .inr (0, [.ref q1, .ref q2, .ref q3, .ref q4, .ref q5, .null, .int 0, .int 0, .long 0])), (q1, .inl (d1, 32, .inl (fun _ => 0))), (q2, .inl (d1, 32, .inl (fun _ => 0))), (q3, .inl (d3, 32, .inr (.inl (fun _ => 0)))), (q4, .inl (d1, 32, .inl (fun _ => 0))), (q5, .inl (d1, 32, .inl (fun _ => 0))), (q6, .inl (d1, 16, .inl (fun _ => 0)))] := hD
  refine va_putF (pc := 49) (D := D) (ci := 0) (v := .ref q6) (ty := .array .int) (C := RX0) (T := TX0) (N := 9) hx hb hts in_X0 tyX0 tyX0_ok nmX0 hown hK hP hD hS 0 rfl rfl 5 (by decide) (hts _ q33) (fun _ h9 => h9) rfl hin rfl (by decide +kernel) rfl rfl (Nat.le_of_ble_eq_true rfl) dX0_init_49 (fun H locs hP hD hS => ?_)
  have hP : va_P D vwCl [(h0, .inr (0, [.ref q1, .ref q2, .ref q3, .ref q4, .ref q5, .ref q6, .int 0, .int 0, .long 0])), (q1, .inl (d1, 32, .inl (fun _ => 0))), (q2, .inl (d1, 32, .inl (fun _ => 0))), (q3, .inl (d3, 32, .inr (.inl (fun _ => 0)))), (q4, .inl (d1, 32, .inl (fun _ => 0))), (q5, .inl (d1, 32, .inl (fun _ => 0))), (q6, .inl (d1, 16, .inl (fun _ => 0)))] H := hP
  have hD : va_D A [(h0, .inr (0, [.ref q1, .ref q2, .ref q3, .ref q4, .ref q5, .ref q6, .int 0, .int 0, .long 0])), (q1, .inl (d1, 32, .inl (fun _ => 0))), (q2, .inl (d1, 32, .inl (fun _ => 0))), (q3, .inl (d3, 32, .inr (.inl (fun _ => 0)))), (q4, .inl (d1, 32, .inl (fun _ => 0))), (q5, .inl (d1, 32, .inl (fun _ => 0))), (q6, .inl (d1, 16, .inl (fun _ => 0)))] := hD
  obtain ⟨ad, had⟩ : ∃ ad : zx_A, ad = (D, d1, d3, h0, q1, q2, q3, q4, q5, q6) := ⟨_, rfl⟩
  have hP : zx_P ad zx_u0 H := by rw [had]; exact hP
  have hKx : zx_K ad s := by rw [had]; exact hK
  have hD : va_D A (zx_W ad zx_u0) := by rw [had]; exact hD
  have hDj : zx_Dj ad := zx_Dj_of hD
  have hAd : ∀ q, zx_Ad ad q → A q := fun q hq => by
    obtain ⟨k, e9, -, hk⟩ := zx_in zx_u0 hq
    exact hD.2 k _ hk
  have hh : zx_h ad = h0 := by rw [had]
  have hg : zx_G ad = D := by rw [had]
  have hl : lv_has ls 1 [(0, .ref (zx_h ad))] := by rw [hh]; exact hl
  refine lv_aload_n (pc := 52) hx hb dX0_init_52 rfl (lv_at hl 0 rfl) ?_
  refine va_callv (pc := 53) (va_runV (As := []) (rest := []) ⟨hx, hb, hml, hown, hts⟩ (zx_met_power l ad hDj zx_u0 0 0 0 zx_u0_PG zx_u0_BL zx_u0_FR (by omega)) (cwV 0 hts (lw_V q20 q21 q22 q10 q23) rfl rfl rfl (by decide +kernel) ⟨Nat.le_of_ble_eq_true rfl, Nat.le_of_ble_eq_true rfl⟩) (zx_pre hKx hP) rfl rfl hl.1 rfl (lv_room (Nat.le_of_ble_eq_true rfl)) dX0_init_53 ⟨Nat.le_of_ble_eq_true rfl, Nat.le_of_ble_eq_true rfl⟩) hS (fun q _ h => hAd q h) hAd (fun u1 t H1 locs ht hvm hw hB hz1 hk1 hS => ?_)
  have hB : zx_P ad u1 t.heap := hB
  rw [ht] at hB
  exact W.vret (pc := 56) hx hb hr (fun t ht hW => ⟨⟨(ad, u1), rfl, ⟨hg, hh, hDj, fun q hq => by have h9 := hAd q hq; rw [← hAe] at h9; exact h9, hw.2.2.2.2.2.1, hw.2.2.2.2.2.2.1, zx_none hw, hw.2.2.2.2.2.2.2⟩, zx_back hB ht, va_K.moved hW.alike hKx⟩, hS.F ht⟩) hS.2.2 dX0_init_56

set_option maxHeartbeats 4000000 in
set_option maxRecDepth 100000 in
theorem zm_met_init (l : Launch) (D : va_G) (h0 sz : Nat) : Met l yX1_init (ws_ yX1_init cX1_init 1 none) ({ frames := 1, cells := 3, slots := 48, locals := 12 }) (va_Pc [.ref h0] (fun U => U.heap.size = sz ∧ va_P D vwCl [(h0, .inr (1, zm_f0))] U.heap ∧ va_K D vwCl [] U)) (va_Qv (fun z : zm_A × zm_S => zm_IP D h0 sz z) (fun (z : zm_A × zm_S) (t : State) => zm_P z.1 z.2 t.heap ∧ zm_K z.1 t) (fun q => q = h0 ∨ sz ≤ q)) 3 48 (fun q => q = h0 ∨ sz ≤ q) := by
  refine Met.ofW (cc := cX1_init) (maxL := 1) (ret := none) (by decide) rfl ?_
  intro p e s m args below meth c s₁ B hml hv
  obtain ⟨rfl, hsz, hP, hK⟩ := hv
  have hx := B.exec
  have hb := B.bytes
  have hr := B.returns
  have hts := atoms_spec (ws := (ws_ yX1_init cX1_init 1 none)) B.pre
  have hts : ∀ w ∈ lw_all, w.before _ s = true := fun w h => hts w (List.mem_cons_of_mem _ h)
  have hown : s.vm.findClass RX1 = some m.cls := findClass_of_methodNamed B.named
  have hlocks := B.notSynchronized
  have hin : meth.name = "<init>" := (name_of_methodNamed B.named B.method).1
  subst hsz
  have hD : va_D (fun q => q = h0 ∨ s.heap.size ≤ q) [(h0, .inr (1, zm_f0))] := zr_D1 (Or.inl rfl)
  generalize hAe : (fun q => q = h0 ∨ s.heap.size ≤ q) = A at hD ⊢
  have hA : ∀ q : Nat, s.heap.size ≤ q → A q := fun q h => by rw [← hAe]; exact Or.inr h
  have hS : va_S A s.heap s.heap [] := va_S.rf
  have hl := lv_entry ([.ref h0]) (n := 1) (Nat.le_of_ble_eq_true rfl)
  rw [lg_entry_eq]
  generalize (lg_sl ([.ref h0]) ++ List.replicate (1 - (lg_sl ([.ref h0])).length) Slot.unset).toArray = ls at hl ⊢
  have hl : lv_has ls 1 [(0, .ref h0)] := hl
  refine lv_aload_n (pc := 0) hx hb dX1_init_0 rfl (lv_at hl 0 rfl) ?_
  refine W.objInit hx hb hown (hts _ q149) (hts _ q18) (hts _ q19) rfl (by rw [hml]; exact hl.1) rfl dX1_init_1 (Nat.le_of_ble_eq_true rfl) (Nat.le_of_ble_eq_true rfl) ?_
  refine W.eq (g2 := F0 m 4 ls []) rfl ?_
  refine lv_aload_n (pc := 4) hx hb dX1_init_4 rfl (lv_at hl 0 rfl) ?_
  refine lv_bipush (pc := 5) (v := 16) hx hb dX1_init_5 (by decide) ?_
  refine va_newa (pc := 7) (atype := .boolean) (ty := .boolean) (N' := 16) (a0 := (16, .inl (fun _ => 0))) hx hb (hts _ q160) rfl hK hP hD hS hA (fun _ => rfl) (by decide) (by decide) (Nat.le_of_ble_eq_true rfl) (Nat.le_of_ble_eq_true rfl) (Nat.le_of_ble_eq_true rfl) dX1_init_7 (fun q1 d1 H hK hP hD hS => ?_)
  refine W.widen (k := 1) (n := 16) (Nat.le_refl _) (Nat.le_refl _) ?_
  have hK : va_K D vwCl [(d1, .boolean)] s := hK
  have hP : va_P D vwCl [(h0, .inr (1, [.null, .null, .null])), (q1, .inl (d1, 16, .inl (fun _ => 0)))] H := hP
  have hD : va_D A [(h0, .inr (1, [.null, .null, .null])), (q1, .inl (d1, 16, .inl (fun _ => 0)))] := hD
  refine va_putF (pc := 9) (D := D) (ci := 1) (v := .ref q1) (ty := .array .boolean) (C := RX1) (T := TX1) (N := 3) hx hb hts in_X1 tyX1 tyX1_ok nmX1 hown hK hP hD hS 0 rfl rfl 0 (by decide) (hts _ q150) (fun _ h9 => h9) rfl hin rfl (by decide +kernel) rfl rfl (Nat.le_of_ble_eq_true rfl) dX1_init_9 (fun H locs hP hD hS => ?_)
  have hP : va_P D vwCl [(h0, .inr (1, [.ref q1, .null, .null])), (q1, .inl (d1, 16, .inl (fun _ => 0)))] H := hP
  have hD : va_D A [(h0, .inr (1, [.ref q1, .null, .null])), (q1, .inl (d1, 16, .inl (fun _ => 0)))] := hD
  refine lv_aload_n (pc := 12) hx hb dX1_init_12 rfl (lv_at hl 0 rfl) ?_
  refine lv_bipush (pc := 13) (v := 16) hx hb dX1_init_13 (by decide) ?_
  refine va_newa (pc := 15) (atype := .int) (ty := .int) (N' := 16) (a0 := (16, .inl (fun _ => 0))) hx hb (hts _ q56) rfl hK hP hD hS hA (fun _ => rfl) (by decide) (by decide) (Nat.le_of_ble_eq_true rfl) (Nat.le_of_ble_eq_true rfl) (Nat.le_of_ble_eq_true rfl) dX1_init_15 (fun q2 d2 H hK hP hD hS => ?_)
  refine W.widen (k := 2) (n := 32) (Nat.le_refl _) (Nat.le_refl _) ?_
  have hK : va_K D vwCl [(d1, .boolean), (d2, .int)] s := hK
  have hP : va_P D vwCl [(h0, .inr (1, [.ref q1, .null, .null])), (q1, .inl (d1, 16, .inl (fun _ => 0))), (q2, .inl (d2, 16, .inl (fun _ => 0)))] H := hP
  have hD : va_D A [(h0, .inr (1, [.ref q1, .null, .null])), (q1, .inl (d1, 16, .inl (fun _ => 0))), (q2, .inl (d2, 16, .inl (fun _ => 0)))] := hD
  refine va_putF (pc := 17) (D := D) (ci := 1) (v := .ref q2) (ty := .array .int) (C := RX1) (T := TX1) (N := 3) hx hb hts in_X1 tyX1 tyX1_ok nmX1 hown hK hP hD hS 0 rfl rfl 1 (by decide) (hts _ q151) (fun _ h9 => h9) rfl hin rfl (by decide +kernel) rfl rfl (Nat.le_of_ble_eq_true rfl) dX1_init_17 (fun H locs hP hD hS => ?_)
  have hP : va_P D vwCl [(h0, .inr (1, [.ref q1, .ref q2, .null])), (q1, .inl (d1, 16, .inl (fun _ => 0))), (q2, .inl (d2, 16, .inl (fun _ => 0)))] H := hP
  have hD : va_D A [(h0, .inr (1, [.ref q1, .ref q2, .null])), (q1, .inl (d1, 16, .inl (fun _ => 0))), (q2, .inl (d2, 16, .inl (fun _ => 0)))] := hD
  refine lv_aload_n (pc := 20) hx hb dX1_init_20 rfl (lv_at hl 0 rfl) ?_
  refine lv_bipush (pc := 21) (v := 16) hx hb dX1_init_21 (by decide) ?_
  refine va_newa (pc := 23) (atype := .int) (ty := .int) (N' := 16) (a0 := (16, .inl (fun _ => 0))) hx hb (hts _ q56) rfl hK hP hD hS hA (fun _ => rfl) (by decide) (by decide) (Nat.le_of_ble_eq_true rfl) (Nat.le_of_ble_eq_true rfl) (Nat.le_of_ble_eq_true rfl) dX1_init_23 (fun q3 d3 H hK hP hD hS => ?_)
  refine W.widen (k := 3) (n := 48) (Nat.le_refl _) (Nat.le_refl _) ?_
  have hK : va_K D vwCl [(d1, .boolean), (d2, .int), (d3, .int)] s := hK
  have ed3 : d2 = d3 := zr_cls (hK.2 1 _ rfl).2 (hK.2 2 _ rfl).2
  subst ed3
  have hK : va_K D vwCl [(d1, .boolean), (d2, .int)] s := hK.sub [0, 1] rfl
  have hP : va_P D vwCl [(h0, .inr (1, [.ref q1, .ref q2, .null])), (q1, .inl (d1, 16, .inl (fun _ => 0))), (q2, .inl (d2, 16, .inl (fun _ => 0))), (q3, .inl (d2, 16, .inl (fun _ => 0)))] H := hP
  have hD : va_D A [(h0, .inr (1, [.ref q1, .ref q2, .null])), (q1, .inl (d1, 16, .inl (fun _ => 0))), (q2, .inl (d2, 16, .inl (fun _ => 0))), (q3, .inl (d2, 16, .inl (fun _ => 0)))] := hD
  refine va_putF (pc := 25) (D := D) (ci := 1) (v := .ref q3) (ty := .array .int) (C := RX1) (T := TX1) (N := 3) hx hb hts in_X1 tyX1 tyX1_ok nmX1 hown hK hP hD hS 0 rfl rfl 2 (by decide) (hts _ q152) (fun _ h9 => h9) rfl hin rfl (by decide +kernel) rfl rfl (Nat.le_of_ble_eq_true rfl) dX1_init_25 (fun H locs hP hD hS => ?_)
  have hP : va_P D vwCl [(h0, .inr (1, [.ref q1, .ref q2, .ref q3])), (q1, .inl (d1, 16, .inl (fun _ => 0))), (q2, .inl (d2, 16, .inl (fun _ => 0))), (q3, .inl (d2, 16, .inl (fun _ => 0)))] H := hP
  have hD : va_D A [(h0, .inr (1, [.ref q1, .ref q2, .ref q3])), (q1, .inl (d1, 16, .inl (fun _ => 0))), (q2, .inl (d2, 16, .inl (fun _ => 0))), (q3, .inl (d2, 16, .inl (fun _ => 0)))] := hD
  obtain ⟨ad, had⟩ : ∃ ad : zm_A, ad = (D, d1, d2, h0, q1, q2, q3) := ⟨_, rfl⟩
  have hP : zm_P ad zm_u0 H := by rw [had]; exact hP
  have hKx : zm_K ad s := by rw [had]; exact hK
  have hD : va_D A (zm_W ad zm_u0) := by rw [had]; exact hD
  have hDj : zm_Dj ad := zm_Dj_of hD
  have hAd : ∀ q, zm_Ad ad q → A q := fun q hq => by
    obtain ⟨k, e9, -, hk⟩ := zm_in zm_u0 hq
    exact hD.2 k _ hk
  have hh : zm_h ad = h0 := by rw [had]
  have hg : zm_G ad = D := by rw [had]
  exact W.vret (pc := 28) hx hb hr (fun t ht hW => ⟨⟨(ad, zm_u0), rfl, ⟨hg, hh, hDj, fun q hq => by have h9 := hAd q hq; rw [← hAe] at h9; exact h9, rfl⟩, zm_back hP ht, va_K.moved hW.alike hKx⟩, hS.F ht⟩) hS.2.2 dX1_init_28
end
section
/-! the flash against the reference, plainly -/
/-- what a sector shows against the reference's three -/
def zl_C (o : Option (Nat × Int32 × Int32)) (f : Bool) (v t : Int32) : Prop := (f = true → o = some (1, zc_enc v, t) ∧ (∀ i, 16 ≤ i → bt v i = false) ∧ (∀ i, 22 ≤ i → bt t i = false) ∧ zc_cnt (bt t) 22 ≤ 2) ∧ (f = false → o = none ∨ ∃ w t', o = some (2, w, t'))
def zl_R (u : zf_S) (v : zm_S) : Prop := zf_I u ∧ zf_F u ∧ ∀ j, j < 16 → zl_C (zf_v u j) (zm_f v j) (zm_v v j) (zm_t v j)
theorem zl_rd {u : zf_S} {v : zm_S} (h : zl_R u v) {j : Nat} (hj : j < 16) : zf_rd u j = zm_r v j := by
  have hC := h.2.2 j hj
  unfold zf_rd zm_r
  cases hf : zm_f v j
  · rcases hC.2 hf with e | ⟨w, t, e⟩
    · rw [e]
      rfl
    · rw [e]
      rfl
  · obtain ⟨e, h1, h2, h3⟩ := hC.1 hf
    rw [e, if_pos rfl]
    show (if 1 = 2 then (-2 : Int32) else zc_dec (zc_enc (zm_v v j) ^^^ zm_t v j)) = _
    rw [if_neg (by decide), zc_law _ _ h1 h2 h3]
theorem zl_rdx {u : zf_S} {v : zm_S} (h : zl_R u v) (x : Int32) : zx_rd u x = zm_rd v x := by
  by_cases hx : zx_sec x = 0
  · unfold zx_rd zm_rd
    rw [if_pos hx, if_pos hx]
  · obtain ⟨j, hj, rfl⟩ := zx_sec_ne hx
    rw [zx_rd_nI hj, zm_rd_nI hj, zl_rd h hj]
theorem zl_wr {u : zf_S} {v : zm_S} (h : zl_R u v) {j : Nat} (hj : j < 16) : zf_wr u j = zm_w v j := by
  have hC := h.2.2 j hj
  unfold zf_wr zm_w
  cases hf : zm_f v j
  · rcases hC.2 hf with e | ⟨w, t, e⟩
    · rw [e]
      rfl
    · rw [e]
      rfl
  · obtain ⟨e, -⟩ := hC.1 hf
    rw [e]
    rfl
theorem zl_sum {f g : Nat → Int32} : ∀ {n : Nat}, (∀ j, j < n → f j = g j) → bx_sum f n = bx_sum g n
  | 0, _ => rfl
  | n + 1, h => by
    show bx_sum f n + f n = bx_sum g n + g n
    rw [zl_sum (n := n) (fun j hj => h j (by omega)), h n (by omega)]
theorem zl_written {u : zf_S} {v : zm_S} (h : zl_R u v) : bx_sum (zf_wr u) 16 = bx_sum (zm_w v) 16 := zl_sum (fun _ hj => zl_wr h hj)
theorem zl_damaged {u : zf_S} {v : zm_S} (h : zl_R u v) : bx_sum (fun j => zf_dm (zf_rd u j)) 16 = bx_sum (fun j => zf_dm (zm_r v j)) 16 := zl_sum (fun j hj => by
  show zf_dm (zf_rd u j) = zf_dm (zm_r v j)
  rw [zl_rd h hj])
theorem zl_total {u : zf_S} {v : zm_S} (h : zl_R u v) : bx_sum (fun j => zf_sm (zf_rd u j)) 16 = bx_sum (fun j => zf_sm (zm_r v j)) 16 := zl_sum (fun j hj => by
  show zf_sm (zf_rd u j) = zf_sm (zm_r v j)
  rw [zl_rd h hj])
theorem zl_view {u u1 : zf_S} {v : zm_S} (h : zl_R u v) (h1 : zf_I u1) (h2 : zf_F u1) (h3 : ∀ s, s < 16 → zf_v u1 s = zf_v u s) : zl_R u1 v := ⟨h1, h2, fun j hj => by
  rw [h3 j hj]
  exact h.2.2 j hj⟩
theorem zl_upd {u u1 : zf_S} {v v1 : zm_S} {j : Nat} {o : Option (Nat × Int32 × Int32)} (h : zl_R u v) (h1 : zf_I u1) (h2 : zf_F u1) (h3 : ∀ s, s < 16 → zf_v u1 s = if s = j then o else zf_v u s)
    (hm : ∀ s, s ≠ j → zm_f v1 s = zm_f v s ∧ zm_v v1 s = zm_v v s ∧ zm_t v1 s = zm_t v s) (hj : zl_C o (zm_f v1 j) (zm_v v1 j) (zm_t v1 j)) : zl_R u1 v1 := by
  refine ⟨h1, h2, fun s hs => ?_⟩
  rw [h3 s hs]
  by_cases e : s = j
  · rw [if_pos e, e]
    exact hj
  · obtain ⟨e1, e2, e3⟩ := hm s e
    rw [if_neg e, e1, e2, e3]
    exact h.2.2 s hs
theorem zl_bit0 : zc_cnt (bt 0) 22 ≤ 2 := by
  rw [zc_cnt_congr (Q := fun _ => false) (fun i _ => b_0 i)]
  decide
theorem zl_nIj {j j' : Nat} (hj : j < 16) (hj' : j' < 16) (h : nI j = nI j') : j = j' := (nI_eq (by omega) (by omega)).mp h
theorem zl_secn {j : Nat} (hj : j < 16) (h : zx_sec (nI j) = 0) : False := by
  rw [zx_sec_nI hj] at h
  exact absurd h (by decide)
theorem zl_m16 (y : Int32) : ∀ i, 16 ≤ i → bt (y &&& 65535) i = false := fun i hi => by
  rw [b_and, b_65535, decide_eq_false (Nat.not_lt.mpr hi), Bool.and_false]
theorem zl_write {u u1 : zf_S} {v v1 : zm_S} {x y r r2 : Int32} (h : zl_R u v) (h1 : zf_WP u x y r u1) (h2 : zm_WP v x y r2 v1) : r = r2 ∧ zl_R u1 v1 ∧ zf_x u1 ≤ zf_x u + 16 := by
  rcases h1 with ⟨a1, a2, a3⟩ | ⟨j, hj, a1, a2, a3⟩
  · rcases h2 with ⟨b1, b2, b3⟩ | ⟨j2, hj2, b1, b2, b3⟩
    · rw [a2, b2, a3, b3]
      exact ⟨rfl, h, Nat.le_add_right _ _⟩
    · rw [b1] at a1
      exact (zl_secn hj2 a1).elim
  · rcases h2 with ⟨b1, b2, b3⟩ | ⟨j2, hj2, b1, b2, b3⟩
    · rw [a1] at b1
      exact (zl_secn hj b1).elim
    · have e : j = j2 := zl_nIj hj hj2 (a1.symm.trans b1)
      subst e
      obtain ⟨g1, g2, g3, g4⟩ := a3
      refine ⟨by rw [a2, b2], zl_upd h g1 g2 g3 (fun s hs => ?_) ?_, by omega⟩
      · rw [b3]
        exact ⟨va_up_ne _ _ hs, va_up_ne _ _ hs, va_up_ne _ _ hs⟩
      · rw [b3]
        show zl_C _ (va_up (zm_f v) j true j) (va_up (zm_v v) j (y &&& 65535) j) (va_up (zm_t v) j 0 j)
        rw [va_up_self, va_up_self, va_up_self]
        exact ⟨fun _ => ⟨rfl, zl_m16 y, fun i _ => b_0 i, zl_bit0⟩, fun q => by (cases q)⟩
theorem zl_wf {u : zf_S} {v : zm_S} (h : zl_R u v) {j : Nat} (hj : j < 16) : zf_wr u j = 0 ↔ zm_f v j = false := by
  rw [zl_wr h hj]
  unfold zm_w
  cases zm_f v j
  · exact ⟨fun _ => rfl, fun _ => by decide⟩
  · exact ⟨fun q => absurd q (by decide), fun q => by (cases q)⟩
theorem zl_trim {u u1 : zf_S} {v v1 : zm_S} {x r r2 : Int32} (h : zl_R u v) (h1 : zf_TR u x r u1) (h2 : zm_TR v x r2 v1) : r = r2 ∧ zl_R u1 v1 ∧ zf_x u1 ≤ zf_x u + 16 := by
  rcases h1 with ⟨a1, a2, a3⟩ | ⟨j, hj, a1, a2⟩
  · rcases h2 with ⟨b1, b2, b3⟩ | ⟨j2, hj2, b1, b2⟩
    · rw [a2, b2, a3, b3]
      exact ⟨rfl, h, Nat.le_add_right _ _⟩
    · rw [b1] at a1
      exact (zl_secn hj2 a1).elim
  · rcases h2 with ⟨b1, b2, b3⟩ | ⟨j2, hj2, b1, b2⟩
    · rw [a1] at b1
      exact (zl_secn hj b1).elim
    · have e : j = j2 := zl_nIj hj hj2 (a1.symm.trans b1)
      subst e
      rcases a2 with ⟨c1, c2, c3⟩ | ⟨c1, c2, c3⟩
      · rcases b2 with ⟨d1, d2, d3⟩ | ⟨d1, d2, d3⟩
        · rw [c2, d2, c3, d3]
          exact ⟨rfl, h, Nat.le_add_right _ _⟩
        · rw [(zl_wf h hj).mp c1] at d1
          cases d1
      · rcases b2 with ⟨d1, d2, d3⟩ | ⟨d1, d2, d3⟩
        · exact absurd ((zl_wf h hj).mpr d1) c1
        · obtain ⟨g1, g2, g3, g4⟩ := c3
          refine ⟨by rw [c2, d2], zl_upd h g1 g2 g3 (fun s hs => ?_) ?_, by omega⟩
          · rw [d3]
            exact ⟨va_up_ne _ _ hs, rfl, rfl⟩
          · rw [d3]
            show zl_C _ (va_up (zm_f v) j false j) _ _
            rw [va_up_self]
            exact ⟨fun q => by (cases q), fun _ => Or.inr ⟨_, _, rfl⟩⟩
theorem zl_flip (f : Nat → Bool) (i : Nat) : ∀ n, i < n → zc_cnt (fun k => f k ^^ decide (k = i)) n + (f i).toNat = zc_cnt f n + (!f i).toNat
  | 0, h => absurd h (Nat.not_lt_zero _)
  | n + 1, h => by
    show zc_cnt (fun k => f k ^^ decide (k = i)) n + (f n ^^ decide (n = i)).toNat + (f i).toNat = zc_cnt f n + (f n).toNat + (!f i).toNat
    by_cases e : n = i
    · subst e
      rw [zc_cnt_congr (P := fun k => f k ^^ decide (k = n)) (Q := f) (fun k hk => by
        show (f k ^^ decide (k = n)) = f k
        rw [decide_eq_false (by omega : ¬ k = n), Bool.xor_false])]
      rw [decide_eq_true rfl]
      cases f n <;> simp only [Bool.xor_true, Bool.not_false, Bool.not_true, Bool.toNat_true, Bool.toNat_false] <;> omega
    · have ih := zl_flip f i n (by omega)
      rw [decide_eq_false e, Bool.xor_false]
      omega
theorem zl_fl_bit {t : Int32} {i k : Nat} (hi : i < 22) (hk : k < 32) : bt (zf_fl t i) k = (bt t k ^^ decide (k = i)) := by
  show bt (t ^^^ ((1 : Int32) <<< (nI i &&& 31))) k = _
  rw [b_xor, zc_1bit (by omega) hk]
theorem zl_fl_cnt (t : Int32) {i : Nat} (hi : i < 22) : zc_cnt (bt (zf_fl t i)) 22 + (bt t i).toNat = zc_cnt (bt t) 22 + (!bt t i).toNat := by
  rw [zc_cnt_congr (P := bt (zf_fl t i)) (Q := fun k => bt t k ^^ decide (k = i)) (fun k hk => zl_fl_bit hi (by omega))]
  exact zl_flip (bt t) i 22 hi
theorem zl_fl_high {t : Int32} {i : Nat} (hi : i < 22) (ht : ∀ k, 22 ≤ k → bt t k = false) : ∀ k, 22 ≤ k → bt (zf_fl t i) k = false := fun k hk => by
  rcases Nat.lt_or_ge k 32 with h | h
  · rw [zl_fl_bit hi h, ht k hk, decide_eq_false (by omega : ¬ k = i)]
    rfl
  · exact b_big h
theorem zl_ylt {i : Nat} (hi : i < 22) (h : nI i < 0 ∨ 21 < nI i) : False := by
  rcases h with h | h
  · exact nI_pos (by omega) h
  · have h : nI 21 < nI i := h
    rw [nI_ltI (by omega) (by omega)] at h
    omega
theorem zl_turn {u u1 : zf_S} {v v1 : zm_S} {x y r r2 : Int32} (h : zl_R u v) (h1 : zf_TU u x y r u1) (h2 : zm_TU v x y r2 v1) : r = r2 ∧ zl_R u1 v1 ∧ zf_x u1 ≤ zf_x u + 16 := by
  rcases h1 with ⟨a1, a2, a3⟩ | ⟨j, i, hj, ax, hi, ay, a4⟩
  · rcases h2 with ⟨b1, b2, b3⟩ | ⟨j2, i2, hj2, bx, hi2, bY, b4⟩
    · rw [a2, b2, a3, b3]
      exact ⟨rfl, h, Nat.le_add_right _ _⟩
    · rw [bx, bY] at a1
      rcases a1 with a1 | a1
      · exact (zl_secn hj2 a1).elim
      · exact (zl_ylt hi2 a1).elim
  · rcases h2 with ⟨b1, b2, b3⟩ | ⟨j2, i2, hj2, bx, hi2, bY, b4⟩
    · rw [ax, ay] at b1
      rcases b1 with b1 | b1
      · exact (zl_secn hj b1).elim
      · exact (zl_ylt hi b1).elim
    · have e : j = j2 := zl_nIj hj hj2 (ax.symm.trans bx)
      subst e
      have e2 : i = i2 := (nI_eq (by omega) (by omega)).mp (ay.symm.trans bY)
      subst e2
      rcases a4 with ⟨c1, c2, c3⟩ | ⟨w, t, c1, c2⟩
      · rcases b4 with ⟨d1, d2, d3⟩ | ⟨d1, d2⟩
        · rw [c2, d2, c3, d3]
          exact ⟨rfl, h, Nat.le_add_right _ _⟩
        · rw [(zl_wf h hj).mp c1] at d1
          cases d1
      · rcases b4 with ⟨d1, d2, d3⟩ | ⟨d1, d2⟩
        · rcases (h.2.2 j hj).2 d1 with q | ⟨w9, t9, q⟩
          · rw [q] at c1
            cases c1
          · rw [q] at c1
            cases c1
        · obtain ⟨k1, k2, k3, k4⟩ := (h.2.2 j hj).1 d1
          rw [k1] at c1
          obtain ⟨rfl, rfl⟩ : zc_enc (zm_v v j) = w ∧ zm_t v j = t := by
            have q := Option.some.inj c1
            exact ⟨congrArg (fun z => z.2.1) q, congrArg (fun z => z.2.2) q⟩
          have hf := zl_fl_cnt (zm_t v j) hi
          rcases c2 with ⟨g1, g2, g3⟩ | ⟨g1, g2, g3, g4, g5, g6⟩
          · rcases d2 with ⟨m1, m2, m3, m4⟩ | ⟨m1, m2, m3⟩
            · rw [g2, m3, g3, m4]
              exact ⟨rfl, h, Nat.le_add_right _ _⟩
            · exfalso
              have m1 : zc_cnt (bt (zm_t v j)) 22 ≠ 2 ∨ bt (zm_t v j) i = true := m1
              cases hb : bt (zm_t v j) i
              · rw [hb] at hf m1
                simp only [Bool.not_false, Bool.toNat_true, Bool.toNat_false] at hf
                rcases m1 with m1 | m1
                · omega
                · cases m1
              · rw [hb] at hf
                simp only [Bool.not_true, Bool.toNat_true, Bool.toNat_false] at hf
                omega
          · rcases d2 with ⟨m1, m2, m3, m4⟩ | ⟨m1, m2, m3⟩
            · exfalso
              have m1 : zc_cnt (bt (zm_t v j)) 22 = 2 := m1
              rw [m2] at hf
              simp only [Bool.not_false, Bool.toNat_true, Bool.toNat_false] at hf
              omega
            · refine ⟨by rw [g2, m2], zl_upd h g3 g4 g5 (fun s hs => ?_) ?_, by omega⟩
              · rw [m3]
                exact ⟨rfl, rfl, va_up_ne _ _ hs⟩
              · rw [m3]
                show zl_C _ (zm_f v j) (zm_v v j) (va_up (zm_t v) j (zf_fl (zm_t v j) i) j)
                rw [va_up_self]
                exact ⟨fun _ => ⟨rfl, k2, zl_fl_high hi k3, g1⟩, fun q => by (rw [d1] at q; cases q)⟩
theorem zl_and16 {r : Int32} (h : ∀ i, 16 ≤ i → bt r i = false) : r &&& 65535 = r := b_ext (fun i hi => by
  rw [b_and, b_65535]
  rcases Nat.lt_or_ge i 16 with g | g
  · rw [decide_eq_true g, Bool.and_true]
  · rw [h i g, Bool.false_and])
theorem zl_repair {u u1 : zf_S} {v v1 : zm_S} {x r r2 : Int32} (h : zl_R u v) (h1 : zf_RP u x r u1) (h2 : zm_RP v x r2 v1) : r = r2 ∧ zl_R u1 v1 ∧ zf_x u1 ≤ zf_x u + 16 := by
  obtain ⟨a1, a2⟩ := h1
  obtain ⟨b1, b2⟩ := h2
  have er : r = r2 := by rw [a1, b1, zl_rdx h]
  refine ⟨er, ?_⟩
  rcases a2 with ⟨c1, c2⟩ | ⟨c1, r3, c2⟩
  · rcases b2 with ⟨d1, d2⟩ | ⟨j, hj, d0, d1, d2⟩
    · rw [c2, d2]
      exact ⟨h, Nat.le_add_right _ _⟩
    · rw [er] at c1
      exact absurd c1 d1
  · rcases b2 with ⟨d1, d2⟩ | ⟨j, hj, d0, d1, d2⟩
    · rw [← er] at d1
      exact absurd d1 c1
    · rcases c2 with ⟨g1, g2, g3⟩ | ⟨j2, hj2, g1, g2, g3⟩
      · rw [d0] at g1
        exact (zl_secn hj g1).elim
      · have e : j = j2 := zl_nIj hj hj2 (d0.symm.trans g1)
        subst e
        have hr : r = zm_r v j := by rw [er, b1, d0, zm_rd_nI hj]
        have hfl : zm_f v j = true := by
          cases hf : zm_f v j
          · unfold zm_r at hr
            rw [hf] at hr
            have hr : r = -2 := hr
            rw [hr] at c1
            exact absurd (by decide) c1
          · rfl
        obtain ⟨k1, k2, k3, k4⟩ := (h.2.2 j hj).1 hfl
        have hv : r = zm_v v j := by
          unfold zm_r at hr
          rw [hfl, if_pos rfl] at hr
          by_cases q : zm_c v j = 2
          · rw [if_pos q] at hr
            rw [hr] at c1
            exact absurd (by decide) c1
          · rw [if_neg q] at hr
            exact hr
        obtain ⟨m1, m2, m3, m4⟩ := g3
        rw [hv, zl_and16 k2] at m3
        refine ⟨zl_upd h m1 m2 m3 (fun s hs => ?_) ?_, by omega⟩
        · rw [d2]
          exact ⟨rfl, rfl, va_up_ne _ _ hs⟩
        · rw [d2]
          show zl_C _ (zm_f v j) (zm_v v j) (va_up (zm_t v) j 0 j)
          rw [va_up_self]
          exact ⟨fun _ => ⟨rfl, k2, fun i _ => b_0 i, zl_bit0⟩, fun q => by (rw [hfl] at q; cases q)⟩
theorem zl_power {u u1 : zf_S} {v : zm_S} (h : zl_R u v) (h1 : zf_PW u (zf_x u) u1) : zl_R u1 v ∧ zf_x u1 ≤ zf_x u + 16 := by
  obtain ⟨e1, e2, e3, e4, e5, hI, hF, hx⟩ := h1
  refine ⟨zl_view h hI hF (fun s hs => ?_), by omega⟩
  have hN := hI.2.2
  rw [e1, e2, e3] at hN
  have en := zf_NW_one h.1.1 h.1.2.2 hN hs
  unfold zf_v
  rw [en, e1, e4, e5]
theorem zl_tidy {u u1 : zf_S} {v : zm_S} (h : zl_R u v) (h1 : zf_TD u u1 4) : zl_R u1 v ∧ zf_x u1 ≤ zf_x u + 16 := by
  obtain ⟨g1, g2, g3, g4⟩ := h1
  exact ⟨zl_view h g1 g2 g3, by omega⟩
theorem zl_start {u : zf_S} (h1 : zf_I u) (h2 : zf_F u) (h3 : ∀ s, s < 16 → zf_v u s = none) : zl_R u zm_u0 := ⟨h1, h2, fun j hj => ⟨fun q => by (cases q), fun _ => Or.inl (h3 j hj)⟩⟩
end
section
/-! the law walked; its first rows are the skeleton's -/
def R_law : String := "CardFlashLaw"
def lw_P (b : Addr) (xs : List Int32) (args : Array Value) (s : State) : Prop := args = #[.ref b] ∧ s.IntsAt b xs ∧ xs.length ≤ 192 ∧ (Jvm.Cond.and given_1 narrow_1).before args s = true
def lw_Q (_ : Array Value) (s : State) (o : Outcome) (t : State) : Prop := o = .returned (some (.int 1)) ∧ Framed s o t [] 600000 7290000
def lw_Z (below : List Frame) (a : Array Value) (s : State) : State → Prop := fun t => ∃ o, t.status = .running ∧ Ended t below o ∧ lw_Q a s o t
/-- the law's own end, with 1 on the stack, nothing written that was there before, its room as the claim has it -/
theorem lw_ret {p : Program} {l : Launch} {e : Env} {s : State} {m : MethodId} {below : List Frame} {meth : Method} {c : Code} {b : Nat} (hx : p.tables.exec = Jvm.exec) (hb : c.code = code) (hr : meth.sig.returnType = ret) (hlocks : meth.locks = false) {pc : Nat} {H : Heap} {ls : Array Slot} (hdg : decode code pc = .ok (.ireturn, 1)) : W p l e room_1 s m #[Value.ref b] below meth c H [] 600000 7290000 (lw_Z below #[Value.ref b] s) (F0 m pc ls [.int 1]) := by
  intro T hT X
  obtain ⟨fs, hret, hrun, hended, hW, hframe⟩ := X.leave (v := some (.int 1)) (hlocks := hlocks) (fun h => by rw [hr] at h; cases h)
  have hmeth' : T.vm.method? m = some meth := X.method'
  refine ⟨T.setFrames fs, ?_, .returned (some (.int 1)), hrun, hended, rfl, ⟨_, rfl⟩, hW, hframe⟩
  jvm_step X.here [X.here.top, hx, hb, hdg, hmeth', hr, ret, narrow_b1]
  (try refine ⟨rfl, ?_⟩); (try refine ⟨rfl, ?_⟩)
  first | (intro acts; rw [hret _ acts rfl rfl rfl]) | rw [hret _ _ rfl rfl rfl]
  exact Steps.refl _
/-- what holds at the law's entry: the machine, the code, the tables' words (any of lw_tbl by 'hts w (by decide +kernel)'), the script of L ints xs at the cell b, what the Statement gives of the start (any of its parts by flat_of_before) -/
def lw_At (p : Program) (s : State) (m : MethodId) (meth : Method) (c : Code) (b L : Nat) (xs : Nat → Int32) : Prop :=
  p.tables.exec = Jvm.exec ∧ c.code = code ∧ meth.sig.returnType = ret ∧ c.maxLocals = 4 ∧ s.vm.findClass R_law = some m.cls ∧ (∀ w ∈ lw_tbl, w.before #[Value.ref b] s = true) ∧ va_X b L xs s s.heap ∧ b < s.heap.size ∧ meth.locks = false ∧ (Jvm.Cond.and given_1 narrow_1).before #[Value.ref b] s = true

section
variable {p : Program} {l : Launch} {e : Env} {R : Room} {s : State} {m : MethodId} {args : Array Value} {below : List Frame} {meth : Method} {c : Code} {H : Heap} {locs : List Loc} {cells slots : Nat} {Q : State → Prop}
variable {cc : ByteArray} {pc : Nat} {ls : Array Slot} {rest : List Value}
theorem zl_ld (hx : p.tables.exec = Jvm.exec) (hb : c.code = cc) {b L : Nat} {xs : Nat → Int32} (hX : va_X b L xs s s.heap) (hbl : b < s.heap.size) (hS : va_S (fun q => s.heap.size ≤ q) s.heap H locs) {i : Nat} (hi : i < L) (hL : L ≤ 192) (hdg : decode cc pc = .ok (.iaload, 1)) (kk : W p l e R s m args below meth c H locs cells slots Q (F0 m (pc + 1) ls (.int (xs i) :: rest))) : W p l e R s m args below meth c H locs cells slots Q (F0 m pc ls (.int (nI i) :: .ref b :: rest)) := by
  refine va_sld hx hb hX hbl (Nat.not_le.mpr hbl) hS (vp_in_nI hi (by omega)) hdg ?_
  rw [zr_cl hi (by omega)]
  exact kk
theorem zl_len (hx : p.tables.exec = Jvm.exec) (hb : c.code = cc) {b L : Nat} {xs : Nat → Int32} (hX : va_X b L xs s s.heap) (hbl : b < s.heap.size) (hS : va_S (fun q => s.heap.size ≤ q) s.heap H locs) (hdg : decode cc pc = .ok (.arraylength, 1)) (kk : W p l e R s m args below meth c H locs cells slots Q (F0 m (pc + 1) ls (.int (nI L) :: rest))) : W p l e R s m args below meth c H locs cells slots Q (F0 m pc ls (.ref b :: rest)) :=
  va_slen hx hb hX hbl (Nat.not_le.mpr hbl) hS hdg kk
end
theorem zl_more {L i : Nat} (hL : L ≤ 192) (hi : i ≤ 192) (h : ¬ nI L - nI 3 < nI i) : i + 3 ≤ L := by
  rw [Int32.lt_iff_toInt_lt, pk_sub_toInt (by omega) (by omega), nI_toInt (by omega)] at h
  omega
theorem zl_sw (x : Int32) : ∃ k : Nat, k < 16 ∧ x &&& 15 = nI k := pk_andE x 4 (by decide)
theorem zl_apart {A : Nat → Prop} {ws : va_W} {a : Nat} {e : va_E} (hD : va_D A (ws ++ [(a, e)])) {k : Nat} {q : Nat × va_E} (hk : ws[k]? = some q) : q.1 ≠ a := fun z => by
  have hl := (List.getElem?_eq_some_iff.mp hk).1
  have h1 : (ws ++ [(a, e)])[k]? = some q := by rw [List.getElem?_append_left hl]; exact hk
  have h2 : (ws ++ [(a, e)])[ws.length]? = some (a, e) := by rw [List.getElem?_append_right (Nat.le_refl _), Nat.sub_self]; rfl
  have := hD.1 _ _ _ _ h1 h2 z
  omega
theorem zx_keep {ad : zx_A} {u : zf_S} {H H1 : Heap} {A1 : Nat → Prop} (hD : zx_Dj ad) (hs : ∀ q, zx_Ad ad q → ¬ A1 q) (hP : zx_P ad u H) (hk : ∀ q : Nat, q < H.size → ¬ A1 q → H1[q]? = H[q]?) : zx_P ad u H1 :=
  va_P.kept hP (fun k q h => hk q.1 (hP k q h).lt (hs q.1 ((hD u).2 k q h)))
theorem zm_keep {ad : zm_A} {u : zm_S} {H H1 : Heap} {A1 : Nat → Prop} (hD : zm_Dj ad) (hs : ∀ q, zm_Ad ad q → ¬ A1 q) (hP : zm_P ad u H) (hk : ∀ q : Nat, q < H.size → ¬ A1 q → H1[q]? = H[q]?) : zm_P ad u H1 :=
  va_P.kept hP (fun k q h => hk q.1 (hP k q h).lt (hs q.1 ((hD u).2 k q h)))

set_option maxHeartbeats 8000000 in
set_option maxRecDepth 100000 in
theorem whole_start {p : Program} {e : Env} {s : State} {m : MethodId} {below : List Frame} {meth : Method} {c : Code} (l : Launch) {b L : Nat} {xs : Nat → Int32} (hL : L ≤ 192) (C0 : lw_At p s m meth c b L xs) : W p l e room_1 s m #[Value.ref b] below meth c s.heap [] 0 0 (lw_Z below #[Value.ref b] s) (entryFrame m ([Value.ref b] : List Value).toArray 4) := by
  obtain ⟨hx, hb, hr, hml, hown, hts0, hX, hbl, hlocks, hgv⟩ := C0
  have hts : ∀ w ∈ lw_all, w.before #[Value.ref b] s = true := fun w h => hts0 w (lw_all_tbl h)
  obtain ⟨c0_, iS0, hKn0⟩ := u_known (C := RX0) (T := TX0) (N := 9) (n := 9) hts0 (fun w h => lw_all_tbl (in_X0 w h)) (hts _ q13)
  obtain ⟨c1_, iS1, hKn1⟩ := u_known (C := RX1) (T := TX1) (N := 3) (n := 3) hts0 (fun w h => lw_all_tbl (in_X1 w h)) (hts _ q145)
  obtain ⟨D, hK⟩ : ∃ D : va_G, va_K D vwCl [] s := by
    refine ⟨(fun k => if k = 0 then c0_ else c1_, fun k => if k = 0 then iS0 else iS1), ?_, fun k q hk => by simp at hk⟩
    intro k q hq
    match k, hq with
    | 0, hq => cases hq; exact hKn0
    | 1, hq => cases hq; exact hKn1
    | k + 2, hq => simp [vwCl] at hq
  have hP : va_P D vwCl [] s.heap := fun k q hk => by simp at hk
  have hD : va_D (fun q => s.heap.size ≤ q) [] := ⟨fun i j p q hi => by simp at hi, fun k q hk => by simp at hk⟩
  have hS : va_S (fun q => s.heap.size ≤ q) s.heap s.heap [] := va_S.rf
  have hA : ∀ q : Nat, s.heap.size ≤ q → (fun q => s.heap.size ≤ q) q := fun q h => h
  have hl := lv_entry ([.ref b]) (n := 4) (Nat.le_of_ble_eq_true rfl)
  rw [lg_entry_eq]
  generalize (lg_sl ([.ref b]) ++ List.replicate (4 - (lg_sl ([.ref b])).length) Slot.unset).toArray = ls at hl ⊢
  have hl : lv_has ls 4 [(0, .ref b)] := hl
  refine va_new (pc := 0) (D := D) (ws := []) (tys := []) (ci := 0) (fs := zx_f0) (C := RX0) (T := TX0) (N := 9) hx hb hts in_X0 tyX0 tyX0_ok hown (hts _ q12) (hts _ q13) (hts _ q10) hK hP hD hS hA rfl (fun j hj => by rcases (show j = 0 ∨ j = 1 ∨ j = 2 ∨ j = 3 ∨ j = 4 ∨ j = 5 ∨ j = 6 ∨ j = 7 ∨ j = 8 by omega) with rfl | rfl | rfl | rfl | rfl | rfl | rfl | rfl | rfl <;> rfl) (Nat.le_of_ble_eq_true rfl) (Nat.le_of_ble_eq_true rfl) dL_law_0 (fun q0 H hP hD hS => ?_)
  have hP : va_P D vwCl [(q0, .inr (0, zx_f0))] H := hP
  have hD : va_D (fun q => s.heap.size ≤ q) [(q0, .inr (0, zx_f0))] := hD
  refine W.widen (k := 1) (n := 9) (Nat.le_refl _) (Nat.le_refl _) ?_
  refine lv_dup (pc := 3) hx hb dL_law_3 rfl ?_
  have hA1 : ∀ q : Nat, (q = q0 ∨ H.size ≤ q) → s.heap.size ≤ q := fun q h => by
    rcases h with h | h
    · rw [h]; exact hD.2 0 _ rfl
    · exact Nat.le_trans hS.1 h
  refine va_callv (pc := 4) (va_runI (As := []) (rest := [.ref q0]) ⟨hx, hb, hml, hown, hts⟩ (zx_met_init l D q0 H.size) (cwI 0 hts (lw_meth q16) rfl rfl rfl (hts _ q10) (hts _ q14) (hts _ q15) rfl (by decide +kernel) ⟨Nat.le_of_ble_eq_true rfl, Nat.le_of_ble_eq_true rfl⟩) ⟨fun a U g mk q => ⟨q.1, q.2.1, q.2.2.1, va_K.moved (u := U) (U := U.calling g mk a) (Vm.Alike.refl U.vm) q.2.2.2⟩, fun U hU hW => ⟨rfl, by rw [hU], by rw [hU]; exact hP, va_K.moved hW.alike hK⟩⟩ rfl rfl hl.1 rfl (lv_room (Nat.le_of_ble_eq_true rfl)) dL_law_4 ⟨Nat.le_of_ble_eq_true rfl, Nat.le_of_ble_eq_true rfl⟩) hS (fun q _ h => hA1 q h) hA1 (fun z t H1 locs ht hvm hw hB hz1 hk1 hS => ?_)
  obtain ⟨ad, u⟩ := z
  obtain ⟨hg, hh, hDj, hAd, hI, hF, hv0, hx0⟩ := hw
  obtain ⟨hPx, hKx⟩ := hB
  have hg : zx_G ad = D := hg
  have hh : zx_h ad = q0 := hh
  have hDj : zx_Dj ad := hDj
  have hAx : ∀ q, zx_Ad ad q → s.heap.size ≤ q := fun q h => hA1 q (hAd q h)
  have hI : zf_I u := hI
  have hF : zf_F u := hF
  have hv0 : ∀ s, s < 16 → zf_v u s = none := hv0
  have hx0 : zf_x u ≤ 1 := hx0
  have hPx : zx_P ad u t.heap := hPx
  have hKx : zx_K ad s := va_K.moved hvm.symm hKx
  rw [ht] at hPx
  clear hA1 hAd hP hD hz1 hk1 ht hvm
  subst hg
  subst hh
  generalize H1 = H at hPx hS ⊢
  refine lv_astore_n (pc := 7) (lv' := [(1, .ref (zx_h ad)), (0, .ref b)]) hx hb dL_law_7 rfl hl (by decide) rfl (fun ls hl => ?_)
  have hP : va_P (zx_G ad) vwCl (zx_W ad u) H := hPx
  have hD : va_D (fun q => s.heap.size ≤ q) (zx_W ad u) := (hDj u).weaken (fun k q _ h => hAx q.1 h)
  refine va_new (pc := 8) (D := zx_G ad) (ws := zx_W ad u) (tys := []) (ci := 1) (fs := zm_f0) (C := RX1) (T := TX1) (N := 3) hx hb hts in_X1 tyX1 tyX1_ok hown (hts _ q144) (hts _ q145) (hts _ q11) hK hP hD hS hA rfl (fun j hj => by rcases (show j = 0 ∨ j = 1 ∨ j = 2 by omega) with rfl | rfl | rfl <;> rfl) (Nat.le_of_ble_eq_true rfl) (Nat.le_of_ble_eq_true rfl) dL_law_8 (fun qm H hP hD hS => ?_)
  refine W.widen (k := 8) (n := 188) (Nat.le_refl _) (Nat.le_refl _) ?_
  have hPx : zx_P ad u H := hP.sub (ws' := zx_W ad u) [0, 1, 2, 3, 4, 5, 6] rfl
  have hPm := hP.sub (ws' := [(qm, .inr (1, zm_f0))]) [7] rfl
  refine lv_dup (pc := 11) hx hb dL_law_11 rfl ?_
  have hA1 : ∀ q : Nat, (q = qm ∨ H.size ≤ q) → s.heap.size ≤ q := fun q h => by
    rcases h with h | h
    · rw [h]; exact hD.2 7 _ rfl
    · exact Nat.le_trans hS.1 h
  refine va_callv (pc := 12) (va_runI (As := []) (rest := [.ref qm]) ⟨hx, hb, hml, hown, hts⟩ (zm_met_init l (zx_G ad) qm H.size) (cwI 0 hts (lw_meth q148) rfl rfl rfl (hts _ q11) (hts _ q146) (hts _ q147) rfl (by decide +kernel) ⟨Nat.le_of_ble_eq_true rfl, Nat.le_of_ble_eq_true rfl⟩) ⟨fun a U g mk q => ⟨q.1, q.2.1, q.2.2.1, va_K.moved (u := U) (U := U.calling g mk a) (Vm.Alike.refl U.vm) q.2.2.2⟩, fun U hU hW => ⟨rfl, by rw [hU], by rw [hU]; exact hPm, va_K.moved hW.alike hK⟩⟩ rfl rfl hl.1 rfl (lv_room (Nat.le_of_ble_eq_true rfl)) dL_law_12 ⟨Nat.le_of_ble_eq_true rfl, Nat.le_of_ble_eq_true rfl⟩) hS (fun q _ h => hA1 q h) hA1 (fun z t H1 locs ht hvm hw hB hz1 hk1 hS => ?_)
  obtain ⟨am, v⟩ := z
  obtain ⟨hgm, hhm, hDjm, hAdm, hv⟩ := hw
  obtain ⟨hM, hKm⟩ := hB
  have hhm : zm_h am = qm := hhm
  have hDjm : zm_Dj am := hDjm
  have hAdm : ∀ q, zm_Ad am q → q = qm ∨ H.size ≤ q := hAdm
  have hAm : ∀ q, zm_Ad am q → s.heap.size ≤ q := fun q h => hA1 q (hAdm q h)
  have hv : v = zm_u0 := hv
  have hM : zm_P am v t.heap := hM
  have hKm : zm_K am s := va_K.moved hvm.symm hKm
  rw [ht] at hM
  have hout : ∀ q, zx_Ad ad q → ¬ (q = qm ∨ H.size ≤ q) := fun q h z => by
    obtain ⟨k, e9, hk7, hk⟩ := zx_in u h
    rcases z with z | z
    · exact zl_apart hD hk z
    · exact absurd (hPx k _ hk).lt (Nat.not_lt.mpr z)
  have hsep : ∀ q, zx_Ad ad q → ¬ zm_Ad am q := fun q h z => hout q h (hAdm q z)
  have hPx : zx_P ad u H1 := zx_keep hDj hout hPx hk1
  have hR : zl_R u v := by rw [hv]; exact zl_start hI hF hv0
  clear hA1 hAdm hout hP hD hPm hz1 hk1 ht hvm hI hF hv0 hv
  subst hhm
  generalize H1 = H at hPx hM hS ⊢
  refine lv_astore_n (pc := 15) (lv' := [(2, .ref (zm_h am)), (1, .ref (zx_h ad)), (0, .ref b)]) hx hb dL_law_15 rfl hl (by decide) rfl (fun ls hl => ?_)
  refine lv_iconst (pc := 16) (v := nI 0) hx hb dL_law_16 (by decide) ?_
  refine lv_istore_n (pc := 17) (lv' := [(3, .int (nI 0)), (2, .ref (zm_h am)), (1, .ref (zx_h ad)), (0, .ref b)]) hx hb dL_law_17 rfl hl (by decide) rfl (fun ls hl => ?_)
  refine W.widen (k := 11) (n := 236) (Nat.le_refl _) (Nat.le_refl _) ?_
  have LOOP : ∀ (n i : Nat) (u : zf_S) (v : zm_S) (H : Heap) (locs : List Loc), zl_R u v → zf_x u ≤ 1 + 17 * i → i ≤ L → L < i + n → zx_P ad u H → zm_P am v H → va_S (fun q => s.heap.size ≤ q) s.heap H locs → ∀ (ls : Array Slot), lv_has ls 4 [(3, .int (nI i)), (2, .ref (zm_h am)), (1, .ref (zx_h ad)), (0, .ref b)] → W p l e room_1 s m #[Value.ref b] below meth c H locs 11 236 (lw_Z below #[Value.ref b] s) (F0 m 18 ls []) := by
    clear hR hPx hM hS hl hx0
    intro n
    induction n with
    | zero =>
      intro i u v H locs hR hux h1 h2
      exact absurd h2 (by omega)
    | succ n ih =>
      intro i u v H locs hR hux h1 h2 hP hM hS ls hl
      refine lv_iload_n (pc := 18) hx hb dL_law_18 rfl (lv_at hl 0 rfl) ?_
      refine lv_aload_n (pc := 19) hx hb dL_law_19 rfl (lv_at hl 3 rfl) ?_
      refine zl_len (pc := 20) hx hb hX hbl hS dL_law_20 ?_
      refine lv_iconst (pc := 21) (v := nI 3) hx hb dL_law_21 (by decide) ?_
      refine lv_isub (pc := 22) hx hb dL_law_22 ?_
      refine lv_icmp_gt (pc := 23) (tgt := 300) hx hb dL_law_23 (by decide) (fun c1 => ?_) (fun c1 => ?_)
      · refine lv_iconst (pc := 300) (v := 1) hx hb dL_law_300 (by decide) ?_
        refine va_forget hS.2.2 ?_
        refine W.widen (k := 600000) (n := 7290000) (Nat.le_of_ble_eq_true rfl) (Nat.le_of_ble_eq_true rfl) ?_
        exact lw_ret hx hb hr hlocks dL_law_301
      · have hmore : i + 3 ≤ L := zl_more hL (by omega) c1
        refine lv_aload_n (pc := 26) hx hb dL_law_26 rfl (lv_at hl 3 rfl) ?_
        refine lv_iload_n (pc := 27) hx hb dL_law_27 rfl (lv_at hl 0 rfl) ?_
        refine zl_ld (pc := 28) hx hb hX hbl hS (by omega) hL dL_law_28 ?_
        refine lv_bipush (pc := 29) (v := 15) hx hb dL_law_29 (by decide) ?_
        refine lv_iand (pc := 31) hx hb dL_law_31 ?_
        obtain ⟨k, hk, ek⟩ := zl_sw (xs i)
        rw [ek]
        rcases (show k = 0 ∨ k = 1 ∨ k = 2 ∨ k = 3 ∨ k = 4 ∨ k = 5 ∨ k = 6 ∨ k = 7 ∨ k = 8 ∨ k = 9 ∨ 10 ≤ k by omega) with rfl | rfl | rfl | rfl | rfl | rfl | rfl | rfl | rfl | rfl | hk2
        · refine lv_tableIn (pc := 32) (tgt := 88) hx hb dL_law_32 (by decide) (by decide) rfl (by decide) ?_
          refine lv_aload_n (pc := 88) hx hb dL_law_88 rfl (lv_at hl 2 rfl) ?_
          refine lv_aload_n (pc := 89) hx hb dL_law_89 rfl (lv_at hl 3 rfl) ?_
          refine lv_iload_n (pc := 90) hx hb dL_law_90 rfl (lv_at hl 0 rfl) ?_
          refine lv_iconst (pc := 91) (v := nI 1) hx hb dL_law_91 (by decide) ?_
          refine zr_iadd (pc := 92) hx hb dL_law_92 ?_
          refine zl_ld (pc := 93) hx hb hX hbl hS (by omega) hL dL_law_93 ?_
          refine lv_aload_n (pc := 94) hx hb dL_law_94 rfl (lv_at hl 3 rfl) ?_
          refine lv_iload_n (pc := 95) hx hb dL_law_95 rfl (lv_at hl 0 rfl) ?_
          refine lv_iconst (pc := 96) (v := nI 2) hx hb dL_law_96 (by decide) ?_
          refine zr_iadd (pc := 97) hx hb dL_law_97 ?_
          refine zl_ld (pc := 98) hx hb hX hbl hS (by omega) hL dL_law_98 ?_
          refine va_calli (pc := 99) (va_runV (As := [.int (xs (i + 1)), .int (xs (i + 2))]) (rest := []) ⟨hx, hb, hml, hown, hts⟩ (zx_met_write l ad hDj u hR.1 hR.2.1 (xs (i + 1)) (xs (i + 2))) (cwV 2 hts (lw_V q58 q59 q60 q10 q61) rfl rfl rfl (by decide +kernel) ⟨Nat.le_of_ble_eq_true rfl, Nat.le_of_ble_eq_true rfl⟩) (zx_pre hKx hP) rfl rfl hl.1 rfl (lv_room (Nat.le_of_ble_eq_true rfl)) dL_law_99 ⟨Nat.le_of_ble_eq_true rfl, Nat.le_of_ble_eq_true rfl⟩) hS (fun q _ h => hAx q h) hAx (fun r1 u1 t H locs ht hvm hw1 hB hz1 hk1 hS => ?_)
          have hP : zx_P ad u1 t.heap := hB
          rw [ht] at hP
          have hM := zm_keep hDjm (fun q h1 h2 => hsep q h2 h1) hM hk1
          refine lv_aload_n (pc := 102) hx hb dL_law_102 rfl (lv_at hl 1 rfl) ?_
          refine lv_aload_n (pc := 103) hx hb dL_law_103 rfl (lv_at hl 3 rfl) ?_
          refine lv_iload_n (pc := 104) hx hb dL_law_104 rfl (lv_at hl 0 rfl) ?_
          refine lv_iconst (pc := 105) (v := nI 1) hx hb dL_law_105 (by decide) ?_
          refine zr_iadd (pc := 106) hx hb dL_law_106 ?_
          refine zl_ld (pc := 107) hx hb hX hbl hS (by omega) hL dL_law_107 ?_
          refine lv_aload_n (pc := 108) hx hb dL_law_108 rfl (lv_at hl 3 rfl) ?_
          refine lv_iload_n (pc := 109) hx hb dL_law_109 rfl (lv_at hl 0 rfl) ?_
          refine lv_iconst (pc := 110) (v := nI 2) hx hb dL_law_110 (by decide) ?_
          refine zr_iadd (pc := 111) hx hb dL_law_111 ?_
          refine zl_ld (pc := 112) hx hb hX hbl hS (by omega) hL dL_law_112 ?_
          refine va_calli (pc := 113) (va_runV (As := [.int (xs (i + 1)), .int (xs (i + 2))]) (rest := [.int r1]) ⟨hx, hb, hml, hown, hts⟩ (zm_met_write l am hDjm v (xs (i + 1)) (xs (i + 2))) (cwV 2 hts (lw_V q161 q162 q163 q11 q164) rfl rfl rfl (by decide +kernel) ⟨Nat.le_of_ble_eq_true rfl, Nat.le_of_ble_eq_true rfl⟩) (zm_pre hKm hM) rfl rfl hl.1 rfl (lv_room (Nat.le_of_ble_eq_true rfl)) dL_law_113 ⟨Nat.le_of_ble_eq_true rfl, Nat.le_of_ble_eq_true rfl⟩) hS (fun q _ h => hAm q h) hAm (fun r2 v1 t H locs ht hvm hw2 hB hz1 hk1 hS => ?_)
          have hM : zm_P am v1 t.heap := hB
          rw [ht] at hM
          have hP := zx_keep hDj hsep hP hk1
          obtain ⟨er, hR1, hx1⟩ := zl_write hR hw1 hw2
          refine lv_icmp_eq (pc := 116) (tgt := 294) hx hb dL_law_116 (by decide) (fun c9 => ?_) (fun c9 => ?_)
          · refine lv_iinc (pc := 294) (v := nI (i + 3)) (lv' := [(3, .int (nI (i + 3))), (2, .ref (zm_h am)), (1, .ref (zx_h ad)), (0, .ref b)]) hx hb dL_law_294 hl (k := 0) rfl (nI_add _ _) (by decide) rfl (fun ls hl => ?_)
            refine lv_goto (pc := 297) (tgt := 18) hx hb dL_law_297 (by decide) ?_
            exact ih (i + 3) u1 v1 H locs (hR1) (by omega) hmore (by omega) hP hM hS ls (lv_sub hl [0, 1, 2, 3] rfl)
          · exact absurd (er) c9
        · refine lv_tableIn (pc := 32) (tgt := 121) hx hb dL_law_32 (by decide) (by decide) rfl (by decide) ?_
          refine lv_aload_n (pc := 121) hx hb dL_law_121 rfl (lv_at hl 2 rfl) ?_
          refine lv_aload_n (pc := 122) hx hb dL_law_122 rfl (lv_at hl 3 rfl) ?_
          refine lv_iload_n (pc := 123) hx hb dL_law_123 rfl (lv_at hl 0 rfl) ?_
          refine lv_iconst (pc := 124) (v := nI 1) hx hb dL_law_124 (by decide) ?_
          refine zr_iadd (pc := 125) hx hb dL_law_125 ?_
          refine zl_ld (pc := 126) hx hb hX hbl hS (by omega) hL dL_law_126 ?_
          refine zr_callR (pc := 127) (W.runV (As := [.int (xs (i + 1))]) (rest := []) ⟨hx, hb, hml, hown, hts⟩ (zx_met_read l ad u hR.1 (xs (i + 1))) (cwV 1 hts (lw_V q102 q103 q104 q10 q105) rfl rfl rfl (by decide +kernel) ⟨Nat.le_of_ble_eq_true rfl, Nat.le_of_ble_eq_true rfl⟩) (zx_pre hKx hP) rfl rfl hl.1 rfl (lv_room (Nat.le_of_ble_eq_true rfl)) dL_law_127 ⟨Nat.le_of_ble_eq_true rfl, Nat.le_of_ble_eq_true rfl⟩) ?_
          refine lv_aload_n (pc := 130) hx hb dL_law_130 rfl (lv_at hl 1 rfl) ?_
          refine lv_aload_n (pc := 131) hx hb dL_law_131 rfl (lv_at hl 3 rfl) ?_
          refine lv_iload_n (pc := 132) hx hb dL_law_132 rfl (lv_at hl 0 rfl) ?_
          refine lv_iconst (pc := 133) (v := nI 1) hx hb dL_law_133 (by decide) ?_
          refine zr_iadd (pc := 134) hx hb dL_law_134 ?_
          refine zl_ld (pc := 135) hx hb hX hbl hS (by omega) hL dL_law_135 ?_
          refine zr_callR (pc := 136) (W.runV (As := [.int (xs (i + 1))]) (rest := [.int (zx_rd u (xs (i + 1)))]) ⟨hx, hb, hml, hown, hts⟩ (zm_met_read l am v (xs (i + 1))) (cwV 1 hts (lw_V q169 q170 q171 q11 q172) rfl rfl rfl (by decide +kernel) ⟨Nat.le_of_ble_eq_true rfl, Nat.le_of_ble_eq_true rfl⟩) (zm_pre hKm hM) rfl rfl hl.1 rfl (lv_room (Nat.le_of_ble_eq_true rfl)) dL_law_136 ⟨Nat.le_of_ble_eq_true rfl, Nat.le_of_ble_eq_true rfl⟩) ?_
          refine lv_icmp_eq (pc := 139) (tgt := 294) hx hb dL_law_139 (by decide) (fun c9 => ?_) (fun c9 => ?_)
          · refine lv_iinc (pc := 294) (v := nI (i + 3)) (lv' := [(3, .int (nI (i + 3))), (2, .ref (zm_h am)), (1, .ref (zx_h ad)), (0, .ref b)]) hx hb dL_law_294 hl (k := 0) rfl (nI_add _ _) (by decide) rfl (fun ls hl => ?_)
            refine lv_goto (pc := 297) (tgt := 18) hx hb dL_law_297 (by decide) ?_
            exact ih (i + 3) u v H locs (hR) (by omega) hmore (by omega) hP hM hS ls (lv_sub hl [0, 1, 2, 3] rfl)
          · exact absurd (zl_rdx hR _) c9
        · refine lv_tableIn (pc := 32) (tgt := 144) hx hb dL_law_32 (by decide) (by decide) rfl (by decide) ?_
          refine lv_aload_n (pc := 144) hx hb dL_law_144 rfl (lv_at hl 2 rfl) ?_
          refine lv_aload_n (pc := 145) hx hb dL_law_145 rfl (lv_at hl 3 rfl) ?_
          refine lv_iload_n (pc := 146) hx hb dL_law_146 rfl (lv_at hl 0 rfl) ?_
          refine lv_iconst (pc := 147) (v := nI 1) hx hb dL_law_147 (by decide) ?_
          refine zr_iadd (pc := 148) hx hb dL_law_148 ?_
          refine zl_ld (pc := 149) hx hb hX hbl hS (by omega) hL dL_law_149 ?_
          refine va_calli (pc := 150) (va_runV (As := [.int (xs (i + 1))]) (rest := []) ⟨hx, hb, hml, hown, hts⟩ (zx_met_trim l ad hDj u hR.1 hR.2.1 (xs (i + 1))) (cwV 1 hts (lw_V q109 q110 q111 q10 q112) rfl rfl rfl (by decide +kernel) ⟨Nat.le_of_ble_eq_true rfl, Nat.le_of_ble_eq_true rfl⟩) (zx_pre hKx hP) rfl rfl hl.1 rfl (lv_room (Nat.le_of_ble_eq_true rfl)) dL_law_150 ⟨Nat.le_of_ble_eq_true rfl, Nat.le_of_ble_eq_true rfl⟩) hS (fun q _ h => hAx q h) hAx (fun r1 u1 t H locs ht hvm hw1 hB hz1 hk1 hS => ?_)
          have hP : zx_P ad u1 t.heap := hB
          rw [ht] at hP
          have hM := zm_keep hDjm (fun q h1 h2 => hsep q h2 h1) hM hk1
          refine lv_aload_n (pc := 153) hx hb dL_law_153 rfl (lv_at hl 1 rfl) ?_
          refine lv_aload_n (pc := 154) hx hb dL_law_154 rfl (lv_at hl 3 rfl) ?_
          refine lv_iload_n (pc := 155) hx hb dL_law_155 rfl (lv_at hl 0 rfl) ?_
          refine lv_iconst (pc := 156) (v := nI 1) hx hb dL_law_156 (by decide) ?_
          refine zr_iadd (pc := 157) hx hb dL_law_157 ?_
          refine zl_ld (pc := 158) hx hb hX hbl hS (by omega) hL dL_law_158 ?_
          refine va_calli (pc := 159) (va_runV (As := [.int (xs (i + 1))]) (rest := [.int r1]) ⟨hx, hb, hml, hown, hts⟩ (zm_met_trim l am hDjm v (xs (i + 1))) (cwV 1 hts (lw_V q177 q178 q179 q11 q180) rfl rfl rfl (by decide +kernel) ⟨Nat.le_of_ble_eq_true rfl, Nat.le_of_ble_eq_true rfl⟩) (zm_pre hKm hM) rfl rfl hl.1 rfl (lv_room (Nat.le_of_ble_eq_true rfl)) dL_law_159 ⟨Nat.le_of_ble_eq_true rfl, Nat.le_of_ble_eq_true rfl⟩) hS (fun q _ h => hAm q h) hAm (fun r2 v1 t H locs ht hvm hw2 hB hz1 hk1 hS => ?_)
          have hM : zm_P am v1 t.heap := hB
          rw [ht] at hM
          have hP := zx_keep hDj hsep hP hk1
          obtain ⟨er, hR1, hx1⟩ := zl_trim hR hw1 hw2
          refine lv_icmp_eq (pc := 162) (tgt := 294) hx hb dL_law_162 (by decide) (fun c9 => ?_) (fun c9 => ?_)
          · refine lv_iinc (pc := 294) (v := nI (i + 3)) (lv' := [(3, .int (nI (i + 3))), (2, .ref (zm_h am)), (1, .ref (zx_h ad)), (0, .ref b)]) hx hb dL_law_294 hl (k := 0) rfl (nI_add _ _) (by decide) rfl (fun ls hl => ?_)
            refine lv_goto (pc := 297) (tgt := 18) hx hb dL_law_297 (by decide) ?_
            exact ih (i + 3) u1 v1 H locs (hR1) (by omega) hmore (by omega) hP hM hS ls (lv_sub hl [0, 1, 2, 3] rfl)
          · exact absurd (er) c9
        · refine lv_tableIn (pc := 32) (tgt := 167) hx hb dL_law_32 (by decide) (by decide) rfl (by decide) ?_
          refine lv_aload_n (pc := 167) hx hb dL_law_167 rfl (lv_at hl 2 rfl) ?_
          refine lv_aload_n (pc := 168) hx hb dL_law_168 rfl (lv_at hl 3 rfl) ?_
          refine lv_iload_n (pc := 169) hx hb dL_law_169 rfl (lv_at hl 0 rfl) ?_
          refine lv_iconst (pc := 170) (v := nI 1) hx hb dL_law_170 (by decide) ?_
          refine zr_iadd (pc := 171) hx hb dL_law_171 ?_
          refine zl_ld (pc := 172) hx hb hX hbl hS (by omega) hL dL_law_172 ?_
          refine lv_aload_n (pc := 173) hx hb dL_law_173 rfl (lv_at hl 3 rfl) ?_
          refine lv_iload_n (pc := 174) hx hb dL_law_174 rfl (lv_at hl 0 rfl) ?_
          refine lv_iconst (pc := 175) (v := nI 2) hx hb dL_law_175 (by decide) ?_
          refine zr_iadd (pc := 176) hx hb dL_law_176 ?_
          refine zl_ld (pc := 177) hx hb hX hbl hS (by omega) hL dL_law_177 ?_
          refine va_calli (pc := 178) (va_runV (As := [.int (xs (i + 1)), .int (xs (i + 2))]) (rest := []) ⟨hx, hb, hml, hown, hts⟩ (zx_met_turn l ad hDj u hR.1 hR.2.1 (xs (i + 1)) (xs (i + 2))) (cwV 2 hts (lw_V q117 q118 q119 q10 q120) rfl rfl rfl (by decide +kernel) ⟨Nat.le_of_ble_eq_true rfl, Nat.le_of_ble_eq_true rfl⟩) (zx_pre hKx hP) rfl rfl hl.1 rfl (lv_room (Nat.le_of_ble_eq_true rfl)) dL_law_178 ⟨Nat.le_of_ble_eq_true rfl, Nat.le_of_ble_eq_true rfl⟩) hS (fun q _ h => hAx q h) hAx (fun r1 u1 t H locs ht hvm hw1 hB hz1 hk1 hS => ?_)
          have hP : zx_P ad u1 t.heap := hB
          rw [ht] at hP
          have hM := zm_keep hDjm (fun q h1 h2 => hsep q h2 h1) hM hk1
          refine lv_aload_n (pc := 181) hx hb dL_law_181 rfl (lv_at hl 1 rfl) ?_
          refine lv_aload_n (pc := 182) hx hb dL_law_182 rfl (lv_at hl 3 rfl) ?_
          refine lv_iload_n (pc := 183) hx hb dL_law_183 rfl (lv_at hl 0 rfl) ?_
          refine lv_iconst (pc := 184) (v := nI 1) hx hb dL_law_184 (by decide) ?_
          refine zr_iadd (pc := 185) hx hb dL_law_185 ?_
          refine zl_ld (pc := 186) hx hb hX hbl hS (by omega) hL dL_law_186 ?_
          refine lv_aload_n (pc := 187) hx hb dL_law_187 rfl (lv_at hl 3 rfl) ?_
          refine lv_iload_n (pc := 188) hx hb dL_law_188 rfl (lv_at hl 0 rfl) ?_
          refine lv_iconst (pc := 189) (v := nI 2) hx hb dL_law_189 (by decide) ?_
          refine zr_iadd (pc := 190) hx hb dL_law_190 ?_
          refine zl_ld (pc := 191) hx hb hX hbl hS (by omega) hL dL_law_191 ?_
          refine va_calli (pc := 192) (va_runV (As := [.int (xs (i + 1)), .int (xs (i + 2))]) (rest := [.int r1]) ⟨hx, hb, hml, hown, hts⟩ (zm_met_turn l am hDjm v (xs (i + 1)) (xs (i + 2))) (cwV 2 hts (lw_V q181 q182 q183 q11 q184) rfl rfl rfl (by decide +kernel) ⟨Nat.le_of_ble_eq_true rfl, Nat.le_of_ble_eq_true rfl⟩) (zm_pre hKm hM) rfl rfl hl.1 rfl (lv_room (Nat.le_of_ble_eq_true rfl)) dL_law_192 ⟨Nat.le_of_ble_eq_true rfl, Nat.le_of_ble_eq_true rfl⟩) hS (fun q _ h => hAm q h) hAm (fun r2 v1 t H locs ht hvm hw2 hB hz1 hk1 hS => ?_)
          have hM : zm_P am v1 t.heap := hB
          rw [ht] at hM
          have hP := zx_keep hDj hsep hP hk1
          obtain ⟨er, hR1, hx1⟩ := zl_turn hR hw1 hw2
          refine lv_icmp_eq (pc := 195) (tgt := 294) hx hb dL_law_195 (by decide) (fun c9 => ?_) (fun c9 => ?_)
          · refine lv_iinc (pc := 294) (v := nI (i + 3)) (lv' := [(3, .int (nI (i + 3))), (2, .ref (zm_h am)), (1, .ref (zx_h ad)), (0, .ref b)]) hx hb dL_law_294 hl (k := 0) rfl (nI_add _ _) (by decide) rfl (fun ls hl => ?_)
            refine lv_goto (pc := 297) (tgt := 18) hx hb dL_law_297 (by decide) ?_
            exact ih (i + 3) u1 v1 H locs (hR1) (by omega) hmore (by omega) hP hM hS ls (lv_sub hl [0, 1, 2, 3] rfl)
          · exact absurd (er) c9
        · refine lv_tableIn (pc := 32) (tgt := 200) hx hb dL_law_32 (by decide) (by decide) rfl (by decide) ?_
          refine lv_aload_n (pc := 200) hx hb dL_law_200 rfl (lv_at hl 2 rfl) ?_
          refine lv_aload_n (pc := 201) hx hb dL_law_201 rfl (lv_at hl 3 rfl) ?_
          refine lv_iload_n (pc := 202) hx hb dL_law_202 rfl (lv_at hl 0 rfl) ?_
          refine lv_iconst (pc := 203) (v := nI 1) hx hb dL_law_203 (by decide) ?_
          refine zr_iadd (pc := 204) hx hb dL_law_204 ?_
          refine zl_ld (pc := 205) hx hb hX hbl hS (by omega) hL dL_law_205 ?_
          refine va_calli (pc := 206) (va_runV (As := [.int (xs (i + 1))]) (rest := []) ⟨hx, hb, hml, hown, hts⟩ (zx_met_repair l ad hDj u hR.1 hR.2.1 (xs (i + 1))) (cwV 1 hts (lw_V q121 q122 q123 q10 q124) rfl rfl rfl (by decide +kernel) ⟨Nat.le_of_ble_eq_true rfl, Nat.le_of_ble_eq_true rfl⟩) (zx_pre hKx hP) rfl rfl hl.1 rfl (lv_room (Nat.le_of_ble_eq_true rfl)) dL_law_206 ⟨Nat.le_of_ble_eq_true rfl, Nat.le_of_ble_eq_true rfl⟩) hS (fun q _ h => hAx q h) hAx (fun r1 u1 t H locs ht hvm hw1 hB hz1 hk1 hS => ?_)
          have hP : zx_P ad u1 t.heap := hB
          rw [ht] at hP
          have hM := zm_keep hDjm (fun q h1 h2 => hsep q h2 h1) hM hk1
          refine lv_aload_n (pc := 209) hx hb dL_law_209 rfl (lv_at hl 1 rfl) ?_
          refine lv_aload_n (pc := 210) hx hb dL_law_210 rfl (lv_at hl 3 rfl) ?_
          refine lv_iload_n (pc := 211) hx hb dL_law_211 rfl (lv_at hl 0 rfl) ?_
          refine lv_iconst (pc := 212) (v := nI 1) hx hb dL_law_212 (by decide) ?_
          refine zr_iadd (pc := 213) hx hb dL_law_213 ?_
          refine zl_ld (pc := 214) hx hb hX hbl hS (by omega) hL dL_law_214 ?_
          refine va_calli (pc := 215) (va_runV (As := [.int (xs (i + 1))]) (rest := [.int r1]) ⟨hx, hb, hml, hown, hts⟩ (zm_met_repair l am hDjm v (xs (i + 1))) (cwV 1 hts (lw_V q185 q186 q187 q11 q188) rfl rfl rfl (by decide +kernel) ⟨Nat.le_of_ble_eq_true rfl, Nat.le_of_ble_eq_true rfl⟩) (zm_pre hKm hM) rfl rfl hl.1 rfl (lv_room (Nat.le_of_ble_eq_true rfl)) dL_law_215 ⟨Nat.le_of_ble_eq_true rfl, Nat.le_of_ble_eq_true rfl⟩) hS (fun q _ h => hAm q h) hAm (fun r2 v1 t H locs ht hvm hw2 hB hz1 hk1 hS => ?_)
          have hM : zm_P am v1 t.heap := hB
          rw [ht] at hM
          have hP := zx_keep hDj hsep hP hk1
          obtain ⟨er, hR1, hx1⟩ := zl_repair hR hw1 hw2
          refine lv_icmp_eq (pc := 218) (tgt := 294) hx hb dL_law_218 (by decide) (fun c9 => ?_) (fun c9 => ?_)
          · refine lv_iinc (pc := 294) (v := nI (i + 3)) (lv' := [(3, .int (nI (i + 3))), (2, .ref (zm_h am)), (1, .ref (zx_h ad)), (0, .ref b)]) hx hb dL_law_294 hl (k := 0) rfl (nI_add _ _) (by decide) rfl (fun ls hl => ?_)
            refine lv_goto (pc := 297) (tgt := 18) hx hb dL_law_297 (by decide) ?_
            exact ih (i + 3) u1 v1 H locs (hR1) (by omega) hmore (by omega) hP hM hS ls (lv_sub hl [0, 1, 2, 3] rfl)
          · exact absurd (er) c9
        · refine lv_tableIn (pc := 32) (tgt := 223) hx hb dL_law_32 (by decide) (by decide) rfl (by decide) ?_
          refine lv_aload_n (pc := 223) hx hb dL_law_223 rfl (lv_at hl 2 rfl) ?_
          refine va_callv (pc := 224) (va_runV (As := []) (rest := []) ⟨hx, hb, hml, hown, hts⟩ (zx_met_power l ad hDj u (zf_x u) (zf_c u) (zf_f u) hR.1.1 hR.1.2.1 hR.2.1 (by omega)) (cwV 0 hts (lw_V q127 q21 q22 q10 q23) rfl rfl rfl (by decide +kernel) ⟨Nat.le_of_ble_eq_true rfl, Nat.le_of_ble_eq_true rfl⟩) (zx_pre hKx hP) rfl rfl hl.1 rfl (lv_room (Nat.le_of_ble_eq_true rfl)) dL_law_224 ⟨Nat.le_of_ble_eq_true rfl, Nat.le_of_ble_eq_true rfl⟩) hS (fun q _ h => hAx q h) hAx (fun u1 t H locs ht hvm hw1 hB hz1 hk1 hS => ?_)
          have hP : zx_P ad u1 t.heap := hB
          rw [ht] at hP
          have hM := zm_keep hDjm (fun q h1 h2 => hsep q h2 h1) hM hk1
          refine lv_aload_n (pc := 227) hx hb dL_law_227 rfl (lv_at hl 1 rfl) ?_
          refine va_csv (pc := 228) (W.runV (As := []) (rest := []) ⟨hx, hb, hml, hown, hts⟩ (zm_met_power l am v) (cwV 0 hts (lw_V q190 q191 q192 q11 q193) rfl rfl rfl (by decide +kernel) ⟨Nat.le_of_ble_eq_true rfl, Nat.le_of_ble_eq_true rfl⟩) (zm_pre hKm hM) rfl rfl hl.1 rfl (lv_room (Nat.le_of_ble_eq_true rfl)) dL_law_228 ⟨Nat.le_of_ble_eq_true rfl, Nat.le_of_ble_eq_true rfl⟩) (fun _ => ?_)
          obtain ⟨hR1, hx1⟩ := zl_power hR hw1
          refine lv_goto (pc := 231) (tgt := 294) hx hb dL_law_231 (by decide) ?_
          refine lv_iinc (pc := 294) (v := nI (i + 3)) (lv' := [(3, .int (nI (i + 3))), (2, .ref (zm_h am)), (1, .ref (zx_h ad)), (0, .ref b)]) hx hb dL_law_294 hl (k := 0) rfl (nI_add _ _) (by decide) rfl (fun ls hl => ?_)
          refine lv_goto (pc := 297) (tgt := 18) hx hb dL_law_297 (by decide) ?_
          exact ih (i + 3) u1 v H locs (hR1) (by omega) hmore (by omega) hP hM hS ls (lv_sub hl [0, 1, 2, 3] rfl)
        · refine lv_tableIn (pc := 32) (tgt := 234) hx hb dL_law_32 (by decide) (by decide) rfl (by decide) ?_
          refine lv_aload_n (pc := 234) hx hb dL_law_234 rfl (lv_at hl 2 rfl) ?_
          refine lv_aload_n (pc := 235) hx hb dL_law_235 rfl (lv_at hl 3 rfl) ?_
          refine lv_iload_n (pc := 236) hx hb dL_law_236 rfl (lv_at hl 0 rfl) ?_
          refine lv_iconst (pc := 237) (v := nI 1) hx hb dL_law_237 (by decide) ?_
          refine zr_iadd (pc := 238) hx hb dL_law_238 ?_
          refine zl_ld (pc := 239) hx hb hX hbl hS (by omega) hL dL_law_239 ?_
          refine va_callv (pc := 240) (va_runV (As := [.int (xs (i + 1))]) (rest := []) ⟨hx, hb, hml, hown, hts⟩ (zx_met_tidy l ad hDj u hR.1 hR.2.1 (xs (i + 1))) (cwV 1 hts (lw_V q128 q129 q130 q10 q131) rfl rfl rfl (by decide +kernel) ⟨Nat.le_of_ble_eq_true rfl, Nat.le_of_ble_eq_true rfl⟩) (zx_pre hKx hP) rfl rfl hl.1 rfl (lv_room (Nat.le_of_ble_eq_true rfl)) dL_law_240 ⟨Nat.le_of_ble_eq_true rfl, Nat.le_of_ble_eq_true rfl⟩) hS (fun q _ h => hAx q h) hAx (fun u1 t H locs ht hvm hw1 hB hz1 hk1 hS => ?_)
          have hP : zx_P ad u1 t.heap := hB
          rw [ht] at hP
          have hM := zm_keep hDjm (fun q h1 h2 => hsep q h2 h1) hM hk1
          refine lv_aload_n (pc := 243) hx hb dL_law_243 rfl (lv_at hl 1 rfl) ?_
          refine lv_aload_n (pc := 244) hx hb dL_law_244 rfl (lv_at hl 3 rfl) ?_
          refine lv_iload_n (pc := 245) hx hb dL_law_245 rfl (lv_at hl 0 rfl) ?_
          refine lv_iconst (pc := 246) (v := nI 1) hx hb dL_law_246 (by decide) ?_
          refine zr_iadd (pc := 247) hx hb dL_law_247 ?_
          refine zl_ld (pc := 248) hx hb hX hbl hS (by omega) hL dL_law_248 ?_
          refine va_csv (pc := 249) (W.runV (As := [.int (xs (i + 1))]) (rest := []) ⟨hx, hb, hml, hown, hts⟩ (zm_met_tidy l am v (xs (i + 1))) (cwV 1 hts (lw_V q194 q195 q196 q11 q197) rfl rfl rfl (by decide +kernel) ⟨Nat.le_of_ble_eq_true rfl, Nat.le_of_ble_eq_true rfl⟩) (zm_pre hKm hM) rfl rfl hl.1 rfl (lv_room (Nat.le_of_ble_eq_true rfl)) dL_law_249 ⟨Nat.le_of_ble_eq_true rfl, Nat.le_of_ble_eq_true rfl⟩) (fun _ => ?_)
          obtain ⟨hR1, hx1⟩ := zl_tidy hR hw1
          refine lv_goto (pc := 252) (tgt := 294) hx hb dL_law_252 (by decide) ?_
          refine lv_iinc (pc := 294) (v := nI (i + 3)) (lv' := [(3, .int (nI (i + 3))), (2, .ref (zm_h am)), (1, .ref (zx_h ad)), (0, .ref b)]) hx hb dL_law_294 hl (k := 0) rfl (nI_add _ _) (by decide) rfl (fun ls hl => ?_)
          refine lv_goto (pc := 297) (tgt := 18) hx hb dL_law_297 (by decide) ?_
          exact ih (i + 3) u1 v H locs (hR1) (by omega) hmore (by omega) hP hM hS ls (lv_sub hl [0, 1, 2, 3] rfl)
        · refine lv_tableIn (pc := 32) (tgt := 255) hx hb dL_law_32 (by decide) (by decide) rfl (by decide) ?_
          refine lv_aload_n (pc := 255) hx hb dL_law_255 rfl (lv_at hl 2 rfl) ?_
          refine zr_callR (pc := 256) (W.runV (As := []) (rest := []) ⟨hx, hb, hml, hown, hts⟩ (zx_met_written l ad u hR.1) (cwV 0 hts (lw_V q132 q133 q134 q10 q135) rfl rfl rfl (by decide +kernel) ⟨Nat.le_of_ble_eq_true rfl, Nat.le_of_ble_eq_true rfl⟩) (zx_pre hKx hP) rfl rfl hl.1 rfl (lv_room (Nat.le_of_ble_eq_true rfl)) dL_law_256 ⟨Nat.le_of_ble_eq_true rfl, Nat.le_of_ble_eq_true rfl⟩) ?_
          refine lv_aload_n (pc := 259) hx hb dL_law_259 rfl (lv_at hl 1 rfl) ?_
          refine zr_callR (pc := 260) (W.runV (As := []) (rest := [.int (bx_sum (zf_wr u) 16)]) ⟨hx, hb, hml, hown, hts⟩ (zm_met_written l am v) (cwV 0 hts (lw_V q198 q199 q200 q11 q201) rfl rfl rfl (by decide +kernel) ⟨Nat.le_of_ble_eq_true rfl, Nat.le_of_ble_eq_true rfl⟩) (zm_pre hKm hM) rfl rfl hl.1 rfl (lv_room (Nat.le_of_ble_eq_true rfl)) dL_law_260 ⟨Nat.le_of_ble_eq_true rfl, Nat.le_of_ble_eq_true rfl⟩) ?_
          refine lv_icmp_eq (pc := 263) (tgt := 294) hx hb dL_law_263 (by decide) (fun c9 => ?_) (fun c9 => ?_)
          · refine lv_iinc (pc := 294) (v := nI (i + 3)) (lv' := [(3, .int (nI (i + 3))), (2, .ref (zm_h am)), (1, .ref (zx_h ad)), (0, .ref b)]) hx hb dL_law_294 hl (k := 0) rfl (nI_add _ _) (by decide) rfl (fun ls hl => ?_)
            refine lv_goto (pc := 297) (tgt := 18) hx hb dL_law_297 (by decide) ?_
            exact ih (i + 3) u v H locs (hR) (by omega) hmore (by omega) hP hM hS ls (lv_sub hl [0, 1, 2, 3] rfl)
          · exact absurd (zl_written hR) c9
        · refine lv_tableIn (pc := 32) (tgt := 268) hx hb dL_law_32 (by decide) (by decide) rfl (by decide) ?_
          refine lv_aload_n (pc := 268) hx hb dL_law_268 rfl (lv_at hl 2 rfl) ?_
          refine zr_callR (pc := 269) (W.runV (As := []) (rest := []) ⟨hx, hb, hml, hown, hts⟩ (zx_met_damaged l ad u hR.1) (cwV 0 hts (lw_V q136 q137 q138 q10 q139) rfl rfl rfl (by decide +kernel) ⟨Nat.le_of_ble_eq_true rfl, Nat.le_of_ble_eq_true rfl⟩) (zx_pre hKx hP) rfl rfl hl.1 rfl (lv_room (Nat.le_of_ble_eq_true rfl)) dL_law_269 ⟨Nat.le_of_ble_eq_true rfl, Nat.le_of_ble_eq_true rfl⟩) ?_
          refine lv_aload_n (pc := 272) hx hb dL_law_272 rfl (lv_at hl 1 rfl) ?_
          refine zr_callR (pc := 273) (W.runV (As := []) (rest := [.int (bx_sum (fun j => zf_dm (zf_rd u j)) 16)]) ⟨hx, hb, hml, hown, hts⟩ (zm_met_damaged l am v) (cwV 0 hts (lw_V q202 q203 q204 q11 q205) rfl rfl rfl (by decide +kernel) ⟨Nat.le_of_ble_eq_true rfl, Nat.le_of_ble_eq_true rfl⟩) (zm_pre hKm hM) rfl rfl hl.1 rfl (lv_room (Nat.le_of_ble_eq_true rfl)) dL_law_273 ⟨Nat.le_of_ble_eq_true rfl, Nat.le_of_ble_eq_true rfl⟩) ?_
          refine lv_icmp_eq (pc := 276) (tgt := 294) hx hb dL_law_276 (by decide) (fun c9 => ?_) (fun c9 => ?_)
          · refine lv_iinc (pc := 294) (v := nI (i + 3)) (lv' := [(3, .int (nI (i + 3))), (2, .ref (zm_h am)), (1, .ref (zx_h ad)), (0, .ref b)]) hx hb dL_law_294 hl (k := 0) rfl (nI_add _ _) (by decide) rfl (fun ls hl => ?_)
            refine lv_goto (pc := 297) (tgt := 18) hx hb dL_law_297 (by decide) ?_
            exact ih (i + 3) u v H locs (hR) (by omega) hmore (by omega) hP hM hS ls (lv_sub hl [0, 1, 2, 3] rfl)
          · exact absurd (zl_damaged hR) c9
        · refine lv_tableIn (pc := 32) (tgt := 281) hx hb dL_law_32 (by decide) (by decide) rfl (by decide) ?_
          refine lv_aload_n (pc := 281) hx hb dL_law_281 rfl (lv_at hl 2 rfl) ?_
          refine zr_callR (pc := 282) (W.runV (As := []) (rest := []) ⟨hx, hb, hml, hown, hts⟩ (zx_met_sum l ad u hR.1) (cwV 0 hts (lw_V q140 q141 q142 q10 q143) rfl rfl rfl (by decide +kernel) ⟨Nat.le_of_ble_eq_true rfl, Nat.le_of_ble_eq_true rfl⟩) (zx_pre hKx hP) rfl rfl hl.1 rfl (lv_room (Nat.le_of_ble_eq_true rfl)) dL_law_282 ⟨Nat.le_of_ble_eq_true rfl, Nat.le_of_ble_eq_true rfl⟩) ?_
          refine lv_aload_n (pc := 285) hx hb dL_law_285 rfl (lv_at hl 1 rfl) ?_
          refine zr_callR (pc := 286) (W.runV (As := []) (rest := [.int (bx_sum (fun j => zf_sm (zf_rd u j)) 16)]) ⟨hx, hb, hml, hown, hts⟩ (zm_met_sum l am v) (cwV 0 hts (lw_V q206 q207 q208 q11 q209) rfl rfl rfl (by decide +kernel) ⟨Nat.le_of_ble_eq_true rfl, Nat.le_of_ble_eq_true rfl⟩) (zm_pre hKm hM) rfl rfl hl.1 rfl (lv_room (Nat.le_of_ble_eq_true rfl)) dL_law_286 ⟨Nat.le_of_ble_eq_true rfl, Nat.le_of_ble_eq_true rfl⟩) ?_
          refine lv_icmp_eq (pc := 289) (tgt := 294) hx hb dL_law_289 (by decide) (fun c9 => ?_) (fun c9 => ?_)
          · refine lv_iinc (pc := 294) (v := nI (i + 3)) (lv' := [(3, .int (nI (i + 3))), (2, .ref (zm_h am)), (1, .ref (zx_h ad)), (0, .ref b)]) hx hb dL_law_294 hl (k := 0) rfl (nI_add _ _) (by decide) rfl (fun ls hl => ?_)
            refine lv_goto (pc := 297) (tgt := 18) hx hb dL_law_297 (by decide) ?_
            exact ih (i + 3) u v H locs (hR) (by omega) hmore (by omega) hP hM hS ls (lv_sub hl [0, 1, 2, 3] rfl)
          · exact absurd (zl_total hR) c9
        · refine lv_tableOut (pc := 32) (tgt := 294) hx hb dL_law_32 (Or.inr (by rw [nI_toInt (by omega)]; omega)) (by decide) ?_
          refine lv_iinc (pc := 294) (v := nI (i + 3)) (lv' := [(3, .int (nI (i + 3))), (2, .ref (zm_h am)), (1, .ref (zx_h ad)), (0, .ref b)]) hx hb dL_law_294 hl (k := 0) rfl (nI_add _ _) (by decide) rfl (fun ls hl => ?_)
          refine lv_goto (pc := 297) (tgt := 18) hx hb dL_law_297 (by decide) ?_
          exact ih (i + 3) u v H locs (hR) (by omega) hmore (by omega) hP hM hS ls (lv_sub hl [0, 1, 2, 3] rfl)
  exact LOOP (L + 1) 0 u v H locs hR (by omega) (by omega) (by omega) hPx hM hS ls (lv_sub hl [0, 1, 2, 3] rfl)
end
section
/-! the claim out of the law's walk: the skeleton's rows, unchanged -/
set_option maxHeartbeats 4000000 in
theorem lw_walk (l : Launch) (b : Addr) (xs : List Int32) : MetFree l x (headSpec (Jvm.Cond.code x code maxLocals ret :: tables_1) room_1) (lw_P b xs) (fun _ _ _ _ _ => True) lw_Q := by
  refine MetFree.of_bodyS (code := code) (maxLocals := maxLocals) (ret := ret) (by decide) ?_ ?_
  · intro args s m h hn
    obtain ⟨meth, c, h1, h2, h3, h4, h5, h6, -, -⟩ := Cond.code_spec hn (atoms_spec (ws := Jvm.Cond.code x code maxLocals ret :: tables_1) h _ List.mem_cons_self)
    exact ⟨meth, c, h1, h2, h3, h4, h5, h6⟩
  · intro p e s m args below meth c s₁ B hml0 hP _
    obtain ⟨rfl, hx, hbd, hgv⟩ := hP
    obtain ⟨scr, harrAt, hlist, hof, hsmall⟩ := hx
    obtain ⟨hcb, hkn, -, -⟩ := State.arrayAt?_spec harrAt
    have hown : s.vm.findClass R_law = some m.cls := findClass_of_methodNamed B.named
    have hts0 : ∀ c ∈ (Jvm.Cond.code x code maxLocals ret :: tables_1), c.before #[Value.ref b] s = true := atoms_spec (ws := Jvm.Cond.code x code maxLocals ret :: tables_1) B.pre
    have hts : ∀ w ∈ lw_tbl, w.before #[Value.ref b] s = true := k2_hts_sels lw_privs (fun w hw => hts0 w (List.mem_cons_of_mem _ hw)) lw_privs_ok
    have hml : c.maxLocals = 4 := B.maxLocals_eq (hts0 _ List.mem_cons_self)
    have X₀ : Stand p l e room_1 s m #[Value.ref b] below meth c s₁ [] 0 0 := Stand.of_body B
    have hh0 : s₁.heap = s.heap := by rw [B.state]; rfl
    have hsz : scr.slots.size = xs.length := by rw [← Array.length_toList, hlist, List.length_map]
    have hval : ∀ j : Nat, j < xs.length → scr.slots[j]? = some (.int (xs.getD j 0)) := fun j hj => by
      rw [← Array.getElem?_toList, hlist]
      simp [hj]
    have hbl : b < s.heap.size := (Array.getElem?_eq_some_iff.mp hcb).1
    have hX : va_X b xs.length (fun j => xs.getD j 0) s s.heap := ⟨scr, hcb, hof, hkn, hsz, hval⟩
    have K : W p l e room_1 s m #[Value.ref b] below meth c s₁.heap [] 0 0 (lw_Z below #[Value.ref b] s) (entryFrame m ([Value.ref b] : List Value).toArray 4) := by
      rw [hh0]
      exact whole_start l hbd ⟨B.exec, B.bytes, B.returns, hml, hown, hts, hX, hbl, B.notSynchronized, hgv⟩
    obtain ⟨t, a1, o, b1, b2, b3⟩ := K s₁ rfl X₀
    exact ⟨t, o, a1, b1, b2, b3⟩
theorem lw_pre_spec {args : Array Value} {s : State} (h : (Jvm.Cond.and given_1 narrow_1).before args s = true) (hr : rest_1_c.before args s = true) : ∃ (b : Addr) (xs : List Int32), lw_P b xs args s := by
  have hs := flat_of_before _ h
  have hq := flat_of_before _ hr
  have hc : (Cond.count 1).before args s = true := hs _ (by decide +kernel)
  have harr : (Cond.arrayOf (.arg 0) .int).before args s = true := hs _ (by decide +kernel)
  have hle : (Cond.le (.length (.arg 0)) (.int 192)).before args s = true := hs _ (by decide +kernel)
  have hlen : (Cond.isInt (.length (.arg 0))).before args s = true := hq _ (by decide +kernel)
  have hall : (Cond.all (.arg 0) (.isInt (.elem (.arg 0) (.index 0)))).before args s = true := hq _ (by decide +kernel)
  obtain ⟨b, xs, hb, hx⟩ := State.ints_of_pre rfl harr hlen hall
  have hsm : xs.length < 2 ^ 31 := hx.choose_spec.2.2.2
  have hev : (Term.length (.arg 0)).eval args s none [] s = some (.int xs.length.toInt32) := hx.length_eval hb
  have hv := Cond.le_ints hev (show (Term.int 192).eval args s none [] s = some (.int 192) from rfl)
  have hd : xs.length.toInt32 ≤ 192 := by
    simpa [Cond.before, Cond.holds, hv] using hle
  have hN : xs.length ≤ 192 := (Int32.ofNat_le_ofNat hsm (by decide)).mp (show Int32.ofNat xs.length ≤ Int32.ofNat 192 from hd)
  exact ⟨b, xs, Cond.one_arg hc (show args[0]? = some (.ref b) from hb), hx, hN, h⟩
theorem lw_comes (l : Launch) : Comes l x (Jvm.Cond.code x code maxLocals ret :: tables_1) room_1 (fun tb e args s => Calls_1 tb e args s ∧ rest_1 tb e args s ∧ Pre_1 tb e args s)
    (fun _ _ args s o t => lw_Q args s o t) := by
  intro p e ha hc hk s m args below hf hfit hheap happ hpre
  obtain ⟨b, xs, hP⟩ := lw_pre_spec hpre.2.2 hpre.2.1
  obtain ⟨k, o, h1, h2, h3, hQ⟩ := lw_walk l b xs p e ha hc hk s m args below hf ((Spec.applies_iff_loose hf).mp happ).1 hP trivial
  exact ⟨k, o, h1, h2, h3, hQ⟩
theorem lw_frame {s t : State} {o : Outcome} {args : Array Value} (h : Framed s o t [] 600000 7290000) :
    Framed s o t (fieldLocs frame_1_writes args s ++ arrayLocs frame_1_arrays args s ++ staticLocs frame_1_statics s) 600000 7290000 := h
theorem lw_limb (L : Cond) (hL : ∀ (args : Array Value) (s t : State), L.after args s (.returned (some (.int 1))) t = true) :
    ArmFor flags0 classFile x code maxLocals ret World_1 tables_1 room_1 Calls_1 rest_1 Pre_1
      (fun tb e a s o t => postC L tb e a s o t ∧ Framed s o t (fieldLocs frame_1_writes a s ++ arrayLocs frame_1_arrays a s ++ staticLocs frame_1_statics s) 600000 7290000) := by
  intro l _ _ _ p e ha hc hk s m args below hf hfit hheap happ hpre
  obtain ⟨k, o, h1, h2, h3, rfl, hF⟩ := lw_comes l p e ha hc hk s m args below hf hfit hheap happ hpre
  exact ⟨k, _, h1, h2, h3, hL args s _, lw_frame hF⟩
theorem i_vc : Claimed_1_1 ∧ Claimed_1_2 := ⟨lw_limb limb_1_1 (fun args s t => by simp [limb_1_1, Cond.after, Cond.holds, Cond.value]), lw_limb limb_1_2 (fun args s t => Cond.after_iff.mpr (by
  first | (rw [show limb_1_2 = Cond.eq .result (.int 1) from rfl, Cond.eq_ints (x := 1) (y := 1) rfl rfl]; simp; done) | (simp [limb_1_2, Cond.value, Term.eval]; done)))⟩
end
