section
-- ===== PART A: goes FIRST, ahead of the names: the tables' words, and 'selects' of the private methods out of them =====
/-- a private method of a class that the tables say can be made, by its rows of tables_1 -/
def lw_okq (q : MethodName × Nat) : Prop := (q.1.cls ≠ "java/lang/invoke/MethodHandle" ∧ q.1.cls ≠ "java/lang/invoke/VarHandle") ∧ Cond.instantiable q.1.cls q.2 ∈ tables_1 ∧ Cond.privateMethod q.1 ∈ tables_1 ∧ Cond.instanceMethod q.1 ∈ tables_1
set_option maxRecDepth 100000
theorem lw_p0 : lw_okq (⟨"StreamAssembler", "mayReach", "(II)Z"⟩, 6) := ⟨⟨by decide +kernel, by decide +kernel⟩, List.mem_of_getElem? (i := 4) rfl, List.mem_of_getElem? (i := 39) rfl, List.mem_of_getElem? (i := 40) rfl⟩
theorem lw_p1 : lw_okq (⟨"StreamAssembler", "limitOf", "(I)I"⟩, 6) := ⟨⟨by decide +kernel, by decide +kernel⟩, List.mem_of_getElem? (i := 4) rfl, List.mem_of_getElem? (i := 43) rfl, List.mem_of_getElem? (i := 44) rfl⟩
theorem lw_p2 : lw_okq (⟨"StreamAssembler", "credit", "()I"⟩, 6) := ⟨⟨by decide +kernel, by decide +kernel⟩, List.mem_of_getElem? (i := 4) rfl, List.mem_of_getElem? (i := 51) rfl, List.mem_of_getElem? (i := 52) rfl⟩
theorem lw_p3 : lw_okq (⟨"StreamAssembler", "isKnown", "(II)Z"⟩, 6) := ⟨⟨by decide +kernel, by decide +kernel⟩, List.mem_of_getElem? (i := 4) rfl, List.mem_of_getElem? (i := 55) rfl, List.mem_of_getElem? (i := 56) rfl⟩
theorem lw_p4 : lw_okq (⟨"StreamAssembler", "addRange", "(III)V"⟩, 6) := ⟨⟨by decide +kernel, by decide +kernel⟩, List.mem_of_getElem? (i := 4) rfl, List.mem_of_getElem? (i := 59) rfl, List.mem_of_getElem? (i := 60) rfl⟩
theorem lw_p5 : lw_okq (⟨"StreamAssembler", "openRange", "(II)V"⟩, 6) := ⟨⟨by decide +kernel, by decide +kernel⟩, List.mem_of_getElem? (i := 4) rfl, List.mem_of_getElem? (i := 63) rfl, List.mem_of_getElem? (i := 64) rfl⟩
theorem lw_p6 : lw_okq (⟨"StreamAssembler", "dropRanges", "(III)V"⟩, 6) := ⟨⟨by decide +kernel, by decide +kernel⟩, List.mem_of_getElem? (i := 4) rfl, List.mem_of_getElem? (i := 67) rfl, List.mem_of_getElem? (i := 68) rfl⟩
theorem lw_p7 : lw_okq (⟨"StreamAssembler", "lastKnown", "(I)I"⟩, 6) := ⟨⟨by decide +kernel, by decide +kernel⟩, List.mem_of_getElem? (i := 4) rfl, List.mem_of_getElem? (i := 88) rfl, List.mem_of_getElem? (i := 89) rfl⟩
theorem lw_p8 : lw_okq (⟨"StreamAssemblerModel", "fits", "(II)Z"⟩, 4) := ⟨⟨by decide +kernel, by decide +kernel⟩, List.mem_of_getElem? (i := 105) rfl, List.mem_of_getElem? (i := 132) rfl, List.mem_of_getElem? (i := 133) rfl⟩
theorem lw_p9 : lw_okq (⟨"StreamAssemblerModel", "limit", "(I)I"⟩, 4) := ⟨⟨by decide +kernel, by decide +kernel⟩, List.mem_of_getElem? (i := 105) rfl, List.mem_of_getElem? (i := 136) rfl, List.mem_of_getElem? (i := 137) rfl⟩
theorem lw_p10 : lw_okq (⟨"StreamAssemblerModel", "top", "(I)I"⟩, 4) := ⟨⟨by decide +kernel, by decide +kernel⟩, List.mem_of_getElem? (i := 105) rfl, List.mem_of_getElem? (i := 140) rfl, List.mem_of_getElem? (i := 141) rfl⟩
theorem lw_p11 : lw_okq (⟨"StreamAssemblerModel", "isKnown", "(II)Z"⟩, 4) := ⟨⟨by decide +kernel, by decide +kernel⟩, List.mem_of_getElem? (i := 105) rfl, List.mem_of_getElem? (i := 152) rfl, List.mem_of_getElem? (i := 153) rfl⟩
theorem lw_p12 : lw_okq (⟨"StreamAssemblerModel", "begins", "(II)Z"⟩, 4) := ⟨⟨by decide +kernel, by decide +kernel⟩, List.mem_of_getElem? (i := 105) rfl, List.mem_of_getElem? (i := 168) rfl, List.mem_of_getElem? (i := 169) rfl⟩
def lw_privs_1 : List (MethodName × Nat) := [(⟨"StreamAssembler", "mayReach", "(II)Z"⟩, 6), (⟨"StreamAssembler", "limitOf", "(I)I"⟩, 6), (⟨"StreamAssembler", "credit", "()I"⟩, 6), (⟨"StreamAssembler", "isKnown", "(II)Z"⟩, 6), (⟨"StreamAssembler", "addRange", "(III)V"⟩, 6), (⟨"StreamAssembler", "openRange", "(II)V"⟩, 6), (⟨"StreamAssembler", "dropRanges", "(III)V"⟩, 6), (⟨"StreamAssembler", "lastKnown", "(I)I"⟩, 6), (⟨"StreamAssemblerModel", "fits", "(II)Z"⟩, 4), (⟨"StreamAssemblerModel", "limit", "(I)I"⟩, 4), (⟨"StreamAssemblerModel", "top", "(I)I"⟩, 4), (⟨"StreamAssemblerModel", "isKnown", "(II)Z"⟩, 4), (⟨"StreamAssemblerModel", "begins", "(II)Z"⟩, 4)]
theorem lw_r1 : ∀ q ∈ lw_privs_1, lw_okq q := List.forall_mem_cons.mpr ⟨lw_p0, List.forall_mem_cons.mpr ⟨lw_p1, List.forall_mem_cons.mpr ⟨lw_p2, List.forall_mem_cons.mpr ⟨lw_p3, List.forall_mem_cons.mpr ⟨lw_p4, List.forall_mem_cons.mpr ⟨lw_p5, List.forall_mem_cons.mpr ⟨lw_p6, List.forall_mem_cons.mpr ⟨lw_p7, List.forall_mem_cons.mpr ⟨lw_p8, List.forall_mem_cons.mpr ⟨lw_p9, List.forall_mem_cons.mpr ⟨lw_p10, List.forall_mem_cons.mpr ⟨lw_p11, List.forall_mem_cons.mpr ⟨lw_p12, fun _ h => absurd h List.not_mem_nil⟩⟩⟩⟩⟩⟩⟩⟩⟩⟩⟩⟩⟩
def lw_privs : List (MethodName × Nat) := lw_privs_1
def lw_tbl : List Cond := k2_sels lw_privs ++ tables_1
theorem lw_privs_ok : ∀ q ∈ lw_privs, lw_okq q := lw_r1
-- ===== ONE list of words for every method: the tables' words that hold all through a run =====
def lw_all : List Cond := lw_tbl.filter goodWord
/-- a word of the tables by its place: claim/WORDS.tsv -/
theorem lw_w {w : Cond} (i : Nat) (h : lw_tbl[i]? = some w) (g : goodWord w = true) : w ∈ lw_all := List.mem_filter.mpr ⟨List.mem_of_getElem? h, g⟩
theorem lw_all_tbl {w : Cond} (h : w ∈ lw_all) : w ∈ lw_tbl := (List.mem_filter.mp h).1
theorem lw_self : GoodIn lw_all lw_all := fun w h => ⟨h, good_of_word (List.mem_filter.mp h).2⟩
/-- a class's field words, by their places -/
theorem lw_in (ws : List Cond) (ps : List Nat) (hp : ws = ps.filterMap (fun i => lw_tbl[i]?)) (hg : ws.all goodWord = true) : ∀ w ∈ ws, w ∈ lw_all := by
  intro w h
  have h1 := List.all_eq_true.mp hg w h
  rw [hp] at h
  obtain ⟨i, -, hi⟩ := List.mem_filterMap.mp h
  exact lw_w i hi h1
/-- the words of a contract for the method y with code b, L locals, answer r -/
abbrev ws_ (y : MethodName) (b : ByteArray) (L : Nat) (r : Option FieldType) : List Cond := Cond.code y b L r :: lw_all
theorem lw_meth {y : MethodName} {b : ByteArray} {L : Nat} {r : Option FieldType} (h : Cond.code y b L r ∈ lw_all) : GoodIn lw_all (ws_ y b L r) := by
  intro w hw
  rcases List.mem_cons.mp hw with e | e
  · rw [e]
    exact lw_self _ h
  · exact lw_self _ e
theorem lw_app {a c : List Cond} (ha : ∀ w ∈ a, w ∈ lw_all) (hc : GoodIn lw_all c) : GoodIn lw_all (a ++ c) := by
  intro w hw
  rcases List.mem_append.mp hw with e | e
  · exact lw_self w (ha w e)
  · exact hc w e
/-- what a call through an object asks: cwV n hts (lw_V ..) -/
theorem lw_V {own : String} {idx : Nat} {C : String} {y : MethodName} {b : ByteArray} {L : Nat} {r : Option FieldType} (h1 : Cond.methodLink own idx y ∈ lw_all) (h2 : Cond.instanceMethod y ∈ lw_all) (h3 : Cond.selects C y y ∈ lw_all) (h4 : Cond.initialized C ∈ lw_all) (h5 : Cond.code y b L r ∈ lw_all) : GoodIn lw_all (wsV own idx C y (ws_ y b L r)) := by
  refine lw_app ?_ (lw_meth h5)
  intro w hw
  simp only [List.mem_cons, List.not_mem_nil, or_false] at hw
  rcases hw with e | e | e | e
  · rw [e]; exact h1
  · rw [e]; exact h2
  · rw [e]; exact h3
  · rw [e]; exact h4
/-- what a static call asks: va_cwS n hts (lw_S ..) -/
theorem lw_S {own : String} {idx : Nat} {y : MethodName} {b : ByteArray} {L : Nat} {r : Option FieldType} (h1 : Cond.methodLink own idx y ∈ lw_all) (h2 : Cond.static y ∈ lw_all) (h3 : Cond.initialized y.cls ∈ lw_all) (h4 : Cond.code y b L r ∈ lw_all) : GoodIn lw_all (va_wsS own idx y (ws_ y b L r)) := by
  refine lw_app ?_ (lw_meth h4)
  intro w hw
  simp only [List.mem_cons, List.not_mem_nil, or_false] at hw
  rcases hw with e | e | e
  · rw [e]; exact h1
  · rw [e]; exact h2
  · rw [e]; exact h3
/-- the words of a contract for a method WITH HANDLERS (hh: its table) -/
abbrev wsW_ (y : MethodName) (b : ByteArray) (L : Nat) (r : Option FieldType) (hh : List (Nat × Nat × Nat × Nat)) : List Cond := Cond.codeWith y b L r hh :: lw_all
theorem lw_methW {y : MethodName} {b : ByteArray} {L : Nat} {r : Option FieldType} {hh : List (Nat × Nat × Nat × Nat)} (h : Cond.codeWith y b L r hh ∈ lw_all) : GoodIn lw_all (wsW_ y b L r hh) := by
  intro w hw
  rcases List.mem_cons.mp hw with e | e
  · rw [e]
    exact lw_self _ h
  · exact lw_self _ e
/-- any list of words by their places (lw_in), good -/
theorem lw_good {ws : List Cond} (h : ∀ w ∈ ws, w ∈ lw_all) : GoodIn lw_all ws := fun w hw => lw_self w (h w hw)
/-- what a call of a method with handlers asks: vx_cwVW n hts (lw_VW ..), vx_cwSW n hts (lw_SW ..) -/
theorem lw_VW {own : String} {idx : Nat} {C : String} {y : MethodName} {b : ByteArray} {L : Nat} {r : Option FieldType} {hh : List (Nat × Nat × Nat × Nat)} (h1 : Cond.methodLink own idx y ∈ lw_all) (h2 : Cond.instanceMethod y ∈ lw_all) (h3 : Cond.selects C y y ∈ lw_all) (h4 : Cond.initialized C ∈ lw_all) (h5 : Cond.codeWith y b L r hh ∈ lw_all) : GoodIn lw_all (wsV own idx C y (wsW_ y b L r hh)) := by
  refine lw_app ?_ (lw_methW h5)
  intro w hw
  simp only [List.mem_cons, List.not_mem_nil, or_false] at hw
  rcases hw with e | e | e | e
  · rw [e]; exact h1
  · rw [e]; exact h2
  · rw [e]; exact h3
  · rw [e]; exact h4
theorem lw_SW {own : String} {idx : Nat} {y : MethodName} {b : ByteArray} {L : Nat} {r : Option FieldType} {hh : List (Nat × Nat × Nat × Nat)} (h1 : Cond.methodLink own idx y ∈ lw_all) (h2 : Cond.static y ∈ lw_all) (h3 : Cond.initialized y.cls ∈ lw_all) (h4 : Cond.codeWith y b L r hh ∈ lw_all) : GoodIn lw_all (va_wsS own idx y (wsW_ y b L r hh)) := by
  refine lw_app ?_ (lw_methW h4)
  intro w hw
  simp only [List.mem_cons, List.not_mem_nil, or_false] at hw
  rcases hw with e | e | e
  · rw [e]; exact h1
  · rw [e]; exact h2
  · rw [e]; exact h3
/-- a word by its place in its run of the tables -/
theorem lw_at {r : List Cond} (hr : ∀ w ∈ r, w ∈ lw_tbl) {w : Cond} (i : Nat) (h : r[i]? = some w) : w ∈ lw_tbl := hr w (List.mem_of_getElem? h)
theorem lw_g {w : Cond} (h : w ∈ lw_tbl) (g : goodWord w = true) : w ∈ lw_all := List.mem_filter.mpr ⟨h, g⟩
theorem lw_ms : ∀ w ∈ k2_sels lw_privs, w ∈ lw_tbl := fun w h => show w ∈ k2_sels lw_privs ++ tables_1 from List.mem_append_left _ h
theorem lw_m0 : ∀ w ∈ tables_1, w ∈ lw_tbl := fun w h => show w ∈ k2_sels lw_privs ++ tables_1 from List.mem_append_right (k2_sels lw_privs) h
theorem qs0 : (Cond.selects "StreamAssembler" ⟨"StreamAssembler", "mayReach", "(II)Z"⟩ ⟨"StreamAssembler", "mayReach", "(II)Z"⟩) ∈ lw_all := lw_g (lw_at lw_ms 0 rfl) rfl
theorem qs1 : (Cond.selects "StreamAssembler" ⟨"StreamAssembler", "limitOf", "(I)I"⟩ ⟨"StreamAssembler", "limitOf", "(I)I"⟩) ∈ lw_all := lw_g (lw_at lw_ms 1 rfl) rfl
theorem qs2 : (Cond.selects "StreamAssembler" ⟨"StreamAssembler", "credit", "()I"⟩ ⟨"StreamAssembler", "credit", "()I"⟩) ∈ lw_all := lw_g (lw_at lw_ms 2 rfl) rfl
theorem qs3 : (Cond.selects "StreamAssembler" ⟨"StreamAssembler", "isKnown", "(II)Z"⟩ ⟨"StreamAssembler", "isKnown", "(II)Z"⟩) ∈ lw_all := lw_g (lw_at lw_ms 3 rfl) rfl
theorem qs4 : (Cond.selects "StreamAssembler" ⟨"StreamAssembler", "addRange", "(III)V"⟩ ⟨"StreamAssembler", "addRange", "(III)V"⟩) ∈ lw_all := lw_g (lw_at lw_ms 4 rfl) rfl
theorem qs5 : (Cond.selects "StreamAssembler" ⟨"StreamAssembler", "openRange", "(II)V"⟩ ⟨"StreamAssembler", "openRange", "(II)V"⟩) ∈ lw_all := lw_g (lw_at lw_ms 5 rfl) rfl
theorem qs6 : (Cond.selects "StreamAssembler" ⟨"StreamAssembler", "dropRanges", "(III)V"⟩ ⟨"StreamAssembler", "dropRanges", "(III)V"⟩) ∈ lw_all := lw_g (lw_at lw_ms 6 rfl) rfl
theorem qs7 : (Cond.selects "StreamAssembler" ⟨"StreamAssembler", "lastKnown", "(I)I"⟩ ⟨"StreamAssembler", "lastKnown", "(I)I"⟩) ∈ lw_all := lw_g (lw_at lw_ms 7 rfl) rfl
theorem qs8 : (Cond.selects "StreamAssemblerModel" ⟨"StreamAssemblerModel", "fits", "(II)Z"⟩ ⟨"StreamAssemblerModel", "fits", "(II)Z"⟩) ∈ lw_all := lw_g (lw_at lw_ms 8 rfl) rfl
theorem qs9 : (Cond.selects "StreamAssemblerModel" ⟨"StreamAssemblerModel", "limit", "(I)I"⟩ ⟨"StreamAssemblerModel", "limit", "(I)I"⟩) ∈ lw_all := lw_g (lw_at lw_ms 9 rfl) rfl
theorem qs10 : (Cond.selects "StreamAssemblerModel" ⟨"StreamAssemblerModel", "top", "(I)I"⟩ ⟨"StreamAssemblerModel", "top", "(I)I"⟩) ∈ lw_all := lw_g (lw_at lw_ms 10 rfl) rfl
theorem qs11 : (Cond.selects "StreamAssemblerModel" ⟨"StreamAssemblerModel", "isKnown", "(II)Z"⟩ ⟨"StreamAssemblerModel", "isKnown", "(II)Z"⟩) ∈ lw_all := lw_g (lw_at lw_ms 11 rfl) rfl
theorem qs12 : (Cond.selects "StreamAssemblerModel" ⟨"StreamAssemblerModel", "begins", "(II)Z"⟩ ⟨"StreamAssemblerModel", "begins", "(II)Z"⟩) ∈ lw_all := lw_g (lw_at lw_ms 12 rfl) rfl
end
section
set_option maxRecDepth 100000
/-! StreamAssembler -/
def RX0 : String := "StreamAssembler"
def TX0 : u_T := fun k => match k with
  | 0 => ("StreamAssembler", "ring", "[I", true)
  | 1 => ("StreamAssembler", "readPoint", "[I", true)
  | 2 => ("StreamAssembler", "end", "[I", true)
  | 3 => ("StreamAssembler", "ranges", "[I", true)
  | 4 => ("StreamAssembler", "low", "[I", true)
  | _ => ("StreamAssembler", "high", "[I", true)
def tyX0 : Nat → FieldType := fun k => match k with
  | 0 => .array .int
  | 1 => .array .int
  | 2 => .array .int
  | 3 => .array .int
  | 4 => .array .int
  | _ => .array .int
abbrev wsX00 : List Cond := u_ws RX0 TX0 6
theorem nmX0 : ∀ a, a < 6 → ∀ b, b < 6 → a ≠ b → (TX0 a).2.1 ≠ (TX0 b).2.1 := by decide +kernel
theorem tyX0_ok : ∀ k, k < 6 → parseFieldDescriptor (TX0 k).2.2.1 = some (tyX0 k) := by decide +kernel
abbrev cX0_init : ByteArray := prog_1_method_1_code
def yX0_init : MethodName := ⟨RX0, "<init>", "()V"⟩
theorem dX0_init_0 : decode cX0_init 0 = .ok (.aload_n 0, 1) := by decide +kernel
theorem dX0_init_1 : decode cX0_init 1 = .ok (.invokespecial 1, 3) := by decide +kernel
theorem dX0_init_4 : decode cX0_init 4 = .ok (.aload_n 0, 1) := by decide +kernel
theorem dX0_init_5 : decode cX0_init 5 = .ok (.sipush 128, 3) := by decide +kernel
theorem dX0_init_8 : decode cX0_init 8 = .ok (.newarray .int, 2) := by decide +kernel
theorem dX0_init_10 : decode cX0_init 10 = .ok (.putfield 7, 3) := by decide +kernel
theorem dX0_init_13 : decode cX0_init 13 = .ok (.aload_n 0, 1) := by decide +kernel
theorem dX0_init_14 : decode cX0_init 14 = .ok (.iconst 4, 1) := by decide +kernel
theorem dX0_init_15 : decode cX0_init 15 = .ok (.newarray .int, 2) := by decide +kernel
theorem dX0_init_17 : decode cX0_init 17 = .ok (.putfield 13, 3) := by decide +kernel
theorem dX0_init_20 : decode cX0_init 20 = .ok (.aload_n 0, 1) := by decide +kernel
theorem dX0_init_21 : decode cX0_init 21 = .ok (.iconst 4, 1) := by decide +kernel
theorem dX0_init_22 : decode cX0_init 22 = .ok (.newarray .int, 2) := by decide +kernel
theorem dX0_init_24 : decode cX0_init 24 = .ok (.putfield 16, 3) := by decide +kernel
theorem dX0_init_27 : decode cX0_init 27 = .ok (.aload_n 0, 1) := by decide +kernel
theorem dX0_init_28 : decode cX0_init 28 = .ok (.iconst 4, 1) := by decide +kernel
theorem dX0_init_29 : decode cX0_init 29 = .ok (.newarray .int, 2) := by decide +kernel
theorem dX0_init_31 : decode cX0_init 31 = .ok (.putfield 19, 3) := by decide +kernel
theorem dX0_init_34 : decode cX0_init 34 = .ok (.aload_n 0, 1) := by decide +kernel
theorem dX0_init_35 : decode cX0_init 35 = .ok (.bipush 52, 2) := by decide +kernel
theorem dX0_init_37 : decode cX0_init 37 = .ok (.newarray .int, 2) := by decide +kernel
theorem dX0_init_39 : decode cX0_init 39 = .ok (.putfield 22, 3) := by decide +kernel
theorem dX0_init_42 : decode cX0_init 42 = .ok (.aload_n 0, 1) := by decide +kernel
theorem dX0_init_43 : decode cX0_init 43 = .ok (.bipush 52, 2) := by decide +kernel
theorem dX0_init_45 : decode cX0_init 45 = .ok (.newarray .int, 2) := by decide +kernel
theorem dX0_init_47 : decode cX0_init 47 = .ok (.putfield 25, 3) := by decide +kernel
theorem dX0_init_50 : decode cX0_init 50 = .ok (.iconst 0, 1) := by decide +kernel
theorem dX0_init_51 : decode cX0_init 51 = .ok (.istore_n 1, 1) := by decide +kernel
theorem dX0_init_52 : decode cX0_init 52 = .ok (.iload_n 1, 1) := by decide +kernel
theorem dX0_init_53 : decode cX0_init 53 = .ok (.iconst 4, 1) := by decide +kernel
theorem dX0_init_54 : decode cX0_init 54 = .ok (.if_icmp .ge 16, 3) := by decide +kernel
theorem dX0_init_57 : decode cX0_init 57 = .ok (.aload_n 0, 1) := by decide +kernel
theorem dX0_init_58 : decode cX0_init 58 = .ok (.getfield 16, 3) := by decide +kernel
theorem dX0_init_61 : decode cX0_init 61 = .ok (.iload_n 1, 1) := by decide +kernel
theorem dX0_init_62 : decode cX0_init 62 = .ok (.iconst (-1), 1) := by decide +kernel
theorem dX0_init_63 : decode cX0_init 63 = .ok (.iastore, 1) := by decide +kernel
theorem dX0_init_64 : decode cX0_init 64 = .ok (.iinc 1 1, 3) := by decide +kernel
theorem dX0_init_67 : decode cX0_init 67 = .ok (.goto (-15), 3) := by decide +kernel
theorem dX0_init_70 : decode cX0_init 70 = .ok (.return_, 1) := by decide +kernel
abbrev cX0_piece : ByteArray := prog_1_method_2_code
def yX0_piece : MethodName := ⟨RX0, "piece", "(IIII)I"⟩
theorem dX0_piece_0 : decode cX0_piece 0 = .ok (.iload_n 1, 1) := by decide +kernel
theorem dX0_piece_1 : decode cX0_piece 1 = .ok (.invokestatic 28, 3) := by decide +kernel
theorem dX0_piece_4 : decode cX0_piece 4 = .ok (.ifCond .eq 24, 3) := by decide +kernel
theorem dX0_piece_7 : decode cX0_piece 7 = .ok (.iload_n 3, 1) := by decide +kernel
theorem dX0_piece_8 : decode cX0_piece 8 = .ok (.iconst 1, 1) := by decide +kernel
theorem dX0_piece_9 : decode cX0_piece 9 = .ok (.if_icmp .lt 19, 3) := by decide +kernel
theorem dX0_piece_12 : decode cX0_piece 12 = .ok (.iload_n 3, 1) := by decide +kernel
theorem dX0_piece_13 : decode cX0_piece 13 = .ok (.iconst 4, 1) := by decide +kernel
theorem dX0_piece_14 : decode cX0_piece 14 = .ok (.if_icmp .gt 14, 3) := by decide +kernel
theorem dX0_piece_17 : decode cX0_piece 17 = .ok (.iload_n 2, 1) := by decide +kernel
theorem dX0_piece_18 : decode cX0_piece 18 = .ok (.ifCond .lt 10, 3) := by decide +kernel
theorem dX0_piece_21 : decode cX0_piece 21 = .ok (.iload_n 2, 1) := by decide +kernel
theorem dX0_piece_22 : decode cX0_piece 22 = .ok (.sipush 1000, 3) := by decide +kernel
theorem dX0_piece_25 : decode cX0_piece 25 = .ok (.if_icmp .le 5, 3) := by decide +kernel
theorem dX0_piece_28 : decode cX0_piece 28 = .ok (.iconst (-1), 1) := by decide +kernel
theorem dX0_piece_29 : decode cX0_piece 29 = .ok (.ireturn, 1) := by decide +kernel
theorem dX0_piece_30 : decode cX0_piece 30 = .ok (.iload_n 2, 1) := by decide +kernel
theorem dX0_piece_31 : decode cX0_piece 31 = .ok (.iload_n 3, 1) := by decide +kernel
theorem dX0_piece_32 : decode cX0_piece 32 = .ok (.iadd, 1) := by decide +kernel
theorem dX0_piece_33 : decode cX0_piece 33 = .ok (.istore 5, 2) := by decide +kernel
theorem dX0_piece_35 : decode cX0_piece 35 = .ok (.aload_n 0, 1) := by decide +kernel
theorem dX0_piece_36 : decode cX0_piece 36 = .ok (.getfield 16, 3) := by decide +kernel
theorem dX0_piece_39 : decode cX0_piece 39 = .ok (.iload_n 1, 1) := by decide +kernel
theorem dX0_piece_40 : decode cX0_piece 40 = .ok (.iaload, 1) := by decide +kernel
theorem dX0_piece_41 : decode cX0_piece 41 = .ok (.ifCond .lt 17, 3) := by decide +kernel
theorem dX0_piece_44 : decode cX0_piece 44 = .ok (.iload 5, 2) := by decide +kernel
theorem dX0_piece_46 : decode cX0_piece 46 = .ok (.aload_n 0, 1) := by decide +kernel
theorem dX0_piece_47 : decode cX0_piece 47 = .ok (.getfield 16, 3) := by decide +kernel
theorem dX0_piece_50 : decode cX0_piece 50 = .ok (.iload_n 1, 1) := by decide +kernel
theorem dX0_piece_51 : decode cX0_piece 51 = .ok (.iaload, 1) := by decide +kernel
theorem dX0_piece_52 : decode cX0_piece 52 = .ok (.if_icmp .le 6, 3) := by decide +kernel
theorem dX0_piece_55 : decode cX0_piece 55 = .ok (.bipush (-3), 2) := by decide +kernel
theorem dX0_piece_57 : decode cX0_piece 57 = .ok (.ireturn, 1) := by decide +kernel
theorem dX0_piece_58 : decode cX0_piece 58 = .ok (.aload_n 0, 1) := by decide +kernel
theorem dX0_piece_59 : decode cX0_piece 59 = .ok (.iload_n 1, 1) := by decide +kernel
theorem dX0_piece_60 : decode cX0_piece 60 = .ok (.iload 5, 2) := by decide +kernel
theorem dX0_piece_62 : decode cX0_piece 62 = .ok (.invokevirtual 32, 3) := by decide +kernel
theorem dX0_piece_65 : decode cX0_piece 65 = .ok (.ifCond .ne 6, 3) := by decide +kernel
theorem dX0_piece_68 : decode cX0_piece 68 = .ok (.bipush (-2), 2) := by decide +kernel
theorem dX0_piece_70 : decode cX0_piece 70 = .ok (.ireturn, 1) := by decide +kernel
theorem dX0_piece_71 : decode cX0_piece 71 = .ok (.iload_n 2, 1) := by decide +kernel
theorem dX0_piece_72 : decode cX0_piece 72 = .ok (.aload_n 0, 1) := by decide +kernel
theorem dX0_piece_73 : decode cX0_piece 73 = .ok (.getfield 13, 3) := by decide +kernel
theorem dX0_piece_76 : decode cX0_piece 76 = .ok (.iload_n 1, 1) := by decide +kernel
theorem dX0_piece_77 : decode cX0_piece 77 = .ok (.iaload, 1) := by decide +kernel
theorem dX0_piece_78 : decode cX0_piece 78 = .ok (.if_icmp .le 7, 3) := by decide +kernel
theorem dX0_piece_81 : decode cX0_piece 81 = .ok (.iload_n 2, 1) := by decide +kernel
theorem dX0_piece_82 : decode cX0_piece 82 = .ok (.goto 9, 3) := by decide +kernel
theorem dX0_piece_85 : decode cX0_piece 85 = .ok (.aload_n 0, 1) := by decide +kernel
theorem dX0_piece_86 : decode cX0_piece 86 = .ok (.getfield 13, 3) := by decide +kernel
theorem dX0_piece_89 : decode cX0_piece 89 = .ok (.iload_n 1, 1) := by decide +kernel
theorem dX0_piece_90 : decode cX0_piece 90 = .ok (.iaload, 1) := by decide +kernel
theorem dX0_piece_91 : decode cX0_piece 91 = .ok (.istore 6, 2) := by decide +kernel
theorem dX0_piece_93 : decode cX0_piece 93 = .ok (.iconst 0, 1) := by decide +kernel
theorem dX0_piece_94 : decode cX0_piece 94 = .ok (.istore 7, 2) := by decide +kernel
theorem dX0_piece_96 : decode cX0_piece 96 = .ok (.iload 6, 2) := by decide +kernel
theorem dX0_piece_98 : decode cX0_piece 98 = .ok (.istore 8, 2) := by decide +kernel
theorem dX0_piece_100 : decode cX0_piece 100 = .ok (.iload 8, 2) := by decide +kernel
theorem dX0_piece_102 : decode cX0_piece 102 = .ok (.iload 5, 2) := by decide +kernel
theorem dX0_piece_104 : decode cX0_piece 104 = .ok (.if_icmp .ge 51, 3) := by decide +kernel
theorem dX0_piece_107 : decode cX0_piece 107 = .ok (.aload_n 0, 1) := by decide +kernel
theorem dX0_piece_108 : decode cX0_piece 108 = .ok (.iload_n 1, 1) := by decide +kernel
theorem dX0_piece_109 : decode cX0_piece 109 = .ok (.iload 8, 2) := by decide +kernel
theorem dX0_piece_111 : decode cX0_piece 111 = .ok (.invokevirtual 36, 3) := by decide +kernel
theorem dX0_piece_114 : decode cX0_piece 114 = .ok (.ifCond .ne 35, 3) := by decide +kernel
theorem dX0_piece_117 : decode cX0_piece 117 = .ok (.aload_n 0, 1) := by decide +kernel
theorem dX0_piece_118 : decode cX0_piece 118 = .ok (.getfield 7, 3) := by decide +kernel
theorem dX0_piece_121 : decode cX0_piece 121 = .ok (.bipush 32, 2) := by decide +kernel
theorem dX0_piece_123 : decode cX0_piece 123 = .ok (.iload_n 1, 1) := by decide +kernel
theorem dX0_piece_124 : decode cX0_piece 124 = .ok (.imul, 1) := by decide +kernel
theorem dX0_piece_125 : decode cX0_piece 125 = .ok (.iload 8, 2) := by decide +kernel
theorem dX0_piece_127 : decode cX0_piece 127 = .ok (.bipush 31, 2) := by decide +kernel
theorem dX0_piece_129 : decode cX0_piece 129 = .ok (.iand, 1) := by decide +kernel
theorem dX0_piece_130 : decode cX0_piece 130 = .ok (.iadd, 1) := by decide +kernel
theorem dX0_piece_131 : decode cX0_piece 131 = .ok (.iload 4, 2) := by decide +kernel
theorem dX0_piece_133 : decode cX0_piece 133 = .ok (.bipush 8, 2) := by decide +kernel
theorem dX0_piece_135 : decode cX0_piece 135 = .ok (.iload 8, 2) := by decide +kernel
theorem dX0_piece_137 : decode cX0_piece 137 = .ok (.iload_n 2, 1) := by decide +kernel
theorem dX0_piece_138 : decode cX0_piece 138 = .ok (.isub, 1) := by decide +kernel
theorem dX0_piece_139 : decode cX0_piece 139 = .ok (.imul, 1) := by decide +kernel
theorem dX0_piece_140 : decode cX0_piece 140 = .ok (.ishr, 1) := by decide +kernel
theorem dX0_piece_141 : decode cX0_piece 141 = .ok (.sipush 255, 3) := by decide +kernel
theorem dX0_piece_144 : decode cX0_piece 144 = .ok (.iand, 1) := by decide +kernel
theorem dX0_piece_145 : decode cX0_piece 145 = .ok (.iastore, 1) := by decide +kernel
theorem dX0_piece_146 : decode cX0_piece 146 = .ok (.iinc 7 1, 3) := by decide +kernel
theorem dX0_piece_149 : decode cX0_piece 149 = .ok (.iinc 8 1, 3) := by decide +kernel
theorem dX0_piece_152 : decode cX0_piece 152 = .ok (.goto (-52), 3) := by decide +kernel
theorem dX0_piece_155 : decode cX0_piece 155 = .ok (.iload 6, 2) := by decide +kernel
theorem dX0_piece_157 : decode cX0_piece 157 = .ok (.iload 5, 2) := by decide +kernel
theorem dX0_piece_159 : decode cX0_piece 159 = .ok (.if_icmp .ge 12, 3) := by decide +kernel
theorem dX0_piece_162 : decode cX0_piece 162 = .ok (.aload_n 0, 1) := by decide +kernel
theorem dX0_piece_163 : decode cX0_piece 163 = .ok (.iload_n 1, 1) := by decide +kernel
theorem dX0_piece_164 : decode cX0_piece 164 = .ok (.iload 6, 2) := by decide +kernel
theorem dX0_piece_166 : decode cX0_piece 166 = .ok (.iload 5, 2) := by decide +kernel
theorem dX0_piece_168 : decode cX0_piece 168 = .ok (.invokevirtual 39, 3) := by decide +kernel
theorem dX0_piece_171 : decode cX0_piece 171 = .ok (.iload 7, 2) := by decide +kernel
theorem dX0_piece_173 : decode cX0_piece 173 = .ok (.ireturn, 1) := by decide +kernel
abbrev cX0_isStream : ByteArray := prog_1_method_11_code
def yX0_isStream : MethodName := ⟨RX0, "isStream", "(I)Z"⟩
theorem dX0_isStream_0 : decode cX0_isStream 0 = .ok (.iload_n 0, 1) := by decide +kernel
theorem dX0_isStream_1 : decode cX0_isStream 1 = .ok (.ifCond .lt 12, 3) := by decide +kernel
theorem dX0_isStream_4 : decode cX0_isStream 4 = .ok (.iload_n 0, 1) := by decide +kernel
theorem dX0_isStream_5 : decode cX0_isStream 5 = .ok (.iconst 3, 1) := by decide +kernel
theorem dX0_isStream_6 : decode cX0_isStream 6 = .ok (.if_icmp .gt 7, 3) := by decide +kernel
theorem dX0_isStream_9 : decode cX0_isStream 9 = .ok (.iconst 1, 1) := by decide +kernel
theorem dX0_isStream_10 : decode cX0_isStream 10 = .ok (.goto 4, 3) := by decide +kernel
theorem dX0_isStream_13 : decode cX0_isStream 13 = .ok (.iconst 0, 1) := by decide +kernel
theorem dX0_isStream_14 : decode cX0_isStream 14 = .ok (.ireturn, 1) := by decide +kernel
abbrev cX0_mayReach : ByteArray := prog_1_method_14_code
def yX0_mayReach : MethodName := ⟨RX0, "mayReach", "(II)Z"⟩
theorem dX0_mayReach_0 : decode cX0_mayReach 0 = .ok (.iload_n 2, 1) := by decide +kernel
theorem dX0_mayReach_1 : decode cX0_mayReach 1 = .ok (.aload_n 0, 1) := by decide +kernel
theorem dX0_mayReach_2 : decode cX0_mayReach 2 = .ok (.iload_n 1, 1) := by decide +kernel
theorem dX0_mayReach_3 : decode cX0_mayReach 3 = .ok (.invokevirtual 56, 3) := by decide +kernel
theorem dX0_mayReach_6 : decode cX0_mayReach 6 = .ok (.if_icmp .le 5, 3) := by decide +kernel
theorem dX0_mayReach_9 : decode cX0_mayReach 9 = .ok (.iconst 0, 1) := by decide +kernel
theorem dX0_mayReach_10 : decode cX0_mayReach 10 = .ok (.ireturn, 1) := by decide +kernel
theorem dX0_mayReach_11 : decode cX0_mayReach 11 = .ok (.iload_n 2, 1) := by decide +kernel
theorem dX0_mayReach_12 : decode cX0_mayReach 12 = .ok (.aload_n 0, 1) := by decide +kernel
theorem dX0_mayReach_13 : decode cX0_mayReach 13 = .ok (.iload_n 1, 1) := by decide +kernel
theorem dX0_mayReach_14 : decode cX0_mayReach 14 = .ok (.invokevirtual 43, 3) := by decide +kernel
theorem dX0_mayReach_17 : decode cX0_mayReach 17 = .ok (.isub, 1) := by decide +kernel
theorem dX0_mayReach_18 : decode cX0_mayReach 18 = .ok (.istore_n 3, 1) := by decide +kernel
theorem dX0_mayReach_19 : decode cX0_mayReach 19 = .ok (.iload_n 3, 1) := by decide +kernel
theorem dX0_mayReach_20 : decode cX0_mayReach 20 = .ok (.ifCond .le 11, 3) := by decide +kernel
theorem dX0_mayReach_23 : decode cX0_mayReach 23 = .ok (.iload_n 3, 1) := by decide +kernel
theorem dX0_mayReach_24 : decode cX0_mayReach 24 = .ok (.aload_n 0, 1) := by decide +kernel
theorem dX0_mayReach_25 : decode cX0_mayReach 25 = .ok (.invokevirtual 59, 3) := by decide +kernel
theorem dX0_mayReach_28 : decode cX0_mayReach 28 = .ok (.if_icmp .gt 7, 3) := by decide +kernel
theorem dX0_mayReach_31 : decode cX0_mayReach 31 = .ok (.iconst 1, 1) := by decide +kernel
theorem dX0_mayReach_32 : decode cX0_mayReach 32 = .ok (.goto 4, 3) := by decide +kernel
theorem dX0_mayReach_35 : decode cX0_mayReach 35 = .ok (.iconst 0, 1) := by decide +kernel
theorem dX0_mayReach_36 : decode cX0_mayReach 36 = .ok (.ireturn, 1) := by decide +kernel
abbrev cX0_limitOf : ByteArray := prog_1_method_12_code
def yX0_limitOf : MethodName := ⟨RX0, "limitOf", "(I)I"⟩
theorem dX0_limitOf_0 : decode cX0_limitOf 0 = .ok (.aload_n 0, 1) := by decide +kernel
theorem dX0_limitOf_1 : decode cX0_limitOf 1 = .ok (.getfield 13, 3) := by decide +kernel
theorem dX0_limitOf_4 : decode cX0_limitOf 4 = .ok (.iload_n 1, 1) := by decide +kernel
theorem dX0_limitOf_5 : decode cX0_limitOf 5 = .ok (.iaload, 1) := by decide +kernel
theorem dX0_limitOf_6 : decode cX0_limitOf 6 = .ok (.bipush 24, 2) := by decide +kernel
theorem dX0_limitOf_8 : decode cX0_limitOf 8 = .ok (.iadd, 1) := by decide +kernel
theorem dX0_limitOf_9 : decode cX0_limitOf 9 = .ok (.istore_n 2, 1) := by decide +kernel
theorem dX0_limitOf_10 : decode cX0_limitOf 10 = .ok (.iload_n 2, 1) := by decide +kernel
theorem dX0_limitOf_11 : decode cX0_limitOf 11 = .ok (.sipush 240, 3) := by decide +kernel
theorem dX0_limitOf_14 : decode cX0_limitOf 14 = .ok (.if_icmp .le 9, 3) := by decide +kernel
theorem dX0_limitOf_17 : decode cX0_limitOf 17 = .ok (.sipush 240, 3) := by decide +kernel
theorem dX0_limitOf_20 : decode cX0_limitOf 20 = .ok (.goto 4, 3) := by decide +kernel
theorem dX0_limitOf_23 : decode cX0_limitOf 23 = .ok (.iload_n 2, 1) := by decide +kernel
theorem dX0_limitOf_24 : decode cX0_limitOf 24 = .ok (.ireturn, 1) := by decide +kernel
abbrev cX0_highest : ByteArray := prog_1_method_6_code
def yX0_highest : MethodName := ⟨RX0, "highest", "(I)I"⟩
theorem dX0_highest_0 : decode cX0_highest 0 = .ok (.iload_n 1, 1) := by decide +kernel
theorem dX0_highest_1 : decode cX0_highest 1 = .ok (.invokestatic 28, 3) := by decide +kernel
theorem dX0_highest_4 : decode cX0_highest 4 = .ok (.ifCond .ne 5, 3) := by decide +kernel
theorem dX0_highest_7 : decode cX0_highest 7 = .ok (.iconst (-1), 1) := by decide +kernel
theorem dX0_highest_8 : decode cX0_highest 8 = .ok (.ireturn, 1) := by decide +kernel
theorem dX0_highest_9 : decode cX0_highest 9 = .ok (.aload_n 0, 1) := by decide +kernel
theorem dX0_highest_10 : decode cX0_highest 10 = .ok (.getfield 16, 3) := by decide +kernel
theorem dX0_highest_13 : decode cX0_highest 13 = .ok (.iload_n 1, 1) := by decide +kernel
theorem dX0_highest_14 : decode cX0_highest 14 = .ok (.iaload, 1) := by decide +kernel
theorem dX0_highest_15 : decode cX0_highest 15 = .ok (.ifCond .lt 10, 3) := by decide +kernel
theorem dX0_highest_18 : decode cX0_highest 18 = .ok (.aload_n 0, 1) := by decide +kernel
theorem dX0_highest_19 : decode cX0_highest 19 = .ok (.getfield 16, 3) := by decide +kernel
theorem dX0_highest_22 : decode cX0_highest 22 = .ok (.iload_n 1, 1) := by decide +kernel
theorem dX0_highest_23 : decode cX0_highest 23 = .ok (.iaload, 1) := by decide +kernel
theorem dX0_highest_24 : decode cX0_highest 24 = .ok (.ireturn, 1) := by decide +kernel
theorem dX0_highest_25 : decode cX0_highest 25 = .ok (.aload_n 0, 1) := by decide +kernel
theorem dX0_highest_26 : decode cX0_highest 26 = .ok (.getfield 19, 3) := by decide +kernel
theorem dX0_highest_29 : decode cX0_highest 29 = .ok (.iload_n 1, 1) := by decide +kernel
theorem dX0_highest_30 : decode cX0_highest 30 = .ok (.iaload, 1) := by decide +kernel
theorem dX0_highest_31 : decode cX0_highest 31 = .ok (.istore_n 2, 1) := by decide +kernel
theorem dX0_highest_32 : decode cX0_highest 32 = .ok (.iload_n 2, 1) := by decide +kernel
theorem dX0_highest_33 : decode cX0_highest 33 = .ok (.ifCond .le 19, 3) := by decide +kernel
theorem dX0_highest_36 : decode cX0_highest 36 = .ok (.aload_n 0, 1) := by decide +kernel
theorem dX0_highest_37 : decode cX0_highest 37 = .ok (.getfield 25, 3) := by decide +kernel
theorem dX0_highest_40 : decode cX0_highest 40 = .ok (.bipush 13, 2) := by decide +kernel
theorem dX0_highest_42 : decode cX0_highest 42 = .ok (.iload_n 1, 1) := by decide +kernel
theorem dX0_highest_43 : decode cX0_highest 43 = .ok (.imul, 1) := by decide +kernel
theorem dX0_highest_44 : decode cX0_highest 44 = .ok (.iload_n 2, 1) := by decide +kernel
theorem dX0_highest_45 : decode cX0_highest 45 = .ok (.iadd, 1) := by decide +kernel
theorem dX0_highest_46 : decode cX0_highest 46 = .ok (.iconst 1, 1) := by decide +kernel
theorem dX0_highest_47 : decode cX0_highest 47 = .ok (.isub, 1) := by decide +kernel
theorem dX0_highest_48 : decode cX0_highest 48 = .ok (.iaload, 1) := by decide +kernel
theorem dX0_highest_49 : decode cX0_highest 49 = .ok (.goto 9, 3) := by decide +kernel
theorem dX0_highest_52 : decode cX0_highest 52 = .ok (.aload_n 0, 1) := by decide +kernel
theorem dX0_highest_53 : decode cX0_highest 53 = .ok (.getfield 13, 3) := by decide +kernel
theorem dX0_highest_56 : decode cX0_highest 56 = .ok (.iload_n 1, 1) := by decide +kernel
theorem dX0_highest_57 : decode cX0_highest 57 = .ok (.iaload, 1) := by decide +kernel
theorem dX0_highest_58 : decode cX0_highest 58 = .ok (.ireturn, 1) := by decide +kernel
abbrev cX0_credit : ByteArray := prog_1_method_13_code
def yX0_credit : MethodName := ⟨RX0, "credit", "()I"⟩
theorem dX0_credit_0 : decode cX0_credit 0 = .ok (.bipush 56, 2) := by decide +kernel
theorem dX0_credit_2 : decode cX0_credit 2 = .ok (.istore_n 1, 1) := by decide +kernel
theorem dX0_credit_3 : decode cX0_credit 3 = .ok (.iconst 0, 1) := by decide +kernel
theorem dX0_credit_4 : decode cX0_credit 4 = .ok (.istore_n 2, 1) := by decide +kernel
theorem dX0_credit_5 : decode cX0_credit 5 = .ok (.iload_n 2, 1) := by decide +kernel
theorem dX0_credit_6 : decode cX0_credit 6 = .ok (.iconst 4, 1) := by decide +kernel
theorem dX0_credit_7 : decode cX0_credit 7 = .ok (.if_icmp .ge 26, 3) := by decide +kernel
theorem dX0_credit_10 : decode cX0_credit 10 = .ok (.aload_n 0, 1) := by decide +kernel
theorem dX0_credit_11 : decode cX0_credit 11 = .ok (.iload_n 2, 1) := by decide +kernel
theorem dX0_credit_12 : decode cX0_credit 12 = .ok (.invokevirtual 43, 3) := by decide +kernel
theorem dX0_credit_15 : decode cX0_credit 15 = .ok (.istore_n 3, 1) := by decide +kernel
theorem dX0_credit_16 : decode cX0_credit 16 = .ok (.iload_n 1, 1) := by decide +kernel
theorem dX0_credit_17 : decode cX0_credit 17 = .ok (.aload_n 0, 1) := by decide +kernel
theorem dX0_credit_18 : decode cX0_credit 18 = .ok (.getfield 13, 3) := by decide +kernel
theorem dX0_credit_21 : decode cX0_credit 21 = .ok (.iload_n 2, 1) := by decide +kernel
theorem dX0_credit_22 : decode cX0_credit 22 = .ok (.iaload, 1) := by decide +kernel
theorem dX0_credit_23 : decode cX0_credit 23 = .ok (.iload_n 3, 1) := by decide +kernel
theorem dX0_credit_24 : decode cX0_credit 24 = .ok (.isub, 1) := by decide +kernel
theorem dX0_credit_25 : decode cX0_credit 25 = .ok (.iadd, 1) := by decide +kernel
theorem dX0_credit_26 : decode cX0_credit 26 = .ok (.istore_n 1, 1) := by decide +kernel
theorem dX0_credit_27 : decode cX0_credit 27 = .ok (.iinc 2 1, 3) := by decide +kernel
theorem dX0_credit_30 : decode cX0_credit 30 = .ok (.goto (-25), 3) := by decide +kernel
theorem dX0_credit_33 : decode cX0_credit 33 = .ok (.iload_n 1, 1) := by decide +kernel
theorem dX0_credit_34 : decode cX0_credit 34 = .ok (.ireturn, 1) := by decide +kernel
abbrev cX0_isKnown : ByteArray := prog_1_method_15_code
def yX0_isKnown : MethodName := ⟨RX0, "isKnown", "(II)Z"⟩
theorem dX0_isKnown_0 : decode cX0_isKnown 0 = .ok (.bipush 13, 2) := by decide +kernel
theorem dX0_isKnown_2 : decode cX0_isKnown 2 = .ok (.iload_n 1, 1) := by decide +kernel
theorem dX0_isKnown_3 : decode cX0_isKnown 3 = .ok (.imul, 1) := by decide +kernel
theorem dX0_isKnown_4 : decode cX0_isKnown 4 = .ok (.istore_n 3, 1) := by decide +kernel
theorem dX0_isKnown_5 : decode cX0_isKnown 5 = .ok (.iload_n 3, 1) := by decide +kernel
theorem dX0_isKnown_6 : decode cX0_isKnown 6 = .ok (.bipush 13, 2) := by decide +kernel
theorem dX0_isKnown_8 : decode cX0_isKnown 8 = .ok (.iload_n 1, 1) := by decide +kernel
theorem dX0_isKnown_9 : decode cX0_isKnown 9 = .ok (.imul, 1) := by decide +kernel
theorem dX0_isKnown_10 : decode cX0_isKnown 10 = .ok (.aload_n 0, 1) := by decide +kernel
theorem dX0_isKnown_11 : decode cX0_isKnown 11 = .ok (.getfield 19, 3) := by decide +kernel
theorem dX0_isKnown_14 : decode cX0_isKnown 14 = .ok (.iload_n 1, 1) := by decide +kernel
theorem dX0_isKnown_15 : decode cX0_isKnown 15 = .ok (.iaload, 1) := by decide +kernel
theorem dX0_isKnown_16 : decode cX0_isKnown 16 = .ok (.iadd, 1) := by decide +kernel
theorem dX0_isKnown_17 : decode cX0_isKnown 17 = .ok (.if_icmp .ge 31, 3) := by decide +kernel
theorem dX0_isKnown_20 : decode cX0_isKnown 20 = .ok (.aload_n 0, 1) := by decide +kernel
theorem dX0_isKnown_21 : decode cX0_isKnown 21 = .ok (.getfield 22, 3) := by decide +kernel
theorem dX0_isKnown_24 : decode cX0_isKnown 24 = .ok (.iload_n 3, 1) := by decide +kernel
theorem dX0_isKnown_25 : decode cX0_isKnown 25 = .ok (.iaload, 1) := by decide +kernel
theorem dX0_isKnown_26 : decode cX0_isKnown 26 = .ok (.iload_n 2, 1) := by decide +kernel
theorem dX0_isKnown_27 : decode cX0_isKnown 27 = .ok (.if_icmp .gt 15, 3) := by decide +kernel
theorem dX0_isKnown_30 : decode cX0_isKnown 30 = .ok (.iload_n 2, 1) := by decide +kernel
theorem dX0_isKnown_31 : decode cX0_isKnown 31 = .ok (.aload_n 0, 1) := by decide +kernel
theorem dX0_isKnown_32 : decode cX0_isKnown 32 = .ok (.getfield 25, 3) := by decide +kernel
theorem dX0_isKnown_35 : decode cX0_isKnown 35 = .ok (.iload_n 3, 1) := by decide +kernel
theorem dX0_isKnown_36 : decode cX0_isKnown 36 = .ok (.iaload, 1) := by decide +kernel
theorem dX0_isKnown_37 : decode cX0_isKnown 37 = .ok (.if_icmp .ge 5, 3) := by decide +kernel
theorem dX0_isKnown_40 : decode cX0_isKnown 40 = .ok (.iconst 1, 1) := by decide +kernel
theorem dX0_isKnown_41 : decode cX0_isKnown 41 = .ok (.ireturn, 1) := by decide +kernel
theorem dX0_isKnown_42 : decode cX0_isKnown 42 = .ok (.iinc 3 1, 3) := by decide +kernel
theorem dX0_isKnown_45 : decode cX0_isKnown 45 = .ok (.goto (-40), 3) := by decide +kernel
theorem dX0_isKnown_48 : decode cX0_isKnown 48 = .ok (.iconst 0, 1) := by decide +kernel
theorem dX0_isKnown_49 : decode cX0_isKnown 49 = .ok (.ireturn, 1) := by decide +kernel
end
section
set_option maxRecDepth 100000
abbrev cX0_addRange : ByteArray := prog_1_method_17_code
def yX0_addRange : MethodName := ⟨RX0, "addRange", "(III)V"⟩
theorem dX0_addRange_0 : decode cX0_addRange 0 = .ok (.bipush 13, 2) := by decide +kernel
theorem dX0_addRange_2 : decode cX0_addRange 2 = .ok (.iload_n 1, 1) := by decide +kernel
theorem dX0_addRange_3 : decode cX0_addRange 3 = .ok (.imul, 1) := by decide +kernel
theorem dX0_addRange_4 : decode cX0_addRange 4 = .ok (.istore 4, 2) := by decide +kernel
theorem dX0_addRange_6 : decode cX0_addRange 6 = .ok (.aload_n 0, 1) := by decide +kernel
theorem dX0_addRange_7 : decode cX0_addRange 7 = .ok (.getfield 19, 3) := by decide +kernel
theorem dX0_addRange_10 : decode cX0_addRange 10 = .ok (.iload_n 1, 1) := by decide +kernel
theorem dX0_addRange_11 : decode cX0_addRange 11 = .ok (.iaload, 1) := by decide +kernel
theorem dX0_addRange_12 : decode cX0_addRange 12 = .ok (.istore 5, 2) := by decide +kernel
theorem dX0_addRange_14 : decode cX0_addRange 14 = .ok (.iconst 0, 1) := by decide +kernel
theorem dX0_addRange_15 : decode cX0_addRange 15 = .ok (.istore 6, 2) := by decide +kernel
theorem dX0_addRange_17 : decode cX0_addRange 17 = .ok (.iconst 0, 1) := by decide +kernel
theorem dX0_addRange_18 : decode cX0_addRange 18 = .ok (.istore 7, 2) := by decide +kernel
theorem dX0_addRange_20 : decode cX0_addRange 20 = .ok (.iload 7, 2) := by decide +kernel
theorem dX0_addRange_22 : decode cX0_addRange 22 = .ok (.iload 5, 2) := by decide +kernel
theorem dX0_addRange_24 : decode cX0_addRange 24 = .ok (.if_icmp .ge 34, 3) := by decide +kernel
theorem dX0_addRange_27 : decode cX0_addRange 27 = .ok (.aload_n 0, 1) := by decide +kernel
theorem dX0_addRange_28 : decode cX0_addRange 28 = .ok (.getfield 25, 3) := by decide +kernel
theorem dX0_addRange_31 : decode cX0_addRange 31 = .ok (.iload 4, 2) := by decide +kernel
theorem dX0_addRange_33 : decode cX0_addRange 33 = .ok (.iload 7, 2) := by decide +kernel
theorem dX0_addRange_35 : decode cX0_addRange 35 = .ok (.iadd, 1) := by decide +kernel
theorem dX0_addRange_36 : decode cX0_addRange 36 = .ok (.iaload, 1) := by decide +kernel
theorem dX0_addRange_37 : decode cX0_addRange 37 = .ok (.iload_n 2, 1) := by decide +kernel
theorem dX0_addRange_38 : decode cX0_addRange 38 = .ok (.if_icmp .ge 10, 3) := by decide +kernel
theorem dX0_addRange_41 : decode cX0_addRange 41 = .ok (.iload 7, 2) := by decide +kernel
theorem dX0_addRange_43 : decode cX0_addRange 43 = .ok (.iconst 1, 1) := by decide +kernel
theorem dX0_addRange_44 : decode cX0_addRange 44 = .ok (.iadd, 1) := by decide +kernel
theorem dX0_addRange_45 : decode cX0_addRange 45 = .ok (.goto 5, 3) := by decide +kernel
theorem dX0_addRange_48 : decode cX0_addRange 48 = .ok (.iload 6, 2) := by decide +kernel
theorem dX0_addRange_50 : decode cX0_addRange 50 = .ok (.istore 6, 2) := by decide +kernel
theorem dX0_addRange_52 : decode cX0_addRange 52 = .ok (.iinc 7 1, 3) := by decide +kernel
theorem dX0_addRange_55 : decode cX0_addRange 55 = .ok (.goto (-35), 3) := by decide +kernel
theorem dX0_addRange_58 : decode cX0_addRange 58 = .ok (.iload 6, 2) := by decide +kernel
theorem dX0_addRange_60 : decode cX0_addRange 60 = .ok (.istore 7, 2) := by decide +kernel
theorem dX0_addRange_62 : decode cX0_addRange 62 = .ok (.iload_n 2, 1) := by decide +kernel
theorem dX0_addRange_63 : decode cX0_addRange 63 = .ok (.istore 8, 2) := by decide +kernel
theorem dX0_addRange_65 : decode cX0_addRange 65 = .ok (.iload_n 3, 1) := by decide +kernel
theorem dX0_addRange_66 : decode cX0_addRange 66 = .ok (.istore 9, 2) := by decide +kernel
theorem dX0_addRange_68 : decode cX0_addRange 68 = .ok (.iload 6, 2) := by decide +kernel
theorem dX0_addRange_70 : decode cX0_addRange 70 = .ok (.istore 10, 2) := by decide +kernel
theorem dX0_addRange_72 : decode cX0_addRange 72 = .ok (.iload 10, 2) := by decide +kernel
theorem dX0_addRange_74 : decode cX0_addRange 74 = .ok (.iload 5, 2) := by decide +kernel
theorem dX0_addRange_76 : decode cX0_addRange 76 = .ok (.if_icmp .ge 93, 3) := by decide +kernel
theorem dX0_addRange_79 : decode cX0_addRange 79 = .ok (.aload_n 0, 1) := by decide +kernel
theorem dX0_addRange_80 : decode cX0_addRange 80 = .ok (.getfield 22, 3) := by decide +kernel
theorem dX0_addRange_83 : decode cX0_addRange 83 = .ok (.iload 4, 2) := by decide +kernel
theorem dX0_addRange_85 : decode cX0_addRange 85 = .ok (.iload 10, 2) := by decide +kernel
theorem dX0_addRange_87 : decode cX0_addRange 87 = .ok (.iadd, 1) := by decide +kernel
theorem dX0_addRange_88 : decode cX0_addRange 88 = .ok (.iaload, 1) := by decide +kernel
theorem dX0_addRange_89 : decode cX0_addRange 89 = .ok (.iload_n 3, 1) := by decide +kernel
theorem dX0_addRange_90 : decode cX0_addRange 90 = .ok (.if_icmp .gt 73, 3) := by decide +kernel
theorem dX0_addRange_93 : decode cX0_addRange 93 = .ok (.aload_n 0, 1) := by decide +kernel
theorem dX0_addRange_94 : decode cX0_addRange 94 = .ok (.getfield 22, 3) := by decide +kernel
theorem dX0_addRange_97 : decode cX0_addRange 97 = .ok (.iload 4, 2) := by decide +kernel
theorem dX0_addRange_99 : decode cX0_addRange 99 = .ok (.iload 10, 2) := by decide +kernel
theorem dX0_addRange_101 : decode cX0_addRange 101 = .ok (.iadd, 1) := by decide +kernel
theorem dX0_addRange_102 : decode cX0_addRange 102 = .ok (.iaload, 1) := by decide +kernel
theorem dX0_addRange_103 : decode cX0_addRange 103 = .ok (.iload 8, 2) := by decide +kernel
theorem dX0_addRange_105 : decode cX0_addRange 105 = .ok (.if_icmp .ge 16, 3) := by decide +kernel
theorem dX0_addRange_108 : decode cX0_addRange 108 = .ok (.aload_n 0, 1) := by decide +kernel
theorem dX0_addRange_109 : decode cX0_addRange 109 = .ok (.getfield 22, 3) := by decide +kernel
theorem dX0_addRange_112 : decode cX0_addRange 112 = .ok (.iload 4, 2) := by decide +kernel
theorem dX0_addRange_114 : decode cX0_addRange 114 = .ok (.iload 10, 2) := by decide +kernel
theorem dX0_addRange_116 : decode cX0_addRange 116 = .ok (.iadd, 1) := by decide +kernel
theorem dX0_addRange_117 : decode cX0_addRange 117 = .ok (.iaload, 1) := by decide +kernel
theorem dX0_addRange_118 : decode cX0_addRange 118 = .ok (.goto 5, 3) := by decide +kernel
theorem dX0_addRange_121 : decode cX0_addRange 121 = .ok (.iload 8, 2) := by decide +kernel
theorem dX0_addRange_123 : decode cX0_addRange 123 = .ok (.istore 8, 2) := by decide +kernel
theorem dX0_addRange_125 : decode cX0_addRange 125 = .ok (.aload_n 0, 1) := by decide +kernel
theorem dX0_addRange_126 : decode cX0_addRange 126 = .ok (.getfield 25, 3) := by decide +kernel
theorem dX0_addRange_129 : decode cX0_addRange 129 = .ok (.iload 4, 2) := by decide +kernel
theorem dX0_addRange_131 : decode cX0_addRange 131 = .ok (.iload 10, 2) := by decide +kernel
theorem dX0_addRange_133 : decode cX0_addRange 133 = .ok (.iadd, 1) := by decide +kernel
theorem dX0_addRange_134 : decode cX0_addRange 134 = .ok (.iaload, 1) := by decide +kernel
theorem dX0_addRange_135 : decode cX0_addRange 135 = .ok (.iload 9, 2) := by decide +kernel
theorem dX0_addRange_137 : decode cX0_addRange 137 = .ok (.if_icmp .le 16, 3) := by decide +kernel
theorem dX0_addRange_140 : decode cX0_addRange 140 = .ok (.aload_n 0, 1) := by decide +kernel
theorem dX0_addRange_141 : decode cX0_addRange 141 = .ok (.getfield 25, 3) := by decide +kernel
theorem dX0_addRange_144 : decode cX0_addRange 144 = .ok (.iload 4, 2) := by decide +kernel
theorem dX0_addRange_146 : decode cX0_addRange 146 = .ok (.iload 10, 2) := by decide +kernel
theorem dX0_addRange_148 : decode cX0_addRange 148 = .ok (.iadd, 1) := by decide +kernel
theorem dX0_addRange_149 : decode cX0_addRange 149 = .ok (.iaload, 1) := by decide +kernel
theorem dX0_addRange_150 : decode cX0_addRange 150 = .ok (.goto 5, 3) := by decide +kernel
theorem dX0_addRange_153 : decode cX0_addRange 153 = .ok (.iload 9, 2) := by decide +kernel
theorem dX0_addRange_155 : decode cX0_addRange 155 = .ok (.istore 9, 2) := by decide +kernel
theorem dX0_addRange_157 : decode cX0_addRange 157 = .ok (.iload 10, 2) := by decide +kernel
theorem dX0_addRange_159 : decode cX0_addRange 159 = .ok (.iconst 1, 1) := by decide +kernel
theorem dX0_addRange_160 : decode cX0_addRange 160 = .ok (.iadd, 1) := by decide +kernel
theorem dX0_addRange_161 : decode cX0_addRange 161 = .ok (.istore 7, 2) := by decide +kernel
theorem dX0_addRange_163 : decode cX0_addRange 163 = .ok (.iinc 10 1, 3) := by decide +kernel
theorem dX0_addRange_166 : decode cX0_addRange 166 = .ok (.goto (-94), 3) := by decide +kernel
theorem dX0_addRange_169 : decode cX0_addRange 169 = .ok (.iload 6, 2) := by decide +kernel
theorem dX0_addRange_171 : decode cX0_addRange 171 = .ok (.iload 7, 2) := by decide +kernel
theorem dX0_addRange_173 : decode cX0_addRange 173 = .ok (.if_icmp .ne 13, 3) := by decide +kernel
theorem dX0_addRange_176 : decode cX0_addRange 176 = .ok (.aload_n 0, 1) := by decide +kernel
theorem dX0_addRange_177 : decode cX0_addRange 177 = .ok (.iload_n 1, 1) := by decide +kernel
theorem dX0_addRange_178 : decode cX0_addRange 178 = .ok (.iload 6, 2) := by decide +kernel
theorem dX0_addRange_180 : decode cX0_addRange 180 = .ok (.invokevirtual 63, 3) := by decide +kernel
theorem dX0_addRange_183 : decode cX0_addRange 183 = .ok (.goto 14, 3) := by decide +kernel
theorem dX0_addRange_186 : decode cX0_addRange 186 = .ok (.aload_n 0, 1) := by decide +kernel
theorem dX0_addRange_187 : decode cX0_addRange 187 = .ok (.iload_n 1, 1) := by decide +kernel
theorem dX0_addRange_188 : decode cX0_addRange 188 = .ok (.iload 6, 2) := by decide +kernel
theorem dX0_addRange_190 : decode cX0_addRange 190 = .ok (.iconst 1, 1) := by decide +kernel
theorem dX0_addRange_191 : decode cX0_addRange 191 = .ok (.iadd, 1) := by decide +kernel
theorem dX0_addRange_192 : decode cX0_addRange 192 = .ok (.iload 7, 2) := by decide +kernel
theorem dX0_addRange_194 : decode cX0_addRange 194 = .ok (.invokevirtual 47, 3) := by decide +kernel
theorem dX0_addRange_197 : decode cX0_addRange 197 = .ok (.aload_n 0, 1) := by decide +kernel
theorem dX0_addRange_198 : decode cX0_addRange 198 = .ok (.getfield 22, 3) := by decide +kernel
theorem dX0_addRange_201 : decode cX0_addRange 201 = .ok (.iload 4, 2) := by decide +kernel
theorem dX0_addRange_203 : decode cX0_addRange 203 = .ok (.iload 6, 2) := by decide +kernel
theorem dX0_addRange_205 : decode cX0_addRange 205 = .ok (.iadd, 1) := by decide +kernel
theorem dX0_addRange_206 : decode cX0_addRange 206 = .ok (.iload 8, 2) := by decide +kernel
theorem dX0_addRange_208 : decode cX0_addRange 208 = .ok (.iastore, 1) := by decide +kernel
theorem dX0_addRange_209 : decode cX0_addRange 209 = .ok (.aload_n 0, 1) := by decide +kernel
theorem dX0_addRange_210 : decode cX0_addRange 210 = .ok (.getfield 25, 3) := by decide +kernel
theorem dX0_addRange_213 : decode cX0_addRange 213 = .ok (.iload 4, 2) := by decide +kernel
theorem dX0_addRange_215 : decode cX0_addRange 215 = .ok (.iload 6, 2) := by decide +kernel
theorem dX0_addRange_217 : decode cX0_addRange 217 = .ok (.iadd, 1) := by decide +kernel
theorem dX0_addRange_218 : decode cX0_addRange 218 = .ok (.iload 9, 2) := by decide +kernel
theorem dX0_addRange_220 : decode cX0_addRange 220 = .ok (.iastore, 1) := by decide +kernel
theorem dX0_addRange_221 : decode cX0_addRange 221 = .ok (.return_, 1) := by decide +kernel
abbrev cX0_openRange : ByteArray := prog_1_method_18_code
def yX0_openRange : MethodName := ⟨RX0, "openRange", "(II)V"⟩
theorem dX0_openRange_0 : decode cX0_openRange 0 = .ok (.bipush 13, 2) := by decide +kernel
theorem dX0_openRange_2 : decode cX0_openRange 2 = .ok (.iload_n 1, 1) := by decide +kernel
theorem dX0_openRange_3 : decode cX0_openRange 3 = .ok (.imul, 1) := by decide +kernel
theorem dX0_openRange_4 : decode cX0_openRange 4 = .ok (.istore_n 3, 1) := by decide +kernel
theorem dX0_openRange_5 : decode cX0_openRange 5 = .ok (.aload_n 0, 1) := by decide +kernel
theorem dX0_openRange_6 : decode cX0_openRange 6 = .ok (.getfield 19, 3) := by decide +kernel
theorem dX0_openRange_9 : decode cX0_openRange 9 = .ok (.iload_n 1, 1) := by decide +kernel
theorem dX0_openRange_10 : decode cX0_openRange 10 = .ok (.iaload, 1) := by decide +kernel
theorem dX0_openRange_11 : decode cX0_openRange 11 = .ok (.istore 4, 2) := by decide +kernel
theorem dX0_openRange_13 : decode cX0_openRange 13 = .ok (.iload 4, 2) := by decide +kernel
theorem dX0_openRange_15 : decode cX0_openRange 15 = .ok (.iload_n 2, 1) := by decide +kernel
theorem dX0_openRange_16 : decode cX0_openRange 16 = .ok (.if_icmp .le 49, 3) := by decide +kernel
theorem dX0_openRange_19 : decode cX0_openRange 19 = .ok (.aload_n 0, 1) := by decide +kernel
theorem dX0_openRange_20 : decode cX0_openRange 20 = .ok (.getfield 22, 3) := by decide +kernel
theorem dX0_openRange_23 : decode cX0_openRange 23 = .ok (.iload_n 3, 1) := by decide +kernel
theorem dX0_openRange_24 : decode cX0_openRange 24 = .ok (.iload 4, 2) := by decide +kernel
theorem dX0_openRange_26 : decode cX0_openRange 26 = .ok (.iadd, 1) := by decide +kernel
theorem dX0_openRange_27 : decode cX0_openRange 27 = .ok (.aload_n 0, 1) := by decide +kernel
theorem dX0_openRange_28 : decode cX0_openRange 28 = .ok (.getfield 22, 3) := by decide +kernel
theorem dX0_openRange_31 : decode cX0_openRange 31 = .ok (.iload_n 3, 1) := by decide +kernel
theorem dX0_openRange_32 : decode cX0_openRange 32 = .ok (.iload 4, 2) := by decide +kernel
theorem dX0_openRange_34 : decode cX0_openRange 34 = .ok (.iadd, 1) := by decide +kernel
theorem dX0_openRange_35 : decode cX0_openRange 35 = .ok (.iconst 1, 1) := by decide +kernel
theorem dX0_openRange_36 : decode cX0_openRange 36 = .ok (.isub, 1) := by decide +kernel
theorem dX0_openRange_37 : decode cX0_openRange 37 = .ok (.iaload, 1) := by decide +kernel
theorem dX0_openRange_38 : decode cX0_openRange 38 = .ok (.iastore, 1) := by decide +kernel
theorem dX0_openRange_39 : decode cX0_openRange 39 = .ok (.aload_n 0, 1) := by decide +kernel
theorem dX0_openRange_40 : decode cX0_openRange 40 = .ok (.getfield 25, 3) := by decide +kernel
theorem dX0_openRange_43 : decode cX0_openRange 43 = .ok (.iload_n 3, 1) := by decide +kernel
theorem dX0_openRange_44 : decode cX0_openRange 44 = .ok (.iload 4, 2) := by decide +kernel
theorem dX0_openRange_46 : decode cX0_openRange 46 = .ok (.iadd, 1) := by decide +kernel
theorem dX0_openRange_47 : decode cX0_openRange 47 = .ok (.aload_n 0, 1) := by decide +kernel
theorem dX0_openRange_48 : decode cX0_openRange 48 = .ok (.getfield 25, 3) := by decide +kernel
theorem dX0_openRange_51 : decode cX0_openRange 51 = .ok (.iload_n 3, 1) := by decide +kernel
theorem dX0_openRange_52 : decode cX0_openRange 52 = .ok (.iload 4, 2) := by decide +kernel
theorem dX0_openRange_54 : decode cX0_openRange 54 = .ok (.iadd, 1) := by decide +kernel
theorem dX0_openRange_55 : decode cX0_openRange 55 = .ok (.iconst 1, 1) := by decide +kernel
theorem dX0_openRange_56 : decode cX0_openRange 56 = .ok (.isub, 1) := by decide +kernel
theorem dX0_openRange_57 : decode cX0_openRange 57 = .ok (.iaload, 1) := by decide +kernel
theorem dX0_openRange_58 : decode cX0_openRange 58 = .ok (.iastore, 1) := by decide +kernel
theorem dX0_openRange_59 : decode cX0_openRange 59 = .ok (.iinc 4 (-1), 3) := by decide +kernel
theorem dX0_openRange_62 : decode cX0_openRange 62 = .ok (.goto (-49), 3) := by decide +kernel
theorem dX0_openRange_65 : decode cX0_openRange 65 = .ok (.aload_n 0, 1) := by decide +kernel
theorem dX0_openRange_66 : decode cX0_openRange 66 = .ok (.getfield 19, 3) := by decide +kernel
theorem dX0_openRange_69 : decode cX0_openRange 69 = .ok (.iload_n 1, 1) := by decide +kernel
theorem dX0_openRange_70 : decode cX0_openRange 70 = .ok (.dup2, 1) := by decide +kernel
theorem dX0_openRange_71 : decode cX0_openRange 71 = .ok (.iaload, 1) := by decide +kernel
theorem dX0_openRange_72 : decode cX0_openRange 72 = .ok (.iconst 1, 1) := by decide +kernel
theorem dX0_openRange_73 : decode cX0_openRange 73 = .ok (.iadd, 1) := by decide +kernel
theorem dX0_openRange_74 : decode cX0_openRange 74 = .ok (.iastore, 1) := by decide +kernel
theorem dX0_openRange_75 : decode cX0_openRange 75 = .ok (.return_, 1) := by decide +kernel
abbrev cX0_dropRanges : ByteArray := prog_1_method_19_code
def yX0_dropRanges : MethodName := ⟨RX0, "dropRanges", "(III)V"⟩
theorem dX0_dropRanges_0 : decode cX0_dropRanges 0 = .ok (.bipush 13, 2) := by decide +kernel
theorem dX0_dropRanges_2 : decode cX0_dropRanges 2 = .ok (.iload_n 1, 1) := by decide +kernel
theorem dX0_dropRanges_3 : decode cX0_dropRanges 3 = .ok (.imul, 1) := by decide +kernel
theorem dX0_dropRanges_4 : decode cX0_dropRanges 4 = .ok (.istore 4, 2) := by decide +kernel
theorem dX0_dropRanges_6 : decode cX0_dropRanges 6 = .ok (.iload_n 3, 1) := by decide +kernel
theorem dX0_dropRanges_7 : decode cX0_dropRanges 7 = .ok (.iload_n 2, 1) := by decide +kernel
theorem dX0_dropRanges_8 : decode cX0_dropRanges 8 = .ok (.isub, 1) := by decide +kernel
theorem dX0_dropRanges_9 : decode cX0_dropRanges 9 = .ok (.istore 5, 2) := by decide +kernel
theorem dX0_dropRanges_11 : decode cX0_dropRanges 11 = .ok (.iload_n 2, 1) := by decide +kernel
theorem dX0_dropRanges_12 : decode cX0_dropRanges 12 = .ok (.istore 6, 2) := by decide +kernel
theorem dX0_dropRanges_14 : decode cX0_dropRanges 14 = .ok (.iload 6, 2) := by decide +kernel
theorem dX0_dropRanges_16 : decode cX0_dropRanges 16 = .ok (.iload 5, 2) := by decide +kernel
theorem dX0_dropRanges_18 : decode cX0_dropRanges 18 = .ok (.iadd, 1) := by decide +kernel
theorem dX0_dropRanges_19 : decode cX0_dropRanges 19 = .ok (.aload_n 0, 1) := by decide +kernel
theorem dX0_dropRanges_20 : decode cX0_dropRanges 20 = .ok (.getfield 19, 3) := by decide +kernel
theorem dX0_dropRanges_23 : decode cX0_dropRanges 23 = .ok (.iload_n 1, 1) := by decide +kernel
theorem dX0_dropRanges_24 : decode cX0_dropRanges 24 = .ok (.iaload, 1) := by decide +kernel
theorem dX0_dropRanges_25 : decode cX0_dropRanges 25 = .ok (.if_icmp .ge 55, 3) := by decide +kernel
theorem dX0_dropRanges_28 : decode cX0_dropRanges 28 = .ok (.aload_n 0, 1) := by decide +kernel
theorem dX0_dropRanges_29 : decode cX0_dropRanges 29 = .ok (.getfield 22, 3) := by decide +kernel
theorem dX0_dropRanges_32 : decode cX0_dropRanges 32 = .ok (.iload 4, 2) := by decide +kernel
theorem dX0_dropRanges_34 : decode cX0_dropRanges 34 = .ok (.iload 6, 2) := by decide +kernel
theorem dX0_dropRanges_36 : decode cX0_dropRanges 36 = .ok (.iadd, 1) := by decide +kernel
theorem dX0_dropRanges_37 : decode cX0_dropRanges 37 = .ok (.aload_n 0, 1) := by decide +kernel
theorem dX0_dropRanges_38 : decode cX0_dropRanges 38 = .ok (.getfield 22, 3) := by decide +kernel
theorem dX0_dropRanges_41 : decode cX0_dropRanges 41 = .ok (.iload 4, 2) := by decide +kernel
theorem dX0_dropRanges_43 : decode cX0_dropRanges 43 = .ok (.iload 6, 2) := by decide +kernel
theorem dX0_dropRanges_45 : decode cX0_dropRanges 45 = .ok (.iadd, 1) := by decide +kernel
theorem dX0_dropRanges_46 : decode cX0_dropRanges 46 = .ok (.iload 5, 2) := by decide +kernel
theorem dX0_dropRanges_48 : decode cX0_dropRanges 48 = .ok (.iadd, 1) := by decide +kernel
theorem dX0_dropRanges_49 : decode cX0_dropRanges 49 = .ok (.iaload, 1) := by decide +kernel
theorem dX0_dropRanges_50 : decode cX0_dropRanges 50 = .ok (.iastore, 1) := by decide +kernel
theorem dX0_dropRanges_51 : decode cX0_dropRanges 51 = .ok (.aload_n 0, 1) := by decide +kernel
theorem dX0_dropRanges_52 : decode cX0_dropRanges 52 = .ok (.getfield 25, 3) := by decide +kernel
theorem dX0_dropRanges_55 : decode cX0_dropRanges 55 = .ok (.iload 4, 2) := by decide +kernel
theorem dX0_dropRanges_57 : decode cX0_dropRanges 57 = .ok (.iload 6, 2) := by decide +kernel
theorem dX0_dropRanges_59 : decode cX0_dropRanges 59 = .ok (.iadd, 1) := by decide +kernel
theorem dX0_dropRanges_60 : decode cX0_dropRanges 60 = .ok (.aload_n 0, 1) := by decide +kernel
theorem dX0_dropRanges_61 : decode cX0_dropRanges 61 = .ok (.getfield 25, 3) := by decide +kernel
theorem dX0_dropRanges_64 : decode cX0_dropRanges 64 = .ok (.iload 4, 2) := by decide +kernel
theorem dX0_dropRanges_66 : decode cX0_dropRanges 66 = .ok (.iload 6, 2) := by decide +kernel
theorem dX0_dropRanges_68 : decode cX0_dropRanges 68 = .ok (.iadd, 1) := by decide +kernel
theorem dX0_dropRanges_69 : decode cX0_dropRanges 69 = .ok (.iload 5, 2) := by decide +kernel
theorem dX0_dropRanges_71 : decode cX0_dropRanges 71 = .ok (.iadd, 1) := by decide +kernel
theorem dX0_dropRanges_72 : decode cX0_dropRanges 72 = .ok (.iaload, 1) := by decide +kernel
theorem dX0_dropRanges_73 : decode cX0_dropRanges 73 = .ok (.iastore, 1) := by decide +kernel
theorem dX0_dropRanges_74 : decode cX0_dropRanges 74 = .ok (.iinc 6 1, 3) := by decide +kernel
theorem dX0_dropRanges_77 : decode cX0_dropRanges 77 = .ok (.goto (-63), 3) := by decide +kernel
theorem dX0_dropRanges_80 : decode cX0_dropRanges 80 = .ok (.aload_n 0, 1) := by decide +kernel
theorem dX0_dropRanges_81 : decode cX0_dropRanges 81 = .ok (.getfield 19, 3) := by decide +kernel
theorem dX0_dropRanges_84 : decode cX0_dropRanges 84 = .ok (.iload_n 1, 1) := by decide +kernel
theorem dX0_dropRanges_85 : decode cX0_dropRanges 85 = .ok (.dup2, 1) := by decide +kernel
theorem dX0_dropRanges_86 : decode cX0_dropRanges 86 = .ok (.iaload, 1) := by decide +kernel
theorem dX0_dropRanges_87 : decode cX0_dropRanges 87 = .ok (.iload 5, 2) := by decide +kernel
theorem dX0_dropRanges_89 : decode cX0_dropRanges 89 = .ok (.isub, 1) := by decide +kernel
theorem dX0_dropRanges_90 : decode cX0_dropRanges 90 = .ok (.iastore, 1) := by decide +kernel
theorem dX0_dropRanges_91 : decode cX0_dropRanges 91 = .ok (.return_, 1) := by decide +kernel
abbrev cX0_finish : ByteArray := prog_1_method_3_code
def yX0_finish : MethodName := ⟨RX0, "finish", "(II)I"⟩
theorem dX0_finish_0 : decode cX0_finish 0 = .ok (.iload_n 1, 1) := by decide +kernel
theorem dX0_finish_1 : decode cX0_finish 1 = .ok (.invokestatic 28, 3) := by decide +kernel
theorem dX0_finish_4 : decode cX0_finish 4 = .ok (.ifCond .eq 7, 3) := by decide +kernel
theorem dX0_finish_7 : decode cX0_finish 7 = .ok (.iload_n 2, 1) := by decide +kernel
theorem dX0_finish_8 : decode cX0_finish 8 = .ok (.ifCond .ge 5, 3) := by decide +kernel
theorem dX0_finish_11 : decode cX0_finish 11 = .ok (.iconst (-1), 1) := by decide +kernel
theorem dX0_finish_12 : decode cX0_finish 12 = .ok (.ireturn, 1) := by decide +kernel
theorem dX0_finish_13 : decode cX0_finish 13 = .ok (.aload_n 0, 1) := by decide +kernel
theorem dX0_finish_14 : decode cX0_finish 14 = .ok (.getfield 16, 3) := by decide +kernel
theorem dX0_finish_17 : decode cX0_finish 17 = .ok (.iload_n 1, 1) := by decide +kernel
theorem dX0_finish_18 : decode cX0_finish 18 = .ok (.iaload, 1) := by decide +kernel
theorem dX0_finish_19 : decode cX0_finish 19 = .ok (.istore_n 3, 1) := by decide +kernel
theorem dX0_finish_20 : decode cX0_finish 20 = .ok (.iload_n 3, 1) := by decide +kernel
theorem dX0_finish_21 : decode cX0_finish 21 = .ok (.ifCond .lt 8, 3) := by decide +kernel
theorem dX0_finish_24 : decode cX0_finish 24 = .ok (.iload_n 3, 1) := by decide +kernel
theorem dX0_finish_25 : decode cX0_finish 25 = .ok (.iload_n 2, 1) := by decide +kernel
theorem dX0_finish_26 : decode cX0_finish 26 = .ok (.if_icmp .ne 12, 3) := by decide +kernel
theorem dX0_finish_29 : decode cX0_finish 29 = .ok (.iload_n 2, 1) := by decide +kernel
theorem dX0_finish_30 : decode cX0_finish 30 = .ok (.aload_n 0, 1) := by decide +kernel
theorem dX0_finish_31 : decode cX0_finish 31 = .ok (.iload_n 1, 1) := by decide +kernel
theorem dX0_finish_32 : decode cX0_finish 32 = .ok (.invokevirtual 43, 3) := by decide +kernel
theorem dX0_finish_35 : decode cX0_finish 35 = .ok (.if_icmp .ge 6, 3) := by decide +kernel
theorem dX0_finish_38 : decode cX0_finish 38 = .ok (.bipush (-3), 2) := by decide +kernel
theorem dX0_finish_40 : decode cX0_finish 40 = .ok (.ireturn, 1) := by decide +kernel
theorem dX0_finish_41 : decode cX0_finish 41 = .ok (.aload_n 0, 1) := by decide +kernel
theorem dX0_finish_42 : decode cX0_finish 42 = .ok (.iload_n 1, 1) := by decide +kernel
theorem dX0_finish_43 : decode cX0_finish 43 = .ok (.iload_n 2, 1) := by decide +kernel
theorem dX0_finish_44 : decode cX0_finish 44 = .ok (.invokevirtual 32, 3) := by decide +kernel
theorem dX0_finish_47 : decode cX0_finish 47 = .ok (.ifCond .ne 6, 3) := by decide +kernel
theorem dX0_finish_50 : decode cX0_finish 50 = .ok (.bipush (-2), 2) := by decide +kernel
theorem dX0_finish_52 : decode cX0_finish 52 = .ok (.ireturn, 1) := by decide +kernel
theorem dX0_finish_53 : decode cX0_finish 53 = .ok (.aload_n 0, 1) := by decide +kernel
theorem dX0_finish_54 : decode cX0_finish 54 = .ok (.getfield 16, 3) := by decide +kernel
theorem dX0_finish_57 : decode cX0_finish 57 = .ok (.iload_n 1, 1) := by decide +kernel
theorem dX0_finish_58 : decode cX0_finish 58 = .ok (.iload_n 2, 1) := by decide +kernel
theorem dX0_finish_59 : decode cX0_finish 59 = .ok (.iastore, 1) := by decide +kernel
theorem dX0_finish_60 : decode cX0_finish 60 = .ok (.iconst 0, 1) := by decide +kernel
theorem dX0_finish_61 : decode cX0_finish 61 = .ok (.ireturn, 1) := by decide +kernel
abbrev cX0_read : ByteArray := prog_1_method_4_code
def yX0_read : MethodName := ⟨RX0, "read", "(I)I"⟩
theorem dX0_read_0 : decode cX0_read 0 = .ok (.iload_n 1, 1) := by decide +kernel
theorem dX0_read_1 : decode cX0_read 1 = .ok (.invokestatic 28, 3) := by decide +kernel
theorem dX0_read_4 : decode cX0_read 4 = .ok (.ifCond .ne 5, 3) := by decide +kernel
theorem dX0_read_7 : decode cX0_read 7 = .ok (.iconst (-1), 1) := by decide +kernel
theorem dX0_read_8 : decode cX0_read 8 = .ok (.ireturn, 1) := by decide +kernel
theorem dX0_read_9 : decode cX0_read 9 = .ok (.aload_n 0, 1) := by decide +kernel
theorem dX0_read_10 : decode cX0_read 10 = .ok (.getfield 13, 3) := by decide +kernel
theorem dX0_read_13 : decode cX0_read 13 = .ok (.iload_n 1, 1) := by decide +kernel
theorem dX0_read_14 : decode cX0_read 14 = .ok (.iaload, 1) := by decide +kernel
theorem dX0_read_15 : decode cX0_read 15 = .ok (.istore_n 2, 1) := by decide +kernel
theorem dX0_read_16 : decode cX0_read 16 = .ok (.aload_n 0, 1) := by decide +kernel
theorem dX0_read_17 : decode cX0_read 17 = .ok (.getfield 16, 3) := by decide +kernel
theorem dX0_read_20 : decode cX0_read 20 = .ok (.iload_n 1, 1) := by decide +kernel
theorem dX0_read_21 : decode cX0_read 21 = .ok (.iaload, 1) := by decide +kernel
theorem dX0_read_22 : decode cX0_read 22 = .ok (.iload_n 2, 1) := by decide +kernel
theorem dX0_read_23 : decode cX0_read 23 = .ok (.if_icmp .ne 6, 3) := by decide +kernel
theorem dX0_read_26 : decode cX0_read 26 = .ok (.bipush (-5), 2) := by decide +kernel
theorem dX0_read_28 : decode cX0_read 28 = .ok (.ireturn, 1) := by decide +kernel
theorem dX0_read_29 : decode cX0_read 29 = .ok (.aload_n 0, 1) := by decide +kernel
theorem dX0_read_30 : decode cX0_read 30 = .ok (.iload_n 1, 1) := by decide +kernel
theorem dX0_read_31 : decode cX0_read 31 = .ok (.iload_n 2, 1) := by decide +kernel
theorem dX0_read_32 : decode cX0_read 32 = .ok (.invokevirtual 36, 3) := by decide +kernel
theorem dX0_read_35 : decode cX0_read 35 = .ok (.ifCond .ne 6, 3) := by decide +kernel
theorem dX0_read_38 : decode cX0_read 38 = .ok (.bipush (-4), 2) := by decide +kernel
theorem dX0_read_40 : decode cX0_read 40 = .ok (.ireturn, 1) := by decide +kernel
theorem dX0_read_41 : decode cX0_read 41 = .ok (.aload_n 0, 1) := by decide +kernel
theorem dX0_read_42 : decode cX0_read 42 = .ok (.getfield 13, 3) := by decide +kernel
theorem dX0_read_45 : decode cX0_read 45 = .ok (.iload_n 1, 1) := by decide +kernel
theorem dX0_read_46 : decode cX0_read 46 = .ok (.iload_n 2, 1) := by decide +kernel
theorem dX0_read_47 : decode cX0_read 47 = .ok (.iconst 1, 1) := by decide +kernel
theorem dX0_read_48 : decode cX0_read 48 = .ok (.iadd, 1) := by decide +kernel
theorem dX0_read_49 : decode cX0_read 49 = .ok (.iastore, 1) := by decide +kernel
theorem dX0_read_50 : decode cX0_read 50 = .ok (.aload_n 0, 1) := by decide +kernel
theorem dX0_read_51 : decode cX0_read 51 = .ok (.getfield 22, 3) := by decide +kernel
theorem dX0_read_54 : decode cX0_read 54 = .ok (.bipush 13, 2) := by decide +kernel
theorem dX0_read_56 : decode cX0_read 56 = .ok (.iload_n 1, 1) := by decide +kernel
theorem dX0_read_57 : decode cX0_read 57 = .ok (.imul, 1) := by decide +kernel
theorem dX0_read_58 : decode cX0_read 58 = .ok (.dup2, 1) := by decide +kernel
theorem dX0_read_59 : decode cX0_read 59 = .ok (.iaload, 1) := by decide +kernel
theorem dX0_read_60 : decode cX0_read 60 = .ok (.iconst 1, 1) := by decide +kernel
theorem dX0_read_61 : decode cX0_read 61 = .ok (.iadd, 1) := by decide +kernel
theorem dX0_read_62 : decode cX0_read 62 = .ok (.iastore, 1) := by decide +kernel
theorem dX0_read_63 : decode cX0_read 63 = .ok (.aload_n 0, 1) := by decide +kernel
theorem dX0_read_64 : decode cX0_read 64 = .ok (.getfield 22, 3) := by decide +kernel
theorem dX0_read_67 : decode cX0_read 67 = .ok (.bipush 13, 2) := by decide +kernel
theorem dX0_read_69 : decode cX0_read 69 = .ok (.iload_n 1, 1) := by decide +kernel
theorem dX0_read_70 : decode cX0_read 70 = .ok (.imul, 1) := by decide +kernel
theorem dX0_read_71 : decode cX0_read 71 = .ok (.iaload, 1) := by decide +kernel
theorem dX0_read_72 : decode cX0_read 72 = .ok (.aload_n 0, 1) := by decide +kernel
theorem dX0_read_73 : decode cX0_read 73 = .ok (.getfield 25, 3) := by decide +kernel
theorem dX0_read_76 : decode cX0_read 76 = .ok (.bipush 13, 2) := by decide +kernel
theorem dX0_read_78 : decode cX0_read 78 = .ok (.iload_n 1, 1) := by decide +kernel
theorem dX0_read_79 : decode cX0_read 79 = .ok (.imul, 1) := by decide +kernel
theorem dX0_read_80 : decode cX0_read 80 = .ok (.iaload, 1) := by decide +kernel
theorem dX0_read_81 : decode cX0_read 81 = .ok (.if_icmp .ne 10, 3) := by decide +kernel
theorem dX0_read_84 : decode cX0_read 84 = .ok (.aload_n 0, 1) := by decide +kernel
theorem dX0_read_85 : decode cX0_read 85 = .ok (.iload_n 1, 1) := by decide +kernel
theorem dX0_read_86 : decode cX0_read 86 = .ok (.iconst 0, 1) := by decide +kernel
theorem dX0_read_87 : decode cX0_read 87 = .ok (.iconst 1, 1) := by decide +kernel
theorem dX0_read_88 : decode cX0_read 88 = .ok (.invokevirtual 47, 3) := by decide +kernel
theorem dX0_read_91 : decode cX0_read 91 = .ok (.aload_n 0, 1) := by decide +kernel
theorem dX0_read_92 : decode cX0_read 92 = .ok (.getfield 7, 3) := by decide +kernel
theorem dX0_read_95 : decode cX0_read 95 = .ok (.bipush 32, 2) := by decide +kernel
theorem dX0_read_97 : decode cX0_read 97 = .ok (.iload_n 1, 1) := by decide +kernel
theorem dX0_read_98 : decode cX0_read 98 = .ok (.imul, 1) := by decide +kernel
theorem dX0_read_99 : decode cX0_read 99 = .ok (.iload_n 2, 1) := by decide +kernel
theorem dX0_read_100 : decode cX0_read 100 = .ok (.bipush 31, 2) := by decide +kernel
theorem dX0_read_102 : decode cX0_read 102 = .ok (.iand, 1) := by decide +kernel
theorem dX0_read_103 : decode cX0_read 103 = .ok (.iadd, 1) := by decide +kernel
theorem dX0_read_104 : decode cX0_read 104 = .ok (.iaload, 1) := by decide +kernel
theorem dX0_read_105 : decode cX0_read 105 = .ok (.ireturn, 1) := by decide +kernel
end
section
set_option maxRecDepth 100000
abbrev cX0_readable : ByteArray := prog_1_method_5_code
def yX0_readable : MethodName := ⟨RX0, "readable", "(I)I"⟩
theorem dX0_readable_0 : decode cX0_readable 0 = .ok (.iload_n 1, 1) := by decide +kernel
theorem dX0_readable_1 : decode cX0_readable 1 = .ok (.invokestatic 28, 3) := by decide +kernel
theorem dX0_readable_4 : decode cX0_readable 4 = .ok (.ifCond .ne 5, 3) := by decide +kernel
theorem dX0_readable_7 : decode cX0_readable 7 = .ok (.iconst (-1), 1) := by decide +kernel
theorem dX0_readable_8 : decode cX0_readable 8 = .ok (.ireturn, 1) := by decide +kernel
theorem dX0_readable_9 : decode cX0_readable 9 = .ok (.aload_n 0, 1) := by decide +kernel
theorem dX0_readable_10 : decode cX0_readable 10 = .ok (.getfield 13, 3) := by decide +kernel
theorem dX0_readable_13 : decode cX0_readable 13 = .ok (.iload_n 1, 1) := by decide +kernel
theorem dX0_readable_14 : decode cX0_readable 14 = .ok (.iaload, 1) := by decide +kernel
theorem dX0_readable_15 : decode cX0_readable 15 = .ok (.istore_n 2, 1) := by decide +kernel
theorem dX0_readable_16 : decode cX0_readable 16 = .ok (.aload_n 0, 1) := by decide +kernel
theorem dX0_readable_17 : decode cX0_readable 17 = .ok (.iload_n 1, 1) := by decide +kernel
theorem dX0_readable_18 : decode cX0_readable 18 = .ok (.iload_n 2, 1) := by decide +kernel
theorem dX0_readable_19 : decode cX0_readable 19 = .ok (.invokevirtual 36, 3) := by decide +kernel
theorem dX0_readable_22 : decode cX0_readable 22 = .ok (.ifCond .eq 17, 3) := by decide +kernel
theorem dX0_readable_25 : decode cX0_readable 25 = .ok (.aload_n 0, 1) := by decide +kernel
theorem dX0_readable_26 : decode cX0_readable 26 = .ok (.getfield 25, 3) := by decide +kernel
theorem dX0_readable_29 : decode cX0_readable 29 = .ok (.bipush 13, 2) := by decide +kernel
theorem dX0_readable_31 : decode cX0_readable 31 = .ok (.iload_n 1, 1) := by decide +kernel
theorem dX0_readable_32 : decode cX0_readable 32 = .ok (.imul, 1) := by decide +kernel
theorem dX0_readable_33 : decode cX0_readable 33 = .ok (.iaload, 1) := by decide +kernel
theorem dX0_readable_34 : decode cX0_readable 34 = .ok (.iload_n 2, 1) := by decide +kernel
theorem dX0_readable_35 : decode cX0_readable 35 = .ok (.isub, 1) := by decide +kernel
theorem dX0_readable_36 : decode cX0_readable 36 = .ok (.goto 4, 3) := by decide +kernel
theorem dX0_readable_39 : decode cX0_readable 39 = .ok (.iconst 0, 1) := by decide +kernel
theorem dX0_readable_40 : decode cX0_readable 40 = .ok (.ireturn, 1) := by decide +kernel
abbrev cX0_gaps : ByteArray := prog_1_method_7_code
def yX0_gaps : MethodName := ⟨RX0, "gaps", "(I)I"⟩
theorem dX0_gaps_0 : decode cX0_gaps 0 = .ok (.iload_n 1, 1) := by decide +kernel
theorem dX0_gaps_1 : decode cX0_gaps 1 = .ok (.invokestatic 28, 3) := by decide +kernel
theorem dX0_gaps_4 : decode cX0_gaps 4 = .ok (.ifCond .ne 5, 3) := by decide +kernel
theorem dX0_gaps_7 : decode cX0_gaps 7 = .ok (.iconst (-1), 1) := by decide +kernel
theorem dX0_gaps_8 : decode cX0_gaps 8 = .ok (.ireturn, 1) := by decide +kernel
theorem dX0_gaps_9 : decode cX0_gaps 9 = .ok (.aload_n 0, 1) := by decide +kernel
theorem dX0_gaps_10 : decode cX0_gaps 10 = .ok (.getfield 19, 3) := by decide +kernel
theorem dX0_gaps_13 : decode cX0_gaps 13 = .ok (.iload_n 1, 1) := by decide +kernel
theorem dX0_gaps_14 : decode cX0_gaps 14 = .ok (.iaload, 1) := by decide +kernel
theorem dX0_gaps_15 : decode cX0_gaps 15 = .ok (.aload_n 0, 1) := by decide +kernel
theorem dX0_gaps_16 : decode cX0_gaps 16 = .ok (.iload_n 1, 1) := by decide +kernel
theorem dX0_gaps_17 : decode cX0_gaps 17 = .ok (.aload_n 0, 1) := by decide +kernel
theorem dX0_gaps_18 : decode cX0_gaps 18 = .ok (.getfield 13, 3) := by decide +kernel
theorem dX0_gaps_21 : decode cX0_gaps 21 = .ok (.iload_n 1, 1) := by decide +kernel
theorem dX0_gaps_22 : decode cX0_gaps 22 = .ok (.iaload, 1) := by decide +kernel
theorem dX0_gaps_23 : decode cX0_gaps 23 = .ok (.invokevirtual 36, 3) := by decide +kernel
theorem dX0_gaps_26 : decode cX0_gaps 26 = .ok (.ifCond .eq 7, 3) := by decide +kernel
theorem dX0_gaps_29 : decode cX0_gaps 29 = .ok (.iconst 1, 1) := by decide +kernel
theorem dX0_gaps_30 : decode cX0_gaps 30 = .ok (.goto 4, 3) := by decide +kernel
theorem dX0_gaps_33 : decode cX0_gaps 33 = .ok (.iconst 0, 1) := by decide +kernel
theorem dX0_gaps_34 : decode cX0_gaps 34 = .ok (.isub, 1) := by decide +kernel
theorem dX0_gaps_35 : decode cX0_gaps 35 = .ok (.istore_n 2, 1) := by decide +kernel
theorem dX0_gaps_36 : decode cX0_gaps 36 = .ok (.iload_n 2, 1) := by decide +kernel
theorem dX0_gaps_37 : decode cX0_gaps 37 = .ok (.aload_n 0, 1) := by decide +kernel
theorem dX0_gaps_38 : decode cX0_gaps 38 = .ok (.iload_n 1, 1) := by decide +kernel
theorem dX0_gaps_39 : decode cX0_gaps 39 = .ok (.invokevirtual 50, 3) := by decide +kernel
theorem dX0_gaps_42 : decode cX0_gaps 42 = .ok (.aload_n 0, 1) := by decide +kernel
theorem dX0_gaps_43 : decode cX0_gaps 43 = .ok (.iload_n 1, 1) := by decide +kernel
theorem dX0_gaps_44 : decode cX0_gaps 44 = .ok (.invokevirtual 43, 3) := by decide +kernel
theorem dX0_gaps_47 : decode cX0_gaps 47 = .ok (.if_icmp .ge 7, 3) := by decide +kernel
theorem dX0_gaps_50 : decode cX0_gaps 50 = .ok (.iconst 1, 1) := by decide +kernel
theorem dX0_gaps_51 : decode cX0_gaps 51 = .ok (.goto 4, 3) := by decide +kernel
theorem dX0_gaps_54 : decode cX0_gaps 54 = .ok (.iconst 0, 1) := by decide +kernel
theorem dX0_gaps_55 : decode cX0_gaps 55 = .ok (.iadd, 1) := by decide +kernel
theorem dX0_gaps_56 : decode cX0_gaps 56 = .ok (.ireturn, 1) := by decide +kernel
abbrev cX0_lastKnown : ByteArray := prog_1_method_16_code
def yX0_lastKnown : MethodName := ⟨RX0, "lastKnown", "(I)I"⟩
theorem dX0_lastKnown_0 : decode cX0_lastKnown 0 = .ok (.aload_n 0, 1) := by decide +kernel
theorem dX0_lastKnown_1 : decode cX0_lastKnown 1 = .ok (.getfield 19, 3) := by decide +kernel
theorem dX0_lastKnown_4 : decode cX0_lastKnown 4 = .ok (.iload_n 1, 1) := by decide +kernel
theorem dX0_lastKnown_5 : decode cX0_lastKnown 5 = .ok (.iaload, 1) := by decide +kernel
theorem dX0_lastKnown_6 : decode cX0_lastKnown 6 = .ok (.istore_n 2, 1) := by decide +kernel
theorem dX0_lastKnown_7 : decode cX0_lastKnown 7 = .ok (.iload_n 2, 1) := by decide +kernel
theorem dX0_lastKnown_8 : decode cX0_lastKnown 8 = .ok (.ifCond .le 19, 3) := by decide +kernel
theorem dX0_lastKnown_11 : decode cX0_lastKnown 11 = .ok (.aload_n 0, 1) := by decide +kernel
theorem dX0_lastKnown_12 : decode cX0_lastKnown 12 = .ok (.getfield 25, 3) := by decide +kernel
theorem dX0_lastKnown_15 : decode cX0_lastKnown 15 = .ok (.bipush 13, 2) := by decide +kernel
theorem dX0_lastKnown_17 : decode cX0_lastKnown 17 = .ok (.iload_n 1, 1) := by decide +kernel
theorem dX0_lastKnown_18 : decode cX0_lastKnown 18 = .ok (.imul, 1) := by decide +kernel
theorem dX0_lastKnown_19 : decode cX0_lastKnown 19 = .ok (.iload_n 2, 1) := by decide +kernel
theorem dX0_lastKnown_20 : decode cX0_lastKnown 20 = .ok (.iadd, 1) := by decide +kernel
theorem dX0_lastKnown_21 : decode cX0_lastKnown 21 = .ok (.iconst 1, 1) := by decide +kernel
theorem dX0_lastKnown_22 : decode cX0_lastKnown 22 = .ok (.isub, 1) := by decide +kernel
theorem dX0_lastKnown_23 : decode cX0_lastKnown 23 = .ok (.iaload, 1) := by decide +kernel
theorem dX0_lastKnown_24 : decode cX0_lastKnown 24 = .ok (.goto 9, 3) := by decide +kernel
theorem dX0_lastKnown_27 : decode cX0_lastKnown 27 = .ok (.aload_n 0, 1) := by decide +kernel
theorem dX0_lastKnown_28 : decode cX0_lastKnown 28 = .ok (.getfield 13, 3) := by decide +kernel
theorem dX0_lastKnown_31 : decode cX0_lastKnown 31 = .ok (.iload_n 1, 1) := by decide +kernel
theorem dX0_lastKnown_32 : decode cX0_lastKnown 32 = .ok (.iaload, 1) := by decide +kernel
theorem dX0_lastKnown_33 : decode cX0_lastKnown 33 = .ok (.ireturn, 1) := by decide +kernel
abbrev cX0_gap : ByteArray := prog_1_method_8_code
def yX0_gap : MethodName := ⟨RX0, "gap", "(II)I"⟩
theorem dX0_gap_0 : decode cX0_gap 0 = .ok (.iload_n 1, 1) := by decide +kernel
theorem dX0_gap_1 : decode cX0_gap 1 = .ok (.invokestatic 28, 3) := by decide +kernel
theorem dX0_gap_4 : decode cX0_gap 4 = .ok (.ifCond .ne 5, 3) := by decide +kernel
theorem dX0_gap_7 : decode cX0_gap 7 = .ok (.iconst (-1), 1) := by decide +kernel
theorem dX0_gap_8 : decode cX0_gap 8 = .ok (.ireturn, 1) := by decide +kernel
theorem dX0_gap_9 : decode cX0_gap 9 = .ok (.iload_n 2, 1) := by decide +kernel
theorem dX0_gap_10 : decode cX0_gap 10 = .ok (.ifCond .lt 12, 3) := by decide +kernel
theorem dX0_gap_13 : decode cX0_gap 13 = .ok (.iload_n 2, 1) := by decide +kernel
theorem dX0_gap_14 : decode cX0_gap 14 = .ok (.aload_n 0, 1) := by decide +kernel
theorem dX0_gap_15 : decode cX0_gap 15 = .ok (.iload_n 1, 1) := by decide +kernel
theorem dX0_gap_16 : decode cX0_gap 16 = .ok (.invokevirtual 53, 3) := by decide +kernel
theorem dX0_gap_19 : decode cX0_gap 19 = .ok (.if_icmp .lt 6, 3) := by decide +kernel
theorem dX0_gap_22 : decode cX0_gap 22 = .ok (.bipush (-4), 2) := by decide +kernel
theorem dX0_gap_24 : decode cX0_gap 24 = .ok (.ireturn, 1) := by decide +kernel
theorem dX0_gap_25 : decode cX0_gap 25 = .ok (.iload_n 2, 1) := by decide +kernel
theorem dX0_gap_26 : decode cX0_gap 26 = .ok (.aload_n 0, 1) := by decide +kernel
theorem dX0_gap_27 : decode cX0_gap 27 = .ok (.iload_n 1, 1) := by decide +kernel
theorem dX0_gap_28 : decode cX0_gap 28 = .ok (.aload_n 0, 1) := by decide +kernel
theorem dX0_gap_29 : decode cX0_gap 29 = .ok (.getfield 13, 3) := by decide +kernel
theorem dX0_gap_32 : decode cX0_gap 32 = .ok (.iload_n 1, 1) := by decide +kernel
theorem dX0_gap_33 : decode cX0_gap 33 = .ok (.iaload, 1) := by decide +kernel
theorem dX0_gap_34 : decode cX0_gap 34 = .ok (.invokevirtual 36, 3) := by decide +kernel
theorem dX0_gap_37 : decode cX0_gap 37 = .ok (.ifCond .eq 7, 3) := by decide +kernel
theorem dX0_gap_40 : decode cX0_gap 40 = .ok (.iconst 1, 1) := by decide +kernel
theorem dX0_gap_41 : decode cX0_gap 41 = .ok (.goto 4, 3) := by decide +kernel
theorem dX0_gap_44 : decode cX0_gap 44 = .ok (.iconst 0, 1) := by decide +kernel
theorem dX0_gap_45 : decode cX0_gap 45 = .ok (.iadd, 1) := by decide +kernel
theorem dX0_gap_46 : decode cX0_gap 46 = .ok (.istore_n 3, 1) := by decide +kernel
theorem dX0_gap_47 : decode cX0_gap 47 = .ok (.iload_n 3, 1) := by decide +kernel
theorem dX0_gap_48 : decode cX0_gap 48 = .ok (.ifCond .ne 12, 3) := by decide +kernel
theorem dX0_gap_51 : decode cX0_gap 51 = .ok (.aload_n 0, 1) := by decide +kernel
theorem dX0_gap_52 : decode cX0_gap 52 = .ok (.getfield 13, 3) := by decide +kernel
theorem dX0_gap_55 : decode cX0_gap 55 = .ok (.iload_n 1, 1) := by decide +kernel
theorem dX0_gap_56 : decode cX0_gap 56 = .ok (.iaload, 1) := by decide +kernel
theorem dX0_gap_57 : decode cX0_gap 57 = .ok (.goto 16, 3) := by decide +kernel
theorem dX0_gap_60 : decode cX0_gap 60 = .ok (.aload_n 0, 1) := by decide +kernel
theorem dX0_gap_61 : decode cX0_gap 61 = .ok (.getfield 25, 3) := by decide +kernel
theorem dX0_gap_64 : decode cX0_gap 64 = .ok (.bipush 13, 2) := by decide +kernel
theorem dX0_gap_66 : decode cX0_gap 66 = .ok (.iload_n 1, 1) := by decide +kernel
theorem dX0_gap_67 : decode cX0_gap 67 = .ok (.imul, 1) := by decide +kernel
theorem dX0_gap_68 : decode cX0_gap 68 = .ok (.iload_n 3, 1) := by decide +kernel
theorem dX0_gap_69 : decode cX0_gap 69 = .ok (.iadd, 1) := by decide +kernel
theorem dX0_gap_70 : decode cX0_gap 70 = .ok (.iconst 1, 1) := by decide +kernel
theorem dX0_gap_71 : decode cX0_gap 71 = .ok (.isub, 1) := by decide +kernel
theorem dX0_gap_72 : decode cX0_gap 72 = .ok (.iaload, 1) := by decide +kernel
theorem dX0_gap_73 : decode cX0_gap 73 = .ok (.ireturn, 1) := by decide +kernel
abbrev cX0_allowed : ByteArray := prog_1_method_9_code
def yX0_allowed : MethodName := ⟨RX0, "allowed", "(I)I"⟩
theorem dX0_allowed_0 : decode cX0_allowed 0 = .ok (.iload_n 1, 1) := by decide +kernel
theorem dX0_allowed_1 : decode cX0_allowed 1 = .ok (.invokestatic 28, 3) := by decide +kernel
theorem dX0_allowed_4 : decode cX0_allowed 4 = .ok (.ifCond .ne 5, 3) := by decide +kernel
theorem dX0_allowed_7 : decode cX0_allowed 7 = .ok (.iconst (-1), 1) := by decide +kernel
theorem dX0_allowed_8 : decode cX0_allowed 8 = .ok (.ireturn, 1) := by decide +kernel
theorem dX0_allowed_9 : decode cX0_allowed 9 = .ok (.aload_n 0, 1) := by decide +kernel
theorem dX0_allowed_10 : decode cX0_allowed 10 = .ok (.getfield 16, 3) := by decide +kernel
theorem dX0_allowed_13 : decode cX0_allowed 13 = .ok (.iload_n 1, 1) := by decide +kernel
theorem dX0_allowed_14 : decode cX0_allowed 14 = .ok (.iaload, 1) := by decide +kernel
theorem dX0_allowed_15 : decode cX0_allowed 15 = .ok (.ifCond .lt 10, 3) := by decide +kernel
theorem dX0_allowed_18 : decode cX0_allowed 18 = .ok (.aload_n 0, 1) := by decide +kernel
theorem dX0_allowed_19 : decode cX0_allowed 19 = .ok (.getfield 16, 3) := by decide +kernel
theorem dX0_allowed_22 : decode cX0_allowed 22 = .ok (.iload_n 1, 1) := by decide +kernel
theorem dX0_allowed_23 : decode cX0_allowed 23 = .ok (.iaload, 1) := by decide +kernel
theorem dX0_allowed_24 : decode cX0_allowed 24 = .ok (.ireturn, 1) := by decide +kernel
theorem dX0_allowed_25 : decode cX0_allowed 25 = .ok (.aload_n 0, 1) := by decide +kernel
theorem dX0_allowed_26 : decode cX0_allowed 26 = .ok (.iload_n 1, 1) := by decide +kernel
theorem dX0_allowed_27 : decode cX0_allowed 27 = .ok (.invokevirtual 56, 3) := by decide +kernel
theorem dX0_allowed_30 : decode cX0_allowed 30 = .ok (.istore_n 2, 1) := by decide +kernel
theorem dX0_allowed_31 : decode cX0_allowed 31 = .ok (.aload_n 0, 1) := by decide +kernel
theorem dX0_allowed_32 : decode cX0_allowed 32 = .ok (.iload_n 1, 1) := by decide +kernel
theorem dX0_allowed_33 : decode cX0_allowed 33 = .ok (.invokevirtual 43, 3) := by decide +kernel
theorem dX0_allowed_36 : decode cX0_allowed 36 = .ok (.aload_n 0, 1) := by decide +kernel
theorem dX0_allowed_37 : decode cX0_allowed 37 = .ok (.invokevirtual 59, 3) := by decide +kernel
theorem dX0_allowed_40 : decode cX0_allowed 40 = .ok (.iadd, 1) := by decide +kernel
theorem dX0_allowed_41 : decode cX0_allowed 41 = .ok (.istore_n 3, 1) := by decide +kernel
theorem dX0_allowed_42 : decode cX0_allowed 42 = .ok (.iload_n 2, 1) := by decide +kernel
theorem dX0_allowed_43 : decode cX0_allowed 43 = .ok (.iload_n 3, 1) := by decide +kernel
theorem dX0_allowed_44 : decode cX0_allowed 44 = .ok (.if_icmp .ge 7, 3) := by decide +kernel
theorem dX0_allowed_47 : decode cX0_allowed 47 = .ok (.iload_n 2, 1) := by decide +kernel
theorem dX0_allowed_48 : decode cX0_allowed 48 = .ok (.goto 4, 3) := by decide +kernel
theorem dX0_allowed_51 : decode cX0_allowed 51 = .ok (.iload_n 3, 1) := by decide +kernel
theorem dX0_allowed_52 : decode cX0_allowed 52 = .ok (.ireturn, 1) := by decide +kernel
abbrev cX0_complete : ByteArray := prog_1_method_10_code
def yX0_complete : MethodName := ⟨RX0, "complete", "(I)I"⟩
theorem dX0_complete_0 : decode cX0_complete 0 = .ok (.iload_n 1, 1) := by decide +kernel
theorem dX0_complete_1 : decode cX0_complete 1 = .ok (.invokestatic 28, 3) := by decide +kernel
theorem dX0_complete_4 : decode cX0_complete 4 = .ok (.ifCond .ne 5, 3) := by decide +kernel
theorem dX0_complete_7 : decode cX0_complete 7 = .ok (.iconst (-1), 1) := by decide +kernel
theorem dX0_complete_8 : decode cX0_complete 8 = .ok (.ireturn, 1) := by decide +kernel
theorem dX0_complete_9 : decode cX0_complete 9 = .ok (.aload_n 0, 1) := by decide +kernel
theorem dX0_complete_10 : decode cX0_complete 10 = .ok (.getfield 16, 3) := by decide +kernel
theorem dX0_complete_13 : decode cX0_complete 13 = .ok (.iload_n 1, 1) := by decide +kernel
theorem dX0_complete_14 : decode cX0_complete 14 = .ok (.iaload, 1) := by decide +kernel
theorem dX0_complete_15 : decode cX0_complete 15 = .ok (.aload_n 0, 1) := by decide +kernel
theorem dX0_complete_16 : decode cX0_complete 16 = .ok (.getfield 13, 3) := by decide +kernel
theorem dX0_complete_19 : decode cX0_complete 19 = .ok (.iload_n 1, 1) := by decide +kernel
theorem dX0_complete_20 : decode cX0_complete 20 = .ok (.iaload, 1) := by decide +kernel
theorem dX0_complete_21 : decode cX0_complete 21 = .ok (.if_icmp .ne 7, 3) := by decide +kernel
theorem dX0_complete_24 : decode cX0_complete 24 = .ok (.iconst 1, 1) := by decide +kernel
theorem dX0_complete_25 : decode cX0_complete 25 = .ok (.goto 4, 3) := by decide +kernel
theorem dX0_complete_28 : decode cX0_complete 28 = .ok (.iconst 0, 1) := by decide +kernel
theorem dX0_complete_29 : decode cX0_complete 29 = .ok (.ireturn, 1) := by decide +kernel
theorem q14 : (Jvm.Cond.initialized "StreamAssembler") ∈ lw_all := lw_g (lw_at lw_m0 1 rfl) rfl
theorem q17 : (Jvm.Cond.instantiable "StreamAssembler" (6 : Nat)) ∈ lw_all := lw_g (lw_at lw_m0 4 rfl) rfl
theorem q19 : (Jvm.Cond.instanceMethod ({ cls := "StreamAssembler", name := "<init>", desc := "()V" } : Jvm.MethodName)) ∈ lw_all := lw_g (lw_at lw_m0 6 rfl) rfl
theorem q20 : (Jvm.Cond.code ({ cls := "StreamAssembler", name := "<init>", desc := "()V" } : Jvm.MethodName) prog_1_method_1_code (2 : Nat) (Option.none : Option Jvm.ClassFile.FieldType)) ∈ lw_all := lw_g (lw_at lw_m0 7 rfl) rfl
theorem q21 : (Jvm.Cond.methodLink "StreamAssembler" (1 : Nat) ({ cls := "java/lang/Object", name := "<init>", desc := "()V" } : Jvm.MethodName)) ∈ lw_all := lw_g (lw_at lw_m0 8 rfl) rfl
theorem q24 : (Jvm.Cond.fieldLink "StreamAssembler" (7 : Nat) "StreamAssembler" "ring" "[I") ∈ lw_all := lw_g (lw_at lw_m0 11 rfl) rfl
theorem q25 : (Jvm.Cond.fieldLink "StreamAssembler" (13 : Nat) "StreamAssembler" "readPoint" "[I") ∈ lw_all := lw_g (lw_at lw_m0 12 rfl) rfl
theorem q26 : (Jvm.Cond.fieldLink "StreamAssembler" (16 : Nat) "StreamAssembler" "end" "[I") ∈ lw_all := lw_g (lw_at lw_m0 13 rfl) rfl
theorem q27 : (Jvm.Cond.fieldLink "StreamAssembler" (19 : Nat) "StreamAssembler" "ranges" "[I") ∈ lw_all := lw_g (lw_at lw_m0 14 rfl) rfl
theorem q28 : (Jvm.Cond.fieldLink "StreamAssembler" (22 : Nat) "StreamAssembler" "low" "[I") ∈ lw_all := lw_g (lw_at lw_m0 15 rfl) rfl
theorem q29 : (Jvm.Cond.fieldLink "StreamAssembler" (25 : Nat) "StreamAssembler" "high" "[I") ∈ lw_all := lw_g (lw_at lw_m0 16 rfl) rfl
theorem q30 : (Jvm.Cond.laysFinal "StreamAssembler" "StreamAssembler" "ring" "[I") ∈ lw_all := lw_g (lw_at lw_m0 17 rfl) rfl
theorem q31 : (Jvm.Cond.soleField "StreamAssembler" "ring") ∈ lw_all := lw_g (lw_at lw_m0 18 rfl) rfl
theorem q32 : (Jvm.Cond.laysFinal "StreamAssembler" "StreamAssembler" "readPoint" "[I") ∈ lw_all := lw_g (lw_at lw_m0 19 rfl) rfl
theorem q33 : (Jvm.Cond.soleField "StreamAssembler" "readPoint") ∈ lw_all := lw_g (lw_at lw_m0 20 rfl) rfl
theorem q34 : (Jvm.Cond.laysFinal "StreamAssembler" "StreamAssembler" "end" "[I") ∈ lw_all := lw_g (lw_at lw_m0 21 rfl) rfl
theorem q35 : (Jvm.Cond.soleField "StreamAssembler" "end") ∈ lw_all := lw_g (lw_at lw_m0 22 rfl) rfl
theorem q36 : (Jvm.Cond.laysFinal "StreamAssembler" "StreamAssembler" "ranges" "[I") ∈ lw_all := lw_g (lw_at lw_m0 23 rfl) rfl
theorem q37 : (Jvm.Cond.soleField "StreamAssembler" "ranges") ∈ lw_all := lw_g (lw_at lw_m0 24 rfl) rfl
theorem q38 : (Jvm.Cond.laysFinal "StreamAssembler" "StreamAssembler" "low" "[I") ∈ lw_all := lw_g (lw_at lw_m0 25 rfl) rfl
theorem q39 : (Jvm.Cond.soleField "StreamAssembler" "low") ∈ lw_all := lw_g (lw_at lw_m0 26 rfl) rfl
theorem q40 : (Jvm.Cond.laysFinal "StreamAssembler" "StreamAssembler" "high" "[I") ∈ lw_all := lw_g (lw_at lw_m0 27 rfl) rfl
theorem q41 : (Jvm.Cond.soleField "StreamAssembler" "high") ∈ lw_all := lw_g (lw_at lw_m0 28 rfl) rfl
theorem q42 : (Jvm.Cond.superclass "StreamAssembler" "java/lang/Object") ∈ lw_all := lw_g (lw_at lw_m0 29 rfl) rfl
theorem q45 : (Jvm.Cond.instanceMethod ({ cls := "StreamAssembler", name := "piece", desc := "(IIII)I" } : Jvm.MethodName)) ∈ lw_all := lw_g (lw_at lw_m0 32 rfl) rfl
theorem q46 : (Jvm.Cond.selects "StreamAssembler" ({ cls := "StreamAssembler", name := "piece", desc := "(IIII)I" } : Jvm.MethodName) ({ cls := "StreamAssembler", name := "piece", desc := "(IIII)I" } : Jvm.MethodName)) ∈ lw_all := lw_g (lw_at lw_m0 33 rfl) rfl
theorem q47 : (Jvm.Cond.code ({ cls := "StreamAssembler", name := "piece", desc := "(IIII)I" } : Jvm.MethodName) prog_1_method_2_code (9 : Nat) (Option.some Jvm.ClassFile.FieldType.int)) ∈ lw_all := lw_g (lw_at lw_m0 34 rfl) rfl
theorem q48 : (Jvm.Cond.methodLink "StreamAssembler" (28 : Nat) ({ cls := "StreamAssembler", name := "isStream", desc := "(I)Z" } : Jvm.MethodName)) ∈ lw_all := lw_g (lw_at lw_m0 35 rfl) rfl
theorem q49 : (Jvm.Cond.static ({ cls := "StreamAssembler", name := "isStream", desc := "(I)Z" } : Jvm.MethodName)) ∈ lw_all := lw_g (lw_at lw_m0 36 rfl) rfl
theorem q50 : (Jvm.Cond.code ({ cls := "StreamAssembler", name := "isStream", desc := "(I)Z" } : Jvm.MethodName) prog_1_method_11_code (1 : Nat) (Option.some Jvm.ClassFile.FieldType.boolean)) ∈ lw_all := lw_g (lw_at lw_m0 37 rfl) rfl
theorem q51 : (Jvm.Cond.methodLink "StreamAssembler" (32 : Nat) ({ cls := "StreamAssembler", name := "mayReach", desc := "(II)Z" } : Jvm.MethodName)) ∈ lw_all := lw_g (lw_at lw_m0 38 rfl) rfl
theorem q52 : (Jvm.Cond.privateMethod ({ cls := "StreamAssembler", name := "mayReach", desc := "(II)Z" } : Jvm.MethodName)) ∈ lw_tbl := lw_at lw_m0 39 rfl
theorem q53 : (Jvm.Cond.instanceMethod ({ cls := "StreamAssembler", name := "mayReach", desc := "(II)Z" } : Jvm.MethodName)) ∈ lw_all := lw_g (lw_at lw_m0 40 rfl) rfl
theorem q54 : (Jvm.Cond.code ({ cls := "StreamAssembler", name := "mayReach", desc := "(II)Z" } : Jvm.MethodName) prog_1_method_14_code (4 : Nat) (Option.some Jvm.ClassFile.FieldType.boolean)) ∈ lw_all := lw_g (lw_at lw_m0 41 rfl) rfl
theorem q55 : (Jvm.Cond.methodLink "StreamAssembler" (56 : Nat) ({ cls := "StreamAssembler", name := "limitOf", desc := "(I)I" } : Jvm.MethodName)) ∈ lw_all := lw_g (lw_at lw_m0 42 rfl) rfl
theorem q56 : (Jvm.Cond.privateMethod ({ cls := "StreamAssembler", name := "limitOf", desc := "(I)I" } : Jvm.MethodName)) ∈ lw_tbl := lw_at lw_m0 43 rfl
theorem q57 : (Jvm.Cond.instanceMethod ({ cls := "StreamAssembler", name := "limitOf", desc := "(I)I" } : Jvm.MethodName)) ∈ lw_all := lw_g (lw_at lw_m0 44 rfl) rfl
theorem q58 : (Jvm.Cond.code ({ cls := "StreamAssembler", name := "limitOf", desc := "(I)I" } : Jvm.MethodName) prog_1_method_12_code (3 : Nat) (Option.some Jvm.ClassFile.FieldType.int)) ∈ lw_all := lw_g (lw_at lw_m0 45 rfl) rfl
theorem q59 : (Jvm.Cond.methodLink "StreamAssembler" (43 : Nat) ({ cls := "StreamAssembler", name := "highest", desc := "(I)I" } : Jvm.MethodName)) ∈ lw_all := lw_g (lw_at lw_m0 46 rfl) rfl
theorem q60 : (Jvm.Cond.instanceMethod ({ cls := "StreamAssembler", name := "highest", desc := "(I)I" } : Jvm.MethodName)) ∈ lw_all := lw_g (lw_at lw_m0 47 rfl) rfl
theorem q61 : (Jvm.Cond.selects "StreamAssembler" ({ cls := "StreamAssembler", name := "highest", desc := "(I)I" } : Jvm.MethodName) ({ cls := "StreamAssembler", name := "highest", desc := "(I)I" } : Jvm.MethodName)) ∈ lw_all := lw_g (lw_at lw_m0 48 rfl) rfl
theorem q62 : (Jvm.Cond.code ({ cls := "StreamAssembler", name := "highest", desc := "(I)I" } : Jvm.MethodName) prog_1_method_6_code (3 : Nat) (Option.some Jvm.ClassFile.FieldType.int)) ∈ lw_all := lw_g (lw_at lw_m0 49 rfl) rfl
theorem q63 : (Jvm.Cond.methodLink "StreamAssembler" (59 : Nat) ({ cls := "StreamAssembler", name := "credit", desc := "()I" } : Jvm.MethodName)) ∈ lw_all := lw_g (lw_at lw_m0 50 rfl) rfl
theorem q64 : (Jvm.Cond.privateMethod ({ cls := "StreamAssembler", name := "credit", desc := "()I" } : Jvm.MethodName)) ∈ lw_tbl := lw_at lw_m0 51 rfl
theorem q65 : (Jvm.Cond.instanceMethod ({ cls := "StreamAssembler", name := "credit", desc := "()I" } : Jvm.MethodName)) ∈ lw_all := lw_g (lw_at lw_m0 52 rfl) rfl
theorem q66 : (Jvm.Cond.code ({ cls := "StreamAssembler", name := "credit", desc := "()I" } : Jvm.MethodName) prog_1_method_13_code (4 : Nat) (Option.some Jvm.ClassFile.FieldType.int)) ∈ lw_all := lw_g (lw_at lw_m0 53 rfl) rfl
theorem q67 : (Jvm.Cond.methodLink "StreamAssembler" (36 : Nat) ({ cls := "StreamAssembler", name := "isKnown", desc := "(II)Z" } : Jvm.MethodName)) ∈ lw_all := lw_g (lw_at lw_m0 54 rfl) rfl
theorem q68 : (Jvm.Cond.privateMethod ({ cls := "StreamAssembler", name := "isKnown", desc := "(II)Z" } : Jvm.MethodName)) ∈ lw_tbl := lw_at lw_m0 55 rfl
theorem q69 : (Jvm.Cond.instanceMethod ({ cls := "StreamAssembler", name := "isKnown", desc := "(II)Z" } : Jvm.MethodName)) ∈ lw_all := lw_g (lw_at lw_m0 56 rfl) rfl
theorem q70 : (Jvm.Cond.code ({ cls := "StreamAssembler", name := "isKnown", desc := "(II)Z" } : Jvm.MethodName) prog_1_method_15_code (4 : Nat) (Option.some Jvm.ClassFile.FieldType.boolean)) ∈ lw_all := lw_g (lw_at lw_m0 57 rfl) rfl
theorem q71 : (Jvm.Cond.methodLink "StreamAssembler" (39 : Nat) ({ cls := "StreamAssembler", name := "addRange", desc := "(III)V" } : Jvm.MethodName)) ∈ lw_all := lw_g (lw_at lw_m0 58 rfl) rfl
theorem q72 : (Jvm.Cond.privateMethod ({ cls := "StreamAssembler", name := "addRange", desc := "(III)V" } : Jvm.MethodName)) ∈ lw_tbl := lw_at lw_m0 59 rfl
theorem q73 : (Jvm.Cond.instanceMethod ({ cls := "StreamAssembler", name := "addRange", desc := "(III)V" } : Jvm.MethodName)) ∈ lw_all := lw_g (lw_at lw_m0 60 rfl) rfl
theorem q74 : (Jvm.Cond.code ({ cls := "StreamAssembler", name := "addRange", desc := "(III)V" } : Jvm.MethodName) prog_1_method_17_code (11 : Nat) (Option.none : Option Jvm.ClassFile.FieldType)) ∈ lw_all := lw_g (lw_at lw_m0 61 rfl) rfl
theorem q75 : (Jvm.Cond.methodLink "StreamAssembler" (63 : Nat) ({ cls := "StreamAssembler", name := "openRange", desc := "(II)V" } : Jvm.MethodName)) ∈ lw_all := lw_g (lw_at lw_m0 62 rfl) rfl
theorem q76 : (Jvm.Cond.privateMethod ({ cls := "StreamAssembler", name := "openRange", desc := "(II)V" } : Jvm.MethodName)) ∈ lw_tbl := lw_at lw_m0 63 rfl
theorem q77 : (Jvm.Cond.instanceMethod ({ cls := "StreamAssembler", name := "openRange", desc := "(II)V" } : Jvm.MethodName)) ∈ lw_all := lw_g (lw_at lw_m0 64 rfl) rfl
theorem q78 : (Jvm.Cond.code ({ cls := "StreamAssembler", name := "openRange", desc := "(II)V" } : Jvm.MethodName) prog_1_method_18_code (5 : Nat) (Option.none : Option Jvm.ClassFile.FieldType)) ∈ lw_all := lw_g (lw_at lw_m0 65 rfl) rfl
theorem q79 : (Jvm.Cond.methodLink "StreamAssembler" (47 : Nat) ({ cls := "StreamAssembler", name := "dropRanges", desc := "(III)V" } : Jvm.MethodName)) ∈ lw_all := lw_g (lw_at lw_m0 66 rfl) rfl
theorem q80 : (Jvm.Cond.privateMethod ({ cls := "StreamAssembler", name := "dropRanges", desc := "(III)V" } : Jvm.MethodName)) ∈ lw_tbl := lw_at lw_m0 67 rfl
theorem q81 : (Jvm.Cond.instanceMethod ({ cls := "StreamAssembler", name := "dropRanges", desc := "(III)V" } : Jvm.MethodName)) ∈ lw_all := lw_g (lw_at lw_m0 68 rfl) rfl
theorem q82 : (Jvm.Cond.code ({ cls := "StreamAssembler", name := "dropRanges", desc := "(III)V" } : Jvm.MethodName) prog_1_method_19_code (7 : Nat) (Option.none : Option Jvm.ClassFile.FieldType)) ∈ lw_all := lw_g (lw_at lw_m0 69 rfl) rfl
theorem q84 : (Jvm.Cond.instanceMethod ({ cls := "StreamAssembler", name := "finish", desc := "(II)I" } : Jvm.MethodName)) ∈ lw_all := lw_g (lw_at lw_m0 71 rfl) rfl
theorem q85 : (Jvm.Cond.selects "StreamAssembler" ({ cls := "StreamAssembler", name := "finish", desc := "(II)I" } : Jvm.MethodName) ({ cls := "StreamAssembler", name := "finish", desc := "(II)I" } : Jvm.MethodName)) ∈ lw_all := lw_g (lw_at lw_m0 72 rfl) rfl
theorem q86 : (Jvm.Cond.code ({ cls := "StreamAssembler", name := "finish", desc := "(II)I" } : Jvm.MethodName) prog_1_method_3_code (4 : Nat) (Option.some Jvm.ClassFile.FieldType.int)) ∈ lw_all := lw_g (lw_at lw_m0 73 rfl) rfl
theorem q88 : (Jvm.Cond.instanceMethod ({ cls := "StreamAssembler", name := "read", desc := "(I)I" } : Jvm.MethodName)) ∈ lw_all := lw_g (lw_at lw_m0 75 rfl) rfl
theorem q89 : (Jvm.Cond.selects "StreamAssembler" ({ cls := "StreamAssembler", name := "read", desc := "(I)I" } : Jvm.MethodName) ({ cls := "StreamAssembler", name := "read", desc := "(I)I" } : Jvm.MethodName)) ∈ lw_all := lw_g (lw_at lw_m0 76 rfl) rfl
theorem q90 : (Jvm.Cond.code ({ cls := "StreamAssembler", name := "read", desc := "(I)I" } : Jvm.MethodName) prog_1_method_4_code (3 : Nat) (Option.some Jvm.ClassFile.FieldType.int)) ∈ lw_all := lw_g (lw_at lw_m0 77 rfl) rfl
theorem q92 : (Jvm.Cond.instanceMethod ({ cls := "StreamAssembler", name := "readable", desc := "(I)I" } : Jvm.MethodName)) ∈ lw_all := lw_g (lw_at lw_m0 79 rfl) rfl
theorem q93 : (Jvm.Cond.selects "StreamAssembler" ({ cls := "StreamAssembler", name := "readable", desc := "(I)I" } : Jvm.MethodName) ({ cls := "StreamAssembler", name := "readable", desc := "(I)I" } : Jvm.MethodName)) ∈ lw_all := lw_g (lw_at lw_m0 80 rfl) rfl
theorem q94 : (Jvm.Cond.code ({ cls := "StreamAssembler", name := "readable", desc := "(I)I" } : Jvm.MethodName) prog_1_method_5_code (3 : Nat) (Option.some Jvm.ClassFile.FieldType.int)) ∈ lw_all := lw_g (lw_at lw_m0 81 rfl) rfl
theorem q97 : (Jvm.Cond.instanceMethod ({ cls := "StreamAssembler", name := "gaps", desc := "(I)I" } : Jvm.MethodName)) ∈ lw_all := lw_g (lw_at lw_m0 84 rfl) rfl
theorem q98 : (Jvm.Cond.selects "StreamAssembler" ({ cls := "StreamAssembler", name := "gaps", desc := "(I)I" } : Jvm.MethodName) ({ cls := "StreamAssembler", name := "gaps", desc := "(I)I" } : Jvm.MethodName)) ∈ lw_all := lw_g (lw_at lw_m0 85 rfl) rfl
theorem q99 : (Jvm.Cond.code ({ cls := "StreamAssembler", name := "gaps", desc := "(I)I" } : Jvm.MethodName) prog_1_method_7_code (3 : Nat) (Option.some Jvm.ClassFile.FieldType.int)) ∈ lw_all := lw_g (lw_at lw_m0 86 rfl) rfl
theorem q100 : (Jvm.Cond.methodLink "StreamAssembler" (50 : Nat) ({ cls := "StreamAssembler", name := "lastKnown", desc := "(I)I" } : Jvm.MethodName)) ∈ lw_all := lw_g (lw_at lw_m0 87 rfl) rfl
theorem q101 : (Jvm.Cond.privateMethod ({ cls := "StreamAssembler", name := "lastKnown", desc := "(I)I" } : Jvm.MethodName)) ∈ lw_tbl := lw_at lw_m0 88 rfl
theorem q102 : (Jvm.Cond.instanceMethod ({ cls := "StreamAssembler", name := "lastKnown", desc := "(I)I" } : Jvm.MethodName)) ∈ lw_all := lw_g (lw_at lw_m0 89 rfl) rfl
theorem q103 : (Jvm.Cond.code ({ cls := "StreamAssembler", name := "lastKnown", desc := "(I)I" } : Jvm.MethodName) prog_1_method_16_code (3 : Nat) (Option.some Jvm.ClassFile.FieldType.int)) ∈ lw_all := lw_g (lw_at lw_m0 90 rfl) rfl
theorem q105 : (Jvm.Cond.instanceMethod ({ cls := "StreamAssembler", name := "gap", desc := "(II)I" } : Jvm.MethodName)) ∈ lw_all := lw_g (lw_at lw_m0 92 rfl) rfl
theorem q106 : (Jvm.Cond.selects "StreamAssembler" ({ cls := "StreamAssembler", name := "gap", desc := "(II)I" } : Jvm.MethodName) ({ cls := "StreamAssembler", name := "gap", desc := "(II)I" } : Jvm.MethodName)) ∈ lw_all := lw_g (lw_at lw_m0 93 rfl) rfl
theorem q107 : (Jvm.Cond.code ({ cls := "StreamAssembler", name := "gap", desc := "(II)I" } : Jvm.MethodName) prog_1_method_8_code (4 : Nat) (Option.some Jvm.ClassFile.FieldType.int)) ∈ lw_all := lw_g (lw_at lw_m0 94 rfl) rfl
theorem q108 : (Jvm.Cond.methodLink "StreamAssembler" (53 : Nat) ({ cls := "StreamAssembler", name := "gaps", desc := "(I)I" } : Jvm.MethodName)) ∈ lw_all := lw_g (lw_at lw_m0 95 rfl) rfl
theorem q110 : (Jvm.Cond.instanceMethod ({ cls := "StreamAssembler", name := "allowed", desc := "(I)I" } : Jvm.MethodName)) ∈ lw_all := lw_g (lw_at lw_m0 97 rfl) rfl
theorem q111 : (Jvm.Cond.selects "StreamAssembler" ({ cls := "StreamAssembler", name := "allowed", desc := "(I)I" } : Jvm.MethodName) ({ cls := "StreamAssembler", name := "allowed", desc := "(I)I" } : Jvm.MethodName)) ∈ lw_all := lw_g (lw_at lw_m0 98 rfl) rfl
theorem q112 : (Jvm.Cond.code ({ cls := "StreamAssembler", name := "allowed", desc := "(I)I" } : Jvm.MethodName) prog_1_method_9_code (4 : Nat) (Option.some Jvm.ClassFile.FieldType.int)) ∈ lw_all := lw_g (lw_at lw_m0 99 rfl) rfl
theorem q114 : (Jvm.Cond.instanceMethod ({ cls := "StreamAssembler", name := "complete", desc := "(I)I" } : Jvm.MethodName)) ∈ lw_all := lw_g (lw_at lw_m0 101 rfl) rfl
theorem q115 : (Jvm.Cond.selects "StreamAssembler" ({ cls := "StreamAssembler", name := "complete", desc := "(I)I" } : Jvm.MethodName) ({ cls := "StreamAssembler", name := "complete", desc := "(I)I" } : Jvm.MethodName)) ∈ lw_all := lw_g (lw_at lw_m0 102 rfl) rfl
theorem q116 : (Jvm.Cond.code ({ cls := "StreamAssembler", name := "complete", desc := "(I)I" } : Jvm.MethodName) prog_1_method_10_code (2 : Nat) (Option.some Jvm.ClassFile.FieldType.int)) ∈ lw_all := lw_g (lw_at lw_m0 103 rfl) rfl
theorem in_X0 : ∀ w ∈ wsX00, w ∈ lw_all := lw_in wsX00 [30, 32, 34, 36, 38, 40] (by decide +kernel) (by decide +kernel)
end
section
set_option maxRecDepth 100000
/-! StreamAssemblerModel -/
def RX1 : String := "StreamAssemblerModel"
def TX1 : u_T := fun k => match k with
  | 0 => ("StreamAssemblerModel", "known", "[Z", true)
  | 1 => ("StreamAssemblerModel", "bytes", "[I", true)
  | 2 => ("StreamAssemblerModel", "point", "[I", true)
  | _ => ("StreamAssemblerModel", "ends", "[I", true)
def tyX1 : Nat → FieldType := fun k => match k with
  | 0 => .array .boolean
  | 1 => .array .int
  | 2 => .array .int
  | _ => .array .int
abbrev wsX10 : List Cond := u_ws RX1 TX1 4
theorem nmX1 : ∀ a, a < 4 → ∀ b, b < 4 → a ≠ b → (TX1 a).2.1 ≠ (TX1 b).2.1 := by decide +kernel
theorem tyX1_ok : ∀ k, k < 4 → parseFieldDescriptor (TX1 k).2.2.1 = some (tyX1 k) := by decide +kernel
abbrev cX1_init : ByteArray := prog_3_method_1_code
def yX1_init : MethodName := ⟨RX1, "<init>", "()V"⟩
theorem dX1_init_0 : decode cX1_init 0 = .ok (.aload_n 0, 1) := by decide +kernel
theorem dX1_init_1 : decode cX1_init 1 = .ok (.invokespecial 1, 3) := by decide +kernel
theorem dX1_init_4 : decode cX1_init 4 = .ok (.aload_n 0, 1) := by decide +kernel
theorem dX1_init_5 : decode cX1_init 5 = .ok (.sipush 960, 3) := by decide +kernel
theorem dX1_init_8 : decode cX1_init 8 = .ok (.newarray .boolean, 2) := by decide +kernel
theorem dX1_init_10 : decode cX1_init 10 = .ok (.putfield 7, 3) := by decide +kernel
theorem dX1_init_13 : decode cX1_init 13 = .ok (.aload_n 0, 1) := by decide +kernel
theorem dX1_init_14 : decode cX1_init 14 = .ok (.sipush 960, 3) := by decide +kernel
theorem dX1_init_17 : decode cX1_init 17 = .ok (.newarray .int, 2) := by decide +kernel
theorem dX1_init_19 : decode cX1_init 19 = .ok (.putfield 13, 3) := by decide +kernel
theorem dX1_init_22 : decode cX1_init 22 = .ok (.aload_n 0, 1) := by decide +kernel
theorem dX1_init_23 : decode cX1_init 23 = .ok (.iconst 4, 1) := by decide +kernel
theorem dX1_init_24 : decode cX1_init 24 = .ok (.newarray .int, 2) := by decide +kernel
theorem dX1_init_26 : decode cX1_init 26 = .ok (.putfield 17, 3) := by decide +kernel
theorem dX1_init_29 : decode cX1_init 29 = .ok (.aload_n 0, 1) := by decide +kernel
theorem dX1_init_30 : decode cX1_init 30 = .ok (.iconst 4, 1) := by decide +kernel
theorem dX1_init_31 : decode cX1_init 31 = .ok (.newarray .int, 2) := by decide +kernel
theorem dX1_init_33 : decode cX1_init 33 = .ok (.putfield 20, 3) := by decide +kernel
theorem dX1_init_36 : decode cX1_init 36 = .ok (.iconst 0, 1) := by decide +kernel
theorem dX1_init_37 : decode cX1_init 37 = .ok (.istore_n 1, 1) := by decide +kernel
theorem dX1_init_38 : decode cX1_init 38 = .ok (.iload_n 1, 1) := by decide +kernel
theorem dX1_init_39 : decode cX1_init 39 = .ok (.iconst 4, 1) := by decide +kernel
theorem dX1_init_40 : decode cX1_init 40 = .ok (.if_icmp .ge 16, 3) := by decide +kernel
theorem dX1_init_43 : decode cX1_init 43 = .ok (.aload_n 0, 1) := by decide +kernel
theorem dX1_init_44 : decode cX1_init 44 = .ok (.getfield 20, 3) := by decide +kernel
theorem dX1_init_47 : decode cX1_init 47 = .ok (.iload_n 1, 1) := by decide +kernel
theorem dX1_init_48 : decode cX1_init 48 = .ok (.iconst (-1), 1) := by decide +kernel
theorem dX1_init_49 : decode cX1_init 49 = .ok (.iastore, 1) := by decide +kernel
theorem dX1_init_50 : decode cX1_init 50 = .ok (.iinc 1 1, 3) := by decide +kernel
theorem dX1_init_53 : decode cX1_init 53 = .ok (.goto (-15), 3) := by decide +kernel
theorem dX1_init_56 : decode cX1_init 56 = .ok (.return_, 1) := by decide +kernel
abbrev cX1_piece : ByteArray := prog_3_method_6_code
def yX1_piece : MethodName := ⟨RX1, "piece", "(IIII)I"⟩
theorem dX1_piece_0 : decode cX1_piece 0 = .ok (.iload_n 1, 1) := by decide +kernel
theorem dX1_piece_1 : decode cX1_piece 1 = .ok (.invokestatic 30, 3) := by decide +kernel
theorem dX1_piece_4 : decode cX1_piece 4 = .ok (.ifCond .ne 24, 3) := by decide +kernel
theorem dX1_piece_7 : decode cX1_piece 7 = .ok (.iload_n 3, 1) := by decide +kernel
theorem dX1_piece_8 : decode cX1_piece 8 = .ok (.iconst 1, 1) := by decide +kernel
theorem dX1_piece_9 : decode cX1_piece 9 = .ok (.if_icmp .lt 19, 3) := by decide +kernel
theorem dX1_piece_12 : decode cX1_piece 12 = .ok (.iload_n 3, 1) := by decide +kernel
theorem dX1_piece_13 : decode cX1_piece 13 = .ok (.iconst 4, 1) := by decide +kernel
theorem dX1_piece_14 : decode cX1_piece 14 = .ok (.if_icmp .gt 14, 3) := by decide +kernel
theorem dX1_piece_17 : decode cX1_piece 17 = .ok (.iload_n 2, 1) := by decide +kernel
theorem dX1_piece_18 : decode cX1_piece 18 = .ok (.ifCond .lt 10, 3) := by decide +kernel
theorem dX1_piece_21 : decode cX1_piece 21 = .ok (.iload_n 2, 1) := by decide +kernel
theorem dX1_piece_22 : decode cX1_piece 22 = .ok (.sipush 1000, 3) := by decide +kernel
theorem dX1_piece_25 : decode cX1_piece 25 = .ok (.if_icmp .le 5, 3) := by decide +kernel
theorem dX1_piece_28 : decode cX1_piece 28 = .ok (.iconst (-1), 1) := by decide +kernel
theorem dX1_piece_29 : decode cX1_piece 29 = .ok (.ireturn, 1) := by decide +kernel
theorem dX1_piece_30 : decode cX1_piece 30 = .ok (.aload_n 0, 1) := by decide +kernel
theorem dX1_piece_31 : decode cX1_piece 31 = .ok (.getfield 20, 3) := by decide +kernel
theorem dX1_piece_34 : decode cX1_piece 34 = .ok (.iload_n 1, 1) := by decide +kernel
theorem dX1_piece_35 : decode cX1_piece 35 = .ok (.iaload, 1) := by decide +kernel
theorem dX1_piece_36 : decode cX1_piece 36 = .ok (.ifCond .lt 18, 3) := by decide +kernel
theorem dX1_piece_39 : decode cX1_piece 39 = .ok (.iload_n 2, 1) := by decide +kernel
theorem dX1_piece_40 : decode cX1_piece 40 = .ok (.iload_n 3, 1) := by decide +kernel
theorem dX1_piece_41 : decode cX1_piece 41 = .ok (.iadd, 1) := by decide +kernel
theorem dX1_piece_42 : decode cX1_piece 42 = .ok (.aload_n 0, 1) := by decide +kernel
theorem dX1_piece_43 : decode cX1_piece 43 = .ok (.getfield 20, 3) := by decide +kernel
theorem dX1_piece_46 : decode cX1_piece 46 = .ok (.iload_n 1, 1) := by decide +kernel
theorem dX1_piece_47 : decode cX1_piece 47 = .ok (.iaload, 1) := by decide +kernel
theorem dX1_piece_48 : decode cX1_piece 48 = .ok (.if_icmp .le 6, 3) := by decide +kernel
theorem dX1_piece_51 : decode cX1_piece 51 = .ok (.bipush (-3), 2) := by decide +kernel
theorem dX1_piece_53 : decode cX1_piece 53 = .ok (.ireturn, 1) := by decide +kernel
theorem dX1_piece_54 : decode cX1_piece 54 = .ok (.aload_n 0, 1) := by decide +kernel
theorem dX1_piece_55 : decode cX1_piece 55 = .ok (.iload_n 1, 1) := by decide +kernel
theorem dX1_piece_56 : decode cX1_piece 56 = .ok (.iload_n 2, 1) := by decide +kernel
theorem dX1_piece_57 : decode cX1_piece 57 = .ok (.iload_n 3, 1) := by decide +kernel
theorem dX1_piece_58 : decode cX1_piece 58 = .ok (.iadd, 1) := by decide +kernel
theorem dX1_piece_59 : decode cX1_piece 59 = .ok (.invokevirtual 34, 3) := by decide +kernel
theorem dX1_piece_62 : decode cX1_piece 62 = .ok (.ifCond .ne 6, 3) := by decide +kernel
theorem dX1_piece_65 : decode cX1_piece 65 = .ok (.bipush (-2), 2) := by decide +kernel
theorem dX1_piece_67 : decode cX1_piece 67 = .ok (.ireturn, 1) := by decide +kernel
theorem dX1_piece_68 : decode cX1_piece 68 = .ok (.iconst 0, 1) := by decide +kernel
theorem dX1_piece_69 : decode cX1_piece 69 = .ok (.istore 5, 2) := by decide +kernel
theorem dX1_piece_71 : decode cX1_piece 71 = .ok (.iconst 0, 1) := by decide +kernel
theorem dX1_piece_72 : decode cX1_piece 72 = .ok (.istore 6, 2) := by decide +kernel
theorem dX1_piece_74 : decode cX1_piece 74 = .ok (.iload 6, 2) := by decide +kernel
theorem dX1_piece_76 : decode cX1_piece 76 = .ok (.iload_n 3, 1) := by decide +kernel
theorem dX1_piece_77 : decode cX1_piece 77 = .ok (.if_icmp .ge 61, 3) := by decide +kernel
theorem dX1_piece_80 : decode cX1_piece 80 = .ok (.sipush 240, 3) := by decide +kernel
theorem dX1_piece_83 : decode cX1_piece 83 = .ok (.iload_n 1, 1) := by decide +kernel
theorem dX1_piece_84 : decode cX1_piece 84 = .ok (.imul, 1) := by decide +kernel
theorem dX1_piece_85 : decode cX1_piece 85 = .ok (.iload_n 2, 1) := by decide +kernel
theorem dX1_piece_86 : decode cX1_piece 86 = .ok (.iadd, 1) := by decide +kernel
theorem dX1_piece_87 : decode cX1_piece 87 = .ok (.iload 6, 2) := by decide +kernel
theorem dX1_piece_89 : decode cX1_piece 89 = .ok (.iadd, 1) := by decide +kernel
theorem dX1_piece_90 : decode cX1_piece 90 = .ok (.istore 7, 2) := by decide +kernel
theorem dX1_piece_92 : decode cX1_piece 92 = .ok (.aload_n 0, 1) := by decide +kernel
theorem dX1_piece_93 : decode cX1_piece 93 = .ok (.getfield 7, 3) := by decide +kernel
theorem dX1_piece_96 : decode cX1_piece 96 = .ok (.iload 7, 2) := by decide +kernel
theorem dX1_piece_98 : decode cX1_piece 98 = .ok (.baload, 1) := by decide +kernel
theorem dX1_piece_99 : decode cX1_piece 99 = .ok (.ifCond .ne 33, 3) := by decide +kernel
theorem dX1_piece_102 : decode cX1_piece 102 = .ok (.aload_n 0, 1) := by decide +kernel
theorem dX1_piece_103 : decode cX1_piece 103 = .ok (.getfield 7, 3) := by decide +kernel
theorem dX1_piece_106 : decode cX1_piece 106 = .ok (.iload 7, 2) := by decide +kernel
theorem dX1_piece_108 : decode cX1_piece 108 = .ok (.iconst 1, 1) := by decide +kernel
theorem dX1_piece_109 : decode cX1_piece 109 = .ok (.bastore, 1) := by decide +kernel
theorem dX1_piece_110 : decode cX1_piece 110 = .ok (.aload_n 0, 1) := by decide +kernel
theorem dX1_piece_111 : decode cX1_piece 111 = .ok (.getfield 13, 3) := by decide +kernel
theorem dX1_piece_114 : decode cX1_piece 114 = .ok (.iload 7, 2) := by decide +kernel
theorem dX1_piece_116 : decode cX1_piece 116 = .ok (.iload 4, 2) := by decide +kernel
theorem dX1_piece_118 : decode cX1_piece 118 = .ok (.bipush 8, 2) := by decide +kernel
theorem dX1_piece_120 : decode cX1_piece 120 = .ok (.iload 6, 2) := by decide +kernel
theorem dX1_piece_122 : decode cX1_piece 122 = .ok (.imul, 1) := by decide +kernel
theorem dX1_piece_123 : decode cX1_piece 123 = .ok (.ishr, 1) := by decide +kernel
theorem dX1_piece_124 : decode cX1_piece 124 = .ok (.sipush 255, 3) := by decide +kernel
theorem dX1_piece_127 : decode cX1_piece 127 = .ok (.iand, 1) := by decide +kernel
theorem dX1_piece_128 : decode cX1_piece 128 = .ok (.iastore, 1) := by decide +kernel
theorem dX1_piece_129 : decode cX1_piece 129 = .ok (.iinc 5 1, 3) := by decide +kernel
theorem dX1_piece_132 : decode cX1_piece 132 = .ok (.iinc 6 1, 3) := by decide +kernel
theorem dX1_piece_135 : decode cX1_piece 135 = .ok (.goto (-61), 3) := by decide +kernel
theorem dX1_piece_138 : decode cX1_piece 138 = .ok (.iload 5, 2) := by decide +kernel
theorem dX1_piece_140 : decode cX1_piece 140 = .ok (.ireturn, 1) := by decide +kernel
abbrev cX1_bad : ByteArray := prog_3_method_2_code
def yX1_bad : MethodName := ⟨RX1, "bad", "(I)Z"⟩
theorem dX1_bad_0 : decode cX1_bad 0 = .ok (.iload_n 0, 1) := by decide +kernel
theorem dX1_bad_1 : decode cX1_bad 1 = .ok (.ifCond .lt 8, 3) := by decide +kernel
theorem dX1_bad_4 : decode cX1_bad 4 = .ok (.iload_n 0, 1) := by decide +kernel
theorem dX1_bad_5 : decode cX1_bad 5 = .ok (.iconst 3, 1) := by decide +kernel
theorem dX1_bad_6 : decode cX1_bad 6 = .ok (.if_icmp .le 7, 3) := by decide +kernel
theorem dX1_bad_9 : decode cX1_bad 9 = .ok (.iconst 1, 1) := by decide +kernel
theorem dX1_bad_10 : decode cX1_bad 10 = .ok (.goto 4, 3) := by decide +kernel
theorem dX1_bad_13 : decode cX1_bad 13 = .ok (.iconst 0, 1) := by decide +kernel
theorem dX1_bad_14 : decode cX1_bad 14 = .ok (.ireturn, 1) := by decide +kernel
abbrev cX1_fits : ByteArray := prog_3_method_5_code
def yX1_fits : MethodName := ⟨RX1, "fits", "(II)Z"⟩
theorem dX1_fits_0 : decode cX1_fits 0 = .ok (.iload_n 2, 1) := by decide +kernel
theorem dX1_fits_1 : decode cX1_fits 1 = .ok (.aload_n 0, 1) := by decide +kernel
theorem dX1_fits_2 : decode cX1_fits 2 = .ok (.iload_n 1, 1) := by decide +kernel
theorem dX1_fits_3 : decode cX1_fits 3 = .ok (.invokevirtual 23, 3) := by decide +kernel
theorem dX1_fits_6 : decode cX1_fits 6 = .ok (.if_icmp .le 5, 3) := by decide +kernel
theorem dX1_fits_9 : decode cX1_fits 9 = .ok (.iconst 0, 1) := by decide +kernel
theorem dX1_fits_10 : decode cX1_fits 10 = .ok (.ireturn, 1) := by decide +kernel
theorem dX1_fits_11 : decode cX1_fits 11 = .ok (.iconst 0, 1) := by decide +kernel
theorem dX1_fits_12 : decode cX1_fits 12 = .ok (.istore_n 3, 1) := by decide +kernel
theorem dX1_fits_13 : decode cX1_fits 13 = .ok (.iconst 0, 1) := by decide +kernel
theorem dX1_fits_14 : decode cX1_fits 14 = .ok (.istore 4, 2) := by decide +kernel
theorem dX1_fits_16 : decode cX1_fits 16 = .ok (.iconst 0, 1) := by decide +kernel
theorem dX1_fits_17 : decode cX1_fits 17 = .ok (.istore 5, 2) := by decide +kernel
theorem dX1_fits_19 : decode cX1_fits 19 = .ok (.iload 5, 2) := by decide +kernel
theorem dX1_fits_21 : decode cX1_fits 21 = .ok (.iconst 4, 1) := by decide +kernel
theorem dX1_fits_22 : decode cX1_fits 22 = .ok (.if_icmp .ge 50, 3) := by decide +kernel
theorem dX1_fits_25 : decode cX1_fits 25 = .ok (.aload_n 0, 1) := by decide +kernel
theorem dX1_fits_26 : decode cX1_fits 26 = .ok (.iload 5, 2) := by decide +kernel
theorem dX1_fits_28 : decode cX1_fits 28 = .ok (.invokevirtual 27, 3) := by decide +kernel
theorem dX1_fits_31 : decode cX1_fits 31 = .ok (.istore 6, 2) := by decide +kernel
theorem dX1_fits_33 : decode cX1_fits 33 = .ok (.iload_n 3, 1) := by decide +kernel
theorem dX1_fits_34 : decode cX1_fits 34 = .ok (.iload 5, 2) := by decide +kernel
theorem dX1_fits_36 : decode cX1_fits 36 = .ok (.iload_n 1, 1) := by decide +kernel
theorem dX1_fits_37 : decode cX1_fits 37 = .ok (.if_icmp .ne 13, 3) := by decide +kernel
theorem dX1_fits_40 : decode cX1_fits 40 = .ok (.iload_n 2, 1) := by decide +kernel
theorem dX1_fits_41 : decode cX1_fits 41 = .ok (.iload 6, 2) := by decide +kernel
theorem dX1_fits_43 : decode cX1_fits 43 = .ok (.if_icmp .le 7, 3) := by decide +kernel
theorem dX1_fits_46 : decode cX1_fits 46 = .ok (.iload_n 2, 1) := by decide +kernel
theorem dX1_fits_47 : decode cX1_fits 47 = .ok (.goto 5, 3) := by decide +kernel
theorem dX1_fits_50 : decode cX1_fits 50 = .ok (.iload 6, 2) := by decide +kernel
theorem dX1_fits_52 : decode cX1_fits 52 = .ok (.iadd, 1) := by decide +kernel
theorem dX1_fits_53 : decode cX1_fits 53 = .ok (.istore_n 3, 1) := by decide +kernel
theorem dX1_fits_54 : decode cX1_fits 54 = .ok (.iload 4, 2) := by decide +kernel
theorem dX1_fits_56 : decode cX1_fits 56 = .ok (.aload_n 0, 1) := by decide +kernel
theorem dX1_fits_57 : decode cX1_fits 57 = .ok (.getfield 17, 3) := by decide +kernel
theorem dX1_fits_60 : decode cX1_fits 60 = .ok (.iload 5, 2) := by decide +kernel
theorem dX1_fits_62 : decode cX1_fits 62 = .ok (.iaload, 1) := by decide +kernel
theorem dX1_fits_63 : decode cX1_fits 63 = .ok (.iadd, 1) := by decide +kernel
theorem dX1_fits_64 : decode cX1_fits 64 = .ok (.istore 4, 2) := by decide +kernel
theorem dX1_fits_66 : decode cX1_fits 66 = .ok (.iinc 5 1, 3) := by decide +kernel
theorem dX1_fits_69 : decode cX1_fits 69 = .ok (.goto (-50), 3) := by decide +kernel
theorem dX1_fits_72 : decode cX1_fits 72 = .ok (.iload_n 3, 1) := by decide +kernel
theorem dX1_fits_73 : decode cX1_fits 73 = .ok (.iload 4, 2) := by decide +kernel
theorem dX1_fits_75 : decode cX1_fits 75 = .ok (.bipush 56, 2) := by decide +kernel
theorem dX1_fits_77 : decode cX1_fits 77 = .ok (.iadd, 1) := by decide +kernel
theorem dX1_fits_78 : decode cX1_fits 78 = .ok (.if_icmp .gt 7, 3) := by decide +kernel
theorem dX1_fits_81 : decode cX1_fits 81 = .ok (.iconst 1, 1) := by decide +kernel
theorem dX1_fits_82 : decode cX1_fits 82 = .ok (.goto 4, 3) := by decide +kernel
theorem dX1_fits_85 : decode cX1_fits 85 = .ok (.iconst 0, 1) := by decide +kernel
theorem dX1_fits_86 : decode cX1_fits 86 = .ok (.ireturn, 1) := by decide +kernel
abbrev cX1_limit : ByteArray := prog_3_method_3_code
def yX1_limit : MethodName := ⟨RX1, "limit", "(I)I"⟩
theorem dX1_limit_0 : decode cX1_limit 0 = .ok (.aload_n 0, 1) := by decide +kernel
theorem dX1_limit_1 : decode cX1_limit 1 = .ok (.getfield 17, 3) := by decide +kernel
theorem dX1_limit_4 : decode cX1_limit 4 = .ok (.iload_n 1, 1) := by decide +kernel
theorem dX1_limit_5 : decode cX1_limit 5 = .ok (.iaload, 1) := by decide +kernel
theorem dX1_limit_6 : decode cX1_limit 6 = .ok (.bipush 24, 2) := by decide +kernel
theorem dX1_limit_8 : decode cX1_limit 8 = .ok (.iadd, 1) := by decide +kernel
theorem dX1_limit_9 : decode cX1_limit 9 = .ok (.sipush 240, 3) := by decide +kernel
theorem dX1_limit_12 : decode cX1_limit 12 = .ok (.if_icmp .ge 15, 3) := by decide +kernel
theorem dX1_limit_15 : decode cX1_limit 15 = .ok (.aload_n 0, 1) := by decide +kernel
theorem dX1_limit_16 : decode cX1_limit 16 = .ok (.getfield 17, 3) := by decide +kernel
theorem dX1_limit_19 : decode cX1_limit 19 = .ok (.iload_n 1, 1) := by decide +kernel
theorem dX1_limit_20 : decode cX1_limit 20 = .ok (.iaload, 1) := by decide +kernel
theorem dX1_limit_21 : decode cX1_limit 21 = .ok (.bipush 24, 2) := by decide +kernel
theorem dX1_limit_23 : decode cX1_limit 23 = .ok (.iadd, 1) := by decide +kernel
theorem dX1_limit_24 : decode cX1_limit 24 = .ok (.goto 6, 3) := by decide +kernel
theorem dX1_limit_27 : decode cX1_limit 27 = .ok (.sipush 240, 3) := by decide +kernel
theorem dX1_limit_30 : decode cX1_limit 30 = .ok (.ireturn, 1) := by decide +kernel
abbrev cX1_top : ByteArray := prog_3_method_4_code
def yX1_top : MethodName := ⟨RX1, "top", "(I)I"⟩
theorem dX1_top_0 : decode cX1_top 0 = .ok (.aload_n 0, 1) := by decide +kernel
theorem dX1_top_1 : decode cX1_top 1 = .ok (.getfield 20, 3) := by decide +kernel
theorem dX1_top_4 : decode cX1_top 4 = .ok (.iload_n 1, 1) := by decide +kernel
theorem dX1_top_5 : decode cX1_top 5 = .ok (.iaload, 1) := by decide +kernel
theorem dX1_top_6 : decode cX1_top 6 = .ok (.ifCond .lt 10, 3) := by decide +kernel
theorem dX1_top_9 : decode cX1_top 9 = .ok (.aload_n 0, 1) := by decide +kernel
theorem dX1_top_10 : decode cX1_top 10 = .ok (.getfield 20, 3) := by decide +kernel
theorem dX1_top_13 : decode cX1_top 13 = .ok (.iload_n 1, 1) := by decide +kernel
theorem dX1_top_14 : decode cX1_top 14 = .ok (.iaload, 1) := by decide +kernel
theorem dX1_top_15 : decode cX1_top 15 = .ok (.ireturn, 1) := by decide +kernel
theorem dX1_top_16 : decode cX1_top 16 = .ok (.sipush 240, 3) := by decide +kernel
theorem dX1_top_19 : decode cX1_top 19 = .ok (.istore_n 2, 1) := by decide +kernel
theorem dX1_top_20 : decode cX1_top 20 = .ok (.iload_n 2, 1) := by decide +kernel
theorem dX1_top_21 : decode cX1_top 21 = .ok (.ifCond .le 28, 3) := by decide +kernel
theorem dX1_top_24 : decode cX1_top 24 = .ok (.aload_n 0, 1) := by decide +kernel
theorem dX1_top_25 : decode cX1_top 25 = .ok (.getfield 7, 3) := by decide +kernel
theorem dX1_top_28 : decode cX1_top 28 = .ok (.sipush 240, 3) := by decide +kernel
theorem dX1_top_31 : decode cX1_top 31 = .ok (.iload_n 1, 1) := by decide +kernel
theorem dX1_top_32 : decode cX1_top 32 = .ok (.imul, 1) := by decide +kernel
theorem dX1_top_33 : decode cX1_top 33 = .ok (.iload_n 2, 1) := by decide +kernel
theorem dX1_top_34 : decode cX1_top 34 = .ok (.iadd, 1) := by decide +kernel
theorem dX1_top_35 : decode cX1_top 35 = .ok (.iconst 1, 1) := by decide +kernel
theorem dX1_top_36 : decode cX1_top 36 = .ok (.isub, 1) := by decide +kernel
theorem dX1_top_37 : decode cX1_top 37 = .ok (.baload, 1) := by decide +kernel
theorem dX1_top_38 : decode cX1_top 38 = .ok (.ifCond .eq 5, 3) := by decide +kernel
theorem dX1_top_41 : decode cX1_top 41 = .ok (.iload_n 2, 1) := by decide +kernel
theorem dX1_top_42 : decode cX1_top 42 = .ok (.ireturn, 1) := by decide +kernel
theorem dX1_top_43 : decode cX1_top 43 = .ok (.iinc 2 (-1), 3) := by decide +kernel
theorem dX1_top_46 : decode cX1_top 46 = .ok (.goto (-26), 3) := by decide +kernel
theorem dX1_top_49 : decode cX1_top 49 = .ok (.iconst 0, 1) := by decide +kernel
theorem dX1_top_50 : decode cX1_top 50 = .ok (.ireturn, 1) := by decide +kernel
abbrev cX1_finish : ByteArray := prog_3_method_7_code
def yX1_finish : MethodName := ⟨RX1, "finish", "(II)I"⟩
theorem dX1_finish_0 : decode cX1_finish 0 = .ok (.iload_n 1, 1) := by decide +kernel
theorem dX1_finish_1 : decode cX1_finish 1 = .ok (.invokestatic 30, 3) := by decide +kernel
theorem dX1_finish_4 : decode cX1_finish 4 = .ok (.ifCond .ne 7, 3) := by decide +kernel
theorem dX1_finish_7 : decode cX1_finish 7 = .ok (.iload_n 2, 1) := by decide +kernel
theorem dX1_finish_8 : decode cX1_finish 8 = .ok (.ifCond .ge 5, 3) := by decide +kernel
theorem dX1_finish_11 : decode cX1_finish 11 = .ok (.iconst (-1), 1) := by decide +kernel
theorem dX1_finish_12 : decode cX1_finish 12 = .ok (.ireturn, 1) := by decide +kernel
theorem dX1_finish_13 : decode cX1_finish 13 = .ok (.aload_n 0, 1) := by decide +kernel
theorem dX1_finish_14 : decode cX1_finish 14 = .ok (.getfield 20, 3) := by decide +kernel
theorem dX1_finish_17 : decode cX1_finish 17 = .ok (.iload_n 1, 1) := by decide +kernel
theorem dX1_finish_18 : decode cX1_finish 18 = .ok (.iaload, 1) := by decide +kernel
theorem dX1_finish_19 : decode cX1_finish 19 = .ok (.ifCond .lt 13, 3) := by decide +kernel
theorem dX1_finish_22 : decode cX1_finish 22 = .ok (.aload_n 0, 1) := by decide +kernel
theorem dX1_finish_23 : decode cX1_finish 23 = .ok (.getfield 20, 3) := by decide +kernel
theorem dX1_finish_26 : decode cX1_finish 26 = .ok (.iload_n 1, 1) := by decide +kernel
theorem dX1_finish_27 : decode cX1_finish 27 = .ok (.iaload, 1) := by decide +kernel
theorem dX1_finish_28 : decode cX1_finish 28 = .ok (.iload_n 2, 1) := by decide +kernel
theorem dX1_finish_29 : decode cX1_finish 29 = .ok (.if_icmp .ne 12, 3) := by decide +kernel
theorem dX1_finish_32 : decode cX1_finish 32 = .ok (.iload_n 2, 1) := by decide +kernel
theorem dX1_finish_33 : decode cX1_finish 33 = .ok (.aload_n 0, 1) := by decide +kernel
theorem dX1_finish_34 : decode cX1_finish 34 = .ok (.iload_n 1, 1) := by decide +kernel
theorem dX1_finish_35 : decode cX1_finish 35 = .ok (.invokevirtual 27, 3) := by decide +kernel
theorem dX1_finish_38 : decode cX1_finish 38 = .ok (.if_icmp .ge 6, 3) := by decide +kernel
theorem dX1_finish_41 : decode cX1_finish 41 = .ok (.bipush (-3), 2) := by decide +kernel
theorem dX1_finish_43 : decode cX1_finish 43 = .ok (.ireturn, 1) := by decide +kernel
theorem dX1_finish_44 : decode cX1_finish 44 = .ok (.aload_n 0, 1) := by decide +kernel
theorem dX1_finish_45 : decode cX1_finish 45 = .ok (.iload_n 1, 1) := by decide +kernel
theorem dX1_finish_46 : decode cX1_finish 46 = .ok (.iload_n 2, 1) := by decide +kernel
theorem dX1_finish_47 : decode cX1_finish 47 = .ok (.invokevirtual 34, 3) := by decide +kernel
theorem dX1_finish_50 : decode cX1_finish 50 = .ok (.ifCond .ne 6, 3) := by decide +kernel
theorem dX1_finish_53 : decode cX1_finish 53 = .ok (.bipush (-2), 2) := by decide +kernel
theorem dX1_finish_55 : decode cX1_finish 55 = .ok (.ireturn, 1) := by decide +kernel
theorem dX1_finish_56 : decode cX1_finish 56 = .ok (.aload_n 0, 1) := by decide +kernel
theorem dX1_finish_57 : decode cX1_finish 57 = .ok (.getfield 20, 3) := by decide +kernel
theorem dX1_finish_60 : decode cX1_finish 60 = .ok (.iload_n 1, 1) := by decide +kernel
theorem dX1_finish_61 : decode cX1_finish 61 = .ok (.iload_n 2, 1) := by decide +kernel
theorem dX1_finish_62 : decode cX1_finish 62 = .ok (.iastore, 1) := by decide +kernel
theorem dX1_finish_63 : decode cX1_finish 63 = .ok (.iconst 0, 1) := by decide +kernel
theorem dX1_finish_64 : decode cX1_finish 64 = .ok (.ireturn, 1) := by decide +kernel
end
section
set_option maxRecDepth 100000
abbrev cX1_read : ByteArray := prog_3_method_9_code
def yX1_read : MethodName := ⟨RX1, "read", "(I)I"⟩
theorem dX1_read_0 : decode cX1_read 0 = .ok (.iload_n 1, 1) := by decide +kernel
theorem dX1_read_1 : decode cX1_read 1 = .ok (.invokestatic 30, 3) := by decide +kernel
theorem dX1_read_4 : decode cX1_read 4 = .ok (.ifCond .eq 5, 3) := by decide +kernel
theorem dX1_read_7 : decode cX1_read 7 = .ok (.iconst (-1), 1) := by decide +kernel
theorem dX1_read_8 : decode cX1_read 8 = .ok (.ireturn, 1) := by decide +kernel
theorem dX1_read_9 : decode cX1_read 9 = .ok (.aload_n 0, 1) := by decide +kernel
theorem dX1_read_10 : decode cX1_read 10 = .ok (.getfield 20, 3) := by decide +kernel
theorem dX1_read_13 : decode cX1_read 13 = .ok (.iload_n 1, 1) := by decide +kernel
theorem dX1_read_14 : decode cX1_read 14 = .ok (.iaload, 1) := by decide +kernel
theorem dX1_read_15 : decode cX1_read 15 = .ok (.aload_n 0, 1) := by decide +kernel
theorem dX1_read_16 : decode cX1_read 16 = .ok (.getfield 17, 3) := by decide +kernel
theorem dX1_read_19 : decode cX1_read 19 = .ok (.iload_n 1, 1) := by decide +kernel
theorem dX1_read_20 : decode cX1_read 20 = .ok (.iaload, 1) := by decide +kernel
theorem dX1_read_21 : decode cX1_read 21 = .ok (.if_icmp .ne 6, 3) := by decide +kernel
theorem dX1_read_24 : decode cX1_read 24 = .ok (.bipush (-5), 2) := by decide +kernel
theorem dX1_read_26 : decode cX1_read 26 = .ok (.ireturn, 1) := by decide +kernel
theorem dX1_read_27 : decode cX1_read 27 = .ok (.aload_n 0, 1) := by decide +kernel
theorem dX1_read_28 : decode cX1_read 28 = .ok (.iload_n 1, 1) := by decide +kernel
theorem dX1_read_29 : decode cX1_read 29 = .ok (.aload_n 0, 1) := by decide +kernel
theorem dX1_read_30 : decode cX1_read 30 = .ok (.getfield 17, 3) := by decide +kernel
theorem dX1_read_33 : decode cX1_read 33 = .ok (.iload_n 1, 1) := by decide +kernel
theorem dX1_read_34 : decode cX1_read 34 = .ok (.iaload, 1) := by decide +kernel
theorem dX1_read_35 : decode cX1_read 35 = .ok (.invokevirtual 38, 3) := by decide +kernel
theorem dX1_read_38 : decode cX1_read 38 = .ok (.ifCond .ne 6, 3) := by decide +kernel
theorem dX1_read_41 : decode cX1_read 41 = .ok (.bipush (-4), 2) := by decide +kernel
theorem dX1_read_43 : decode cX1_read 43 = .ok (.ireturn, 1) := by decide +kernel
theorem dX1_read_44 : decode cX1_read 44 = .ok (.aload_n 0, 1) := by decide +kernel
theorem dX1_read_45 : decode cX1_read 45 = .ok (.getfield 17, 3) := by decide +kernel
theorem dX1_read_48 : decode cX1_read 48 = .ok (.iload_n 1, 1) := by decide +kernel
theorem dX1_read_49 : decode cX1_read 49 = .ok (.dup2, 1) := by decide +kernel
theorem dX1_read_50 : decode cX1_read 50 = .ok (.iaload, 1) := by decide +kernel
theorem dX1_read_51 : decode cX1_read 51 = .ok (.iconst 1, 1) := by decide +kernel
theorem dX1_read_52 : decode cX1_read 52 = .ok (.iadd, 1) := by decide +kernel
theorem dX1_read_53 : decode cX1_read 53 = .ok (.iastore, 1) := by decide +kernel
theorem dX1_read_54 : decode cX1_read 54 = .ok (.aload_n 0, 1) := by decide +kernel
theorem dX1_read_55 : decode cX1_read 55 = .ok (.getfield 13, 3) := by decide +kernel
theorem dX1_read_58 : decode cX1_read 58 = .ok (.sipush 240, 3) := by decide +kernel
theorem dX1_read_61 : decode cX1_read 61 = .ok (.iload_n 1, 1) := by decide +kernel
theorem dX1_read_62 : decode cX1_read 62 = .ok (.imul, 1) := by decide +kernel
theorem dX1_read_63 : decode cX1_read 63 = .ok (.aload_n 0, 1) := by decide +kernel
theorem dX1_read_64 : decode cX1_read 64 = .ok (.getfield 17, 3) := by decide +kernel
theorem dX1_read_67 : decode cX1_read 67 = .ok (.iload_n 1, 1) := by decide +kernel
theorem dX1_read_68 : decode cX1_read 68 = .ok (.iaload, 1) := by decide +kernel
theorem dX1_read_69 : decode cX1_read 69 = .ok (.iadd, 1) := by decide +kernel
theorem dX1_read_70 : decode cX1_read 70 = .ok (.iconst 1, 1) := by decide +kernel
theorem dX1_read_71 : decode cX1_read 71 = .ok (.isub, 1) := by decide +kernel
theorem dX1_read_72 : decode cX1_read 72 = .ok (.iaload, 1) := by decide +kernel
theorem dX1_read_73 : decode cX1_read 73 = .ok (.ireturn, 1) := by decide +kernel
abbrev cX1_isKnown : ByteArray := prog_3_method_8_code
def yX1_isKnown : MethodName := ⟨RX1, "isKnown", "(II)Z"⟩
theorem dX1_isKnown_0 : decode cX1_isKnown 0 = .ok (.iload_n 2, 1) := by decide +kernel
theorem dX1_isKnown_1 : decode cX1_isKnown 1 = .ok (.sipush 240, 3) := by decide +kernel
theorem dX1_isKnown_4 : decode cX1_isKnown 4 = .ok (.if_icmp .ge 22, 3) := by decide +kernel
theorem dX1_isKnown_7 : decode cX1_isKnown 7 = .ok (.aload_n 0, 1) := by decide +kernel
theorem dX1_isKnown_8 : decode cX1_isKnown 8 = .ok (.getfield 7, 3) := by decide +kernel
theorem dX1_isKnown_11 : decode cX1_isKnown 11 = .ok (.sipush 240, 3) := by decide +kernel
theorem dX1_isKnown_14 : decode cX1_isKnown 14 = .ok (.iload_n 1, 1) := by decide +kernel
theorem dX1_isKnown_15 : decode cX1_isKnown 15 = .ok (.imul, 1) := by decide +kernel
theorem dX1_isKnown_16 : decode cX1_isKnown 16 = .ok (.iload_n 2, 1) := by decide +kernel
theorem dX1_isKnown_17 : decode cX1_isKnown 17 = .ok (.iadd, 1) := by decide +kernel
theorem dX1_isKnown_18 : decode cX1_isKnown 18 = .ok (.baload, 1) := by decide +kernel
theorem dX1_isKnown_19 : decode cX1_isKnown 19 = .ok (.ifCond .eq 7, 3) := by decide +kernel
theorem dX1_isKnown_22 : decode cX1_isKnown 22 = .ok (.iconst 1, 1) := by decide +kernel
theorem dX1_isKnown_23 : decode cX1_isKnown 23 = .ok (.goto 4, 3) := by decide +kernel
theorem dX1_isKnown_26 : decode cX1_isKnown 26 = .ok (.iconst 0, 1) := by decide +kernel
theorem dX1_isKnown_27 : decode cX1_isKnown 27 = .ok (.ireturn, 1) := by decide +kernel
abbrev cX1_readable : ByteArray := prog_3_method_10_code
def yX1_readable : MethodName := ⟨RX1, "readable", "(I)I"⟩
theorem dX1_readable_0 : decode cX1_readable 0 = .ok (.iload_n 1, 1) := by decide +kernel
theorem dX1_readable_1 : decode cX1_readable 1 = .ok (.invokestatic 30, 3) := by decide +kernel
theorem dX1_readable_4 : decode cX1_readable 4 = .ok (.ifCond .eq 5, 3) := by decide +kernel
theorem dX1_readable_7 : decode cX1_readable 7 = .ok (.iconst (-1), 1) := by decide +kernel
theorem dX1_readable_8 : decode cX1_readable 8 = .ok (.ireturn, 1) := by decide +kernel
theorem dX1_readable_9 : decode cX1_readable 9 = .ok (.iconst 0, 1) := by decide +kernel
theorem dX1_readable_10 : decode cX1_readable 10 = .ok (.istore_n 2, 1) := by decide +kernel
theorem dX1_readable_11 : decode cX1_readable 11 = .ok (.iload_n 2, 1) := by decide +kernel
theorem dX1_readable_12 : decode cX1_readable 12 = .ok (.sipush 240, 3) := by decide +kernel
theorem dX1_readable_15 : decode cX1_readable 15 = .ok (.if_icmp .ge 25, 3) := by decide +kernel
theorem dX1_readable_18 : decode cX1_readable 18 = .ok (.aload_n 0, 1) := by decide +kernel
theorem dX1_readable_19 : decode cX1_readable 19 = .ok (.iload_n 1, 1) := by decide +kernel
theorem dX1_readable_20 : decode cX1_readable 20 = .ok (.aload_n 0, 1) := by decide +kernel
theorem dX1_readable_21 : decode cX1_readable 21 = .ok (.getfield 17, 3) := by decide +kernel
theorem dX1_readable_24 : decode cX1_readable 24 = .ok (.iload_n 1, 1) := by decide +kernel
theorem dX1_readable_25 : decode cX1_readable 25 = .ok (.iaload, 1) := by decide +kernel
theorem dX1_readable_26 : decode cX1_readable 26 = .ok (.iload_n 2, 1) := by decide +kernel
theorem dX1_readable_27 : decode cX1_readable 27 = .ok (.iadd, 1) := by decide +kernel
theorem dX1_readable_28 : decode cX1_readable 28 = .ok (.invokevirtual 38, 3) := by decide +kernel
theorem dX1_readable_31 : decode cX1_readable 31 = .ok (.ifCond .eq 9, 3) := by decide +kernel
theorem dX1_readable_34 : decode cX1_readable 34 = .ok (.iinc 2 1, 3) := by decide +kernel
theorem dX1_readable_37 : decode cX1_readable 37 = .ok (.goto (-26), 3) := by decide +kernel
theorem dX1_readable_40 : decode cX1_readable 40 = .ok (.iload_n 2, 1) := by decide +kernel
theorem dX1_readable_41 : decode cX1_readable 41 = .ok (.ireturn, 1) := by decide +kernel
abbrev cX1_highest : ByteArray := prog_3_method_11_code
def yX1_highest : MethodName := ⟨RX1, "highest", "(I)I"⟩
theorem dX1_highest_0 : decode cX1_highest 0 = .ok (.iload_n 1, 1) := by decide +kernel
theorem dX1_highest_1 : decode cX1_highest 1 = .ok (.invokestatic 30, 3) := by decide +kernel
theorem dX1_highest_4 : decode cX1_highest 4 = .ok (.ifCond .eq 7, 3) := by decide +kernel
theorem dX1_highest_7 : decode cX1_highest 7 = .ok (.iconst (-1), 1) := by decide +kernel
theorem dX1_highest_8 : decode cX1_highest 8 = .ok (.goto 8, 3) := by decide +kernel
theorem dX1_highest_11 : decode cX1_highest 11 = .ok (.aload_n 0, 1) := by decide +kernel
theorem dX1_highest_12 : decode cX1_highest 12 = .ok (.iload_n 1, 1) := by decide +kernel
theorem dX1_highest_13 : decode cX1_highest 13 = .ok (.invokevirtual 27, 3) := by decide +kernel
theorem dX1_highest_16 : decode cX1_highest 16 = .ok (.ireturn, 1) := by decide +kernel
abbrev cX1_gaps : ByteArray := prog_3_method_13_code
def yX1_gaps : MethodName := ⟨RX1, "gaps", "(I)I"⟩
theorem dX1_gaps_0 : decode cX1_gaps 0 = .ok (.iload_n 1, 1) := by decide +kernel
theorem dX1_gaps_1 : decode cX1_gaps 1 = .ok (.invokestatic 30, 3) := by decide +kernel
theorem dX1_gaps_4 : decode cX1_gaps 4 = .ok (.ifCond .eq 5, 3) := by decide +kernel
theorem dX1_gaps_7 : decode cX1_gaps 7 = .ok (.iconst (-1), 1) := by decide +kernel
theorem dX1_gaps_8 : decode cX1_gaps 8 = .ok (.ireturn, 1) := by decide +kernel
theorem dX1_gaps_9 : decode cX1_gaps 9 = .ok (.iconst 0, 1) := by decide +kernel
theorem dX1_gaps_10 : decode cX1_gaps 10 = .ok (.istore_n 2, 1) := by decide +kernel
theorem dX1_gaps_11 : decode cX1_gaps 11 = .ok (.aload_n 0, 1) := by decide +kernel
theorem dX1_gaps_12 : decode cX1_gaps 12 = .ok (.getfield 17, 3) := by decide +kernel
theorem dX1_gaps_15 : decode cX1_gaps 15 = .ok (.iload_n 1, 1) := by decide +kernel
theorem dX1_gaps_16 : decode cX1_gaps 16 = .ok (.iaload, 1) := by decide +kernel
theorem dX1_gaps_17 : decode cX1_gaps 17 = .ok (.istore_n 3, 1) := by decide +kernel
theorem dX1_gaps_18 : decode cX1_gaps 18 = .ok (.iload_n 3, 1) := by decide +kernel
theorem dX1_gaps_19 : decode cX1_gaps 19 = .ok (.aload_n 0, 1) := by decide +kernel
theorem dX1_gaps_20 : decode cX1_gaps 20 = .ok (.iload_n 1, 1) := by decide +kernel
theorem dX1_gaps_21 : decode cX1_gaps 21 = .ok (.invokevirtual 27, 3) := by decide +kernel
theorem dX1_gaps_24 : decode cX1_gaps 24 = .ok (.if_icmp .ge 21, 3) := by decide +kernel
theorem dX1_gaps_27 : decode cX1_gaps 27 = .ok (.aload_n 0, 1) := by decide +kernel
theorem dX1_gaps_28 : decode cX1_gaps 28 = .ok (.iload_n 1, 1) := by decide +kernel
theorem dX1_gaps_29 : decode cX1_gaps 29 = .ok (.iload_n 3, 1) := by decide +kernel
theorem dX1_gaps_30 : decode cX1_gaps 30 = .ok (.invokevirtual 41, 3) := by decide +kernel
theorem dX1_gaps_33 : decode cX1_gaps 33 = .ok (.ifCond .eq 6, 3) := by decide +kernel
theorem dX1_gaps_36 : decode cX1_gaps 36 = .ok (.iinc 2 1, 3) := by decide +kernel
theorem dX1_gaps_39 : decode cX1_gaps 39 = .ok (.iinc 3 1, 3) := by decide +kernel
theorem dX1_gaps_42 : decode cX1_gaps 42 = .ok (.goto (-24), 3) := by decide +kernel
theorem dX1_gaps_45 : decode cX1_gaps 45 = .ok (.iload_n 2, 1) := by decide +kernel
theorem dX1_gaps_46 : decode cX1_gaps 46 = .ok (.ireturn, 1) := by decide +kernel
abbrev cX1_begins : ByteArray := prog_3_method_12_code
def yX1_begins : MethodName := ⟨RX1, "begins", "(II)Z"⟩
theorem dX1_begins_0 : decode cX1_begins 0 = .ok (.aload_n 0, 1) := by decide +kernel
theorem dX1_begins_1 : decode cX1_begins 1 = .ok (.iload_n 1, 1) := by decide +kernel
theorem dX1_begins_2 : decode cX1_begins 2 = .ok (.iload_n 2, 1) := by decide +kernel
theorem dX1_begins_3 : decode cX1_begins 3 = .ok (.invokevirtual 38, 3) := by decide +kernel
theorem dX1_begins_6 : decode cX1_begins 6 = .ok (.ifCond .eq 5, 3) := by decide +kernel
theorem dX1_begins_9 : decode cX1_begins 9 = .ok (.iconst 0, 1) := by decide +kernel
theorem dX1_begins_10 : decode cX1_begins 10 = .ok (.ireturn, 1) := by decide +kernel
theorem dX1_begins_11 : decode cX1_begins 11 = .ok (.iload_n 2, 1) := by decide +kernel
theorem dX1_begins_12 : decode cX1_begins 12 = .ok (.aload_n 0, 1) := by decide +kernel
theorem dX1_begins_13 : decode cX1_begins 13 = .ok (.getfield 17, 3) := by decide +kernel
theorem dX1_begins_16 : decode cX1_begins 16 = .ok (.iload_n 1, 1) := by decide +kernel
theorem dX1_begins_17 : decode cX1_begins 17 = .ok (.iaload, 1) := by decide +kernel
theorem dX1_begins_18 : decode cX1_begins 18 = .ok (.if_icmp .eq 14, 3) := by decide +kernel
theorem dX1_begins_21 : decode cX1_begins 21 = .ok (.aload_n 0, 1) := by decide +kernel
theorem dX1_begins_22 : decode cX1_begins 22 = .ok (.iload_n 1, 1) := by decide +kernel
theorem dX1_begins_23 : decode cX1_begins 23 = .ok (.iload_n 2, 1) := by decide +kernel
theorem dX1_begins_24 : decode cX1_begins 24 = .ok (.iconst 1, 1) := by decide +kernel
theorem dX1_begins_25 : decode cX1_begins 25 = .ok (.isub, 1) := by decide +kernel
theorem dX1_begins_26 : decode cX1_begins 26 = .ok (.invokevirtual 38, 3) := by decide +kernel
theorem dX1_begins_29 : decode cX1_begins 29 = .ok (.ifCond .eq 7, 3) := by decide +kernel
theorem dX1_begins_32 : decode cX1_begins 32 = .ok (.iconst 1, 1) := by decide +kernel
theorem dX1_begins_33 : decode cX1_begins 33 = .ok (.goto 4, 3) := by decide +kernel
theorem dX1_begins_36 : decode cX1_begins 36 = .ok (.iconst 0, 1) := by decide +kernel
theorem dX1_begins_37 : decode cX1_begins 37 = .ok (.ireturn, 1) := by decide +kernel
abbrev cX1_gap : ByteArray := prog_3_method_14_code
def yX1_gap : MethodName := ⟨RX1, "gap", "(II)I"⟩
theorem dX1_gap_0 : decode cX1_gap 0 = .ok (.iload_n 1, 1) := by decide +kernel
theorem dX1_gap_1 : decode cX1_gap 1 = .ok (.invokestatic 30, 3) := by decide +kernel
theorem dX1_gap_4 : decode cX1_gap 4 = .ok (.ifCond .eq 5, 3) := by decide +kernel
theorem dX1_gap_7 : decode cX1_gap 7 = .ok (.iconst (-1), 1) := by decide +kernel
theorem dX1_gap_8 : decode cX1_gap 8 = .ok (.ireturn, 1) := by decide +kernel
theorem dX1_gap_9 : decode cX1_gap 9 = .ok (.iconst 0, 1) := by decide +kernel
theorem dX1_gap_10 : decode cX1_gap 10 = .ok (.istore_n 3, 1) := by decide +kernel
theorem dX1_gap_11 : decode cX1_gap 11 = .ok (.aload_n 0, 1) := by decide +kernel
theorem dX1_gap_12 : decode cX1_gap 12 = .ok (.getfield 17, 3) := by decide +kernel
theorem dX1_gap_15 : decode cX1_gap 15 = .ok (.iload_n 1, 1) := by decide +kernel
theorem dX1_gap_16 : decode cX1_gap 16 = .ok (.iaload, 1) := by decide +kernel
theorem dX1_gap_17 : decode cX1_gap 17 = .ok (.istore 4, 2) := by decide +kernel
theorem dX1_gap_19 : decode cX1_gap 19 = .ok (.iload 4, 2) := by decide +kernel
theorem dX1_gap_21 : decode cX1_gap 21 = .ok (.aload_n 0, 1) := by decide +kernel
theorem dX1_gap_22 : decode cX1_gap 22 = .ok (.iload_n 1, 1) := by decide +kernel
theorem dX1_gap_23 : decode cX1_gap 23 = .ok (.invokevirtual 27, 3) := by decide +kernel
theorem dX1_gap_26 : decode cX1_gap 26 = .ok (.if_icmp .ge 30, 3) := by decide +kernel
theorem dX1_gap_29 : decode cX1_gap 29 = .ok (.aload_n 0, 1) := by decide +kernel
theorem dX1_gap_30 : decode cX1_gap 30 = .ok (.iload_n 1, 1) := by decide +kernel
theorem dX1_gap_31 : decode cX1_gap 31 = .ok (.iload 4, 2) := by decide +kernel
theorem dX1_gap_33 : decode cX1_gap 33 = .ok (.invokevirtual 41, 3) := by decide +kernel
theorem dX1_gap_36 : decode cX1_gap 36 = .ok (.ifCond .eq 14, 3) := by decide +kernel
theorem dX1_gap_39 : decode cX1_gap 39 = .ok (.iload_n 3, 1) := by decide +kernel
theorem dX1_gap_40 : decode cX1_gap 40 = .ok (.iload_n 2, 1) := by decide +kernel
theorem dX1_gap_41 : decode cX1_gap 41 = .ok (.if_icmp .ne 6, 3) := by decide +kernel
theorem dX1_gap_44 : decode cX1_gap 44 = .ok (.iload 4, 2) := by decide +kernel
theorem dX1_gap_46 : decode cX1_gap 46 = .ok (.ireturn, 1) := by decide +kernel
theorem dX1_gap_47 : decode cX1_gap 47 = .ok (.iinc 3 1, 3) := by decide +kernel
theorem dX1_gap_50 : decode cX1_gap 50 = .ok (.iinc 4 1, 3) := by decide +kernel
theorem dX1_gap_53 : decode cX1_gap 53 = .ok (.goto (-34), 3) := by decide +kernel
theorem dX1_gap_56 : decode cX1_gap 56 = .ok (.bipush (-4), 2) := by decide +kernel
theorem dX1_gap_58 : decode cX1_gap 58 = .ok (.ireturn, 1) := by decide +kernel
abbrev cX1_allowed : ByteArray := prog_3_method_15_code
def yX1_allowed : MethodName := ⟨RX1, "allowed", "(I)I"⟩
theorem dX1_allowed_0 : decode cX1_allowed 0 = .ok (.iload_n 1, 1) := by decide +kernel
theorem dX1_allowed_1 : decode cX1_allowed 1 = .ok (.invokestatic 30, 3) := by decide +kernel
theorem dX1_allowed_4 : decode cX1_allowed 4 = .ok (.ifCond .eq 5, 3) := by decide +kernel
theorem dX1_allowed_7 : decode cX1_allowed 7 = .ok (.iconst (-1), 1) := by decide +kernel
theorem dX1_allowed_8 : decode cX1_allowed 8 = .ok (.ireturn, 1) := by decide +kernel
theorem dX1_allowed_9 : decode cX1_allowed 9 = .ok (.aload_n 0, 1) := by decide +kernel
theorem dX1_allowed_10 : decode cX1_allowed 10 = .ok (.getfield 20, 3) := by decide +kernel
theorem dX1_allowed_13 : decode cX1_allowed 13 = .ok (.iload_n 1, 1) := by decide +kernel
theorem dX1_allowed_14 : decode cX1_allowed 14 = .ok (.iaload, 1) := by decide +kernel
theorem dX1_allowed_15 : decode cX1_allowed 15 = .ok (.ifCond .lt 10, 3) := by decide +kernel
theorem dX1_allowed_18 : decode cX1_allowed 18 = .ok (.aload_n 0, 1) := by decide +kernel
theorem dX1_allowed_19 : decode cX1_allowed 19 = .ok (.getfield 20, 3) := by decide +kernel
theorem dX1_allowed_22 : decode cX1_allowed 22 = .ok (.iload_n 1, 1) := by decide +kernel
theorem dX1_allowed_23 : decode cX1_allowed 23 = .ok (.iaload, 1) := by decide +kernel
theorem dX1_allowed_24 : decode cX1_allowed 24 = .ok (.ireturn, 1) := by decide +kernel
theorem dX1_allowed_25 : decode cX1_allowed 25 = .ok (.iconst 0, 1) := by decide +kernel
theorem dX1_allowed_26 : decode cX1_allowed 26 = .ok (.istore_n 2, 1) := by decide +kernel
theorem dX1_allowed_27 : decode cX1_allowed 27 = .ok (.iconst 0, 1) := by decide +kernel
theorem dX1_allowed_28 : decode cX1_allowed 28 = .ok (.istore_n 3, 1) := by decide +kernel
theorem dX1_allowed_29 : decode cX1_allowed 29 = .ok (.iload_n 3, 1) := by decide +kernel
theorem dX1_allowed_30 : decode cX1_allowed 30 = .ok (.sipush 240, 3) := by decide +kernel
theorem dX1_allowed_33 : decode cX1_allowed 33 = .ok (.if_icmp .gt 20, 3) := by decide +kernel
theorem dX1_allowed_36 : decode cX1_allowed 36 = .ok (.aload_n 0, 1) := by decide +kernel
theorem dX1_allowed_37 : decode cX1_allowed 37 = .ok (.iload_n 1, 1) := by decide +kernel
theorem dX1_allowed_38 : decode cX1_allowed 38 = .ok (.iload_n 3, 1) := by decide +kernel
theorem dX1_allowed_39 : decode cX1_allowed 39 = .ok (.invokevirtual 34, 3) := by decide +kernel
theorem dX1_allowed_42 : decode cX1_allowed 42 = .ok (.ifCond .eq 5, 3) := by decide +kernel
theorem dX1_allowed_45 : decode cX1_allowed 45 = .ok (.iload_n 3, 1) := by decide +kernel
theorem dX1_allowed_46 : decode cX1_allowed 46 = .ok (.istore_n 2, 1) := by decide +kernel
theorem dX1_allowed_47 : decode cX1_allowed 47 = .ok (.iinc 3 1, 3) := by decide +kernel
theorem dX1_allowed_50 : decode cX1_allowed 50 = .ok (.goto (-21), 3) := by decide +kernel
theorem dX1_allowed_53 : decode cX1_allowed 53 = .ok (.iload_n 2, 1) := by decide +kernel
theorem dX1_allowed_54 : decode cX1_allowed 54 = .ok (.ireturn, 1) := by decide +kernel
abbrev cX1_complete : ByteArray := prog_3_method_16_code
def yX1_complete : MethodName := ⟨RX1, "complete", "(I)I"⟩
theorem dX1_complete_0 : decode cX1_complete 0 = .ok (.iload_n 1, 1) := by decide +kernel
theorem dX1_complete_1 : decode cX1_complete 1 = .ok (.invokestatic 30, 3) := by decide +kernel
theorem dX1_complete_4 : decode cX1_complete 4 = .ok (.ifCond .eq 5, 3) := by decide +kernel
theorem dX1_complete_7 : decode cX1_complete 7 = .ok (.iconst (-1), 1) := by decide +kernel
theorem dX1_complete_8 : decode cX1_complete 8 = .ok (.ireturn, 1) := by decide +kernel
theorem dX1_complete_9 : decode cX1_complete 9 = .ok (.aload_n 0, 1) := by decide +kernel
theorem dX1_complete_10 : decode cX1_complete 10 = .ok (.getfield 20, 3) := by decide +kernel
theorem dX1_complete_13 : decode cX1_complete 13 = .ok (.iload_n 1, 1) := by decide +kernel
theorem dX1_complete_14 : decode cX1_complete 14 = .ok (.iaload, 1) := by decide +kernel
theorem dX1_complete_15 : decode cX1_complete 15 = .ok (.ifCond .lt 22, 3) := by decide +kernel
theorem dX1_complete_18 : decode cX1_complete 18 = .ok (.aload_n 0, 1) := by decide +kernel
theorem dX1_complete_19 : decode cX1_complete 19 = .ok (.getfield 17, 3) := by decide +kernel
theorem dX1_complete_22 : decode cX1_complete 22 = .ok (.iload_n 1, 1) := by decide +kernel
theorem dX1_complete_23 : decode cX1_complete 23 = .ok (.iaload, 1) := by decide +kernel
theorem dX1_complete_24 : decode cX1_complete 24 = .ok (.aload_n 0, 1) := by decide +kernel
theorem dX1_complete_25 : decode cX1_complete 25 = .ok (.getfield 20, 3) := by decide +kernel
theorem dX1_complete_28 : decode cX1_complete 28 = .ok (.iload_n 1, 1) := by decide +kernel
theorem dX1_complete_29 : decode cX1_complete 29 = .ok (.iaload, 1) := by decide +kernel
theorem dX1_complete_30 : decode cX1_complete 30 = .ok (.if_icmp .ne 7, 3) := by decide +kernel
theorem dX1_complete_33 : decode cX1_complete 33 = .ok (.iconst 1, 1) := by decide +kernel
theorem dX1_complete_34 : decode cX1_complete 34 = .ok (.goto 4, 3) := by decide +kernel
theorem dX1_complete_37 : decode cX1_complete 37 = .ok (.iconst 0, 1) := by decide +kernel
theorem dX1_complete_38 : decode cX1_complete 38 = .ok (.ireturn, 1) := by decide +kernel
theorem q15 : (Jvm.Cond.initialized "StreamAssemblerModel") ∈ lw_all := lw_g (lw_at lw_m0 2 rfl) rfl
theorem q118 : (Jvm.Cond.instantiable "StreamAssemblerModel" (4 : Nat)) ∈ lw_all := lw_g (lw_at lw_m0 105 rfl) rfl
theorem q120 : (Jvm.Cond.instanceMethod ({ cls := "StreamAssemblerModel", name := "<init>", desc := "()V" } : Jvm.MethodName)) ∈ lw_all := lw_g (lw_at lw_m0 107 rfl) rfl
theorem q121 : (Jvm.Cond.code ({ cls := "StreamAssemblerModel", name := "<init>", desc := "()V" } : Jvm.MethodName) prog_3_method_1_code (2 : Nat) (Option.none : Option Jvm.ClassFile.FieldType)) ∈ lw_all := lw_g (lw_at lw_m0 108 rfl) rfl
theorem q122 : (Jvm.Cond.methodLink "StreamAssemblerModel" (1 : Nat) ({ cls := "java/lang/Object", name := "<init>", desc := "()V" } : Jvm.MethodName)) ∈ lw_all := lw_g (lw_at lw_m0 109 rfl) rfl
theorem q123 : (Jvm.Cond.fieldLink "StreamAssemblerModel" (7 : Nat) "StreamAssemblerModel" "known" "[Z") ∈ lw_all := lw_g (lw_at lw_m0 110 rfl) rfl
theorem q124 : (Jvm.Cond.fieldLink "StreamAssemblerModel" (13 : Nat) "StreamAssemblerModel" "bytes" "[I") ∈ lw_all := lw_g (lw_at lw_m0 111 rfl) rfl
theorem q125 : (Jvm.Cond.fieldLink "StreamAssemblerModel" (17 : Nat) "StreamAssemblerModel" "point" "[I") ∈ lw_all := lw_g (lw_at lw_m0 112 rfl) rfl
theorem q126 : (Jvm.Cond.fieldLink "StreamAssemblerModel" (20 : Nat) "StreamAssemblerModel" "ends" "[I") ∈ lw_all := lw_g (lw_at lw_m0 113 rfl) rfl
theorem q127 : (Jvm.Cond.laysFinal "StreamAssemblerModel" "StreamAssemblerModel" "known" "[Z") ∈ lw_all := lw_g (lw_at lw_m0 114 rfl) rfl
theorem q128 : (Jvm.Cond.soleField "StreamAssemblerModel" "known") ∈ lw_all := lw_g (lw_at lw_m0 115 rfl) rfl
theorem q129 : (Jvm.Cond.laysFinal "StreamAssemblerModel" "StreamAssemblerModel" "bytes" "[I") ∈ lw_all := lw_g (lw_at lw_m0 116 rfl) rfl
theorem q130 : (Jvm.Cond.soleField "StreamAssemblerModel" "bytes") ∈ lw_all := lw_g (lw_at lw_m0 117 rfl) rfl
theorem q131 : (Jvm.Cond.laysFinal "StreamAssemblerModel" "StreamAssemblerModel" "point" "[I") ∈ lw_all := lw_g (lw_at lw_m0 118 rfl) rfl
theorem q132 : (Jvm.Cond.soleField "StreamAssemblerModel" "point") ∈ lw_all := lw_g (lw_at lw_m0 119 rfl) rfl
theorem q133 : (Jvm.Cond.laysFinal "StreamAssemblerModel" "StreamAssemblerModel" "ends" "[I") ∈ lw_all := lw_g (lw_at lw_m0 120 rfl) rfl
theorem q134 : (Jvm.Cond.soleField "StreamAssemblerModel" "ends") ∈ lw_all := lw_g (lw_at lw_m0 121 rfl) rfl
theorem q135 : (Jvm.Cond.superclass "StreamAssemblerModel" "java/lang/Object") ∈ lw_all := lw_g (lw_at lw_m0 122 rfl) rfl
theorem q138 : (Jvm.Cond.instanceMethod ({ cls := "StreamAssemblerModel", name := "piece", desc := "(IIII)I" } : Jvm.MethodName)) ∈ lw_all := lw_g (lw_at lw_m0 125 rfl) rfl
theorem q139 : (Jvm.Cond.selects "StreamAssemblerModel" ({ cls := "StreamAssemblerModel", name := "piece", desc := "(IIII)I" } : Jvm.MethodName) ({ cls := "StreamAssemblerModel", name := "piece", desc := "(IIII)I" } : Jvm.MethodName)) ∈ lw_all := lw_g (lw_at lw_m0 126 rfl) rfl
theorem q140 : (Jvm.Cond.code ({ cls := "StreamAssemblerModel", name := "piece", desc := "(IIII)I" } : Jvm.MethodName) prog_3_method_6_code (8 : Nat) (Option.some Jvm.ClassFile.FieldType.int)) ∈ lw_all := lw_g (lw_at lw_m0 127 rfl) rfl
theorem q141 : (Jvm.Cond.methodLink "StreamAssemblerModel" (30 : Nat) ({ cls := "StreamAssemblerModel", name := "bad", desc := "(I)Z" } : Jvm.MethodName)) ∈ lw_all := lw_g (lw_at lw_m0 128 rfl) rfl
theorem q142 : (Jvm.Cond.static ({ cls := "StreamAssemblerModel", name := "bad", desc := "(I)Z" } : Jvm.MethodName)) ∈ lw_all := lw_g (lw_at lw_m0 129 rfl) rfl
theorem q143 : (Jvm.Cond.code ({ cls := "StreamAssemblerModel", name := "bad", desc := "(I)Z" } : Jvm.MethodName) prog_3_method_2_code (1 : Nat) (Option.some Jvm.ClassFile.FieldType.boolean)) ∈ lw_all := lw_g (lw_at lw_m0 130 rfl) rfl
theorem q144 : (Jvm.Cond.methodLink "StreamAssemblerModel" (34 : Nat) ({ cls := "StreamAssemblerModel", name := "fits", desc := "(II)Z" } : Jvm.MethodName)) ∈ lw_all := lw_g (lw_at lw_m0 131 rfl) rfl
theorem q145 : (Jvm.Cond.privateMethod ({ cls := "StreamAssemblerModel", name := "fits", desc := "(II)Z" } : Jvm.MethodName)) ∈ lw_tbl := lw_at lw_m0 132 rfl
theorem q146 : (Jvm.Cond.instanceMethod ({ cls := "StreamAssemblerModel", name := "fits", desc := "(II)Z" } : Jvm.MethodName)) ∈ lw_all := lw_g (lw_at lw_m0 133 rfl) rfl
theorem q147 : (Jvm.Cond.code ({ cls := "StreamAssemblerModel", name := "fits", desc := "(II)Z" } : Jvm.MethodName) prog_3_method_5_code (7 : Nat) (Option.some Jvm.ClassFile.FieldType.boolean)) ∈ lw_all := lw_g (lw_at lw_m0 134 rfl) rfl
theorem q148 : (Jvm.Cond.methodLink "StreamAssemblerModel" (23 : Nat) ({ cls := "StreamAssemblerModel", name := "limit", desc := "(I)I" } : Jvm.MethodName)) ∈ lw_all := lw_g (lw_at lw_m0 135 rfl) rfl
theorem q149 : (Jvm.Cond.privateMethod ({ cls := "StreamAssemblerModel", name := "limit", desc := "(I)I" } : Jvm.MethodName)) ∈ lw_tbl := lw_at lw_m0 136 rfl
theorem q150 : (Jvm.Cond.instanceMethod ({ cls := "StreamAssemblerModel", name := "limit", desc := "(I)I" } : Jvm.MethodName)) ∈ lw_all := lw_g (lw_at lw_m0 137 rfl) rfl
theorem q151 : (Jvm.Cond.code ({ cls := "StreamAssemblerModel", name := "limit", desc := "(I)I" } : Jvm.MethodName) prog_3_method_3_code (2 : Nat) (Option.some Jvm.ClassFile.FieldType.int)) ∈ lw_all := lw_g (lw_at lw_m0 138 rfl) rfl
theorem q152 : (Jvm.Cond.methodLink "StreamAssemblerModel" (27 : Nat) ({ cls := "StreamAssemblerModel", name := "top", desc := "(I)I" } : Jvm.MethodName)) ∈ lw_all := lw_g (lw_at lw_m0 139 rfl) rfl
theorem q153 : (Jvm.Cond.privateMethod ({ cls := "StreamAssemblerModel", name := "top", desc := "(I)I" } : Jvm.MethodName)) ∈ lw_tbl := lw_at lw_m0 140 rfl
theorem q154 : (Jvm.Cond.instanceMethod ({ cls := "StreamAssemblerModel", name := "top", desc := "(I)I" } : Jvm.MethodName)) ∈ lw_all := lw_g (lw_at lw_m0 141 rfl) rfl
theorem q155 : (Jvm.Cond.code ({ cls := "StreamAssemblerModel", name := "top", desc := "(I)I" } : Jvm.MethodName) prog_3_method_4_code (3 : Nat) (Option.some Jvm.ClassFile.FieldType.int)) ∈ lw_all := lw_g (lw_at lw_m0 142 rfl) rfl
theorem q157 : (Jvm.Cond.instanceMethod ({ cls := "StreamAssemblerModel", name := "finish", desc := "(II)I" } : Jvm.MethodName)) ∈ lw_all := lw_g (lw_at lw_m0 144 rfl) rfl
theorem q158 : (Jvm.Cond.selects "StreamAssemblerModel" ({ cls := "StreamAssemblerModel", name := "finish", desc := "(II)I" } : Jvm.MethodName) ({ cls := "StreamAssemblerModel", name := "finish", desc := "(II)I" } : Jvm.MethodName)) ∈ lw_all := lw_g (lw_at lw_m0 145 rfl) rfl
theorem q159 : (Jvm.Cond.code ({ cls := "StreamAssemblerModel", name := "finish", desc := "(II)I" } : Jvm.MethodName) prog_3_method_7_code (3 : Nat) (Option.some Jvm.ClassFile.FieldType.int)) ∈ lw_all := lw_g (lw_at lw_m0 146 rfl) rfl
theorem q161 : (Jvm.Cond.instanceMethod ({ cls := "StreamAssemblerModel", name := "read", desc := "(I)I" } : Jvm.MethodName)) ∈ lw_all := lw_g (lw_at lw_m0 148 rfl) rfl
theorem q162 : (Jvm.Cond.selects "StreamAssemblerModel" ({ cls := "StreamAssemblerModel", name := "read", desc := "(I)I" } : Jvm.MethodName) ({ cls := "StreamAssemblerModel", name := "read", desc := "(I)I" } : Jvm.MethodName)) ∈ lw_all := lw_g (lw_at lw_m0 149 rfl) rfl
theorem q163 : (Jvm.Cond.code ({ cls := "StreamAssemblerModel", name := "read", desc := "(I)I" } : Jvm.MethodName) prog_3_method_9_code (2 : Nat) (Option.some Jvm.ClassFile.FieldType.int)) ∈ lw_all := lw_g (lw_at lw_m0 150 rfl) rfl
theorem q164 : (Jvm.Cond.methodLink "StreamAssemblerModel" (38 : Nat) ({ cls := "StreamAssemblerModel", name := "isKnown", desc := "(II)Z" } : Jvm.MethodName)) ∈ lw_all := lw_g (lw_at lw_m0 151 rfl) rfl
theorem q165 : (Jvm.Cond.privateMethod ({ cls := "StreamAssemblerModel", name := "isKnown", desc := "(II)Z" } : Jvm.MethodName)) ∈ lw_tbl := lw_at lw_m0 152 rfl
theorem q166 : (Jvm.Cond.instanceMethod ({ cls := "StreamAssemblerModel", name := "isKnown", desc := "(II)Z" } : Jvm.MethodName)) ∈ lw_all := lw_g (lw_at lw_m0 153 rfl) rfl
theorem q167 : (Jvm.Cond.code ({ cls := "StreamAssemblerModel", name := "isKnown", desc := "(II)Z" } : Jvm.MethodName) prog_3_method_8_code (3 : Nat) (Option.some Jvm.ClassFile.FieldType.boolean)) ∈ lw_all := lw_g (lw_at lw_m0 154 rfl) rfl
theorem q169 : (Jvm.Cond.instanceMethod ({ cls := "StreamAssemblerModel", name := "readable", desc := "(I)I" } : Jvm.MethodName)) ∈ lw_all := lw_g (lw_at lw_m0 156 rfl) rfl
theorem q170 : (Jvm.Cond.selects "StreamAssemblerModel" ({ cls := "StreamAssemblerModel", name := "readable", desc := "(I)I" } : Jvm.MethodName) ({ cls := "StreamAssemblerModel", name := "readable", desc := "(I)I" } : Jvm.MethodName)) ∈ lw_all := lw_g (lw_at lw_m0 157 rfl) rfl
theorem q171 : (Jvm.Cond.code ({ cls := "StreamAssemblerModel", name := "readable", desc := "(I)I" } : Jvm.MethodName) prog_3_method_10_code (3 : Nat) (Option.some Jvm.ClassFile.FieldType.int)) ∈ lw_all := lw_g (lw_at lw_m0 158 rfl) rfl
theorem q173 : (Jvm.Cond.instanceMethod ({ cls := "StreamAssemblerModel", name := "highest", desc := "(I)I" } : Jvm.MethodName)) ∈ lw_all := lw_g (lw_at lw_m0 160 rfl) rfl
theorem q174 : (Jvm.Cond.selects "StreamAssemblerModel" ({ cls := "StreamAssemblerModel", name := "highest", desc := "(I)I" } : Jvm.MethodName) ({ cls := "StreamAssemblerModel", name := "highest", desc := "(I)I" } : Jvm.MethodName)) ∈ lw_all := lw_g (lw_at lw_m0 161 rfl) rfl
theorem q175 : (Jvm.Cond.code ({ cls := "StreamAssemblerModel", name := "highest", desc := "(I)I" } : Jvm.MethodName) prog_3_method_11_code (2 : Nat) (Option.some Jvm.ClassFile.FieldType.int)) ∈ lw_all := lw_g (lw_at lw_m0 162 rfl) rfl
theorem q177 : (Jvm.Cond.instanceMethod ({ cls := "StreamAssemblerModel", name := "gaps", desc := "(I)I" } : Jvm.MethodName)) ∈ lw_all := lw_g (lw_at lw_m0 164 rfl) rfl
theorem q178 : (Jvm.Cond.selects "StreamAssemblerModel" ({ cls := "StreamAssemblerModel", name := "gaps", desc := "(I)I" } : Jvm.MethodName) ({ cls := "StreamAssemblerModel", name := "gaps", desc := "(I)I" } : Jvm.MethodName)) ∈ lw_all := lw_g (lw_at lw_m0 165 rfl) rfl
theorem q179 : (Jvm.Cond.code ({ cls := "StreamAssemblerModel", name := "gaps", desc := "(I)I" } : Jvm.MethodName) prog_3_method_13_code (4 : Nat) (Option.some Jvm.ClassFile.FieldType.int)) ∈ lw_all := lw_g (lw_at lw_m0 166 rfl) rfl
theorem q180 : (Jvm.Cond.methodLink "StreamAssemblerModel" (41 : Nat) ({ cls := "StreamAssemblerModel", name := "begins", desc := "(II)Z" } : Jvm.MethodName)) ∈ lw_all := lw_g (lw_at lw_m0 167 rfl) rfl
theorem q181 : (Jvm.Cond.privateMethod ({ cls := "StreamAssemblerModel", name := "begins", desc := "(II)Z" } : Jvm.MethodName)) ∈ lw_tbl := lw_at lw_m0 168 rfl
theorem q182 : (Jvm.Cond.instanceMethod ({ cls := "StreamAssemblerModel", name := "begins", desc := "(II)Z" } : Jvm.MethodName)) ∈ lw_all := lw_g (lw_at lw_m0 169 rfl) rfl
theorem q183 : (Jvm.Cond.code ({ cls := "StreamAssemblerModel", name := "begins", desc := "(II)Z" } : Jvm.MethodName) prog_3_method_12_code (3 : Nat) (Option.some Jvm.ClassFile.FieldType.boolean)) ∈ lw_all := lw_g (lw_at lw_m0 170 rfl) rfl
theorem q185 : (Jvm.Cond.instanceMethod ({ cls := "StreamAssemblerModel", name := "gap", desc := "(II)I" } : Jvm.MethodName)) ∈ lw_all := lw_g (lw_at lw_m0 172 rfl) rfl
theorem q186 : (Jvm.Cond.selects "StreamAssemblerModel" ({ cls := "StreamAssemblerModel", name := "gap", desc := "(II)I" } : Jvm.MethodName) ({ cls := "StreamAssemblerModel", name := "gap", desc := "(II)I" } : Jvm.MethodName)) ∈ lw_all := lw_g (lw_at lw_m0 173 rfl) rfl
theorem q187 : (Jvm.Cond.code ({ cls := "StreamAssemblerModel", name := "gap", desc := "(II)I" } : Jvm.MethodName) prog_3_method_14_code (5 : Nat) (Option.some Jvm.ClassFile.FieldType.int)) ∈ lw_all := lw_g (lw_at lw_m0 174 rfl) rfl
theorem q189 : (Jvm.Cond.instanceMethod ({ cls := "StreamAssemblerModel", name := "allowed", desc := "(I)I" } : Jvm.MethodName)) ∈ lw_all := lw_g (lw_at lw_m0 176 rfl) rfl
theorem q190 : (Jvm.Cond.selects "StreamAssemblerModel" ({ cls := "StreamAssemblerModel", name := "allowed", desc := "(I)I" } : Jvm.MethodName) ({ cls := "StreamAssemblerModel", name := "allowed", desc := "(I)I" } : Jvm.MethodName)) ∈ lw_all := lw_g (lw_at lw_m0 177 rfl) rfl
theorem q191 : (Jvm.Cond.code ({ cls := "StreamAssemblerModel", name := "allowed", desc := "(I)I" } : Jvm.MethodName) prog_3_method_15_code (4 : Nat) (Option.some Jvm.ClassFile.FieldType.int)) ∈ lw_all := lw_g (lw_at lw_m0 178 rfl) rfl
theorem q193 : (Jvm.Cond.instanceMethod ({ cls := "StreamAssemblerModel", name := "complete", desc := "(I)I" } : Jvm.MethodName)) ∈ lw_all := lw_g (lw_at lw_m0 180 rfl) rfl
theorem q194 : (Jvm.Cond.selects "StreamAssemblerModel" ({ cls := "StreamAssemblerModel", name := "complete", desc := "(I)I" } : Jvm.MethodName) ({ cls := "StreamAssemblerModel", name := "complete", desc := "(I)I" } : Jvm.MethodName)) ∈ lw_all := lw_g (lw_at lw_m0 181 rfl) rfl
theorem q195 : (Jvm.Cond.code ({ cls := "StreamAssemblerModel", name := "complete", desc := "(I)I" } : Jvm.MethodName) prog_3_method_16_code (2 : Nat) (Option.some Jvm.ClassFile.FieldType.int)) ∈ lw_all := lw_g (lw_at lw_m0 182 rfl) rfl
theorem in_X1 : ∀ w ∈ wsX10, w ∈ lw_all := lw_in wsX10 [127, 129, 131, 133] (by decide +kernel) (by decide +kernel)
end
section
set_option maxRecDepth 100000
/-! java/lang/Object -/
def RJ0 : String := "java/lang/Object"
abbrev cJ0_init : ByteArray := object_method_1_code
def yJ0_init : MethodName := ⟨RJ0, "<init>", "()V"⟩
theorem dJ0_init_0 : decode cJ0_init 0 = .ok (.return_, 1) := by decide +kernel
theorem q22 : (Jvm.Cond.instanceMethod ({ cls := "java/lang/Object", name := "<init>", desc := "()V" } : Jvm.MethodName)) ∈ lw_all := lw_g (lw_at lw_m0 9 rfl) rfl
theorem q23 : (Jvm.Cond.code ({ cls := "java/lang/Object", name := "<init>", desc := "()V" } : Jvm.MethodName) object_method_1_code (1 : Nat) (Option.none : Option Jvm.ClassFile.FieldType)) ∈ lw_all := lw_g (lw_at lw_m0 10 rfl) rfl
theorem q43 : (Jvm.Cond.arrayClass Jvm.ClassFile.FieldType.int) ∈ lw_all := lw_g (lw_at lw_m0 30 rfl) rfl
theorem q136 : (Jvm.Cond.arrayClass Jvm.ClassFile.FieldType.boolean) ∈ lw_all := lw_g (lw_at lw_m0 123 rfl) rfl
theorem q13 : (Jvm.Cond.initialized "StreamAssemblerLaw") ∈ lw_all := lw_g (lw_at lw_m0 0 rfl) rfl
theorem q16 : (Jvm.Cond.classLink "StreamAssemblerLaw" (7 : Nat) "StreamAssembler") ∈ lw_all := lw_g (lw_at lw_m0 3 rfl) rfl
theorem q18 : (Jvm.Cond.methodLink "StreamAssemblerLaw" (9 : Nat) ({ cls := "StreamAssembler", name := "<init>", desc := "()V" } : Jvm.MethodName)) ∈ lw_all := lw_g (lw_at lw_m0 5 rfl) rfl
theorem q44 : (Jvm.Cond.methodLink "StreamAssemblerLaw" (13 : Nat) ({ cls := "StreamAssembler", name := "piece", desc := "(IIII)I" } : Jvm.MethodName)) ∈ lw_all := lw_g (lw_at lw_m0 31 rfl) rfl
theorem q83 : (Jvm.Cond.methodLink "StreamAssemblerLaw" (18 : Nat) ({ cls := "StreamAssembler", name := "finish", desc := "(II)I" } : Jvm.MethodName)) ∈ lw_all := lw_g (lw_at lw_m0 70 rfl) rfl
theorem q87 : (Jvm.Cond.methodLink "StreamAssemblerLaw" (23 : Nat) ({ cls := "StreamAssembler", name := "read", desc := "(I)I" } : Jvm.MethodName)) ∈ lw_all := lw_g (lw_at lw_m0 74 rfl) rfl
theorem q91 : (Jvm.Cond.methodLink "StreamAssemblerLaw" (28 : Nat) ({ cls := "StreamAssembler", name := "readable", desc := "(I)I" } : Jvm.MethodName)) ∈ lw_all := lw_g (lw_at lw_m0 78 rfl) rfl
theorem q95 : (Jvm.Cond.methodLink "StreamAssemblerLaw" (32 : Nat) ({ cls := "StreamAssembler", name := "highest", desc := "(I)I" } : Jvm.MethodName)) ∈ lw_all := lw_g (lw_at lw_m0 82 rfl) rfl
theorem q96 : (Jvm.Cond.methodLink "StreamAssemblerLaw" (36 : Nat) ({ cls := "StreamAssembler", name := "gaps", desc := "(I)I" } : Jvm.MethodName)) ∈ lw_all := lw_g (lw_at lw_m0 83 rfl) rfl
theorem q104 : (Jvm.Cond.methodLink "StreamAssemblerLaw" (40 : Nat) ({ cls := "StreamAssembler", name := "gap", desc := "(II)I" } : Jvm.MethodName)) ∈ lw_all := lw_g (lw_at lw_m0 91 rfl) rfl
theorem q109 : (Jvm.Cond.methodLink "StreamAssemblerLaw" (44 : Nat) ({ cls := "StreamAssembler", name := "allowed", desc := "(I)I" } : Jvm.MethodName)) ∈ lw_all := lw_g (lw_at lw_m0 96 rfl) rfl
theorem q113 : (Jvm.Cond.methodLink "StreamAssemblerLaw" (48 : Nat) ({ cls := "StreamAssembler", name := "complete", desc := "(I)I" } : Jvm.MethodName)) ∈ lw_all := lw_g (lw_at lw_m0 100 rfl) rfl
theorem q117 : (Jvm.Cond.classLink "StreamAssemblerLaw" (10 : Nat) "StreamAssemblerModel") ∈ lw_all := lw_g (lw_at lw_m0 104 rfl) rfl
theorem q119 : (Jvm.Cond.methodLink "StreamAssemblerLaw" (12 : Nat) ({ cls := "StreamAssemblerModel", name := "<init>", desc := "()V" } : Jvm.MethodName)) ∈ lw_all := lw_g (lw_at lw_m0 106 rfl) rfl
theorem q137 : (Jvm.Cond.methodLink "StreamAssemblerLaw" (17 : Nat) ({ cls := "StreamAssemblerModel", name := "piece", desc := "(IIII)I" } : Jvm.MethodName)) ∈ lw_all := lw_g (lw_at lw_m0 124 rfl) rfl
theorem q156 : (Jvm.Cond.methodLink "StreamAssemblerLaw" (22 : Nat) ({ cls := "StreamAssemblerModel", name := "finish", desc := "(II)I" } : Jvm.MethodName)) ∈ lw_all := lw_g (lw_at lw_m0 143 rfl) rfl
theorem q160 : (Jvm.Cond.methodLink "StreamAssemblerLaw" (27 : Nat) ({ cls := "StreamAssemblerModel", name := "read", desc := "(I)I" } : Jvm.MethodName)) ∈ lw_all := lw_g (lw_at lw_m0 147 rfl) rfl
theorem q168 : (Jvm.Cond.methodLink "StreamAssemblerLaw" (31 : Nat) ({ cls := "StreamAssemblerModel", name := "readable", desc := "(I)I" } : Jvm.MethodName)) ∈ lw_all := lw_g (lw_at lw_m0 155 rfl) rfl
theorem q172 : (Jvm.Cond.methodLink "StreamAssemblerLaw" (35 : Nat) ({ cls := "StreamAssemblerModel", name := "highest", desc := "(I)I" } : Jvm.MethodName)) ∈ lw_all := lw_g (lw_at lw_m0 159 rfl) rfl
theorem q176 : (Jvm.Cond.methodLink "StreamAssemblerLaw" (39 : Nat) ({ cls := "StreamAssemblerModel", name := "gaps", desc := "(I)I" } : Jvm.MethodName)) ∈ lw_all := lw_g (lw_at lw_m0 163 rfl) rfl
theorem q184 : (Jvm.Cond.methodLink "StreamAssemblerLaw" (43 : Nat) ({ cls := "StreamAssemblerModel", name := "gap", desc := "(II)I" } : Jvm.MethodName)) ∈ lw_all := lw_g (lw_at lw_m0 171 rfl) rfl
theorem q188 : (Jvm.Cond.methodLink "StreamAssemblerLaw" (47 : Nat) ({ cls := "StreamAssemblerModel", name := "allowed", desc := "(I)I" } : Jvm.MethodName)) ∈ lw_all := lw_g (lw_at lw_m0 175 rfl) rfl
theorem q192 : (Jvm.Cond.methodLink "StreamAssemblerLaw" (51 : Nat) ({ cls := "StreamAssemblerModel", name := "complete", desc := "(I)I" } : Jvm.MethodName)) ∈ lw_all := lw_g (lw_at lw_m0 179 rfl) rfl
/-! the law's own entry -/
abbrev cL_law : ByteArray := code
theorem dL_law_0 : decode cL_law 0 = .ok (.new 7, 3) := by decide +kernel
theorem dL_law_3 : decode cL_law 3 = .ok (.dup, 1) := by decide +kernel
theorem dL_law_4 : decode cL_law 4 = .ok (.invokespecial 9, 3) := by decide +kernel
theorem dL_law_7 : decode cL_law 7 = .ok (.astore_n 1, 1) := by decide +kernel
theorem dL_law_8 : decode cL_law 8 = .ok (.new 10, 3) := by decide +kernel
theorem dL_law_11 : decode cL_law 11 = .ok (.dup, 1) := by decide +kernel
theorem dL_law_12 : decode cL_law 12 = .ok (.invokespecial 12, 3) := by decide +kernel
theorem dL_law_15 : decode cL_law 15 = .ok (.astore_n 2, 1) := by decide +kernel
theorem dL_law_16 : decode cL_law 16 = .ok (.iconst 0, 1) := by decide +kernel
theorem dL_law_17 : decode cL_law 17 = .ok (.istore_n 3, 1) := by decide +kernel
theorem dL_law_18 : decode cL_law 18 = .ok (.iload_n 3, 1) := by decide +kernel
theorem dL_law_19 : decode cL_law 19 = .ok (.aload_n 0, 1) := by decide +kernel
theorem dL_law_20 : decode cL_law 20 = .ok (.arraylength, 1) := by decide +kernel
theorem dL_law_21 : decode cL_law 21 = .ok (.iconst 5, 1) := by decide +kernel
theorem dL_law_22 : decode cL_law 22 = .ok (.isub, 1) := by decide +kernel
theorem dL_law_23 : decode cL_law 23 = .ok (.if_icmp .gt 324, 3) := by decide +kernel
theorem dL_law_26 : decode cL_law 26 = .ok (.aload_n 0, 1) := by decide +kernel
theorem dL_law_27 : decode cL_law 27 = .ok (.iload_n 3, 1) := by decide +kernel
theorem dL_law_28 : decode cL_law 28 = .ok (.iaload, 1) := by decide +kernel
theorem dL_law_29 : decode cL_law 29 = .ok (.bipush 15, 2) := by decide +kernel
theorem dL_law_31 : decode cL_law 31 = .ok (.iand, 1) := by decide +kernel
theorem dL_law_32 : decode cL_law 32 = .ok (.tableswitch 309 0 8 #[52, 105, 138, 161, 184, 207, 230, 263, 286], 52) := by decide +kernel
theorem dL_law_84 : decode cL_law 84 = .ok (.aload_n 1, 1) := by decide +kernel
theorem dL_law_85 : decode cL_law 85 = .ok (.aload_n 0, 1) := by decide +kernel
theorem dL_law_86 : decode cL_law 86 = .ok (.iload_n 3, 1) := by decide +kernel
theorem dL_law_87 : decode cL_law 87 = .ok (.iconst 1, 1) := by decide +kernel
theorem dL_law_88 : decode cL_law 88 = .ok (.iadd, 1) := by decide +kernel
theorem dL_law_89 : decode cL_law 89 = .ok (.iaload, 1) := by decide +kernel
theorem dL_law_90 : decode cL_law 90 = .ok (.aload_n 0, 1) := by decide +kernel
theorem dL_law_91 : decode cL_law 91 = .ok (.iload_n 3, 1) := by decide +kernel
theorem dL_law_92 : decode cL_law 92 = .ok (.iconst 2, 1) := by decide +kernel
theorem dL_law_93 : decode cL_law 93 = .ok (.iadd, 1) := by decide +kernel
theorem dL_law_94 : decode cL_law 94 = .ok (.iaload, 1) := by decide +kernel
theorem dL_law_95 : decode cL_law 95 = .ok (.aload_n 0, 1) := by decide +kernel
theorem dL_law_96 : decode cL_law 96 = .ok (.iload_n 3, 1) := by decide +kernel
theorem dL_law_97 : decode cL_law 97 = .ok (.iconst 3, 1) := by decide +kernel
theorem dL_law_98 : decode cL_law 98 = .ok (.iadd, 1) := by decide +kernel
theorem dL_law_99 : decode cL_law 99 = .ok (.iaload, 1) := by decide +kernel
theorem dL_law_100 : decode cL_law 100 = .ok (.aload_n 0, 1) := by decide +kernel
theorem dL_law_101 : decode cL_law 101 = .ok (.iload_n 3, 1) := by decide +kernel
theorem dL_law_102 : decode cL_law 102 = .ok (.iconst 4, 1) := by decide +kernel
theorem dL_law_103 : decode cL_law 103 = .ok (.iadd, 1) := by decide +kernel
theorem dL_law_104 : decode cL_law 104 = .ok (.iaload, 1) := by decide +kernel
theorem dL_law_105 : decode cL_law 105 = .ok (.invokevirtual 13, 3) := by decide +kernel
theorem dL_law_108 : decode cL_law 108 = .ok (.aload_n 2, 1) := by decide +kernel
theorem dL_law_109 : decode cL_law 109 = .ok (.aload_n 0, 1) := by decide +kernel
theorem dL_law_110 : decode cL_law 110 = .ok (.iload_n 3, 1) := by decide +kernel
theorem dL_law_111 : decode cL_law 111 = .ok (.iconst 1, 1) := by decide +kernel
theorem dL_law_112 : decode cL_law 112 = .ok (.iadd, 1) := by decide +kernel
theorem dL_law_113 : decode cL_law 113 = .ok (.iaload, 1) := by decide +kernel
theorem dL_law_114 : decode cL_law 114 = .ok (.aload_n 0, 1) := by decide +kernel
theorem dL_law_115 : decode cL_law 115 = .ok (.iload_n 3, 1) := by decide +kernel
theorem dL_law_116 : decode cL_law 116 = .ok (.iconst 2, 1) := by decide +kernel
theorem dL_law_117 : decode cL_law 117 = .ok (.iadd, 1) := by decide +kernel
theorem dL_law_118 : decode cL_law 118 = .ok (.iaload, 1) := by decide +kernel
theorem dL_law_119 : decode cL_law 119 = .ok (.aload_n 0, 1) := by decide +kernel
theorem dL_law_120 : decode cL_law 120 = .ok (.iload_n 3, 1) := by decide +kernel
theorem dL_law_121 : decode cL_law 121 = .ok (.iconst 3, 1) := by decide +kernel
theorem dL_law_122 : decode cL_law 122 = .ok (.iadd, 1) := by decide +kernel
theorem dL_law_123 : decode cL_law 123 = .ok (.iaload, 1) := by decide +kernel
theorem dL_law_124 : decode cL_law 124 = .ok (.aload_n 0, 1) := by decide +kernel
theorem dL_law_125 : decode cL_law 125 = .ok (.iload_n 3, 1) := by decide +kernel
theorem dL_law_126 : decode cL_law 126 = .ok (.iconst 4, 1) := by decide +kernel
theorem dL_law_127 : decode cL_law 127 = .ok (.iadd, 1) := by decide +kernel
theorem dL_law_128 : decode cL_law 128 = .ok (.iaload, 1) := by decide +kernel
theorem dL_law_129 : decode cL_law 129 = .ok (.invokevirtual 17, 3) := by decide +kernel
theorem dL_law_132 : decode cL_law 132 = .ok (.if_icmp .eq 209, 3) := by decide +kernel
theorem dL_law_135 : decode cL_law 135 = .ok (.iconst 0, 1) := by decide +kernel
theorem dL_law_136 : decode cL_law 136 = .ok (.ireturn, 1) := by decide +kernel
theorem dL_law_137 : decode cL_law 137 = .ok (.aload_n 1, 1) := by decide +kernel
theorem dL_law_138 : decode cL_law 138 = .ok (.aload_n 0, 1) := by decide +kernel
theorem dL_law_139 : decode cL_law 139 = .ok (.iload_n 3, 1) := by decide +kernel
theorem dL_law_140 : decode cL_law 140 = .ok (.iconst 1, 1) := by decide +kernel
theorem dL_law_141 : decode cL_law 141 = .ok (.iadd, 1) := by decide +kernel
theorem dL_law_142 : decode cL_law 142 = .ok (.iaload, 1) := by decide +kernel
theorem dL_law_143 : decode cL_law 143 = .ok (.aload_n 0, 1) := by decide +kernel
theorem dL_law_144 : decode cL_law 144 = .ok (.iload_n 3, 1) := by decide +kernel
theorem dL_law_145 : decode cL_law 145 = .ok (.iconst 2, 1) := by decide +kernel
theorem dL_law_146 : decode cL_law 146 = .ok (.iadd, 1) := by decide +kernel
theorem dL_law_147 : decode cL_law 147 = .ok (.iaload, 1) := by decide +kernel
theorem dL_law_148 : decode cL_law 148 = .ok (.invokevirtual 18, 3) := by decide +kernel
theorem dL_law_151 : decode cL_law 151 = .ok (.aload_n 2, 1) := by decide +kernel
theorem dL_law_152 : decode cL_law 152 = .ok (.aload_n 0, 1) := by decide +kernel
theorem dL_law_153 : decode cL_law 153 = .ok (.iload_n 3, 1) := by decide +kernel
theorem dL_law_154 : decode cL_law 154 = .ok (.iconst 1, 1) := by decide +kernel
theorem dL_law_155 : decode cL_law 155 = .ok (.iadd, 1) := by decide +kernel
theorem dL_law_156 : decode cL_law 156 = .ok (.iaload, 1) := by decide +kernel
theorem dL_law_157 : decode cL_law 157 = .ok (.aload_n 0, 1) := by decide +kernel
theorem dL_law_158 : decode cL_law 158 = .ok (.iload_n 3, 1) := by decide +kernel
theorem dL_law_159 : decode cL_law 159 = .ok (.iconst 2, 1) := by decide +kernel
theorem dL_law_160 : decode cL_law 160 = .ok (.iadd, 1) := by decide +kernel
theorem dL_law_161 : decode cL_law 161 = .ok (.iaload, 1) := by decide +kernel
theorem dL_law_162 : decode cL_law 162 = .ok (.invokevirtual 22, 3) := by decide +kernel
theorem dL_law_165 : decode cL_law 165 = .ok (.if_icmp .eq 176, 3) := by decide +kernel
theorem dL_law_168 : decode cL_law 168 = .ok (.iconst 0, 1) := by decide +kernel
theorem dL_law_169 : decode cL_law 169 = .ok (.ireturn, 1) := by decide +kernel
theorem dL_law_170 : decode cL_law 170 = .ok (.aload_n 1, 1) := by decide +kernel
theorem dL_law_171 : decode cL_law 171 = .ok (.aload_n 0, 1) := by decide +kernel
theorem dL_law_172 : decode cL_law 172 = .ok (.iload_n 3, 1) := by decide +kernel
theorem dL_law_173 : decode cL_law 173 = .ok (.iconst 1, 1) := by decide +kernel
theorem dL_law_174 : decode cL_law 174 = .ok (.iadd, 1) := by decide +kernel
theorem dL_law_175 : decode cL_law 175 = .ok (.iaload, 1) := by decide +kernel
theorem dL_law_176 : decode cL_law 176 = .ok (.invokevirtual 23, 3) := by decide +kernel
theorem dL_law_179 : decode cL_law 179 = .ok (.aload_n 2, 1) := by decide +kernel
theorem dL_law_180 : decode cL_law 180 = .ok (.aload_n 0, 1) := by decide +kernel
theorem dL_law_181 : decode cL_law 181 = .ok (.iload_n 3, 1) := by decide +kernel
theorem dL_law_182 : decode cL_law 182 = .ok (.iconst 1, 1) := by decide +kernel
theorem dL_law_183 : decode cL_law 183 = .ok (.iadd, 1) := by decide +kernel
theorem dL_law_184 : decode cL_law 184 = .ok (.iaload, 1) := by decide +kernel
theorem dL_law_185 : decode cL_law 185 = .ok (.invokevirtual 27, 3) := by decide +kernel
theorem dL_law_188 : decode cL_law 188 = .ok (.if_icmp .eq 153, 3) := by decide +kernel
theorem dL_law_191 : decode cL_law 191 = .ok (.iconst 0, 1) := by decide +kernel
theorem dL_law_192 : decode cL_law 192 = .ok (.ireturn, 1) := by decide +kernel
theorem dL_law_193 : decode cL_law 193 = .ok (.aload_n 1, 1) := by decide +kernel
theorem dL_law_194 : decode cL_law 194 = .ok (.aload_n 0, 1) := by decide +kernel
theorem dL_law_195 : decode cL_law 195 = .ok (.iload_n 3, 1) := by decide +kernel
theorem dL_law_196 : decode cL_law 196 = .ok (.iconst 1, 1) := by decide +kernel
theorem dL_law_197 : decode cL_law 197 = .ok (.iadd, 1) := by decide +kernel
theorem dL_law_198 : decode cL_law 198 = .ok (.iaload, 1) := by decide +kernel
theorem dL_law_199 : decode cL_law 199 = .ok (.invokevirtual 28, 3) := by decide +kernel
theorem dL_law_202 : decode cL_law 202 = .ok (.aload_n 2, 1) := by decide +kernel
theorem dL_law_203 : decode cL_law 203 = .ok (.aload_n 0, 1) := by decide +kernel
theorem dL_law_204 : decode cL_law 204 = .ok (.iload_n 3, 1) := by decide +kernel
theorem dL_law_205 : decode cL_law 205 = .ok (.iconst 1, 1) := by decide +kernel
theorem dL_law_206 : decode cL_law 206 = .ok (.iadd, 1) := by decide +kernel
theorem dL_law_207 : decode cL_law 207 = .ok (.iaload, 1) := by decide +kernel
theorem dL_law_208 : decode cL_law 208 = .ok (.invokevirtual 31, 3) := by decide +kernel
theorem dL_law_211 : decode cL_law 211 = .ok (.if_icmp .eq 130, 3) := by decide +kernel
theorem dL_law_214 : decode cL_law 214 = .ok (.iconst 0, 1) := by decide +kernel
theorem dL_law_215 : decode cL_law 215 = .ok (.ireturn, 1) := by decide +kernel
theorem dL_law_216 : decode cL_law 216 = .ok (.aload_n 1, 1) := by decide +kernel
theorem dL_law_217 : decode cL_law 217 = .ok (.aload_n 0, 1) := by decide +kernel
theorem dL_law_218 : decode cL_law 218 = .ok (.iload_n 3, 1) := by decide +kernel
theorem dL_law_219 : decode cL_law 219 = .ok (.iconst 1, 1) := by decide +kernel
theorem dL_law_220 : decode cL_law 220 = .ok (.iadd, 1) := by decide +kernel
theorem dL_law_221 : decode cL_law 221 = .ok (.iaload, 1) := by decide +kernel
theorem dL_law_222 : decode cL_law 222 = .ok (.invokevirtual 32, 3) := by decide +kernel
theorem dL_law_225 : decode cL_law 225 = .ok (.aload_n 2, 1) := by decide +kernel
theorem dL_law_226 : decode cL_law 226 = .ok (.aload_n 0, 1) := by decide +kernel
theorem dL_law_227 : decode cL_law 227 = .ok (.iload_n 3, 1) := by decide +kernel
theorem dL_law_228 : decode cL_law 228 = .ok (.iconst 1, 1) := by decide +kernel
theorem dL_law_229 : decode cL_law 229 = .ok (.iadd, 1) := by decide +kernel
theorem dL_law_230 : decode cL_law 230 = .ok (.iaload, 1) := by decide +kernel
theorem dL_law_231 : decode cL_law 231 = .ok (.invokevirtual 35, 3) := by decide +kernel
theorem dL_law_234 : decode cL_law 234 = .ok (.if_icmp .eq 107, 3) := by decide +kernel
theorem dL_law_237 : decode cL_law 237 = .ok (.iconst 0, 1) := by decide +kernel
theorem dL_law_238 : decode cL_law 238 = .ok (.ireturn, 1) := by decide +kernel
theorem dL_law_239 : decode cL_law 239 = .ok (.aload_n 1, 1) := by decide +kernel
theorem dL_law_240 : decode cL_law 240 = .ok (.aload_n 0, 1) := by decide +kernel
theorem dL_law_241 : decode cL_law 241 = .ok (.iload_n 3, 1) := by decide +kernel
theorem dL_law_242 : decode cL_law 242 = .ok (.iconst 1, 1) := by decide +kernel
theorem dL_law_243 : decode cL_law 243 = .ok (.iadd, 1) := by decide +kernel
theorem dL_law_244 : decode cL_law 244 = .ok (.iaload, 1) := by decide +kernel
theorem dL_law_245 : decode cL_law 245 = .ok (.invokevirtual 36, 3) := by decide +kernel
theorem dL_law_248 : decode cL_law 248 = .ok (.aload_n 2, 1) := by decide +kernel
theorem dL_law_249 : decode cL_law 249 = .ok (.aload_n 0, 1) := by decide +kernel
theorem dL_law_250 : decode cL_law 250 = .ok (.iload_n 3, 1) := by decide +kernel
theorem dL_law_251 : decode cL_law 251 = .ok (.iconst 1, 1) := by decide +kernel
theorem dL_law_252 : decode cL_law 252 = .ok (.iadd, 1) := by decide +kernel
theorem dL_law_253 : decode cL_law 253 = .ok (.iaload, 1) := by decide +kernel
theorem dL_law_254 : decode cL_law 254 = .ok (.invokevirtual 39, 3) := by decide +kernel
theorem dL_law_257 : decode cL_law 257 = .ok (.if_icmp .eq 84, 3) := by decide +kernel
theorem dL_law_260 : decode cL_law 260 = .ok (.iconst 0, 1) := by decide +kernel
theorem dL_law_261 : decode cL_law 261 = .ok (.ireturn, 1) := by decide +kernel
theorem dL_law_262 : decode cL_law 262 = .ok (.aload_n 1, 1) := by decide +kernel
theorem dL_law_263 : decode cL_law 263 = .ok (.aload_n 0, 1) := by decide +kernel
theorem dL_law_264 : decode cL_law 264 = .ok (.iload_n 3, 1) := by decide +kernel
theorem dL_law_265 : decode cL_law 265 = .ok (.iconst 1, 1) := by decide +kernel
theorem dL_law_266 : decode cL_law 266 = .ok (.iadd, 1) := by decide +kernel
theorem dL_law_267 : decode cL_law 267 = .ok (.iaload, 1) := by decide +kernel
theorem dL_law_268 : decode cL_law 268 = .ok (.aload_n 0, 1) := by decide +kernel
theorem dL_law_269 : decode cL_law 269 = .ok (.iload_n 3, 1) := by decide +kernel
theorem dL_law_270 : decode cL_law 270 = .ok (.iconst 2, 1) := by decide +kernel
theorem dL_law_271 : decode cL_law 271 = .ok (.iadd, 1) := by decide +kernel
theorem dL_law_272 : decode cL_law 272 = .ok (.iaload, 1) := by decide +kernel
theorem dL_law_273 : decode cL_law 273 = .ok (.invokevirtual 40, 3) := by decide +kernel
theorem dL_law_276 : decode cL_law 276 = .ok (.aload_n 2, 1) := by decide +kernel
theorem dL_law_277 : decode cL_law 277 = .ok (.aload_n 0, 1) := by decide +kernel
theorem dL_law_278 : decode cL_law 278 = .ok (.iload_n 3, 1) := by decide +kernel
theorem dL_law_279 : decode cL_law 279 = .ok (.iconst 1, 1) := by decide +kernel
theorem dL_law_280 : decode cL_law 280 = .ok (.iadd, 1) := by decide +kernel
theorem dL_law_281 : decode cL_law 281 = .ok (.iaload, 1) := by decide +kernel
theorem dL_law_282 : decode cL_law 282 = .ok (.aload_n 0, 1) := by decide +kernel
theorem dL_law_283 : decode cL_law 283 = .ok (.iload_n 3, 1) := by decide +kernel
theorem dL_law_284 : decode cL_law 284 = .ok (.iconst 2, 1) := by decide +kernel
theorem dL_law_285 : decode cL_law 285 = .ok (.iadd, 1) := by decide +kernel
theorem dL_law_286 : decode cL_law 286 = .ok (.iaload, 1) := by decide +kernel
theorem dL_law_287 : decode cL_law 287 = .ok (.invokevirtual 43, 3) := by decide +kernel
theorem dL_law_290 : decode cL_law 290 = .ok (.if_icmp .eq 51, 3) := by decide +kernel
theorem dL_law_293 : decode cL_law 293 = .ok (.iconst 0, 1) := by decide +kernel
theorem dL_law_294 : decode cL_law 294 = .ok (.ireturn, 1) := by decide +kernel
theorem dL_law_295 : decode cL_law 295 = .ok (.aload_n 1, 1) := by decide +kernel
theorem dL_law_296 : decode cL_law 296 = .ok (.aload_n 0, 1) := by decide +kernel
theorem dL_law_297 : decode cL_law 297 = .ok (.iload_n 3, 1) := by decide +kernel
theorem dL_law_298 : decode cL_law 298 = .ok (.iconst 1, 1) := by decide +kernel
theorem dL_law_299 : decode cL_law 299 = .ok (.iadd, 1) := by decide +kernel
theorem dL_law_300 : decode cL_law 300 = .ok (.iaload, 1) := by decide +kernel
theorem dL_law_301 : decode cL_law 301 = .ok (.invokevirtual 44, 3) := by decide +kernel
theorem dL_law_304 : decode cL_law 304 = .ok (.aload_n 2, 1) := by decide +kernel
theorem dL_law_305 : decode cL_law 305 = .ok (.aload_n 0, 1) := by decide +kernel
theorem dL_law_306 : decode cL_law 306 = .ok (.iload_n 3, 1) := by decide +kernel
theorem dL_law_307 : decode cL_law 307 = .ok (.iconst 1, 1) := by decide +kernel
theorem dL_law_308 : decode cL_law 308 = .ok (.iadd, 1) := by decide +kernel
theorem dL_law_309 : decode cL_law 309 = .ok (.iaload, 1) := by decide +kernel
theorem dL_law_310 : decode cL_law 310 = .ok (.invokevirtual 47, 3) := by decide +kernel
theorem dL_law_313 : decode cL_law 313 = .ok (.if_icmp .eq 28, 3) := by decide +kernel
theorem dL_law_316 : decode cL_law 316 = .ok (.iconst 0, 1) := by decide +kernel
theorem dL_law_317 : decode cL_law 317 = .ok (.ireturn, 1) := by decide +kernel
theorem dL_law_318 : decode cL_law 318 = .ok (.aload_n 1, 1) := by decide +kernel
theorem dL_law_319 : decode cL_law 319 = .ok (.aload_n 0, 1) := by decide +kernel
theorem dL_law_320 : decode cL_law 320 = .ok (.iload_n 3, 1) := by decide +kernel
theorem dL_law_321 : decode cL_law 321 = .ok (.iconst 1, 1) := by decide +kernel
theorem dL_law_322 : decode cL_law 322 = .ok (.iadd, 1) := by decide +kernel
theorem dL_law_323 : decode cL_law 323 = .ok (.iaload, 1) := by decide +kernel
theorem dL_law_324 : decode cL_law 324 = .ok (.invokevirtual 48, 3) := by decide +kernel
theorem dL_law_327 : decode cL_law 327 = .ok (.aload_n 2, 1) := by decide +kernel
theorem dL_law_328 : decode cL_law 328 = .ok (.aload_n 0, 1) := by decide +kernel
theorem dL_law_329 : decode cL_law 329 = .ok (.iload_n 3, 1) := by decide +kernel
theorem dL_law_330 : decode cL_law 330 = .ok (.iconst 1, 1) := by decide +kernel
theorem dL_law_331 : decode cL_law 331 = .ok (.iadd, 1) := by decide +kernel
theorem dL_law_332 : decode cL_law 332 = .ok (.iaload, 1) := by decide +kernel
theorem dL_law_333 : decode cL_law 333 = .ok (.invokevirtual 51, 3) := by decide +kernel
theorem dL_law_336 : decode cL_law 336 = .ok (.if_icmp .eq 5, 3) := by decide +kernel
theorem dL_law_339 : decode cL_law 339 = .ok (.iconst 0, 1) := by decide +kernel
theorem dL_law_340 : decode cL_law 340 = .ok (.ireturn, 1) := by decide +kernel
theorem dL_law_341 : decode cL_law 341 = .ok (.iinc 3 5, 3) := by decide +kernel
theorem dL_law_344 : decode cL_law 344 = .ok (.goto (-326), 3) := by decide +kernel
theorem dL_law_347 : decode cL_law 347 = .ok (.iconst 1, 1) := by decide +kernel
theorem dL_law_348 : decode cL_law 348 = .ok (.ireturn, 1) := by decide +kernel
end
section
/-! ===== rows over Int: an int on the stack is sa_i z for an Int z; an array's contents are sa_ai F, sa_ar G, sa_ab K ===== -/
def sa_i (z : Int) : Int32 := Int32.ofInt z
def sa_b (b : Bool) : Int32 := sa_i (if b = true then 1 else 0)
def sa_ai (F : Int → Int) : Nat → Int32 := fun j => sa_i (F (j : Int))
def sa_ar (G : Int → Int32) : Nat → Int32 := fun j => G (j : Int)
def sa_ab (K : Int → Bool) : Nat → Int32 := fun j => sa_b (K (j : Int))
def sa_up {α : Type} (f : Int → α) (k : Int) (v : α) : Int → α := fun j => if j = k then v else f j
theorem sa_up_self {α : Type} (f : Int → α) (k : Int) (v : α) : sa_up f k v k = v := by simp [sa_up]
theorem sa_up_ne {α : Type} (f : Int → α) {k j : Int} (v : α) (h : j ≠ k) : sa_up f k v j = f j := by simp [sa_up, h]
theorem sa_toInt {z : Int} (h : -2147483648 ≤ z ∧ z < 2147483648) : (sa_i z).toInt = z := Int32.toInt_ofInt_of_le (by omega) (by omega)
theorem sa_of (x : Int32) : sa_i x.toInt = x := Int32.ofInt_toInt x
theorem sa_range (x : Int32) : -2147483648 ≤ x.toInt ∧ x.toInt < 2147483648 := ⟨Int32.le_toInt x, Int32.toInt_lt x⟩
theorem sa_addE (a b : Int) : sa_i a + sa_i b = sa_i (a + b) := (Int32.ofInt_add a b).symm
theorem sa_subE (a b : Int) : sa_i a - sa_i b = sa_i (a - b) := (Int32.ofInt_sub a b).symm
theorem sa_mulE (a b : Int) : sa_i a * sa_i b = sa_i (a * b) := (Int32.ofInt_mul a b).symm
theorem sa_ltE {a b : Int} (ha : -2147483648 ≤ a ∧ a < 2147483648) (hb : -2147483648 ≤ b ∧ b < 2147483648) : sa_i a < sa_i b ↔ a < b := by
  rw [Int32.lt_iff_toInt_lt, sa_toInt ha, sa_toInt hb]
theorem sa_leE {a b : Int} (ha : -2147483648 ≤ a ∧ a < 2147483648) (hb : -2147483648 ≤ b ∧ b < 2147483648) : sa_i a ≤ sa_i b ↔ a ≤ b := by
  rw [Int32.le_iff_toInt_le, sa_toInt ha, sa_toInt hb]
theorem sa_eqE {a b : Int} (ha : -2147483648 ≤ a ∧ a < 2147483648) (hb : -2147483648 ≤ b ∧ b < 2147483648) : sa_i a = sa_i b ↔ a = b := by
  rw [← Int32.toInt_inj, sa_toInt ha, sa_toInt hb]
theorem sa_0 : (0 : Int32) = sa_i 0 := rfl
theorem sa_bE {a b : Bool} : sa_b a = sa_b b ↔ a = b := by
  cases a <;> cases b <;> simp [sa_b] <;> decide +kernel
theorem sa_b0 {b : Bool} : sa_b b = 0 ↔ b = false := by
  cases b <;> simp [sa_b] <;> decide +kernel
theorem sa_in {z : Int} {n : Nat} (h0 : 0 ≤ z) (h1 : z < (n : Int)) (hn : n < 2147483648) : vp_in (sa_i z) n := vp_in_iff.mpr (by rw [sa_toInt ⟨by omega, by omega⟩]; exact ⟨h0, h1⟩)
theorem sa_cl {z : Int} (h0 : 0 ≤ z) (h1 : z < 2147483648) : (sa_i z).toNatClampNeg = z.toNat := by
  unfold Int32.toNatClampNeg
  rw [sa_toInt ⟨by omega, h1⟩]
theorem sa_ai_at {F : Int → Int} {z : Int} (h0 : 0 ≤ z) : sa_ai F z.toNat = sa_i (F z) := by
  unfold sa_ai
  rw [Int.toNat_of_nonneg h0]
theorem sa_ar_at {G : Int → Int32} {z : Int} (h0 : 0 ≤ z) : sa_ar G z.toNat = G z := by
  unfold sa_ar
  rw [Int.toNat_of_nonneg h0]
theorem sa_ab_at {K : Int → Bool} {z : Int} (h0 : 0 ≤ z) : sa_ab K z.toNat = sa_b (K z) := by
  unfold sa_ab
  rw [Int.toNat_of_nonneg h0]
theorem sa_ai_up {F : Int → Int} {z v : Int} (h0 : 0 ≤ z) : upd (sa_ai F) z.toNat (sa_i v) = sa_ai (sa_up F z v) := by
  funext j
  unfold upd sa_ai sa_up
  by_cases h : j = z.toNat
  · rw [if_pos h, if_pos (by omega)]
  · rw [if_neg h, if_neg (by omega)]
theorem sa_ar_up {G : Int → Int32} {z : Int} {v : Int32} (h0 : 0 ≤ z) : upd (sa_ar G) z.toNat v = sa_ar (sa_up G z v) := by
  funext j
  unfold upd sa_ar sa_up
  by_cases h : j = z.toNat
  · rw [if_pos h, if_pos (by omega)]
  · rw [if_neg h, if_neg (by omega)]
theorem sa_ab_up {K : Int → Bool} {z : Int} {v : Bool} (h0 : 0 ≤ z) : upd (sa_ab K) z.toNat (sa_b v) = sa_ab (sa_up K z v) := by
  funext j
  unfold upd sa_ab sa_up
  by_cases h : j = z.toNat
  · rw [if_pos h, if_pos (by omega)]
  · rw [if_neg h, if_neg (by omega)]
section SAR
variable {p : Program} {l : Launch} {e : Env} {R : Room} {s : State} {m : MethodId} {args : Array Value} {below : List Frame} {meth : Method} {c : Code} {H : Heap} {locs : List Loc} {cells slots : Nat} {Q : State → Prop}
variable {cc : ByteArray} {pc : Nat} {ls : Array Slot} {rest : List Value}
theorem sa_name {z : Int} (k : ∀ y : Int, y = z → W p l e R s m args below meth c H locs cells slots Q (F0 m pc ls (.int (sa_i y) :: rest))) : W p l e R s m args below meth c H locs cells slots Q (F0 m pc ls (.int (sa_i z) :: rest)) := k z rfl
theorem sa_as {z y : Int} (h : z = y) (k : W p l e R s m args below meth c H locs cells slots Q (F0 m pc ls (.int (sa_i y) :: rest))) : W p l e R s m args below meth c H locs cells slots Q (F0 m pc ls (.int (sa_i z) :: rest)) := h ▸ k
theorem sa_const (hexec : p.tables.exec = Jvm.exec) (hb : c.code = cc) {n : Int} (hdg : decode cc pc = .ok (.iconst n, 1))
    (k : W p l e R s m args below meth c H locs cells slots Q (F0 m (pc + 1) ls (.int (sa_i n) :: rest))) : W p l e R s m args below meth c H locs cells slots Q (F0 m pc ls rest) := lv_iconst hexec hb hdg rfl k
theorem sa_bipush (hexec : p.tables.exec = Jvm.exec) (hb : c.code = cc) {n : Int} (hdg : decode cc pc = .ok (.bipush n, 2)) (hv : (Int8.ofInt n).toInt32 = sa_i n)
    (k : W p l e R s m args below meth c H locs cells slots Q (F0 m (pc + 2) ls (.int (sa_i n) :: rest))) : W p l e R s m args below meth c H locs cells slots Q (F0 m pc ls rest) := lv_bipush hexec hb hdg hv k
theorem sa_sipush (hexec : p.tables.exec = Jvm.exec) (hb : c.code = cc) {n : Int} (hdg : decode cc pc = .ok (.sipush n, 3)) (hv : (Int16.ofInt n).toInt32 = sa_i n)
    (k : W p l e R s m args below meth c H locs cells slots Q (F0 m (pc + 3) ls (.int (sa_i n) :: rest))) : W p l e R s m args below meth c H locs cells slots Q (F0 m pc ls rest) := lv_sipush hexec hb hdg hv k
theorem sa_add (hexec : p.tables.exec = Jvm.exec) (hb : c.code = cc) {x y : Int} (hdg : decode cc pc = .ok (.iadd, 1))
    (k : W p l e R s m args below meth c H locs cells slots Q (F0 m (pc + 1) ls (.int (sa_i (x + y)) :: rest))) : W p l e R s m args below meth c H locs cells slots Q (F0 m pc ls (.int (sa_i y) :: .int (sa_i x) :: rest)) := lv_iadd hexec hb hdg (by rw [sa_addE]; exact k)
theorem sa_sub (hexec : p.tables.exec = Jvm.exec) (hb : c.code = cc) {x y : Int} (hdg : decode cc pc = .ok (.isub, 1))
    (k : W p l e R s m args below meth c H locs cells slots Q (F0 m (pc + 1) ls (.int (sa_i (x - y)) :: rest))) : W p l e R s m args below meth c H locs cells slots Q (F0 m pc ls (.int (sa_i y) :: .int (sa_i x) :: rest)) := lv_isub hexec hb hdg (by rw [sa_subE]; exact k)
theorem sa_mul (hexec : p.tables.exec = Jvm.exec) (hb : c.code = cc) {x y : Int} (hdg : decode cc pc = .ok (.imul, 1))
    (k : W p l e R s m args below meth c H locs cells slots Q (F0 m (pc + 1) ls (.int (sa_i (x * y)) :: rest))) : W p l e R s m args below meth c H locs cells slots Q (F0 m pc ls (.int (sa_i y) :: .int (sa_i x) :: rest)) := lv_imul hexec hb hdg (by rw [sa_mulE]; exact k)
theorem sa_iinc (hexec : p.tables.exec = Jvm.exec) (hb : c.code = cc) {i nL k : Nat} {n x : Int} {lv lv' : List (Nat × Value)} (hdg : decode cc pc = .ok (.iinc i n, 3)) (h : lv_has ls nL lv) (hk : lv[k]? = some (i, .int (sa_i x))) (hn : i < nL) (hl : (i, Value.int (sa_i (x + n))) :: lv.filter (fun q => !(q.1 == i) && !(q.1 + 1 == i && q.2.category == 2)) = lv')
    (kk : ∀ ls' : Array Slot, lv_has ls' nL lv' → W p l e R s m args below meth c H locs cells slots Q (F0 m (pc + 3) ls' rest)) : W p l e R s m args below meth c H locs cells slots Q (F0 m pc ls rest) := lv_iinc (v := sa_i (x + n)) hexec hb hdg h hk (sa_addE x n) hn hl kk
theorem sa_icmp_eq (hexec : p.tables.exec = Jvm.exec) (hb : c.code = cc) {x y off : Int} {tgt : Nat} (hdg : decode cc pc = .ok (.if_icmp .eq off, 3)) (ht : (pc : Int) + off = (tgt : Int))
    (kt : x = y → W p l e R s m args below meth c H locs cells slots Q (F0 m tgt ls rest)) (kf : x ≠ y → W p l e R s m args below meth c H locs cells slots Q (F0 m (pc + 3) ls rest)) (hX : -2147483648 ≤ x ∧ x < 2147483648 := by omega) (hY : -2147483648 ≤ y ∧ y < 2147483648 := by omega) : W p l e R s m args below meth c H locs cells slots Q (F0 m pc ls (.int (sa_i y) :: .int (sa_i x) :: rest)) := lv_icmp_eq hexec hb hdg ht (fun h => kt ((sa_eqE hX hY).mp h)) (fun h => kf (fun q => h ((sa_eqE hX hY).mpr q)))
theorem sa_icmp_ne (hexec : p.tables.exec = Jvm.exec) (hb : c.code = cc) {x y off : Int} {tgt : Nat} (hdg : decode cc pc = .ok (.if_icmp .ne off, 3)) (ht : (pc : Int) + off = (tgt : Int))
    (kt : x ≠ y → W p l e R s m args below meth c H locs cells slots Q (F0 m tgt ls rest)) (kf : x = y → W p l e R s m args below meth c H locs cells slots Q (F0 m (pc + 3) ls rest)) (hX : -2147483648 ≤ x ∧ x < 2147483648 := by omega) (hY : -2147483648 ≤ y ∧ y < 2147483648 := by omega) : W p l e R s m args below meth c H locs cells slots Q (F0 m pc ls (.int (sa_i y) :: .int (sa_i x) :: rest)) := lv_icmp_ne hexec hb hdg ht (fun h => kt (fun q => h ((sa_eqE hX hY).mpr q))) (fun h => kf ((sa_eqE hX hY).mp h))
theorem sa_icmp_lt (hexec : p.tables.exec = Jvm.exec) (hb : c.code = cc) {x y off : Int} {tgt : Nat} (hdg : decode cc pc = .ok (.if_icmp .lt off, 3)) (ht : (pc : Int) + off = (tgt : Int))
    (kt : x < y → W p l e R s m args below meth c H locs cells slots Q (F0 m tgt ls rest)) (kf : y ≤ x → W p l e R s m args below meth c H locs cells slots Q (F0 m (pc + 3) ls rest)) (hX : -2147483648 ≤ x ∧ x < 2147483648 := by omega) (hY : -2147483648 ≤ y ∧ y < 2147483648 := by omega) : W p l e R s m args below meth c H locs cells slots Q (F0 m pc ls (.int (sa_i y) :: .int (sa_i x) :: rest)) := lv_icmp_lt hexec hb hdg ht (fun h => kt ((sa_ltE hX hY).mp h)) (fun h => kf (Int.not_lt.mp (fun q => h ((sa_ltE hX hY).mpr q))))
theorem sa_icmp_ge (hexec : p.tables.exec = Jvm.exec) (hb : c.code = cc) {x y off : Int} {tgt : Nat} (hdg : decode cc pc = .ok (.if_icmp .ge off, 3)) (ht : (pc : Int) + off = (tgt : Int))
    (kt : y ≤ x → W p l e R s m args below meth c H locs cells slots Q (F0 m tgt ls rest)) (kf : x < y → W p l e R s m args below meth c H locs cells slots Q (F0 m (pc + 3) ls rest)) (hX : -2147483648 ≤ x ∧ x < 2147483648 := by omega) (hY : -2147483648 ≤ y ∧ y < 2147483648 := by omega) : W p l e R s m args below meth c H locs cells slots Q (F0 m pc ls (.int (sa_i y) :: .int (sa_i x) :: rest)) := lv_icmp_ge hexec hb hdg ht (fun h => kt ((sa_leE hY hX).mp h)) (fun h => kf (Int.not_le.mp (fun q => h ((sa_leE hY hX).mpr q))))
theorem sa_icmp_gt (hexec : p.tables.exec = Jvm.exec) (hb : c.code = cc) {x y off : Int} {tgt : Nat} (hdg : decode cc pc = .ok (.if_icmp .gt off, 3)) (ht : (pc : Int) + off = (tgt : Int))
    (kt : y < x → W p l e R s m args below meth c H locs cells slots Q (F0 m tgt ls rest)) (kf : x ≤ y → W p l e R s m args below meth c H locs cells slots Q (F0 m (pc + 3) ls rest)) (hX : -2147483648 ≤ x ∧ x < 2147483648 := by omega) (hY : -2147483648 ≤ y ∧ y < 2147483648 := by omega) : W p l e R s m args below meth c H locs cells slots Q (F0 m pc ls (.int (sa_i y) :: .int (sa_i x) :: rest)) := lv_icmp_gt hexec hb hdg ht (fun h => kt ((sa_ltE hY hX).mp h)) (fun h => kf (Int.not_lt.mp (fun q => h ((sa_ltE hY hX).mpr q))))
theorem sa_icmp_le (hexec : p.tables.exec = Jvm.exec) (hb : c.code = cc) {x y off : Int} {tgt : Nat} (hdg : decode cc pc = .ok (.if_icmp .le off, 3)) (ht : (pc : Int) + off = (tgt : Int))
    (kt : x ≤ y → W p l e R s m args below meth c H locs cells slots Q (F0 m tgt ls rest)) (kf : y < x → W p l e R s m args below meth c H locs cells slots Q (F0 m (pc + 3) ls rest)) (hX : -2147483648 ≤ x ∧ x < 2147483648 := by omega) (hY : -2147483648 ≤ y ∧ y < 2147483648 := by omega) : W p l e R s m args below meth c H locs cells slots Q (F0 m pc ls (.int (sa_i y) :: .int (sa_i x) :: rest)) := lv_icmp_le hexec hb hdg ht (fun h => kt ((sa_leE hX hY).mp h)) (fun h => kf (Int.not_le.mp (fun q => h ((sa_leE hX hY).mpr q))))
theorem sa_if_lt (hexec : p.tables.exec = Jvm.exec) (hb : c.code = cc) {x off : Int} {tgt : Nat} (hdg : decode cc pc = .ok (.ifCond .lt off, 3)) (ht : (pc : Int) + off = (tgt : Int))
    (kt : x < 0 → W p l e R s m args below meth c H locs cells slots Q (F0 m tgt ls rest)) (kf : 0 ≤ x → W p l e R s m args below meth c H locs cells slots Q (F0 m (pc + 3) ls rest)) (hX : -2147483648 ≤ x ∧ x < 2147483648 := by omega) : W p l e R s m args below meth c H locs cells slots Q (F0 m pc ls (.int (sa_i x) :: rest)) := lv_if_lt hexec hb hdg ht (fun h => kt ((sa_ltE hX (by omega)).mp (sa_0 ▸ h))) (fun h => kf (Int.not_lt.mp (fun q => h (sa_0 ▸ (sa_ltE hX (by omega)).mpr q))))
theorem sa_if_ge (hexec : p.tables.exec = Jvm.exec) (hb : c.code = cc) {x off : Int} {tgt : Nat} (hdg : decode cc pc = .ok (.ifCond .ge off, 3)) (ht : (pc : Int) + off = (tgt : Int))
    (kt : 0 ≤ x → W p l e R s m args below meth c H locs cells slots Q (F0 m tgt ls rest)) (kf : x < 0 → W p l e R s m args below meth c H locs cells slots Q (F0 m (pc + 3) ls rest)) (hX : -2147483648 ≤ x ∧ x < 2147483648 := by omega) : W p l e R s m args below meth c H locs cells slots Q (F0 m pc ls (.int (sa_i x) :: rest)) := lv_if_ge hexec hb hdg ht (fun h => kt ((sa_leE (a := 0) (by omega) hX).mp h)) (fun h => kf (Int.not_le.mp (fun q => h ((sa_leE (a := 0) (by omega) hX).mpr q))))
theorem sa_if_le (hexec : p.tables.exec = Jvm.exec) (hb : c.code = cc) {x off : Int} {tgt : Nat} (hdg : decode cc pc = .ok (.ifCond .le off, 3)) (ht : (pc : Int) + off = (tgt : Int))
    (kt : x ≤ 0 → W p l e R s m args below meth c H locs cells slots Q (F0 m tgt ls rest)) (kf : 0 < x → W p l e R s m args below meth c H locs cells slots Q (F0 m (pc + 3) ls rest)) (hX : -2147483648 ≤ x ∧ x < 2147483648 := by omega) : W p l e R s m args below meth c H locs cells slots Q (F0 m pc ls (.int (sa_i x) :: rest)) := lv_if_le hexec hb hdg ht (fun h => kt ((sa_leE (b := 0) hX (by omega)).mp h)) (fun h => kf (Int.not_le.mp (fun q => h ((sa_leE (b := 0) hX (by omega)).mpr q))))
theorem sa_if_eq (hexec : p.tables.exec = Jvm.exec) (hb : c.code = cc) {x off : Int} {tgt : Nat} (hdg : decode cc pc = .ok (.ifCond .eq off, 3)) (ht : (pc : Int) + off = (tgt : Int))
    (kt : x = 0 → W p l e R s m args below meth c H locs cells slots Q (F0 m tgt ls rest)) (kf : x ≠ 0 → W p l e R s m args below meth c H locs cells slots Q (F0 m (pc + 3) ls rest)) (hX : -2147483648 ≤ x ∧ x < 2147483648 := by omega) : W p l e R s m args below meth c H locs cells slots Q (F0 m pc ls (.int (sa_i x) :: rest)) := lv_if_eq hexec hb hdg ht (fun h => kt ((sa_eqE (b := 0) hX (by omega)).mp h)) (fun h => kf (fun q => h ((sa_eqE (b := 0) hX (by omega)).mpr q)))
theorem sa_if_ne (hexec : p.tables.exec = Jvm.exec) (hb : c.code = cc) {x off : Int} {tgt : Nat} (hdg : decode cc pc = .ok (.ifCond .ne off, 3)) (ht : (pc : Int) + off = (tgt : Int))
    (kt : x ≠ 0 → W p l e R s m args below meth c H locs cells slots Q (F0 m tgt ls rest)) (kf : x = 0 → W p l e R s m args below meth c H locs cells slots Q (F0 m (pc + 3) ls rest)) (hX : -2147483648 ≤ x ∧ x < 2147483648 := by omega) : W p l e R s m args below meth c H locs cells slots Q (F0 m pc ls (.int (sa_i x) :: rest)) := lv_if_ne hexec hb hdg ht (fun h => kt (fun q => h ((sa_eqE (b := 0) hX (by omega)).mpr q))) (fun h => kf ((sa_eqE (b := 0) hX (by omega)).mp h))
/-- a branch on a boolean -/
theorem sa_ifB_eq (hexec : p.tables.exec = Jvm.exec) (hb : c.code = cc) {x : Bool} {off : Int} {tgt : Nat} (hdg : decode cc pc = .ok (.ifCond .eq off, 3)) (ht : (pc : Int) + off = (tgt : Int))
    (kt : x = false → W p l e R s m args below meth c H locs cells slots Q (F0 m tgt ls rest)) (kf : x = true → W p l e R s m args below meth c H locs cells slots Q (F0 m (pc + 3) ls rest)) : W p l e R s m args below meth c H locs cells slots Q (F0 m pc ls (.int (sa_b x) :: rest)) := lv_if_eq hexec hb hdg ht (fun h => kt (sa_b0.mp h)) (fun h => kf (by
      cases x
      · exact absurd (sa_b0.mpr rfl) h
      · rfl))
theorem sa_ifB_ne (hexec : p.tables.exec = Jvm.exec) (hb : c.code = cc) {x : Bool} {off : Int} {tgt : Nat} (hdg : decode cc pc = .ok (.ifCond .ne off, 3)) (ht : (pc : Int) + off = (tgt : Int))
    (kt : x = true → W p l e R s m args below meth c H locs cells slots Q (F0 m tgt ls rest)) (kf : x = false → W p l e R s m args below meth c H locs cells slots Q (F0 m (pc + 3) ls rest)) : W p l e R s m args below meth c H locs cells slots Q (F0 m pc ls (.int (sa_b x) :: rest)) := lv_if_ne hexec hb hdg ht (fun h => kt (by
      cases x
      · exact absurd (sa_b0.mpr rfl) h
      · rfl)) (fun h => kf (sa_b0.mp h))
variable {D : va_G} {cl : List vw_C} {A : Nat → Prop} {a : Nat} {tys : List (ClassId × FieldType)} {ws : va_W} {H0 : Heap}
theorem sa_ald (hexec : p.tables.exec = Jvm.exec) (hb : c.code = cc) (hK : va_K D cl tys s) (hP : va_P D cl ws H) (q0 t0 : Nat) {cA : ClassId} {n : Nat} {F : Int → Int} (ha : ws[q0]? = some (a, .inl (cA, n, .inl (sa_ai F)))) (ht : tys[t0]? = some (cA, .int)) {z : Int} (hdg : decode cc pc = .ok (.iaload, 1)) (h0 : 0 ≤ z) (h1 : z < (n : Int)) (hn : n < 2147483648)
    (kk : W p l e R s m args below meth c H locs cells slots Q (F0 m (pc + 1) ls (.int (sa_i (F z)) :: rest))) : W p l e R s m args below meth c H locs cells slots Q (F0 m pc ls (.int (sa_i z) :: .ref a :: rest)) := by
  refine va_iald hexec hb hK hP q0 t0 ha ht (sa_in h0 h1 hn) hdg ?_
  rw [sa_cl h0 (by omega), sa_ai_at h0]
  exact kk
theorem sa_aldR (hexec : p.tables.exec = Jvm.exec) (hb : c.code = cc) (hK : va_K D cl tys s) (hP : va_P D cl ws H) (q0 t0 : Nat) {cA : ClassId} {n : Nat} {G : Int → Int32} (ha : ws[q0]? = some (a, .inl (cA, n, .inl (sa_ar G)))) (ht : tys[t0]? = some (cA, .int)) {z : Int} (hdg : decode cc pc = .ok (.iaload, 1)) (h0 : 0 ≤ z) (h1 : z < (n : Int)) (hn : n < 2147483648)
    (kk : W p l e R s m args below meth c H locs cells slots Q (F0 m (pc + 1) ls (.int (G z) :: rest))) : W p l e R s m args below meth c H locs cells slots Q (F0 m pc ls (.int (sa_i z) :: .ref a :: rest)) := by
  refine va_iald hexec hb hK hP q0 t0 ha ht (sa_in h0 h1 hn) hdg ?_
  rw [sa_cl h0 (by omega), sa_ar_at h0]
  exact kk
theorem sa_aldB (hexec : p.tables.exec = Jvm.exec) (hb : c.code = cc) (hK : va_K D cl tys s) (hP : va_P D cl ws H) (q0 t0 : Nat) {cA : ClassId} {n : Nat} {K : Int → Bool} (ha : ws[q0]? = some (a, .inl (cA, n, .inl (sa_ab K)))) (ht : tys[t0]? = some (cA, .boolean)) {z : Int} (hdg : decode cc pc = .ok (.baload, 1)) (h0 : 0 ≤ z) (h1 : z < (n : Int)) (hn : n < 2147483648)
    (kk : W p l e R s m args below meth c H locs cells slots Q (F0 m (pc + 1) ls (.int (sa_b (K z)) :: rest))) : W p l e R s m args below meth c H locs cells slots Q (F0 m pc ls (.int (sa_i z) :: .ref a :: rest)) := by
  refine va_zald hexec hb hK hP q0 t0 ha ht (sa_in h0 h1 hn) hdg ?_
  rw [sa_cl h0 (by omega), sa_ab_at h0]
  exact kk
theorem sa_ast (hexec : p.tables.exec = Jvm.exec) (hb : c.code = cc) (hK : va_K D cl tys s) (hP : va_P D cl ws H) (hD : va_D A ws) (hS : va_S A H0 H locs) (q0 t0 : Nat) {cA : ClassId} {n : Nat} {F : Int → Int} (ha : ws[q0]? = some (a, .inl (cA, n, .inl (sa_ai F)))) (ht : tys[t0]? = some (cA, .int)) {z v : Int} (hdg : decode cc pc = .ok (.iastore, 1)) (h0 : 0 ≤ z) (h1 : z < (n : Int)) (hn : n < 2147483648)
    (kk : ∀ (H1 : Heap) (locs1 : List Loc), va_P D cl (ws.set q0 (a, .inl (cA, n, .inl (sa_ai (sa_up F z v))))) H1 → va_D A (ws.set q0 (a, .inl (cA, n, .inl (sa_ai (sa_up F z v))))) → va_S A H0 H1 locs1 → W p l e R s m args below meth c H1 locs1 cells slots Q (F0 m (pc + 1) ls rest)) : W p l e R s m args below meth c H locs cells slots Q (F0 m pc ls (.int (sa_i v) :: .int (sa_i z) :: .ref a :: rest)) := by
  refine va_iast hexec hb hK hP hD hS q0 t0 ha ht (sa_in h0 h1 hn) hdg (fun H1 locs1 hP1 hD1 hS1 => ?_)
  rw [sa_cl h0 (by omega), sa_ai_up h0] at hP1 hD1
  exact kk H1 locs1 hP1 hD1 hS1
theorem sa_astR (hexec : p.tables.exec = Jvm.exec) (hb : c.code = cc) (hK : va_K D cl tys s) (hP : va_P D cl ws H) (hD : va_D A ws) (hS : va_S A H0 H locs) (q0 t0 : Nat) {cA : ClassId} {n : Nat} {G : Int → Int32} (ha : ws[q0]? = some (a, .inl (cA, n, .inl (sa_ar G)))) (ht : tys[t0]? = some (cA, .int)) {z : Int} {v : Int32} (hdg : decode cc pc = .ok (.iastore, 1)) (h0 : 0 ≤ z) (h1 : z < (n : Int)) (hn : n < 2147483648)
    (kk : ∀ (H1 : Heap) (locs1 : List Loc), va_P D cl (ws.set q0 (a, .inl (cA, n, .inl (sa_ar (sa_up G z v))))) H1 → va_D A (ws.set q0 (a, .inl (cA, n, .inl (sa_ar (sa_up G z v))))) → va_S A H0 H1 locs1 → W p l e R s m args below meth c H1 locs1 cells slots Q (F0 m (pc + 1) ls rest)) : W p l e R s m args below meth c H locs cells slots Q (F0 m pc ls (.int v :: .int (sa_i z) :: .ref a :: rest)) := by
  refine va_iast hexec hb hK hP hD hS q0 t0 ha ht (sa_in h0 h1 hn) hdg (fun H1 locs1 hP1 hD1 hS1 => ?_)
  rw [sa_cl h0 (by omega), sa_ar_up h0] at hP1 hD1
  exact kk H1 locs1 hP1 hD1 hS1
theorem sa_nar1 : vp_nar .boolean (sa_i 1) = sa_b true := by decide +kernel
theorem sa_astB (hexec : p.tables.exec = Jvm.exec) (hb : c.code = cc) (hK : va_K D cl tys s) (hP : va_P D cl ws H) (hD : va_D A ws) (hS : va_S A H0 H locs) (q0 t0 : Nat) {cA : ClassId} {n : Nat} {K : Int → Bool} (ha : ws[q0]? = some (a, .inl (cA, n, .inl (sa_ab K)))) (ht : tys[t0]? = some (cA, .boolean)) {z : Int} (hdg : decode cc pc = .ok (.bastore, 1)) (h0 : 0 ≤ z) (h1 : z < (n : Int)) (hn : n < 2147483648)
    (kk : ∀ (H1 : Heap) (locs1 : List Loc), va_P D cl (ws.set q0 (a, .inl (cA, n, .inl (sa_ab (sa_up K z true))))) H1 → va_D A (ws.set q0 (a, .inl (cA, n, .inl (sa_ab (sa_up K z true))))) → va_S A H0 H1 locs1 → W p l e R s m args below meth c H1 locs1 cells slots Q (F0 m (pc + 1) ls rest)) : W p l e R s m args below meth c H locs cells slots Q (F0 m pc ls (.int (sa_i 1) :: .int (sa_i z) :: .ref a :: rest)) := by
  refine va_zast hexec hb hK hP hD hS q0 t0 ha ht (sa_in h0 h1 hn) hdg (fun H1 locs1 hP1 hD1 hS1 => ?_)
  rw [sa_cl h0 (by omega), sa_nar1, sa_ab_up h0] at hP1 hD1
  exact kk H1 locs1 hP1 hD1 hS1
end SAR
/-! ===== contracts: a method that changes nothing, a method that changes its own cells; their calls ===== -/
def sa_rm (n : Nat) : Room := { frames := n, cells := 0, slots := 0, locals := 31 * n }
abbrev sa_pw (D : va_G) (cl : List vw_C) (tys : List (ClassId × FieldType)) (ws : va_W) (U : State) : Prop := va_P D cl ws U.heap ∧ va_K D cl tys U
abbrev sa_MetP (l : Launch) (y : MethodName) (cc : ByteArray) (nL : Nat) (ret : Option FieldType) (n : Nat) (av : List Value) (D : va_G) (cl : List vw_C) (tys : List (ClassId × FieldType)) (ws : va_W) (rv : Int32) : Prop := Met l y (ws_ y cc nL ret) (sa_rm n) (va_Pc av (sa_pw D cl tys ws)) (vp_Si (fun r => r = rv)) 0 0 (fun _ => False)
abbrev sa_MetS (l : Launch) (y : MethodName) (cc : ByteArray) (nL : Nat) (ret : Option FieldType) (n : Nat) (av : List Value) (rv : Int32) : Prop := Met l y (ws_ y cc nL ret) (sa_rm n) (va_Pc av (fun _ => True)) (vp_Si (fun r => r = rv)) 0 0 (fun _ => False)
abbrev sa_MetV (l : Launch) (y : MethodName) (cc : ByteArray) (nL : Nat) (n : Nat) (av : List Value) (D : va_G) (cl : List vw_C) (tys : List (ClassId × FieldType)) (ws ws1 : va_W) (sz : Nat) : Prop := Met l y (ws_ y cc nL none) (sa_rm n) (va_Pc av (fun U => U.heap.size = sz ∧ va_P D cl ws U.heap ∧ va_K D cl tys U ∧ va_D (fun _ => True) ws)) (va_Qv (fun _ : Unit => True) (fun _ t => va_P D cl ws1 t.heap ∧ va_K D cl tys t ∧ va_D (va_A ws sz) ws1) (va_A ws sz)) 0 0 (va_A ws sz)
abbrev sa_MetI {σ : Type} (l : Launch) (y : MethodName) (cc : ByteArray) (nL : Nat) (n : Nat) (av : List Value) (D : va_G) (cl : List vw_C) (tys : List (ClassId × FieldType)) (ws : va_W) (w1 : σ → va_W) (sz : Nat) (post : Int32 → σ → Prop) : Prop := Met l y (ws_ y cc nL (some .int)) (sa_rm n) (va_Pc av (fun U => U.heap.size = sz ∧ va_P D cl ws U.heap ∧ va_K D cl tys U ∧ va_D (fun _ => True) ws)) (va_Qi post (fun u t => va_P D cl (w1 u) t.heap ∧ va_K D cl tys t ∧ va_D (va_A ws sz) (w1 u)) (va_A ws sz)) 0 0 (va_A ws sz)
theorem sa_metP {l : Launch} {y : MethodName} {cc : ByteArray} {nL : Nat} {ret : Option FieldType} {n : Nat} {av : List Value} {D : va_G} {cl : List vw_C} {tys : List (ClassId × FieldType)} {ws : va_W} {rv : Int32} (hy : plainName y.cls = true) (hlen : (lg_sl av).length ≤ nL)
    (body : ∀ (p : Program) (e : Env) (s : State) (m : MethodId) (below : List Frame) (meth : Method) (c : Code), CallFix p m c cc nL s av.toArray lw_all y.cls → meth.sig.returnType = ret → meth.locks = false → va_P D cl ws s.heap → va_K D cl tys s → ∀ ls : Array Slot, lv_has ls nL (lv_args 0 av) →
      W p l e (sa_rm n) s m av.toArray below meth c s.heap [] 0 0 (MQ below (vp_Si (fun r => r = rv)) av.toArray s 0 0 (fun _ => False)) (F0 m 0 ls [])) : sa_MetP l y cc nL ret n av D cl tys ws rv := by
  refine Met.ofW (cc := cc) (maxL := nL) (ret := ret) hy rfl ?_
  intro p e s m args below meth c s₁ B hml hv
  obtain ⟨rfl, hP, hK⟩ := hv
  have hts := atoms_spec (ws := ws_ y cc nL ret) B.pre
  have hts : ∀ w ∈ lw_all, w.before _ s = true := fun w h => hts w (List.mem_cons_of_mem _ h)
  have hl := lv_entry av (n := nL) hlen
  rw [lg_entry_eq]
  generalize (lg_sl av ++ List.replicate (nL - (lg_sl av).length) Slot.unset).toArray = ls at hl ⊢
  exact body p e s m below meth c ⟨B.exec, B.bytes, hml, findClass_of_methodNamed B.named, hts⟩ B.returns B.notSynchronized hP hK ls hl
theorem sa_metS {l : Launch} {y : MethodName} {cc : ByteArray} {nL : Nat} {ret : Option FieldType} {n : Nat} {av : List Value} {rv : Int32} (hy : plainName y.cls = true) (hlen : (lg_sl av).length ≤ nL)
    (body : ∀ (p : Program) (e : Env) (s : State) (m : MethodId) (below : List Frame) (meth : Method) (c : Code), CallFix p m c cc nL s av.toArray lw_all y.cls → meth.sig.returnType = ret → meth.locks = false → ∀ ls : Array Slot, lv_has ls nL (lv_args 0 av) →
      W p l e (sa_rm n) s m av.toArray below meth c s.heap [] 0 0 (MQ below (vp_Si (fun r => r = rv)) av.toArray s 0 0 (fun _ => False)) (F0 m 0 ls [])) : sa_MetS l y cc nL ret n av rv := by
  refine Met.ofW (cc := cc) (maxL := nL) (ret := ret) hy rfl ?_
  intro p e s m args below meth c s₁ B hml hv
  obtain ⟨rfl, -⟩ := hv
  have hts := atoms_spec (ws := ws_ y cc nL ret) B.pre
  have hts : ∀ w ∈ lw_all, w.before _ s = true := fun w h => hts w (List.mem_cons_of_mem _ h)
  have hl := lv_entry av (n := nL) hlen
  rw [lg_entry_eq]
  generalize (lg_sl av ++ List.replicate (nL - (lg_sl av).length) Slot.unset).toArray = ls at hl ⊢
  exact body p e s m below meth c ⟨B.exec, B.bytes, hml, findClass_of_methodNamed B.named, hts⟩ B.returns B.notSynchronized ls hl
/-- the end that a changing method owes -/
abbrev sa_EV (below : List Frame) (D : va_G) (cl : List vw_C) (tys : List (ClassId × FieldType)) (ws1 : va_W) (A : Nat → Prop) (args : Array Value) (s : State) : State → Prop := MQ below (va_Qv (fun _ : Unit => True) (fun _ t => va_P D cl ws1 t.heap ∧ va_K D cl tys t ∧ va_D A ws1) A) args s 0 0 A
abbrev sa_EI {σ : Type} (below : List Frame) (D : va_G) (cl : List vw_C) (tys : List (ClassId × FieldType)) (w1 : σ → va_W) (post : Int32 → σ → Prop) (A : Nat → Prop) (args : Array Value) (s : State) : State → Prop := MQ below (va_Qi post (fun u t => va_P D cl (w1 u) t.heap ∧ va_K D cl tys t ∧ va_D A (w1 u)) A) args s 0 0 A
theorem sa_metV {l : Launch} {y : MethodName} {cc : ByteArray} {nL : Nat} {n : Nat} {av : List Value} {D : va_G} {cl : List vw_C} {tys : List (ClassId × FieldType)} {ws ws1 : va_W} {sz : Nat} (hy : plainName y.cls = true) (hlen : (lg_sl av).length ≤ nL)
    (body : ∀ (p : Program) (e : Env) (s : State) (m : MethodId) (below : List Frame) (meth : Method) (c : Code) (A : Nat → Prop), CallFix p m c cc nL s av.toArray lw_all y.cls → meth.sig.returnType = none → meth.locks = false → va_P D cl ws s.heap → va_K D cl tys s → va_D A ws → va_S A s.heap s.heap [] → (∀ q : Nat, s.heap.size ≤ q → A q) → ∀ ls : Array Slot, lv_has ls nL (lv_args 0 av) →
      W p l e (sa_rm n) s m av.toArray below meth c s.heap [] 0 0 (sa_EV below D cl tys ws1 A av.toArray s) (F0 m 0 ls [])) : sa_MetV l y cc nL n av D cl tys ws ws1 sz := by
  refine Met.ofW (cc := cc) (maxL := nL) (ret := none) hy rfl ?_
  intro p e s m args below meth c s₁ B hml hv
  obtain ⟨rfl, hsz, hP, hK, hD0⟩ := hv
  have hts := atoms_spec (ws := ws_ y cc nL none) B.pre
  have hts : ∀ w ∈ lw_all, w.before _ s = true := fun w h => hts w (List.mem_cons_of_mem _ h)
  subst hsz
  have hD := hD0.self (sz := s.heap.size)
  have hl := lv_entry av (n := nL) hlen
  rw [lg_entry_eq]
  generalize (lg_sl av ++ List.replicate (nL - (lg_sl av).length) Slot.unset).toArray = ls at hl ⊢
  exact body p e s m below meth c (va_A ws s.heap.size) ⟨B.exec, B.bytes, hml, findClass_of_methodNamed B.named, hts⟩ B.returns B.notSynchronized hP hK hD va_S.rf (fun q h => Or.inr h) ls hl
theorem sa_metI {σ : Type} {l : Launch} {y : MethodName} {cc : ByteArray} {nL : Nat} {n : Nat} {av : List Value} {D : va_G} {cl : List vw_C} {tys : List (ClassId × FieldType)} {ws : va_W} {w1 : σ → va_W} {sz : Nat} {post : Int32 → σ → Prop} (hy : plainName y.cls = true) (hlen : (lg_sl av).length ≤ nL)
    (body : ∀ (p : Program) (e : Env) (s : State) (m : MethodId) (below : List Frame) (meth : Method) (c : Code) (A : Nat → Prop), CallFix p m c cc nL s av.toArray lw_all y.cls → meth.sig.returnType = some .int → meth.locks = false → va_P D cl ws s.heap → va_K D cl tys s → va_D A ws → va_S A s.heap s.heap [] → (∀ q : Nat, s.heap.size ≤ q → A q) → ∀ ls : Array Slot, lv_has ls nL (lv_args 0 av) →
      W p l e (sa_rm n) s m av.toArray below meth c s.heap [] 0 0 (sa_EI below D cl tys w1 post A av.toArray s) (F0 m 0 ls [])) : sa_MetI l y cc nL n av D cl tys ws w1 sz post := by
  refine Met.ofW (cc := cc) (maxL := nL) (ret := some .int) hy rfl ?_
  intro p e s m args below meth c s₁ B hml hv
  obtain ⟨rfl, hsz, hP, hK, hD0⟩ := hv
  have hts := atoms_spec (ws := ws_ y cc nL (some .int)) B.pre
  have hts : ∀ w ∈ lw_all, w.before _ s = true := fun w h => hts w (List.mem_cons_of_mem _ h)
  subst hsz
  have hD := hD0.self (sz := s.heap.size)
  have hl := lv_entry av (n := nL) hlen
  rw [lg_entry_eq]
  generalize (lg_sl av ++ List.replicate (nL - (lg_sl av).length) Slot.unset).toArray = ls at hl ⊢
  exact body p e s m below meth c (va_A ws s.heap.size) ⟨B.exec, B.bytes, hml, findClass_of_methodNamed B.named, hts⟩ B.returns B.notSynchronized hP hK hD va_S.rf (fun q h => Or.inr h) ls hl
section SAC
variable {p : Program} {l : Launch} {e : Env} {R : Room} {s : State} {m : MethodId} {args : Array Value} {below : List Frame} {meth : Method} {c : Code} {H : Heap} {locs : List Loc} {cells slots : Nat} {Q : State → Prop}
variable {cc : ByteArray} {pc nL : Nat} {ls : Array Slot} {rest : List Value} {D : va_G} {cl : List vw_C} {A : Nat → Prop} {tys : List (ClassId × FieldType)} {ws ws1 : va_W} {H0 : Heap}
theorem sa_ret {rv v : Int32} (hexec : p.tables.exec = Jvm.exec) (hb : c.code = cc) (hr : meth.sig.returnType = some .int) (hlocks : meth.locks = false) (hdg : decode cc pc = .ok (.ireturn, 1)) (h : v = rv) : W p l e R s m args below meth c s.heap [] 0 0 (MQ below (vp_Si (fun r => r = rv)) args s 0 0 (fun _ => False)) (F0 m pc ls [.int v]) :=
  W.iret hexec hb hr (fun t ht _ => ⟨v, rfl, h, ht⟩) (fun _ q => by cases q) hdg hlocks
theorem sa_retB {rv : Bool} {v : Int32} (w : Bool) (hv : v = sa_b w) (hexec : p.tables.exec = Jvm.exec) (hb : c.code = cc) (hr : meth.sig.returnType = some .boolean) (hlocks : meth.locks = false) (hdg : decode cc pc = .ok (.ireturn, 1)) (h : w = rv) : W p l e R s m args below meth c s.heap [] 0 0 (MQ below (vp_Si (fun r => r = sa_b rv)) args s 0 0 (fun _ => False)) (F0 m pc ls [.int v]) :=
  W.zret hexec hb hr (by rw [hv]; cases w <;> decide +kernel) (fun t ht _ => ⟨v, rfl, by rw [hv, h], ht⟩) (fun _ q => by cases q) hdg hlocks
theorem sa_retV (hexec : p.tables.exec = Jvm.exec) (hb : c.code = cc) (hr : meth.sig.returnType = none) (hlocks : meth.locks = false) (hK : va_K D cl tys s) (hP : va_P D cl ws1 H) (hD : va_D A ws1) (hS : va_S A s.heap H locs) (hdg : decode cc pc = .ok (.return_, 1)) : W p l e R s m args below meth c H locs 0 0 (sa_EV below D cl tys ws1 A args s) (F0 m pc ls []) :=
  W.vret hexec hb hr (fun t ht hW => ⟨⟨(), rfl, trivial, by rw [ht]; exact hP, va_K.moved hW.alike hK, hD⟩, hS.F ht⟩) hS.2.2 hdg hlocks
theorem sa_retI {σ : Type} {w1 : σ → va_W} {post : Int32 → σ → Prop} {v : Int32} (u : σ) (hexec : p.tables.exec = Jvm.exec) (hb : c.code = cc) (hr : meth.sig.returnType = some .int) (hlocks : meth.locks = false) (hK : va_K D cl tys s) (hP : va_P D cl (w1 u) H) (hD : va_D A (w1 u)) (hS : va_S A s.heap H locs) (hdg : decode cc pc = .ok (.ireturn, 1)) (h : post v u) : W p l e R s m args below meth c H locs 0 0 (sa_EI below D cl tys w1 post A args s) (F0 m pc ls [.int v]) :=
  W.iret hexec hb hr (fun t ht hW => ⟨⟨v, u, rfl, h, by rw [ht]; exact hP, va_K.moved hW.alike hK, hD⟩, hS.F ht⟩) hS.2.2 hdg hlocks
variable {own C : String} {y : MethodName} {bytes : ByteArray} {maxL n index nA : Nat} {ret : Option FieldType} {As st0 : List Value} {b : Nat} {rv : Int32}
/-- the call of a method that changes nothing -/
theorem sa_callP (S : CallFix p m c cc nL s args lw_all own) (hM : sa_MetP l y bytes maxL ret n (.ref b :: As) D cl tys ws rv) (hG : GoodIn lw_all (wsV own index C y (ws_ y bytes maxL ret))) (hd : y.cls = C ∧ y.cls ≠ "java/lang/invoke/MethodHandle" ∧ y.cls ≠ "java/lang/invoke/VarHandle" ∧ (parseMethodDescriptor y.desc).map (fun d => d.parameters.length) = some nA) (hnA : As.length = nA) (hR : n + 1 ≤ R.frames ∧ 8 + (maxL + 11) + 31 * n ≤ R.locals)
    (hK : va_K D cl tys s) (hP : va_P D cl ws H) (ci q0 : Nat) {T : u_T} {N : Nat} {fs : List Value} (hc : cl[ci]? = some (C, T, N)) (he : ws[q0]? = some (b, .inr (ci, fs))) (hsz : ls.size = nL) (hst : st0 = As.reverse ++ .ref b :: rest) (hrest : (rest.map fun v => v.category).sum ≤ 8) (hcells : cells ≤ R.cells ∧ slots ≤ R.slots) (hdg : decode cc pc = .ok (.invokevirtual index, 3))
    (kk : W p l e R s m args below meth c H locs cells slots Q (F0 m (pc + 3) ls (.int rv :: rest))) : W p l e R s m args below meth c H locs cells slots Q (F0 m pc ls st0) := by
  refine vp_callSi (W.runV (As := As) (rest := rest) S hM (cwV nA S.2.2.2.2 hG rfl rfl rfl hd hR) ⟨fun a U g mk q => by obtain ⟨q0, qP, qK⟩ := q; exact ⟨q0, qP, va_K.moved (u := U) (U := U.calling g mk a) (Vm.Alike.refl U.vm) qK⟩, va_recv hK hP (ci := ci) (q0 := q0) hc he, fun U hU hW => ⟨rfl, by rw [hU]; exact hP, va_K.moved hW.alike hK⟩⟩ rfl hnA hsz hst (lv_room hrest) hdg hcells) (fun r hr => ?_)
  rw [show r = rv from hr]
  exact kk
theorem sa_callS (S : CallFix p m c cc nL s args lw_all own) (hM : sa_MetS l y bytes maxL ret n As rv) (hG : GoodIn lw_all (va_wsS own index y (ws_ y bytes maxL ret))) (hd : y.cls ≠ "java/lang/invoke/MethodHandle" ∧ y.cls ≠ "java/lang/invoke/VarHandle" ∧ (parseMethodDescriptor y.desc).map (fun d => d.parameters.length) = some nA) (hnA : As.length = nA) (hR : n + 1 ≤ R.frames ∧ 8 + (maxL + 11) + 31 * n ≤ R.locals)
    (hsz : ls.size = nL) (hst : st0 = As.reverse ++ rest) (hrest : (rest.map fun v => v.category).sum ≤ 8) (hcells : cells ≤ R.cells ∧ slots ≤ R.slots) (hdg : decode cc pc = .ok (.invokestatic index, 3))
    (kk : W p l e R s m args below meth c H locs cells slots Q (F0 m (pc + 3) ls (.int rv :: rest))) : W p l e R s m args below meth c H locs cells slots Q (F0 m pc ls st0) := by
  refine vp_callSi (W.runS (As := As) (rest := rest) S hM (va_cwS nA S.2.2.2.2 hG rfl rfl rfl hd hR) ⟨fun a U g mk q => q, fun U hU hW => ⟨rfl, trivial⟩⟩ rfl hnA hsz hst (lv_room hrest) hdg hcells) (fun r hr => ?_)
  rw [show r = rv from hr]
  exact kk
/-- the call of a method that changes its own cells wc, which lie among ws at the places isC; the rest (wr, at isR) stays -/
theorem sa_callV {wc wr w1 : va_W} (S : CallFix p m c cc nL s args lw_all own) (hM : sa_MetV l y bytes maxL n (.ref b :: As) D cl tys wc w1 H.size) (hG : GoodIn lw_all (wsV own index C y (ws_ y bytes maxL none))) (hd : y.cls = C ∧ y.cls ≠ "java/lang/invoke/MethodHandle" ∧ y.cls ≠ "java/lang/invoke/VarHandle" ∧ (parseMethodDescriptor y.desc).map (fun d => d.parameters.length) = some nA) (hnA : As.length = nA) (hR : n + 1 ≤ R.frames ∧ 8 + (maxL + 11) + 31 * n ≤ R.locals)
    (hK : va_K D cl tys s) (hP : va_P D cl ws H) (hD : va_D A ws) (hS : va_S A H0 H locs) (hA : ∀ q : Nat, H0.size ≤ q → A q) (isC isR : List Nat) (hC : isC.map (fun i => ws[i]?) = wc.map some) (hC2 : va_nd isC = true) (hRr : isR.map (fun i => ws[i]?) = wr.map some) (hn : va_nd isR = true) (hdis : ∀ i ∈ isR, i ∉ isC)
    (ci q0 : Nat) {T : u_T} {N : Nat} {fs : List Value} (hc : cl[ci]? = some (C, T, N)) (he : wc[q0]? = some (b, .inr (ci, fs))) (hsz : ls.size = nL) (hst : st0 = As.reverse ++ .ref b :: rest) (hrest : (rest.map fun v => v.category).sum ≤ 8) (hcells : cells ≤ R.cells ∧ slots ≤ R.slots) (hdg : decode cc pc = .ok (.invokevirtual index, 3))
    (kk : ∀ (H1 : Heap) (locs1 : List Loc), va_P D cl (wr ++ w1) H1 → va_D A (wr ++ w1) → va_S A H0 H1 locs1 → W p l e R s m args below meth c H1 locs1 cells slots Q (F0 m (pc + 3) ls rest)) : W p l e R s m args below meth c H locs cells slots Q (F0 m pc ls st0) := by
  have hPc : va_P D cl wc H := fun k q hq => by
    obtain ⟨i, -, h2⟩ := va_in_of isC hC hq
    exact hP i q h2
  have hDc : va_D A wc := hD.sub isC hC2 hC
  have hFc := va_free (wc := wc) hD hS hA isC hC
  refine va_callv (va_runV (As := As) (rest := rest) S hM (cwV nA S.2.2.2.2 hG rfl rfl rfl hd hR) ⟨fun a U g mk q => by obtain ⟨q0, q1, qP, qK, qD⟩ := q; exact ⟨q0, q1, qP, va_K.moved (u := U) (U := U.calling g mk a) (Vm.Alike.refl U.vm) qK, qD⟩, va_recv hK hPc (ci := ci) (q0 := q0) hc he, fun U hU hW => ⟨rfl, by rw [hU], by rw [hU]; exact hPc, va_K.moved hW.alike hK, hDc.weaken (fun _ _ _ _ => trivial)⟩⟩ rfl hnA hsz hst (lv_room hrest) hdg hcells) hS (fun q _ h => hFc q h) hFc (fun u t H1 locs1 ht hvm hw1 hB hz1 hk1 hS1 => ?_)
  obtain ⟨hP1, hK1, hD1⟩ := hB
  rw [ht] at hP1
  obtain ⟨hP2, hD2⟩ := va_join (wr := wr) (w1 := w1) hP hD isC isR hC hRr hn hdis hk1 hFc hP1 hD1
  exact kk H1 locs1 hP2 hD2 hS1
theorem sa_callI {σ : Type} {wc wr : va_W} {w1 : σ → va_W} {post : Int32 → σ → Prop} (S : CallFix p m c cc nL s args lw_all own) (hM : sa_MetI l y bytes maxL n (.ref b :: As) D cl tys wc w1 H.size post) (hG : GoodIn lw_all (wsV own index C y (ws_ y bytes maxL (some .int)))) (hd : y.cls = C ∧ y.cls ≠ "java/lang/invoke/MethodHandle" ∧ y.cls ≠ "java/lang/invoke/VarHandle" ∧ (parseMethodDescriptor y.desc).map (fun d => d.parameters.length) = some nA) (hnA : As.length = nA) (hR : n + 1 ≤ R.frames ∧ 8 + (maxL + 11) + 31 * n ≤ R.locals)
    (hK : va_K D cl tys s) (hP : va_P D cl ws H) (hD : va_D A ws) (hS : va_S A H0 H locs) (hA : ∀ q : Nat, H0.size ≤ q → A q) (isC isR : List Nat) (hC : isC.map (fun i => ws[i]?) = wc.map some) (hC2 : va_nd isC = true) (hRr : isR.map (fun i => ws[i]?) = wr.map some) (hn : va_nd isR = true) (hdis : ∀ i ∈ isR, i ∉ isC)
    (ci q0 : Nat) {T : u_T} {N : Nat} {fs : List Value} (hc : cl[ci]? = some (C, T, N)) (he : wc[q0]? = some (b, .inr (ci, fs))) (hsz : ls.size = nL) (hst : st0 = As.reverse ++ .ref b :: rest) (hrest : (rest.map fun v => v.category).sum ≤ 8) (hcells : cells ≤ R.cells ∧ slots ≤ R.slots) (hdg : decode cc pc = .ok (.invokevirtual index, 3))
    (kk : ∀ (r : Int32) (u : σ) (H1 : Heap) (locs1 : List Loc), post r u → va_P D cl (wr ++ w1 u) H1 → va_D A (wr ++ w1 u) → va_S A H0 H1 locs1 → W p l e R s m args below meth c H1 locs1 cells slots Q (F0 m (pc + 3) ls (.int r :: rest))) : W p l e R s m args below meth c H locs cells slots Q (F0 m pc ls st0) := by
  have hPc : va_P D cl wc H := fun k q hq => by
    obtain ⟨i, -, h2⟩ := va_in_of isC hC hq
    exact hP i q h2
  have hDc : va_D A wc := hD.sub isC hC2 hC
  have hFc := va_free (wc := wc) hD hS hA isC hC
  refine va_calli (va_runV (As := As) (rest := rest) S hM (cwV nA S.2.2.2.2 hG rfl rfl rfl hd hR) ⟨fun a U g mk q => by obtain ⟨q0, q1, qP, qK, qD⟩ := q; exact ⟨q0, q1, qP, va_K.moved (u := U) (U := U.calling g mk a) (Vm.Alike.refl U.vm) qK, qD⟩, va_recv hK hPc (ci := ci) (q0 := q0) hc he, fun U hU hW => ⟨rfl, by rw [hU], by rw [hU]; exact hPc, va_K.moved hW.alike hK, hDc.weaken (fun _ _ _ _ => trivial)⟩⟩ rfl hnA hsz hst (lv_room hrest) hdg hcells) hS (fun q _ h => hFc q h) hFc (fun r u t H1 locs1 ht hvm hw1 hB hz1 hk1 hS1 => ?_)
  obtain ⟨hP1, hK1, hD1⟩ := hB
  rw [ht] at hP1
  obtain ⟨hP2, hD2⟩ := va_join (wr := wr) (w1 := w1 u) hP hD isC isR hC hRr hn hdis hk1 hFc hP1 hD1
  exact kk r u H1 locs1 hw1 hP2 hD2 hS1
end SAC
end
section
/-! ===== the two worlds ===== -/
abbrev vwCl : List vw_C := [(RX0, TX0, 6), (RX1, TX1, 4)]
abbrev wX (h : Nat) (a : Nat → Nat) (cI : ClassId) (G : Int → Int32) (RP EN RN LO HI : Int → Int) : va_W := [(h, .inr (0, [.ref (a 0), .ref (a 1), .ref (a 2), .ref (a 3), .ref (a 4), .ref (a 5)])), (a 0, .inl (cI, 128, .inl (sa_ar G))), (a 1, .inl (cI, 4, .inl (sa_ai RP))), (a 2, .inl (cI, 4, .inl (sa_ai EN))), (a 3, .inl (cI, 4, .inl (sa_ai RN))), (a 4, .inl (cI, 52, .inl (sa_ai LO))), (a 5, .inl (cI, 52, .inl (sa_ai HI)))]
abbrev wM (h : Nat) (a : Nat → Nat) (cI cZ : ClassId) (K : Int → Bool) (B : Int → Int32) (PT ED : Int → Int) : va_W := [(h, .inr (1, [.ref (a 0), .ref (a 1), .ref (a 2), .ref (a 3)])), (a 0, .inl (cZ, 960, .inl (sa_ab K))), (a 1, .inl (cI, 960, .inl (sa_ar B))), (a 2, .inl (cI, 4, .inl (sa_ai PT))), (a 3, .inl (cI, 4, .inl (sa_ai ED)))]
abbrev xT (cI : ClassId) : List (ClassId × FieldType) := [(cI, .int)]
abbrev mT (cI cZ : ClassId) : List (ClassId × FieldType) := [(cI, .int), (cZ, .boolean)]
section WORLDS
variable {p : Program} {l : Launch} {e : Env} {R : Room} {s : State} {m : MethodId} {args : Array Value} {below : List Frame} {meth : Method} {c : Code} {H : Heap} {locs : List Loc} {cells slots : Nat} {Q : State → Prop}
variable {cc : ByteArray} {pc nL : Nat} {ls : Array Slot} {rest : List Value} {D : va_G} {A : Nat → Prop} {H0 : Heap} {h : Nat} {a : Nat → Nat} {cI cZ : ClassId}
variable {G : Int → Int32} {RP EN RN LO HI : Int → Int} {K : Int → Bool} {B : Int → Int32} {PT ED : Int → Int}
theorem x_g0 (S : CallFix p m c cc nL s args lw_all RX0) (hK : va_K D vwCl (xT cI) s) (hP : va_P D vwCl (wX h a cI G RP EN RN LO HI) H) (hdg : decode cc pc = .ok (.getfield 7, 3)) (kk : W p l e R s m args below meth c H locs cells slots Q (F0 m (pc + 3) ls (.ref (a 0) :: rest))) : W p l e R s m args below meth c H locs cells slots Q (F0 m pc ls (.ref h :: rest)) :=
  va_get (ci := 0) (v := .ref (a 0)) (C := RX0) (T := TX0) (N := 6) S.1 S.2.1 S.2.2.2.2 in_X0 S.2.2.2.1 hK hP 0 rfl rfl 0 (by decide) (S.2.2.2.2 _ q24) (fun _ h9 => h9) rfl hdg kk
theorem x_l0 (S : CallFix p m c cc nL s args lw_all RX0) (hK : va_K D vwCl (xT cI) s) (hP : va_P D vwCl (wX h a cI G RP EN RN LO HI) H) {z : Int} (hdg : decode cc pc = .ok (.iaload, 1)) (kk : W p l e R s m args below meth c H locs cells slots Q (F0 m (pc + 1) ls (.int (G z) :: rest))) (h0 : 0 ≤ z := by omega) (h1 : z < 128 := by omega) : W p l e R s m args below meth c H locs cells slots Q (F0 m pc ls (.int (sa_i z) :: .ref (a 0) :: rest)) :=
  sa_aldR S.1 S.2.1 hK hP 1 0 rfl rfl hdg h0 (by omega) (by decide) kk
theorem x_s0 (S : CallFix p m c cc nL s args lw_all RX0) (hK : va_K D vwCl (xT cI) s) (hP : va_P D vwCl (wX h a cI G RP EN RN LO HI) H) (hD : va_D A (wX h a cI G RP EN RN LO HI)) (hS : va_S A H0 H locs) {z : Int} {v : Int32} (hdg : decode cc pc = .ok (.iastore, 1)) (kk : ∀ (H1 : Heap) (locs1 : List Loc), va_P D vwCl (wX h a cI (sa_up G z v) RP EN RN LO HI) H1 → va_D A (wX h a cI (sa_up G z v) RP EN RN LO HI) → va_S A H0 H1 locs1 → W p l e R s m args below meth c H1 locs1 cells slots Q (F0 m (pc + 1) ls rest)) (h0 : 0 ≤ z := by omega) (h1 : z < 128 := by omega) : W p l e R s m args below meth c H locs cells slots Q (F0 m pc ls (.int v :: .int (sa_i z) :: .ref (a 0) :: rest)) :=
  sa_astR S.1 S.2.1 hK hP hD hS 1 0 rfl rfl hdg h0 (by omega) (by decide) kk
theorem x_g1 (S : CallFix p m c cc nL s args lw_all RX0) (hK : va_K D vwCl (xT cI) s) (hP : va_P D vwCl (wX h a cI G RP EN RN LO HI) H) (hdg : decode cc pc = .ok (.getfield 13, 3)) (kk : W p l e R s m args below meth c H locs cells slots Q (F0 m (pc + 3) ls (.ref (a 1) :: rest))) : W p l e R s m args below meth c H locs cells slots Q (F0 m pc ls (.ref h :: rest)) :=
  va_get (ci := 0) (v := .ref (a 1)) (C := RX0) (T := TX0) (N := 6) S.1 S.2.1 S.2.2.2.2 in_X0 S.2.2.2.1 hK hP 0 rfl rfl 1 (by decide) (S.2.2.2.2 _ q25) (fun _ h9 => h9) rfl hdg kk
theorem x_l1 (S : CallFix p m c cc nL s args lw_all RX0) (hK : va_K D vwCl (xT cI) s) (hP : va_P D vwCl (wX h a cI G RP EN RN LO HI) H) {z : Int} (hdg : decode cc pc = .ok (.iaload, 1)) (kk : W p l e R s m args below meth c H locs cells slots Q (F0 m (pc + 1) ls (.int (sa_i (RP z)) :: rest))) (h0 : 0 ≤ z := by omega) (h1 : z < 4 := by omega) : W p l e R s m args below meth c H locs cells slots Q (F0 m pc ls (.int (sa_i z) :: .ref (a 1) :: rest)) :=
  sa_ald S.1 S.2.1 hK hP 2 0 rfl rfl hdg h0 (by omega) (by decide) kk
theorem x_s1 (S : CallFix p m c cc nL s args lw_all RX0) (hK : va_K D vwCl (xT cI) s) (hP : va_P D vwCl (wX h a cI G RP EN RN LO HI) H) (hD : va_D A (wX h a cI G RP EN RN LO HI)) (hS : va_S A H0 H locs) {z v : Int} (hdg : decode cc pc = .ok (.iastore, 1)) (kk : ∀ (H1 : Heap) (locs1 : List Loc), va_P D vwCl (wX h a cI G (sa_up RP z v) EN RN LO HI) H1 → va_D A (wX h a cI G (sa_up RP z v) EN RN LO HI) → va_S A H0 H1 locs1 → W p l e R s m args below meth c H1 locs1 cells slots Q (F0 m (pc + 1) ls rest)) (h0 : 0 ≤ z := by omega) (h1 : z < 4 := by omega) : W p l e R s m args below meth c H locs cells slots Q (F0 m pc ls (.int (sa_i v) :: .int (sa_i z) :: .ref (a 1) :: rest)) :=
  sa_ast S.1 S.2.1 hK hP hD hS 2 0 rfl rfl hdg h0 (by omega) (by decide) kk
theorem x_g2 (S : CallFix p m c cc nL s args lw_all RX0) (hK : va_K D vwCl (xT cI) s) (hP : va_P D vwCl (wX h a cI G RP EN RN LO HI) H) (hdg : decode cc pc = .ok (.getfield 16, 3)) (kk : W p l e R s m args below meth c H locs cells slots Q (F0 m (pc + 3) ls (.ref (a 2) :: rest))) : W p l e R s m args below meth c H locs cells slots Q (F0 m pc ls (.ref h :: rest)) :=
  va_get (ci := 0) (v := .ref (a 2)) (C := RX0) (T := TX0) (N := 6) S.1 S.2.1 S.2.2.2.2 in_X0 S.2.2.2.1 hK hP 0 rfl rfl 2 (by decide) (S.2.2.2.2 _ q26) (fun _ h9 => h9) rfl hdg kk
theorem x_l2 (S : CallFix p m c cc nL s args lw_all RX0) (hK : va_K D vwCl (xT cI) s) (hP : va_P D vwCl (wX h a cI G RP EN RN LO HI) H) {z : Int} (hdg : decode cc pc = .ok (.iaload, 1)) (kk : W p l e R s m args below meth c H locs cells slots Q (F0 m (pc + 1) ls (.int (sa_i (EN z)) :: rest))) (h0 : 0 ≤ z := by omega) (h1 : z < 4 := by omega) : W p l e R s m args below meth c H locs cells slots Q (F0 m pc ls (.int (sa_i z) :: .ref (a 2) :: rest)) :=
  sa_ald S.1 S.2.1 hK hP 3 0 rfl rfl hdg h0 (by omega) (by decide) kk
theorem x_s2 (S : CallFix p m c cc nL s args lw_all RX0) (hK : va_K D vwCl (xT cI) s) (hP : va_P D vwCl (wX h a cI G RP EN RN LO HI) H) (hD : va_D A (wX h a cI G RP EN RN LO HI)) (hS : va_S A H0 H locs) {z v : Int} (hdg : decode cc pc = .ok (.iastore, 1)) (kk : ∀ (H1 : Heap) (locs1 : List Loc), va_P D vwCl (wX h a cI G RP (sa_up EN z v) RN LO HI) H1 → va_D A (wX h a cI G RP (sa_up EN z v) RN LO HI) → va_S A H0 H1 locs1 → W p l e R s m args below meth c H1 locs1 cells slots Q (F0 m (pc + 1) ls rest)) (h0 : 0 ≤ z := by omega) (h1 : z < 4 := by omega) : W p l e R s m args below meth c H locs cells slots Q (F0 m pc ls (.int (sa_i v) :: .int (sa_i z) :: .ref (a 2) :: rest)) :=
  sa_ast S.1 S.2.1 hK hP hD hS 3 0 rfl rfl hdg h0 (by omega) (by decide) kk
theorem x_g3 (S : CallFix p m c cc nL s args lw_all RX0) (hK : va_K D vwCl (xT cI) s) (hP : va_P D vwCl (wX h a cI G RP EN RN LO HI) H) (hdg : decode cc pc = .ok (.getfield 19, 3)) (kk : W p l e R s m args below meth c H locs cells slots Q (F0 m (pc + 3) ls (.ref (a 3) :: rest))) : W p l e R s m args below meth c H locs cells slots Q (F0 m pc ls (.ref h :: rest)) :=
  va_get (ci := 0) (v := .ref (a 3)) (C := RX0) (T := TX0) (N := 6) S.1 S.2.1 S.2.2.2.2 in_X0 S.2.2.2.1 hK hP 0 rfl rfl 3 (by decide) (S.2.2.2.2 _ q27) (fun _ h9 => h9) rfl hdg kk
theorem x_l3 (S : CallFix p m c cc nL s args lw_all RX0) (hK : va_K D vwCl (xT cI) s) (hP : va_P D vwCl (wX h a cI G RP EN RN LO HI) H) {z : Int} (hdg : decode cc pc = .ok (.iaload, 1)) (kk : W p l e R s m args below meth c H locs cells slots Q (F0 m (pc + 1) ls (.int (sa_i (RN z)) :: rest))) (h0 : 0 ≤ z := by omega) (h1 : z < 4 := by omega) : W p l e R s m args below meth c H locs cells slots Q (F0 m pc ls (.int (sa_i z) :: .ref (a 3) :: rest)) :=
  sa_ald S.1 S.2.1 hK hP 4 0 rfl rfl hdg h0 (by omega) (by decide) kk
theorem x_s3 (S : CallFix p m c cc nL s args lw_all RX0) (hK : va_K D vwCl (xT cI) s) (hP : va_P D vwCl (wX h a cI G RP EN RN LO HI) H) (hD : va_D A (wX h a cI G RP EN RN LO HI)) (hS : va_S A H0 H locs) {z v : Int} (hdg : decode cc pc = .ok (.iastore, 1)) (kk : ∀ (H1 : Heap) (locs1 : List Loc), va_P D vwCl (wX h a cI G RP EN (sa_up RN z v) LO HI) H1 → va_D A (wX h a cI G RP EN (sa_up RN z v) LO HI) → va_S A H0 H1 locs1 → W p l e R s m args below meth c H1 locs1 cells slots Q (F0 m (pc + 1) ls rest)) (h0 : 0 ≤ z := by omega) (h1 : z < 4 := by omega) : W p l e R s m args below meth c H locs cells slots Q (F0 m pc ls (.int (sa_i v) :: .int (sa_i z) :: .ref (a 3) :: rest)) :=
  sa_ast S.1 S.2.1 hK hP hD hS 4 0 rfl rfl hdg h0 (by omega) (by decide) kk
theorem x_g4 (S : CallFix p m c cc nL s args lw_all RX0) (hK : va_K D vwCl (xT cI) s) (hP : va_P D vwCl (wX h a cI G RP EN RN LO HI) H) (hdg : decode cc pc = .ok (.getfield 22, 3)) (kk : W p l e R s m args below meth c H locs cells slots Q (F0 m (pc + 3) ls (.ref (a 4) :: rest))) : W p l e R s m args below meth c H locs cells slots Q (F0 m pc ls (.ref h :: rest)) :=
  va_get (ci := 0) (v := .ref (a 4)) (C := RX0) (T := TX0) (N := 6) S.1 S.2.1 S.2.2.2.2 in_X0 S.2.2.2.1 hK hP 0 rfl rfl 4 (by decide) (S.2.2.2.2 _ q28) (fun _ h9 => h9) rfl hdg kk
theorem x_l4 (S : CallFix p m c cc nL s args lw_all RX0) (hK : va_K D vwCl (xT cI) s) (hP : va_P D vwCl (wX h a cI G RP EN RN LO HI) H) {z : Int} (hdg : decode cc pc = .ok (.iaload, 1)) (kk : W p l e R s m args below meth c H locs cells slots Q (F0 m (pc + 1) ls (.int (sa_i (LO z)) :: rest))) (h0 : 0 ≤ z := by omega) (h1 : z < 52 := by omega) : W p l e R s m args below meth c H locs cells slots Q (F0 m pc ls (.int (sa_i z) :: .ref (a 4) :: rest)) :=
  sa_ald S.1 S.2.1 hK hP 5 0 rfl rfl hdg h0 (by omega) (by decide) kk
theorem x_s4 (S : CallFix p m c cc nL s args lw_all RX0) (hK : va_K D vwCl (xT cI) s) (hP : va_P D vwCl (wX h a cI G RP EN RN LO HI) H) (hD : va_D A (wX h a cI G RP EN RN LO HI)) (hS : va_S A H0 H locs) {z v : Int} (hdg : decode cc pc = .ok (.iastore, 1)) (kk : ∀ (H1 : Heap) (locs1 : List Loc), va_P D vwCl (wX h a cI G RP EN RN (sa_up LO z v) HI) H1 → va_D A (wX h a cI G RP EN RN (sa_up LO z v) HI) → va_S A H0 H1 locs1 → W p l e R s m args below meth c H1 locs1 cells slots Q (F0 m (pc + 1) ls rest)) (h0 : 0 ≤ z := by omega) (h1 : z < 52 := by omega) : W p l e R s m args below meth c H locs cells slots Q (F0 m pc ls (.int (sa_i v) :: .int (sa_i z) :: .ref (a 4) :: rest)) :=
  sa_ast S.1 S.2.1 hK hP hD hS 5 0 rfl rfl hdg h0 (by omega) (by decide) kk
theorem x_g5 (S : CallFix p m c cc nL s args lw_all RX0) (hK : va_K D vwCl (xT cI) s) (hP : va_P D vwCl (wX h a cI G RP EN RN LO HI) H) (hdg : decode cc pc = .ok (.getfield 25, 3)) (kk : W p l e R s m args below meth c H locs cells slots Q (F0 m (pc + 3) ls (.ref (a 5) :: rest))) : W p l e R s m args below meth c H locs cells slots Q (F0 m pc ls (.ref h :: rest)) :=
  va_get (ci := 0) (v := .ref (a 5)) (C := RX0) (T := TX0) (N := 6) S.1 S.2.1 S.2.2.2.2 in_X0 S.2.2.2.1 hK hP 0 rfl rfl 5 (by decide) (S.2.2.2.2 _ q29) (fun _ h9 => h9) rfl hdg kk
theorem x_l5 (S : CallFix p m c cc nL s args lw_all RX0) (hK : va_K D vwCl (xT cI) s) (hP : va_P D vwCl (wX h a cI G RP EN RN LO HI) H) {z : Int} (hdg : decode cc pc = .ok (.iaload, 1)) (kk : W p l e R s m args below meth c H locs cells slots Q (F0 m (pc + 1) ls (.int (sa_i (HI z)) :: rest))) (h0 : 0 ≤ z := by omega) (h1 : z < 52 := by omega) : W p l e R s m args below meth c H locs cells slots Q (F0 m pc ls (.int (sa_i z) :: .ref (a 5) :: rest)) :=
  sa_ald S.1 S.2.1 hK hP 6 0 rfl rfl hdg h0 (by omega) (by decide) kk
theorem x_s5 (S : CallFix p m c cc nL s args lw_all RX0) (hK : va_K D vwCl (xT cI) s) (hP : va_P D vwCl (wX h a cI G RP EN RN LO HI) H) (hD : va_D A (wX h a cI G RP EN RN LO HI)) (hS : va_S A H0 H locs) {z v : Int} (hdg : decode cc pc = .ok (.iastore, 1)) (kk : ∀ (H1 : Heap) (locs1 : List Loc), va_P D vwCl (wX h a cI G RP EN RN LO (sa_up HI z v)) H1 → va_D A (wX h a cI G RP EN RN LO (sa_up HI z v)) → va_S A H0 H1 locs1 → W p l e R s m args below meth c H1 locs1 cells slots Q (F0 m (pc + 1) ls rest)) (h0 : 0 ≤ z := by omega) (h1 : z < 52 := by omega) : W p l e R s m args below meth c H locs cells slots Q (F0 m pc ls (.int (sa_i v) :: .int (sa_i z) :: .ref (a 5) :: rest)) :=
  sa_ast S.1 S.2.1 hK hP hD hS 6 0 rfl rfl hdg h0 (by omega) (by decide) kk
theorem m_g0 (S : CallFix p m c cc nL s args lw_all RX1) (hK : va_K D vwCl (mT cI cZ) s) (hP : va_P D vwCl (wM h a cI cZ K B PT ED) H) (hdg : decode cc pc = .ok (.getfield 7, 3)) (kk : W p l e R s m args below meth c H locs cells slots Q (F0 m (pc + 3) ls (.ref (a 0) :: rest))) : W p l e R s m args below meth c H locs cells slots Q (F0 m pc ls (.ref h :: rest)) :=
  va_get (ci := 1) (v := .ref (a 0)) (C := RX1) (T := TX1) (N := 4) S.1 S.2.1 S.2.2.2.2 in_X1 S.2.2.2.1 hK hP 0 rfl rfl 0 (by decide) (S.2.2.2.2 _ q123) (fun _ h9 => h9) rfl hdg kk
theorem m_l0 (S : CallFix p m c cc nL s args lw_all RX1) (hK : va_K D vwCl (mT cI cZ) s) (hP : va_P D vwCl (wM h a cI cZ K B PT ED) H) {z : Int} (hdg : decode cc pc = .ok (.baload, 1)) (kk : W p l e R s m args below meth c H locs cells slots Q (F0 m (pc + 1) ls (.int (sa_b (K z)) :: rest))) (h0 : 0 ≤ z := by omega) (h1 : z < 960 := by omega) : W p l e R s m args below meth c H locs cells slots Q (F0 m pc ls (.int (sa_i z) :: .ref (a 0) :: rest)) :=
  sa_aldB S.1 S.2.1 hK hP 1 1 rfl rfl hdg h0 (by omega) (by decide) kk
theorem m_s0 (S : CallFix p m c cc nL s args lw_all RX1) (hK : va_K D vwCl (mT cI cZ) s) (hP : va_P D vwCl (wM h a cI cZ K B PT ED) H) (hD : va_D A (wM h a cI cZ K B PT ED)) (hS : va_S A H0 H locs) {z : Int} (hdg : decode cc pc = .ok (.bastore, 1)) (kk : ∀ (H1 : Heap) (locs1 : List Loc), va_P D vwCl (wM h a cI cZ (sa_up K z true) B PT ED) H1 → va_D A (wM h a cI cZ (sa_up K z true) B PT ED) → va_S A H0 H1 locs1 → W p l e R s m args below meth c H1 locs1 cells slots Q (F0 m (pc + 1) ls rest)) (h0 : 0 ≤ z := by omega) (h1 : z < 960 := by omega) : W p l e R s m args below meth c H locs cells slots Q (F0 m pc ls (.int (sa_i 1) :: .int (sa_i z) :: .ref (a 0) :: rest)) :=
  sa_astB S.1 S.2.1 hK hP hD hS 1 1 rfl rfl hdg h0 (by omega) (by decide) kk
theorem m_g1 (S : CallFix p m c cc nL s args lw_all RX1) (hK : va_K D vwCl (mT cI cZ) s) (hP : va_P D vwCl (wM h a cI cZ K B PT ED) H) (hdg : decode cc pc = .ok (.getfield 13, 3)) (kk : W p l e R s m args below meth c H locs cells slots Q (F0 m (pc + 3) ls (.ref (a 1) :: rest))) : W p l e R s m args below meth c H locs cells slots Q (F0 m pc ls (.ref h :: rest)) :=
  va_get (ci := 1) (v := .ref (a 1)) (C := RX1) (T := TX1) (N := 4) S.1 S.2.1 S.2.2.2.2 in_X1 S.2.2.2.1 hK hP 0 rfl rfl 1 (by decide) (S.2.2.2.2 _ q124) (fun _ h9 => h9) rfl hdg kk
theorem m_l1 (S : CallFix p m c cc nL s args lw_all RX1) (hK : va_K D vwCl (mT cI cZ) s) (hP : va_P D vwCl (wM h a cI cZ K B PT ED) H) {z : Int} (hdg : decode cc pc = .ok (.iaload, 1)) (kk : W p l e R s m args below meth c H locs cells slots Q (F0 m (pc + 1) ls (.int (B z) :: rest))) (h0 : 0 ≤ z := by omega) (h1 : z < 960 := by omega) : W p l e R s m args below meth c H locs cells slots Q (F0 m pc ls (.int (sa_i z) :: .ref (a 1) :: rest)) :=
  sa_aldR S.1 S.2.1 hK hP 2 0 rfl rfl hdg h0 (by omega) (by decide) kk
theorem m_s1 (S : CallFix p m c cc nL s args lw_all RX1) (hK : va_K D vwCl (mT cI cZ) s) (hP : va_P D vwCl (wM h a cI cZ K B PT ED) H) (hD : va_D A (wM h a cI cZ K B PT ED)) (hS : va_S A H0 H locs) {z : Int} {v : Int32} (hdg : decode cc pc = .ok (.iastore, 1)) (kk : ∀ (H1 : Heap) (locs1 : List Loc), va_P D vwCl (wM h a cI cZ K (sa_up B z v) PT ED) H1 → va_D A (wM h a cI cZ K (sa_up B z v) PT ED) → va_S A H0 H1 locs1 → W p l e R s m args below meth c H1 locs1 cells slots Q (F0 m (pc + 1) ls rest)) (h0 : 0 ≤ z := by omega) (h1 : z < 960 := by omega) : W p l e R s m args below meth c H locs cells slots Q (F0 m pc ls (.int v :: .int (sa_i z) :: .ref (a 1) :: rest)) :=
  sa_astR S.1 S.2.1 hK hP hD hS 2 0 rfl rfl hdg h0 (by omega) (by decide) kk
theorem m_g2 (S : CallFix p m c cc nL s args lw_all RX1) (hK : va_K D vwCl (mT cI cZ) s) (hP : va_P D vwCl (wM h a cI cZ K B PT ED) H) (hdg : decode cc pc = .ok (.getfield 17, 3)) (kk : W p l e R s m args below meth c H locs cells slots Q (F0 m (pc + 3) ls (.ref (a 2) :: rest))) : W p l e R s m args below meth c H locs cells slots Q (F0 m pc ls (.ref h :: rest)) :=
  va_get (ci := 1) (v := .ref (a 2)) (C := RX1) (T := TX1) (N := 4) S.1 S.2.1 S.2.2.2.2 in_X1 S.2.2.2.1 hK hP 0 rfl rfl 2 (by decide) (S.2.2.2.2 _ q125) (fun _ h9 => h9) rfl hdg kk
theorem m_l2 (S : CallFix p m c cc nL s args lw_all RX1) (hK : va_K D vwCl (mT cI cZ) s) (hP : va_P D vwCl (wM h a cI cZ K B PT ED) H) {z : Int} (hdg : decode cc pc = .ok (.iaload, 1)) (kk : W p l e R s m args below meth c H locs cells slots Q (F0 m (pc + 1) ls (.int (sa_i (PT z)) :: rest))) (h0 : 0 ≤ z := by omega) (h1 : z < 4 := by omega) : W p l e R s m args below meth c H locs cells slots Q (F0 m pc ls (.int (sa_i z) :: .ref (a 2) :: rest)) :=
  sa_ald S.1 S.2.1 hK hP 3 0 rfl rfl hdg h0 (by omega) (by decide) kk
theorem m_s2 (S : CallFix p m c cc nL s args lw_all RX1) (hK : va_K D vwCl (mT cI cZ) s) (hP : va_P D vwCl (wM h a cI cZ K B PT ED) H) (hD : va_D A (wM h a cI cZ K B PT ED)) (hS : va_S A H0 H locs) {z v : Int} (hdg : decode cc pc = .ok (.iastore, 1)) (kk : ∀ (H1 : Heap) (locs1 : List Loc), va_P D vwCl (wM h a cI cZ K B (sa_up PT z v) ED) H1 → va_D A (wM h a cI cZ K B (sa_up PT z v) ED) → va_S A H0 H1 locs1 → W p l e R s m args below meth c H1 locs1 cells slots Q (F0 m (pc + 1) ls rest)) (h0 : 0 ≤ z := by omega) (h1 : z < 4 := by omega) : W p l e R s m args below meth c H locs cells slots Q (F0 m pc ls (.int (sa_i v) :: .int (sa_i z) :: .ref (a 2) :: rest)) :=
  sa_ast S.1 S.2.1 hK hP hD hS 3 0 rfl rfl hdg h0 (by omega) (by decide) kk
theorem m_g3 (S : CallFix p m c cc nL s args lw_all RX1) (hK : va_K D vwCl (mT cI cZ) s) (hP : va_P D vwCl (wM h a cI cZ K B PT ED) H) (hdg : decode cc pc = .ok (.getfield 20, 3)) (kk : W p l e R s m args below meth c H locs cells slots Q (F0 m (pc + 3) ls (.ref (a 3) :: rest))) : W p l e R s m args below meth c H locs cells slots Q (F0 m pc ls (.ref h :: rest)) :=
  va_get (ci := 1) (v := .ref (a 3)) (C := RX1) (T := TX1) (N := 4) S.1 S.2.1 S.2.2.2.2 in_X1 S.2.2.2.1 hK hP 0 rfl rfl 3 (by decide) (S.2.2.2.2 _ q126) (fun _ h9 => h9) rfl hdg kk
theorem m_l3 (S : CallFix p m c cc nL s args lw_all RX1) (hK : va_K D vwCl (mT cI cZ) s) (hP : va_P D vwCl (wM h a cI cZ K B PT ED) H) {z : Int} (hdg : decode cc pc = .ok (.iaload, 1)) (kk : W p l e R s m args below meth c H locs cells slots Q (F0 m (pc + 1) ls (.int (sa_i (ED z)) :: rest))) (h0 : 0 ≤ z := by omega) (h1 : z < 4 := by omega) : W p l e R s m args below meth c H locs cells slots Q (F0 m pc ls (.int (sa_i z) :: .ref (a 3) :: rest)) :=
  sa_ald S.1 S.2.1 hK hP 4 0 rfl rfl hdg h0 (by omega) (by decide) kk
theorem m_s3 (S : CallFix p m c cc nL s args lw_all RX1) (hK : va_K D vwCl (mT cI cZ) s) (hP : va_P D vwCl (wM h a cI cZ K B PT ED) H) (hD : va_D A (wM h a cI cZ K B PT ED)) (hS : va_S A H0 H locs) {z v : Int} (hdg : decode cc pc = .ok (.iastore, 1)) (kk : ∀ (H1 : Heap) (locs1 : List Loc), va_P D vwCl (wM h a cI cZ K B PT (sa_up ED z v)) H1 → va_D A (wM h a cI cZ K B PT (sa_up ED z v)) → va_S A H0 H1 locs1 → W p l e R s m args below meth c H1 locs1 cells slots Q (F0 m (pc + 1) ls rest)) (h0 : 0 ≤ z := by omega) (h1 : z < 4 := by omega) : W p l e R s m args below meth c H locs cells slots Q (F0 m pc ls (.int (sa_i v) :: .int (sa_i z) :: .ref (a 3) :: rest)) :=
  sa_ast S.1 S.2.1 hK hP hD hS 4 0 rfl rfl hdg h0 (by omega) (by decide) kk
end WORLDS
end
section
/-! ===== what each method computes, in plain Lean (Int functions) ===== -/
/-- bounds of the class's arrays, everywhere -/
def xOK (RP EN RN LO HI : Int → Int) : Prop := ∀ j : Int, (0 ≤ RP j ∧ RP j ≤ 240) ∧ (-1 ≤ EN j ∧ EN j ≤ 240) ∧ (0 ≤ RN j ∧ RN j ≤ 12) ∧ (0 ≤ LO j ∧ LO j ≤ 240) ∧ (0 ≤ HI j ∧ HI j ≤ 240)
def xS (s : Int) : Bool := decide (0 ≤ s) && decide (s ≤ 3)
def xLim (RP : Int → Int) (s : Int) : Int := if 240 < RP s + 24 then 240 else RP s + 24
def xHi (RP EN RN HI : Int → Int) (s : Int) : Int := if 0 ≤ EN s then EN s else if 0 < RN s then HI (13 * s + RN s - 1) else RP s
def xCr (RP EN RN HI : Int → Int) : Int := 56 + (RP 0 - xHi RP EN RN HI 0) + (RP 1 - xHi RP EN RN HI 1) + (RP 2 - xHi RP EN RN HI 2) + (RP 3 - xHi RP EN RN HI 3)
def xMay (RP EN RN HI : Int → Int) (s to : Int) : Bool := decide (to ≤ xLim RP s) && (decide (to - xHi RP EN RN HI s ≤ 0) || decide (to - xHi RP EN RN HI s ≤ xCr RP EN RN HI))
def xKnF (LO HI : Int → Int) (at_ : Int) : Nat → Int → Bool
  | 0, _ => false
  | n + 1, b => (decide (LO b ≤ at_) && decide (at_ < HI b)) || xKnF LO HI at_ n (b + 1)
def xKn (RN LO HI : Int → Int) (s at_ : Int) : Bool := xKnF LO HI at_ (RN s).toNat (13 * s)
def xLast (RP RN HI : Int → Int) (s : Int) : Int := if 0 < RN s then HI (13 * s + RN s - 1) else RP s
/-- from base + fr up to (not with) base + k: what stood 'gone' places further -/
def xDrop (base fr k gone : Int) (f : Int → Int) : Int → Int := fun j => if base + fr ≤ j ∧ j < base + k then f (j + gone) else f j
/-- above base + k, up to base + n: what stood one place before -/
def xOpen (base k n : Int) (f : Int → Int) : Int → Int := fun j => if base + k < j ∧ j ≤ base + n then f (j - 1) else f j
theorem xKnF_end {LO HI : Int → Int} {at_ k e : Int} (h : e ≤ k) : xKnF LO HI at_ (e - k).toNat k = false := by
  rw [show (e - k).toNat = 0 by omega]
  rfl
theorem xKnF_step {LO HI : Int → Int} {at_ k e : Int} (h : k < e) : xKnF LO HI at_ (e - k).toNat k = ((decide (LO k ≤ at_) && decide (at_ < HI k)) || xKnF LO HI at_ (e - (k + 1)).toNat (k + 1)) := by
  rw [show (e - k).toNat = (e - (k + 1)).toNat + 1 by omega]
  rfl
theorem xDrop_0 {base fr gone : Int} {f : Int → Int} : xDrop base fr fr gone f = f := by
  funext j
  unfold xDrop
  rw [if_neg (by omega)]
theorem xDrop_step {base fr k gone : Int} {f : Int → Int} (h0 : fr ≤ k) (hg : 0 ≤ gone) : sa_up (xDrop base fr k gone f) (base + k) (xDrop base fr k gone f (base + k + gone)) = xDrop base fr (k + 1) gone f := by
  funext j
  unfold sa_up
  by_cases h : j = base + k
  · subst h
    rw [if_pos rfl]
    unfold xDrop
    rw [if_neg (by omega), if_pos (by omega)]
  · rw [if_neg h]
    unfold xDrop
    by_cases h2 : base + fr ≤ j ∧ j < base + k
    · rw [if_pos h2, if_pos (by omega)]
    · rw [if_neg h2, if_neg (by omega)]
theorem xDrop_end {base fr k k' gone : Int} {f : Int → Int} (h : k = k' ∨ (k ≤ fr ∧ k' ≤ fr)) : xDrop base fr k gone f = xDrop base fr k' gone f := by
  rcases h with h | h
  · rw [h]
  · funext j
    unfold xDrop
    rw [if_neg (by omega), if_neg (by omega)]
theorem xOpen_0 {base n : Int} {f : Int → Int} : xOpen base n n f = f := by
  funext j
  unfold xOpen
  rw [if_neg (by omega)]
theorem xOpen_step {base k n : Int} {f : Int → Int} (h0 : k ≤ n) : sa_up (xOpen base k n f) (base + k) (xOpen base k n f (base + k - 1)) = xOpen base (k - 1) n f := by
  funext j
  unfold sa_up
  by_cases h : j = base + k
  · subst h
    rw [if_pos rfl]
    unfold xOpen
    rw [if_neg (by omega), if_pos (by omega)]
  · rw [if_neg h]
    unfold xOpen
    by_cases h2 : base + k < j ∧ j ≤ base + n
    · rw [if_pos h2, if_pos (by omega)]
    · rw [if_neg h2, if_neg (by omega)]
/-- addRange's first loop: from place k on, n places left -/
def xFst (HI : Int → Int) (base fr : Int) : Nat → Int → Int → Int
  | 0, _, f => f
  | n + 1, k, f => xFst HI base fr n (k + 1) (if HI (base + k) < fr then k + 1 else f)
theorem xFst_end {HI : Int → Int} {base fr k e f : Int} (h : e ≤ k) : xFst HI base fr (e - k).toNat k f = f := by
  rw [show (e - k).toNat = 0 by omega]
  rfl
theorem xFst_step {HI : Int → Int} {base fr k e f : Int} (h : k < e) : xFst HI base fr (e - k).toNat k f = xFst HI base fr (e - (k + 1)).toNat (k + 1) (if HI (base + k) < fr then k + 1 else f) := by
  rw [show (e - k).toNat = (e - (k + 1)).toNat + 1 by omega]
  rfl
/-- addRange's second loop: (last, newLow, newHigh) -/
def xScn (LO HI : Int → Int) (base to : Int) : Nat → Int → Int × Int × Int → Int × Int × Int
  | 0, _, q => q
  | n + 1, k, q => xScn LO HI base to n (k + 1) (if LO (base + k) ≤ to then (k + 1, (if LO (base + k) < q.2.1 then LO (base + k) else q.2.1), (if q.2.2 < HI (base + k) then HI (base + k) else q.2.2)) else q)
theorem xScn_end {LO HI : Int → Int} {base to k e : Int} {q : Int × Int × Int} (h : e ≤ k) : xScn LO HI base to (e - k).toNat k q = q := by
  rw [show (e - k).toNat = 0 by omega]
  rfl
theorem xScn_step {LO HI : Int → Int} {base to k e : Int} {q : Int × Int × Int} (h : k < e) : xScn LO HI base to (e - k).toNat k q = xScn LO HI base to (e - (k + 1)).toNat (k + 1) (if LO (base + k) ≤ to then (k + 1, (if LO (base + k) < q.2.1 then LO (base + k) else q.2.1), (if q.2.2 < HI (base + k) then HI (base + k) else q.2.2)) else q) := by
  rw [show (e - k).toNat = (e - (k + 1)).toNat + 1 by omega]
  rfl
def xF (RN HI : Int → Int) (s fr : Int) : Int := xFst HI (13 * s) fr (RN s).toNat 0 0
def xQ (RN LO HI : Int → Int) (s fr to : Int) : Int × Int × Int := xScn LO HI (13 * s) to (RN s - xF RN HI s fr).toNat (xF RN HI s fr) (xF RN HI s fr, fr, to)
def xAddLO (RN LO HI : Int → Int) (s fr to : Int) : Int → Int := sa_up (if xF RN HI s fr = (xQ RN LO HI s fr to).1 then xOpen (13 * s) (xF RN HI s fr) (RN s) LO else xDrop (13 * s) (xF RN HI s fr + 1) (RN s - ((xQ RN LO HI s fr to).1 - (xF RN HI s fr + 1))) ((xQ RN LO HI s fr to).1 - (xF RN HI s fr + 1)) LO) (13 * s + xF RN HI s fr) (xQ RN LO HI s fr to).2.1
def xAddHI (RN LO HI : Int → Int) (s fr to : Int) : Int → Int := sa_up (if xF RN HI s fr = (xQ RN LO HI s fr to).1 then xOpen (13 * s) (xF RN HI s fr) (RN s) HI else xDrop (13 * s) (xF RN HI s fr + 1) (RN s - ((xQ RN LO HI s fr to).1 - (xF RN HI s fr + 1))) ((xQ RN LO HI s fr to).1 - (xF RN HI s fr + 1)) HI) (13 * s + xF RN HI s fr) (xQ RN LO HI s fr to).2.2
def xAddRN (RN LO HI : Int → Int) (s fr to : Int) : Int → Int := sa_up RN s (if xF RN HI s fr = (xQ RN LO HI s fr to).1 then RN s + 1 else RN s - ((xQ RN LO HI s fr to).1 - (xF RN HI s fr + 1)))
/-- a byte of a piece -/
def xByte (bv : Int32) (d : Int) : Int32 := (bv >>> (sa_i (8 * d) &&& 31)) &&& sa_i 255
def xPG (kn : Int → Bool) (s off : Int) (bv : Int32) : Nat → Int → (Int → Int32) → (Int → Int32)
  | 0, _, G => G
  | n + 1, at_, G => xPG kn s off bv n (at_ + 1) (if kn at_ = true then G else sa_up G (32 * s + at_ % 32) (xByte bv (at_ - off)))
def xPF (kn : Int → Bool) : Nat → Int → Int → Int
  | 0, _, f => f
  | n + 1, at_, f => xPF kn n (at_ + 1) (if kn at_ = true then f else f + 1)
theorem xPG_end {kn : Int → Bool} {s off at_ e : Int} {bv : Int32} {G : Int → Int32} (h : e ≤ at_) : xPG kn s off bv (e - at_).toNat at_ G = G := by
  rw [show (e - at_).toNat = 0 by omega]
  rfl
theorem xPG_step {kn : Int → Bool} {s off at_ e : Int} {bv : Int32} {G : Int → Int32} (h : at_ < e) : xPG kn s off bv (e - at_).toNat at_ G = xPG kn s off bv (e - (at_ + 1)).toNat (at_ + 1) (if kn at_ = true then G else sa_up G (32 * s + at_ % 32) (xByte bv (at_ - off))) := by
  rw [show (e - at_).toNat = (e - (at_ + 1)).toNat + 1 by omega]
  rfl
theorem xPF_end {kn : Int → Bool} {at_ e f : Int} (h : e ≤ at_) : xPF kn (e - at_).toNat at_ f = f := by
  rw [show (e - at_).toNat = 0 by omega]
  rfl
theorem xPF_step {kn : Int → Bool} {at_ e f : Int} (h : at_ < e) : xPF kn (e - at_).toNat at_ f = xPF kn (e - (at_ + 1)).toNat (at_ + 1) (if kn at_ = true then f else f + 1) := by
  rw [show (e - at_).toNat = (e - (at_ + 1)).toNat + 1 by omega]
  rfl
theorem sa_nat (n : Nat) : sa_i (n : Int) = nI n := Int32.ofInt_eq_ofNat
/-- at & 31 -/
theorem sa_and31 {z : Int} (h0 : 0 ≤ z) (h1 : z < 2147483648) : sa_i z &&& sa_i 31 = sa_i (z % 32) := by
  obtain ⟨n, rfl⟩ : ∃ n : Nat, z = n := ⟨z.toNat, by omega⟩
  rw [sa_nat, pk_andN (n := n) (by omega) (m := sa_i 31) 5 (by decide +kernel), show ((n : Int) % 32) = ((n % 2 ^ 5 : Nat) : Int) by omega, sa_nat]
/-- x & 15 -/
theorem sa_and15 (x : Int32) : ∃ z : Int, 0 ≤ z ∧ z ≤ 15 ∧ x &&& sa_i 15 = sa_i z := by
  obtain ⟨j, h1, h2⟩ := pk_andE x (m := sa_i 15) 4 (by decide +kernel)
  exact ⟨(j : Int), by omega, by omega, by rw [h2, sa_nat]⟩
/-! ===== the model ===== -/
def mOK (PT ED : Int → Int) : Prop := ∀ j : Int, (0 ≤ PT j ∧ PT j ≤ 240) ∧ (-1 ≤ ED j ∧ ED j ≤ 240)
def mBad (s : Int) : Bool := decide (s < 0) || decide (3 < s)
def mLim (PT : Int → Int) (s : Int) : Int := if PT s + 24 < 240 then PT s + 24 else 240
def mTopF (K : Int → Bool) (s : Int) : Nat → Int
  | 0 => 0
  | n + 1 => if K (240 * s + ((n : Int) + 1) - 1) = true then (n : Int) + 1 else mTopF K s n
theorem mTopF_0 {K : Int → Bool} {s i : Int} (h : i ≤ 0) : mTopF K s i.toNat = 0 := by
  rw [show i.toNat = 0 by omega]
  rfl
theorem mTopF_step {K : Int → Bool} {s i : Int} (h : 0 < i) : mTopF K s i.toNat = if K (240 * s + i - 1) = true then i else mTopF K s (i - 1).toNat := by
  obtain ⟨n, rfl⟩ : ∃ n : Nat, i = (n : Int) + 1 := ⟨(i - 1).toNat, by omega⟩
  rw [show ((n : Int) + 1).toNat = n + 1 by omega, show ((n : Int) + 1 - 1).toNat = n by omega]
  rfl
def mTop (K : Int → Bool) (ED : Int → Int) (s : Int) : Int := if 0 ≤ ED s then ED s else mTopF K s 240
theorem mTopF_in {K : Int → Bool} {s : Int} : ∀ n : Nat, 0 ≤ mTopF K s n ∧ mTopF K s n ≤ n := by
  intro n
  induction n with
  | zero => exact ⟨Int.le_refl 0, Int.le_refl 0⟩
  | succ n ih =>
    unfold mTopF
    by_cases h : K (240 * s + ((n : Int) + 1) - 1) = true
    · rw [if_pos h]; omega
    · rw [if_neg h]; omega
theorem mTop_in {K : Int → Bool} {PT ED : Int → Int} (hok : mOK PT ED) (s : Int) : 0 ≤ mTop K ED s ∧ mTop K ED s ≤ 240 := by
  unfold mTop
  have h1 := hok s
  have h2 := mTopF_in (K := K) (s := s) 240
  by_cases h : 0 ≤ ED s
  · rw [if_pos h]; omega
  · rw [if_neg h]; omega
def mUp (K : Int → Bool) (ED : Int → Int) (s up j : Int) : Int := if j = s ∧ mTop K ED j < up then up else mTop K ED j
def mTs (K : Int → Bool) (ED : Int → Int) (s up : Int) : Nat → Int
  | 0 => 0
  | n + 1 => mTs K ED s up n + mUp K ED s up (n : Int)
def mPs (PT : Int → Int) : Nat → Int
  | 0 => 0
  | n + 1 => mPs PT n + PT (n : Int)
theorem mTs_step {K : Int → Bool} {ED : Int → Int} {s up i : Int} (h : 0 ≤ i) : mTs K ED s up (i + 1).toNat = mTs K ED s up i.toNat + mUp K ED s up i := by
  obtain ⟨n, rfl⟩ : ∃ n : Nat, i = (n : Int) := ⟨i.toNat, by omega⟩
  rw [show ((n : Int) + 1).toNat = n + 1 by omega, show ((n : Int)).toNat = n by omega]
  rfl
theorem mPs_step {PT : Int → Int} {i : Int} (h : 0 ≤ i) : mPs PT (i + 1).toNat = mPs PT i.toNat + PT i := by
  obtain ⟨n, rfl⟩ : ∃ n : Nat, i = (n : Int) := ⟨i.toNat, by omega⟩
  rw [show ((n : Int) + 1).toNat = n + 1 by omega, show ((n : Int)).toNat = n by omega]
  rfl
def mFit (K : Int → Bool) (PT ED : Int → Int) (s up : Int) : Bool := decide (up ≤ mLim PT s) && decide (mTs K ED s up 4 ≤ mPs PT 4 + 56)
def mKn (K : Int → Bool) (s off : Int) : Bool := decide (off < 240) && K (240 * s + off)
def mBg (K : Int → Bool) (PT : Int → Int) (s off : Int) : Bool := !mKn K s off && (decide (off = PT s) || mKn K s (off - 1))
def mCnt (bg : Int → Bool) : Nat → Int → Int → Int
  | 0, _, c => c
  | n + 1, i, c => mCnt bg n (i + 1) (if bg i = true then c + 1 else c)
theorem mCnt_end {bg : Int → Bool} {i e c : Int} (h : e ≤ i) : mCnt bg (e - i).toNat i c = c := by
  rw [show (e - i).toNat = 0 by omega]
  rfl
theorem mCnt_step {bg : Int → Bool} {i e c : Int} (h : i < e) : mCnt bg (e - i).toNat i c = mCnt bg (e - (i + 1)).toNat (i + 1) (if bg i = true then c + 1 else c) := by
  rw [show (e - i).toNat = (e - (i + 1)).toNat + 1 by omega]
  rfl
def mFnd (bg : Int → Bool) (num : Int) : Nat → Int → Int → Int
  | 0, _, _ => -4
  | n + 1, i, c => if bg i = true then (if c = num then i else mFnd bg num n (i + 1) (c + 1)) else mFnd bg num n (i + 1) c
theorem mFnd_end {bg : Int → Bool} {num i e c : Int} (h : e ≤ i) : mFnd bg num (e - i).toNat i c = -4 := by
  rw [show (e - i).toNat = 0 by omega]
  rfl
theorem mFnd_step {bg : Int → Bool} {num i e c : Int} (h : i < e) : mFnd bg num (e - i).toNat i c = if bg i = true then (if c = num then i else mFnd bg num (e - (i + 1)).toNat (i + 1) (c + 1)) else mFnd bg num (e - (i + 1)).toNat (i + 1) c := by
  rw [show (e - i).toNat = (e - (i + 1)).toNat + 1 by omega]
  rfl
def mRd (kn : Int → Bool) (p : Int) : Nat → Int → Int
  | 0, c => c
  | n + 1, c => if kn (p + c) = true then mRd kn p n (c + 1) else c
theorem mRd_end {kn : Int → Bool} {p c e : Int} (h : e ≤ c) : mRd kn p (e - c).toNat c = c := by
  rw [show (e - c).toNat = 0 by omega]
  rfl
theorem mRd_step {kn : Int → Bool} {p c e : Int} (h : c < e) : mRd kn p (e - c).toNat c = if kn (p + c) = true then mRd kn p (e - (c + 1)).toNat (c + 1) else c := by
  rw [show (e - c).toNat = (e - (c + 1)).toNat + 1 by omega]
  rfl
def mAl (fit : Int → Bool) : Nat → Int → Int → Int
  | 0, _, most => most
  | n + 1, i, most => mAl fit n (i + 1) (if fit i = true then i else most)
theorem mAl_end {fit : Int → Bool} {i e most : Int} (h : e ≤ i) : mAl fit (e - i).toNat i most = most := by
  rw [show (e - i).toNat = 0 by omega]
  rfl
theorem mAl_step {fit : Int → Bool} {i e most : Int} (h : i < e) : mAl fit (e - i).toNat i most = mAl fit (e - (i + 1)).toNat (i + 1) (if fit i = true then i else most) := by
  rw [show (e - i).toNat = (e - (i + 1)).toNat + 1 by omega]
  rfl
/-- the model's piece: known, bytes, count -/
def mPc (s off : Int) (bv : Int32) : Nat → Int → (Int → Bool) × (Int → Int32) × Int → (Int → Bool) × (Int → Int32) × Int
  | 0, _, q => q
  | n + 1, k, q => mPc s off bv n (k + 1) (if q.1 (240 * s + off + k) = true then q else (sa_up q.1 (240 * s + off + k) true, sa_up q.2.1 (240 * s + off + k) (xByte bv k), q.2.2 + 1))
theorem mPc_end {s off k e : Int} {bv : Int32} {q : (Int → Bool) × (Int → Int32) × Int} (h : e ≤ k) : mPc s off bv (e - k).toNat k q = q := by
  rw [show (e - k).toNat = 0 by omega]
  rfl
theorem mPc_step {s off k e : Int} {bv : Int32} {q : (Int → Bool) × (Int → Int32) × Int} (h : k < e) : mPc s off bv (e - k).toNat k q = mPc s off bv (e - (k + 1)).toNat (k + 1) (if q.1 (240 * s + off + k) = true then q else (sa_up q.1 (240 * s + off + k) true, sa_up q.2.1 (240 * s + off + k) (xByte bv k), q.2.2 + 1)) := by
  rw [show (e - k).toNat = (e - (k + 1)).toNat + 1 by omega]
  rfl
end
section
/-! ===== StreamAssembler: the methods that change nothing (printed by gen/x1.py) ===== -/
theorem xS_t {s : Int} (h : xS s = true) : 0 ≤ s ∧ s ≤ 3 := by simpa [xS] using h
theorem xS_f {s : Int} (h : xS s = false) : s < 0 ∨ 3 < s := by
  by_cases h0 : 0 ≤ s
  · by_cases h1 : s ≤ 3
    · simp [xS, h0, h1] at h
    · omega
  · omega
theorem xS_i {s : Int} (h : 0 ≤ s ∧ s ≤ 3) : xS s = true := by simpa [xS] using h
theorem xS_n {s : Int} (h : ¬ (0 ≤ s ∧ s ≤ 3)) : xS s = false := by
  cases hq : xS s with
  | false => rfl
  | true => exact absurd (xS_t hq) h
theorem xLim_in {RP EN RN LO HI : Int → Int} (hok : xOK RP EN RN LO HI) (s : Int) : 24 ≤ xLim RP s ∧ xLim RP s ≤ 240 := by
  have h := hok s
  unfold xLim
  split <;> omega
theorem xHi_in {RP EN RN LO HI : Int → Int} (hok : xOK RP EN RN LO HI) (s : Int) : 0 ≤ xHi RP EN RN HI s ∧ xHi RP EN RN HI s ≤ 240 := by
  have h := hok s
  have h2 := hok (13 * s + RN s - 1)
  unfold xHi
  split
  · omega
  · split <;> omega
theorem xLast_in {RP EN RN LO HI : Int → Int} (hok : xOK RP EN RN LO HI) (s : Int) : 0 ≤ xLast RP RN HI s ∧ xLast RP RN HI s ≤ 240 := by
  have h := hok s
  have h2 := hok (13 * s + RN s - 1)
  unfold xLast
  split <;> omega
theorem xCr_in {RP EN RN LO HI : Int → Int} (hok : xOK RP EN RN LO HI) : -904 ≤ xCr RP EN RN HI ∧ xCr RP EN RN HI ≤ 1016 := by
  have h0 := hok 0
  have h1 := hok 1
  have h2 := hok 2
  have h3 := hok 3
  have g0 := xHi_in hok 0
  have g1 := xHi_in hok 1
  have g2 := xHi_in hok 2
  have g3 := xHi_in hok 3
  unfold xCr
  omega
set_option maxHeartbeats 4000000 in
set_option maxRecDepth 100000 in
theorem metX0_isStream (l : Launch) (st : Int) (hst : -2147483648 ≤ st ∧ st < 2147483648) : sa_MetS l yX0_isStream cX0_isStream 1 (some .boolean) 0 [.int (sa_i st)] (sa_b (xS st)) := by
  refine sa_metS (by decide) (Nat.le_of_ble_eq_true rfl) ?_
  intro p e s m below meth c S hr hlk ls hl
  have hl : lv_has ls 1 [(0, .int (sa_i st))] := hl
  obtain ⟨hx, hb, -, -, -⟩ := id S
  refine lv_iload_n hx hb dX0_isStream_0 rfl (lv_at hl 0 rfl) ?_
  refine sa_if_lt (tgt := 13) hx hb dX0_isStream_1 (by decide) (fun c_1 => ?_) (fun c_1 => ?_)
  · refine sa_const hx hb dX0_isStream_13 ?_
    exact sa_retB false rfl hx hb hr hlk dX0_isStream_14 ((xS_n (by omega)).symm)
  · refine lv_iload_n hx hb dX0_isStream_4 rfl (lv_at hl 0 rfl) ?_
    refine sa_const hx hb dX0_isStream_5 ?_
    refine sa_icmp_gt (tgt := 13) hx hb dX0_isStream_6 (by decide) (fun c_6 => ?_) (fun c_6 => ?_)
    · refine sa_const hx hb dX0_isStream_13 ?_
      exact sa_retB false rfl hx hb hr hlk dX0_isStream_14 ((xS_n (by omega)).symm)
    · refine sa_const hx hb dX0_isStream_9 ?_
      refine lv_goto (tgt := 14) hx hb dX0_isStream_10 (by decide) ?_
      exact sa_retB true rfl hx hb hr hlk dX0_isStream_14 ((xS_i (by omega)).symm)
theorem kX0_isStreamB {l : Launch} {p : Program} {e : Env} {R : Room} {s : State} {m : MethodId} {args : Array Value} {below : List Frame} {meth : Method} {c : Code} {H : Heap} {locs : List Loc} {cells slots : Nat} {Q : State → Prop} {cc : ByteArray} {pc nL : Nat} {ls : Array Slot} {rest : List Value} {st : Int} (S : CallFix p m c cc nL s args lw_all RX0) (hst : -2147483648 ≤ st ∧ st < 2147483648) (hsz : ls.size = nL) (hdg : decode cc pc = .ok (.invokestatic 28, 3)) (kk : W p l e R s m args below meth c H locs cells slots Q (F0 m (pc + 3) ls (.int (sa_b (xS st)) :: rest))) (hR : 0 + 1 ≤ R.frames ∧ 8 + (1 + 11) + 31 * 0 ≤ R.locals := by decide) (hrest : (rest.map fun v => v.category).sum ≤ 8 := by exact Nat.le_of_ble_eq_true rfl) (hcells : cells ≤ R.cells ∧ slots ≤ R.slots := by decide) : W p l e R s m args below meth c H locs cells slots Q (F0 m pc ls (.int (sa_i st) :: rest)) :=
  sa_callS (nA := 1) S (metX0_isStream l st hst) (lw_S q48 q49 q14 q50) (by decide +kernel) rfl hR hsz rfl hrest hcells hdg kk
theorem kX0_isStream {l : Launch} {p : Program} {e : Env} {R : Room} {s : State} {m : MethodId} {args : Array Value} {below : List Frame} {meth : Method} {c : Code} {H : Heap} {locs : List Loc} {cells slots : Nat} {Q : State → Prop} {cc : ByteArray} {pc nL : Nat} {ls : Array Slot} {rest : List Value} {st : Int} (S : CallFix p m c cc nL s args lw_all RX0) (hst : 0 ≤ st ∧ st ≤ 3) (hsz : ls.size = nL) (hdg : decode cc pc = .ok (.invokestatic 28, 3)) (kk : W p l e R s m args below meth c H locs cells slots Q (F0 m (pc + 3) ls (.int (sa_i 1) :: rest))) (hR : 0 + 1 ≤ R.frames ∧ 8 + (1 + 11) + 31 * 0 ≤ R.locals := by decide) (hrest : (rest.map fun v => v.category).sum ≤ 8 := by exact Nat.le_of_ble_eq_true rfl) (hcells : cells ≤ R.cells ∧ slots ≤ R.slots := by decide) : W p l e R s m args below meth c H locs cells slots Q (F0 m pc ls (.int (sa_i st) :: rest)) :=
  kX0_isStreamB S (by omega) hsz hdg (by rw [xS_i hst]; exact kk) hR hrest hcells
theorem kX0_isStreamN {l : Launch} {p : Program} {e : Env} {R : Room} {s : State} {m : MethodId} {args : Array Value} {below : List Frame} {meth : Method} {c : Code} {H : Heap} {locs : List Loc} {cells slots : Nat} {Q : State → Prop} {cc : ByteArray} {pc nL : Nat} {ls : Array Slot} {rest : List Value} {st : Int} (S : CallFix p m c cc nL s args lw_all RX0) (hr : -2147483648 ≤ st ∧ st < 2147483648) (hst : ¬ (0 ≤ st ∧ st ≤ 3)) (hsz : ls.size = nL) (hdg : decode cc pc = .ok (.invokestatic 28, 3)) (kk : W p l e R s m args below meth c H locs cells slots Q (F0 m (pc + 3) ls (.int (sa_i 0) :: rest))) (hR : 0 + 1 ≤ R.frames ∧ 8 + (1 + 11) + 31 * 0 ≤ R.locals := by decide) (hrest : (rest.map fun v => v.category).sum ≤ 8 := by exact Nat.le_of_ble_eq_true rfl) (hcells : cells ≤ R.cells ∧ slots ≤ R.slots := by decide) : W p l e R s m args below meth c H locs cells slots Q (F0 m pc ls (.int (sa_i st) :: rest)) :=
  kX0_isStreamB S hr hsz hdg (by rw [xS_n hst]; exact kk) hR hrest hcells
set_option maxHeartbeats 4000000 in
set_option maxRecDepth 100000 in
theorem metX0_limitOf (l : Launch) (D : va_G) (h : Nat) (a : Nat → Nat) (cI : ClassId) (G : Int → Int32) (RP EN RN LO HI : Int → Int) (st : Int) (hst : 0 ≤ st ∧ st ≤ 3) (hok : xOK RP EN RN LO HI) : sa_MetP l yX0_limitOf cX0_limitOf 3 (some .int) 0 [.ref h, .int (sa_i st)] D vwCl (xT cI) (wX h a cI G RP EN RN LO HI) (sa_i (xLim RP st)) := by
  refine sa_metP (by decide) (Nat.le_of_ble_eq_true rfl) ?_
  intro p e s m below meth c S hr hlk hP hK ls hl
  have hl : lv_has ls 3 [(0, .ref h), (1, .int (sa_i st))] := hl
  have S : CallFix p m c cX0_limitOf 3 s _ lw_all RX0 := S
  obtain ⟨hx, hb, -, -, -⟩ := id S
  have b1 := hok st
  refine lv_aload_n hx hb dX0_limitOf_0 rfl (lv_at hl 0 rfl) ?_
  refine x_g1 S hK hP dX0_limitOf_1 ?_
  refine lv_iload_n hx hb dX0_limitOf_4 rfl (lv_at hl 1 rfl) ?_
  refine x_l1 S hK hP dX0_limitOf_5 ?_
  refine sa_bipush hx hb dX0_limitOf_6 (by decide +kernel) ?_
  refine sa_add hx hb dX0_limitOf_8 ?_
  refine sa_name (fun lim_9 e_lim_9 => ?_)
  refine lv_istore_n (lv' := [(2, .int (sa_i lim_9)), (0, .ref h), (1, .int (sa_i st))]) hx hb dX0_limitOf_9 rfl hl (by decide) rfl (fun ls hl => ?_)
  refine lv_iload_n hx hb dX0_limitOf_10 rfl (lv_at hl 0 rfl) ?_
  refine sa_sipush hx hb dX0_limitOf_11 (by decide +kernel) ?_
  refine sa_icmp_le (tgt := 23) hx hb dX0_limitOf_14 (by decide) (fun c_14 => ?_) (fun c_14 => ?_)
  · refine lv_iload_n hx hb dX0_limitOf_23 rfl (lv_at hl 0 rfl) ?_
    exact sa_ret hx hb hr hlk dX0_limitOf_24 (congrArg sa_i (by unfold xLim; split <;> omega))
  · refine sa_sipush hx hb dX0_limitOf_17 (by decide +kernel) ?_
    refine lv_goto (tgt := 24) hx hb dX0_limitOf_20 (by decide) ?_
    exact sa_ret hx hb hr hlk dX0_limitOf_24 (congrArg sa_i (by unfold xLim; split <;> omega))
theorem kX0_limitOf {l : Launch} {D : va_G} {h : Nat} {a : Nat → Nat} {cI : ClassId} {G : Int → Int32} {RP EN RN LO HI : Int → Int} {p : Program} {e : Env} {R : Room} {s : State} {m : MethodId} {args : Array Value} {below : List Frame} {meth : Method} {c : Code} {H : Heap} {locs : List Loc} {cells slots : Nat} {Q : State → Prop} {cc : ByteArray} {pc nL : Nat} {ls : Array Slot} {rest : List Value} {st : Int} (S : CallFix p m c cc nL s args lw_all RX0) (hK : va_K D vwCl (xT cI) s) (hP : va_P D vwCl (wX h a cI G RP EN RN LO HI) H) (hst : 0 ≤ st ∧ st ≤ 3) (hok : xOK RP EN RN LO HI) (hsz : ls.size = nL) (hdg : decode cc pc = .ok (.invokevirtual 56, 3)) (kk : W p l e R s m args below meth c H locs cells slots Q (F0 m (pc + 3) ls (.int (sa_i (xLim RP st)) :: rest))) (hR : 0 + 1 ≤ R.frames ∧ 8 + (3 + 11) + 31 * 0 ≤ R.locals := by decide) (hrest : (rest.map fun v => v.category).sum ≤ 8 := by exact Nat.le_of_ble_eq_true rfl) (hcells : cells ≤ R.cells ∧ slots ≤ R.slots := by decide) : W p l e R s m args below meth c H locs cells slots Q (F0 m pc ls (.int (sa_i st) :: .ref h :: rest)) :=
  sa_callP (nA := 1) S (metX0_limitOf l D h a cI G RP EN RN LO HI st hst hok) (lw_V q55 q57 qs1 q14 q58) (by decide +kernel) rfl hR hK hP 0 0 rfl rfl hsz rfl hrest hcells hdg kk
set_option maxHeartbeats 4000000 in
set_option maxRecDepth 100000 in
theorem metX0_highest (l : Launch) (D : va_G) (h : Nat) (a : Nat → Nat) (cI : ClassId) (G : Int → Int32) (RP EN RN LO HI : Int → Int) (st : Int) (hst : 0 ≤ st ∧ st ≤ 3) (hok : xOK RP EN RN LO HI) : sa_MetP l yX0_highest cX0_highest 3 (some .int) 1 [.ref h, .int (sa_i st)] D vwCl (xT cI) (wX h a cI G RP EN RN LO HI) (sa_i (xHi RP EN RN HI st)) := by
  refine sa_metP (by decide) (Nat.le_of_ble_eq_true rfl) ?_
  intro p e s m below meth c S hr hlk hP hK ls hl
  have hl : lv_has ls 3 [(0, .ref h), (1, .int (sa_i st))] := hl
  have S : CallFix p m c cX0_highest 3 s _ lw_all RX0 := S
  obtain ⟨hx, hb, -, -, -⟩ := id S
  have b1 := hok st
  refine lv_iload_n hx hb dX0_highest_0 rfl (lv_at hl 1 rfl) ?_
  refine kX0_isStream S hst hl.1 dX0_highest_1 ?_
  refine sa_if_ne (tgt := 9) hx hb dX0_highest_4 (by decide) (fun c_4 => ?_) (fun c_ => absurd c_ (by decide))
  refine lv_aload_n hx hb dX0_highest_9 rfl (lv_at hl 0 rfl) ?_
  refine x_g2 S hK hP dX0_highest_10 ?_
  refine lv_iload_n hx hb dX0_highest_13 rfl (lv_at hl 1 rfl) ?_
  refine x_l2 S hK hP dX0_highest_14 ?_
  refine sa_if_lt (tgt := 25) hx hb dX0_highest_15 (by decide) (fun c_15 => ?_) (fun c_15 => ?_)
  · refine lv_aload_n hx hb dX0_highest_25 rfl (lv_at hl 0 rfl) ?_
    refine x_g3 S hK hP dX0_highest_26 ?_
    refine lv_iload_n hx hb dX0_highest_29 rfl (lv_at hl 1 rfl) ?_
    refine x_l3 S hK hP dX0_highest_30 ?_
    refine sa_name (fun n_31 e_n_31 => ?_)
    refine lv_istore_n (lv' := [(2, .int (sa_i n_31)), (0, .ref h), (1, .int (sa_i st))]) hx hb dX0_highest_31 rfl hl (by decide) rfl (fun ls hl => ?_)
    refine lv_iload_n hx hb dX0_highest_32 rfl (lv_at hl 0 rfl) ?_
    refine sa_if_le (tgt := 52) hx hb dX0_highest_33 (by decide) (fun c_33 => ?_) (fun c_33 => ?_)
    · refine lv_aload_n hx hb dX0_highest_52 rfl (lv_at hl 1 rfl) ?_
      refine x_g1 S hK hP dX0_highest_53 ?_
      refine lv_iload_n hx hb dX0_highest_56 rfl (lv_at hl 2 rfl) ?_
      refine x_l1 S hK hP dX0_highest_57 ?_
      exact sa_ret hx hb hr hlk dX0_highest_58 (congrArg sa_i (by unfold xHi; rw [if_neg (by omega), if_neg (by omega)]))
    · refine lv_aload_n hx hb dX0_highest_36 rfl (lv_at hl 1 rfl) ?_
      refine x_g5 S hK hP dX0_highest_37 ?_
      refine sa_bipush hx hb dX0_highest_40 (by decide +kernel) ?_
      refine lv_iload_n hx hb dX0_highest_42 rfl (lv_at hl 2 rfl) ?_
      refine sa_mul hx hb dX0_highest_43 ?_
      refine lv_iload_n hx hb dX0_highest_44 rfl (lv_at hl 0 rfl) ?_
      refine sa_add hx hb dX0_highest_45 ?_
      refine sa_const hx hb dX0_highest_46 ?_
      refine sa_sub hx hb dX0_highest_47 ?_
      refine x_l5 S hK hP dX0_highest_48 ?_
      refine lv_goto (tgt := 58) hx hb dX0_highest_49 (by decide) ?_
      exact sa_ret hx hb hr hlk dX0_highest_58 (congrArg sa_i (by unfold xHi; rw [if_neg (by omega), if_pos (by omega), e_n_31]))
  · refine lv_aload_n hx hb dX0_highest_18 rfl (lv_at hl 0 rfl) ?_
    refine x_g2 S hK hP dX0_highest_19 ?_
    refine lv_iload_n hx hb dX0_highest_22 rfl (lv_at hl 1 rfl) ?_
    refine x_l2 S hK hP dX0_highest_23 ?_
    exact sa_ret hx hb hr hlk dX0_highest_24 (congrArg sa_i (by unfold xHi; rw [if_pos (by omega)]))
theorem kX0_highest {l : Launch} {D : va_G} {h : Nat} {a : Nat → Nat} {cI : ClassId} {G : Int → Int32} {RP EN RN LO HI : Int → Int} {p : Program} {e : Env} {R : Room} {s : State} {m : MethodId} {args : Array Value} {below : List Frame} {meth : Method} {c : Code} {H : Heap} {locs : List Loc} {cells slots : Nat} {Q : State → Prop} {cc : ByteArray} {pc nL : Nat} {ls : Array Slot} {rest : List Value} {st : Int} (S : CallFix p m c cc nL s args lw_all RX0) (hK : va_K D vwCl (xT cI) s) (hP : va_P D vwCl (wX h a cI G RP EN RN LO HI) H) (hst : 0 ≤ st ∧ st ≤ 3) (hok : xOK RP EN RN LO HI) (hsz : ls.size = nL) (hdg : decode cc pc = .ok (.invokevirtual 43, 3)) (kk : W p l e R s m args below meth c H locs cells slots Q (F0 m (pc + 3) ls (.int (sa_i (xHi RP EN RN HI st)) :: rest))) (hR : 1 + 1 ≤ R.frames ∧ 8 + (3 + 11) + 31 * 1 ≤ R.locals := by decide) (hrest : (rest.map fun v => v.category).sum ≤ 8 := by exact Nat.le_of_ble_eq_true rfl) (hcells : cells ≤ R.cells ∧ slots ≤ R.slots := by decide) : W p l e R s m args below meth c H locs cells slots Q (F0 m pc ls (.int (sa_i st) :: .ref h :: rest)) :=
  sa_callP (nA := 1) S (metX0_highest l D h a cI G RP EN RN LO HI st hst hok) (lw_V q59 q60 q61 q14 q62) (by decide +kernel) rfl hR hK hP 0 0 rfl rfl hsz rfl hrest hcells hdg kk
set_option maxHeartbeats 4000000 in
set_option maxRecDepth 100000 in
theorem metX0_credit (l : Launch) (D : va_G) (h : Nat) (a : Nat → Nat) (cI : ClassId) (G : Int → Int32) (RP EN RN LO HI : Int → Int)  (hok : xOK RP EN RN LO HI) : sa_MetP l yX0_credit cX0_credit 4 (some .int) 2 [.ref h] D vwCl (xT cI) (wX h a cI G RP EN RN LO HI) (sa_i (xCr RP EN RN HI)) := by
  refine sa_metP (by decide) (Nat.le_of_ble_eq_true rfl) ?_
  intro p e s m below meth c S hr hlk hP hK ls hl
  have hl : lv_has ls 4 [(0, .ref h)] := hl
  have S : CallFix p m c cX0_credit 4 s _ lw_all RX0 := S
  obtain ⟨hx, hb, -, -, -⟩ := id S
  refine sa_bipush hx hb dX0_credit_0 (by decide +kernel) ?_
  refine lv_istore_n (lv' := [(1, .int (sa_i 56)), (0, .ref h)]) hx hb dX0_credit_2 rfl hl (by decide) rfl (fun ls hl => ?_)
  refine sa_const hx hb dX0_credit_3 ?_
  refine lv_istore_n (lv' := [(2, .int (sa_i 0)), (1, .int (sa_i 56)), (0, .ref h)]) hx hb dX0_credit_4 rfl hl (by decide) rfl (fun ls hl => ?_)
  refine lv_iload_n hx hb dX0_credit_5 rfl (lv_at hl 0 rfl) ?_
  refine sa_const hx hb dX0_credit_6 ?_
  refine sa_icmp_ge (tgt := 33) hx hb dX0_credit_7 (by decide) (fun c_ => absurd c_ (by decide)) (fun c_7 => ?_)
  refine lv_aload_n hx hb dX0_credit_10 rfl (lv_at hl 2 rfl) ?_
  refine lv_iload_n hx hb dX0_credit_11 rfl (lv_at hl 0 rfl) ?_
  refine kX0_highest S hK hP (by omega) hok hl.1 dX0_credit_12 ?_
  refine sa_name (fun hh_15 e_hh_15 => ?_)
  refine lv_istore_n (lv' := [(3, .int (sa_i hh_15)), (2, .int (sa_i 0)), (1, .int (sa_i 56)), (0, .ref h)]) hx hb dX0_credit_15 rfl hl (by decide) rfl (fun ls hl => ?_)
  refine lv_iload_n hx hb dX0_credit_16 rfl (lv_at hl 2 rfl) ?_
  refine lv_aload_n hx hb dX0_credit_17 rfl (lv_at hl 3 rfl) ?_
  refine x_g1 S hK hP dX0_credit_18 ?_
  refine lv_iload_n hx hb dX0_credit_21 rfl (lv_at hl 1 rfl) ?_
  refine x_l1 S hK hP dX0_credit_22 ?_
  refine lv_iload_n hx hb dX0_credit_23 rfl (lv_at hl 0 rfl) ?_
  refine sa_sub hx hb dX0_credit_24 ?_
  refine sa_add hx hb dX0_credit_25 ?_
  refine sa_name (fun sum_26 e_sum_26 => ?_)
  refine lv_istore_n (lv' := [(1, .int (sa_i sum_26)), (3, .int (sa_i hh_15)), (2, .int (sa_i 0)), (0, .ref h)]) hx hb dX0_credit_26 rfl hl (by decide) rfl (fun ls hl => ?_)
  refine sa_iinc (k := 2) (lv' := [(2, .int (sa_i (0 + 1))), (1, .int (sa_i sum_26)), (3, .int (sa_i hh_15)), (0, .ref h)]) hx hb dX0_credit_27 hl rfl (by decide) rfl (fun ls hl => ?_)
  rw [show (0 : Int) + 1 = 1 from rfl] at hl
  refine lv_goto (tgt := 5) hx hb dX0_credit_30 (by decide) ?_
  refine lv_iload_n hx hb dX0_credit_5 rfl (lv_at hl 0 rfl) ?_
  refine sa_const hx hb dX0_credit_6 ?_
  refine sa_icmp_ge (tgt := 33) hx hb dX0_credit_7 (by decide) (fun c_ => absurd c_ (by decide)) (fun c_7_3 => ?_)
  refine lv_aload_n hx hb dX0_credit_10 rfl (lv_at hl 3 rfl) ?_
  refine lv_iload_n hx hb dX0_credit_11 rfl (lv_at hl 0 rfl) ?_
  refine kX0_highest S hK hP (by omega) hok hl.1 dX0_credit_12 ?_
  refine sa_name (fun hh_15_4 e_hh_15_4 => ?_)
  refine lv_istore_n (lv' := [(3, .int (sa_i hh_15_4)), (2, .int (sa_i 1)), (1, .int (sa_i sum_26)), (0, .ref h)]) hx hb dX0_credit_15 rfl hl (by decide) rfl (fun ls hl => ?_)
  refine lv_iload_n hx hb dX0_credit_16 rfl (lv_at hl 2 rfl) ?_
  refine lv_aload_n hx hb dX0_credit_17 rfl (lv_at hl 3 rfl) ?_
  refine x_g1 S hK hP dX0_credit_18 ?_
  refine lv_iload_n hx hb dX0_credit_21 rfl (lv_at hl 1 rfl) ?_
  refine x_l1 S hK hP dX0_credit_22 ?_
  refine lv_iload_n hx hb dX0_credit_23 rfl (lv_at hl 0 rfl) ?_
  refine sa_sub hx hb dX0_credit_24 ?_
  refine sa_add hx hb dX0_credit_25 ?_
  refine sa_name (fun sum_26_5 e_sum_26_5 => ?_)
  refine lv_istore_n (lv' := [(1, .int (sa_i sum_26_5)), (3, .int (sa_i hh_15_4)), (2, .int (sa_i 1)), (0, .ref h)]) hx hb dX0_credit_26 rfl hl (by decide) rfl (fun ls hl => ?_)
  refine sa_iinc (k := 2) (lv' := [(2, .int (sa_i (1 + 1))), (1, .int (sa_i sum_26_5)), (3, .int (sa_i hh_15_4)), (0, .ref h)]) hx hb dX0_credit_27 hl rfl (by decide) rfl (fun ls hl => ?_)
  rw [show (1 : Int) + 1 = 2 from rfl] at hl
  refine lv_goto (tgt := 5) hx hb dX0_credit_30 (by decide) ?_
  refine lv_iload_n hx hb dX0_credit_5 rfl (lv_at hl 0 rfl) ?_
  refine sa_const hx hb dX0_credit_6 ?_
  refine sa_icmp_ge (tgt := 33) hx hb dX0_credit_7 (by decide) (fun c_ => absurd c_ (by decide)) (fun c_7_6 => ?_)
  refine lv_aload_n hx hb dX0_credit_10 rfl (lv_at hl 3 rfl) ?_
  refine lv_iload_n hx hb dX0_credit_11 rfl (lv_at hl 0 rfl) ?_
  refine kX0_highest S hK hP (by omega) hok hl.1 dX0_credit_12 ?_
  refine sa_name (fun hh_15_7 e_hh_15_7 => ?_)
  refine lv_istore_n (lv' := [(3, .int (sa_i hh_15_7)), (2, .int (sa_i 2)), (1, .int (sa_i sum_26_5)), (0, .ref h)]) hx hb dX0_credit_15 rfl hl (by decide) rfl (fun ls hl => ?_)
  refine lv_iload_n hx hb dX0_credit_16 rfl (lv_at hl 2 rfl) ?_
  refine lv_aload_n hx hb dX0_credit_17 rfl (lv_at hl 3 rfl) ?_
  refine x_g1 S hK hP dX0_credit_18 ?_
  refine lv_iload_n hx hb dX0_credit_21 rfl (lv_at hl 1 rfl) ?_
  refine x_l1 S hK hP dX0_credit_22 ?_
  refine lv_iload_n hx hb dX0_credit_23 rfl (lv_at hl 0 rfl) ?_
  refine sa_sub hx hb dX0_credit_24 ?_
  refine sa_add hx hb dX0_credit_25 ?_
  refine sa_name (fun sum_26_8 e_sum_26_8 => ?_)
  refine lv_istore_n (lv' := [(1, .int (sa_i sum_26_8)), (3, .int (sa_i hh_15_7)), (2, .int (sa_i 2)), (0, .ref h)]) hx hb dX0_credit_26 rfl hl (by decide) rfl (fun ls hl => ?_)
  refine sa_iinc (k := 2) (lv' := [(2, .int (sa_i (2 + 1))), (1, .int (sa_i sum_26_8)), (3, .int (sa_i hh_15_7)), (0, .ref h)]) hx hb dX0_credit_27 hl rfl (by decide) rfl (fun ls hl => ?_)
  rw [show (2 : Int) + 1 = 3 from rfl] at hl
  refine lv_goto (tgt := 5) hx hb dX0_credit_30 (by decide) ?_
  refine lv_iload_n hx hb dX0_credit_5 rfl (lv_at hl 0 rfl) ?_
  refine sa_const hx hb dX0_credit_6 ?_
  refine sa_icmp_ge (tgt := 33) hx hb dX0_credit_7 (by decide) (fun c_ => absurd c_ (by decide)) (fun c_7_9 => ?_)
  refine lv_aload_n hx hb dX0_credit_10 rfl (lv_at hl 3 rfl) ?_
  refine lv_iload_n hx hb dX0_credit_11 rfl (lv_at hl 0 rfl) ?_
  refine kX0_highest S hK hP (by omega) hok hl.1 dX0_credit_12 ?_
  refine sa_name (fun hh_15_10 e_hh_15_10 => ?_)
  refine lv_istore_n (lv' := [(3, .int (sa_i hh_15_10)), (2, .int (sa_i 3)), (1, .int (sa_i sum_26_8)), (0, .ref h)]) hx hb dX0_credit_15 rfl hl (by decide) rfl (fun ls hl => ?_)
  refine lv_iload_n hx hb dX0_credit_16 rfl (lv_at hl 2 rfl) ?_
  refine lv_aload_n hx hb dX0_credit_17 rfl (lv_at hl 3 rfl) ?_
  refine x_g1 S hK hP dX0_credit_18 ?_
  refine lv_iload_n hx hb dX0_credit_21 rfl (lv_at hl 1 rfl) ?_
  refine x_l1 S hK hP dX0_credit_22 ?_
  refine lv_iload_n hx hb dX0_credit_23 rfl (lv_at hl 0 rfl) ?_
  refine sa_sub hx hb dX0_credit_24 ?_
  refine sa_add hx hb dX0_credit_25 ?_
  refine sa_name (fun sum_26_11 e_sum_26_11 => ?_)
  refine lv_istore_n (lv' := [(1, .int (sa_i sum_26_11)), (3, .int (sa_i hh_15_10)), (2, .int (sa_i 3)), (0, .ref h)]) hx hb dX0_credit_26 rfl hl (by decide) rfl (fun ls hl => ?_)
  refine sa_iinc (k := 2) (lv' := [(2, .int (sa_i (3 + 1))), (1, .int (sa_i sum_26_11)), (3, .int (sa_i hh_15_10)), (0, .ref h)]) hx hb dX0_credit_27 hl rfl (by decide) rfl (fun ls hl => ?_)
  rw [show (3 : Int) + 1 = 4 from rfl] at hl
  refine lv_goto (tgt := 5) hx hb dX0_credit_30 (by decide) ?_
  refine lv_iload_n hx hb dX0_credit_5 rfl (lv_at hl 0 rfl) ?_
  refine sa_const hx hb dX0_credit_6 ?_
  refine sa_icmp_ge (tgt := 33) hx hb dX0_credit_7 (by decide) (fun c_7_12 => ?_) (fun c_ => absurd c_ (by decide))
  refine lv_iload_n hx hb dX0_credit_33 rfl (lv_at hl 1 rfl) ?_
  exact sa_ret hx hb hr hlk dX0_credit_34 (congrArg sa_i (by unfold xCr; omega))
theorem kX0_credit {l : Launch} {D : va_G} {h : Nat} {a : Nat → Nat} {cI : ClassId} {G : Int → Int32} {RP EN RN LO HI : Int → Int} {p : Program} {e : Env} {R : Room} {s : State} {m : MethodId} {args : Array Value} {below : List Frame} {meth : Method} {c : Code} {H : Heap} {locs : List Loc} {cells slots : Nat} {Q : State → Prop} {cc : ByteArray} {pc nL : Nat} {ls : Array Slot} {rest : List Value}  (S : CallFix p m c cc nL s args lw_all RX0) (hK : va_K D vwCl (xT cI) s) (hP : va_P D vwCl (wX h a cI G RP EN RN LO HI) H) (hok : xOK RP EN RN LO HI) (hsz : ls.size = nL) (hdg : decode cc pc = .ok (.invokevirtual 59, 3)) (kk : W p l e R s m args below meth c H locs cells slots Q (F0 m (pc + 3) ls (.int (sa_i (xCr RP EN RN HI)) :: rest))) (hR : 2 + 1 ≤ R.frames ∧ 8 + (4 + 11) + 31 * 2 ≤ R.locals := by decide) (hrest : (rest.map fun v => v.category).sum ≤ 8 := by exact Nat.le_of_ble_eq_true rfl) (hcells : cells ≤ R.cells ∧ slots ≤ R.slots := by decide) : W p l e R s m args below meth c H locs cells slots Q (F0 m pc ls (.ref h :: rest)) :=
  sa_callP (nA := 0) S (metX0_credit l D h a cI G RP EN RN LO HI  hok) (lw_V q63 q65 qs2 q14 q66) (by decide +kernel) rfl hR hK hP 0 0 rfl rfl hsz rfl hrest hcells hdg kk
set_option maxHeartbeats 4000000 in
set_option maxRecDepth 100000 in
theorem metX0_mayReach (l : Launch) (D : va_G) (h : Nat) (a : Nat → Nat) (cI : ClassId) (G : Int → Int32) (RP EN RN LO HI : Int → Int) (st : Int) (to : Int) (hst : 0 ≤ st ∧ st ≤ 3) (hto : 0 ≤ to ∧ to < 2147483648) (hok : xOK RP EN RN LO HI) : sa_MetP l yX0_mayReach cX0_mayReach 4 (some .boolean) 3 [.ref h, .int (sa_i st), .int (sa_i to)] D vwCl (xT cI) (wX h a cI G RP EN RN LO HI) (sa_b (xMay RP EN RN HI st to)) := by
  refine sa_metP (by decide) (Nat.le_of_ble_eq_true rfl) ?_
  intro p e s m below meth c S hr hlk hP hK ls hl
  have hl : lv_has ls 4 [(0, .ref h), (1, .int (sa_i st)), (2, .int (sa_i to))] := hl
  have S : CallFix p m c cX0_mayReach 4 s _ lw_all RX0 := S
  obtain ⟨hx, hb, -, -, -⟩ := id S
  have b1 := hok st
  have b2 := xLim_in hok st
  have b3 := xHi_in hok st
  have b4 := xCr_in hok
  refine lv_iload_n hx hb dX0_mayReach_0 rfl (lv_at hl 2 rfl) ?_
  refine lv_aload_n hx hb dX0_mayReach_1 rfl (lv_at hl 0 rfl) ?_
  refine lv_iload_n hx hb dX0_mayReach_2 rfl (lv_at hl 1 rfl) ?_
  refine kX0_limitOf S hK hP (by omega) hok hl.1 dX0_mayReach_3 ?_
  refine sa_icmp_le (tgt := 11) hx hb dX0_mayReach_6 (by decide) (fun c_6 => ?_) (fun c_6 => ?_)
  · refine lv_iload_n hx hb dX0_mayReach_11 rfl (lv_at hl 2 rfl) ?_
    refine lv_aload_n hx hb dX0_mayReach_12 rfl (lv_at hl 0 rfl) ?_
    refine lv_iload_n hx hb dX0_mayReach_13 rfl (lv_at hl 1 rfl) ?_
    refine kX0_highest S hK hP (by omega) hok hl.1 dX0_mayReach_14 ?_
    refine sa_sub hx hb dX0_mayReach_17 ?_
    refine sa_name (fun gr_18 e_gr_18 => ?_)
    refine lv_istore_n (lv' := [(3, .int (sa_i gr_18)), (0, .ref h), (1, .int (sa_i st)), (2, .int (sa_i to))]) hx hb dX0_mayReach_18 rfl hl (by decide) rfl (fun ls hl => ?_)
    refine lv_iload_n hx hb dX0_mayReach_19 rfl (lv_at hl 0 rfl) ?_
    refine sa_if_le (tgt := 31) hx hb dX0_mayReach_20 (by decide) (fun c_20 => ?_) (fun c_20 => ?_)
    · refine sa_const hx hb dX0_mayReach_31 ?_
      refine lv_goto (tgt := 36) hx hb dX0_mayReach_32 (by decide) ?_
      exact sa_retB true rfl hx hb hr hlk dX0_mayReach_36 (by unfold xMay; simp; omega)
    · refine lv_iload_n hx hb dX0_mayReach_23 rfl (lv_at hl 0 rfl) ?_
      refine lv_aload_n hx hb dX0_mayReach_24 rfl (lv_at hl 1 rfl) ?_
      refine kX0_credit S hK hP hok hl.1 dX0_mayReach_25 ?_
      refine sa_icmp_gt (tgt := 35) hx hb dX0_mayReach_28 (by decide) (fun c_28 => ?_) (fun c_28 => ?_)
      · refine sa_const hx hb dX0_mayReach_35 ?_
        exact sa_retB false rfl hx hb hr hlk dX0_mayReach_36 (by unfold xMay; simp; omega)
      · refine sa_const hx hb dX0_mayReach_31 ?_
        refine lv_goto (tgt := 36) hx hb dX0_mayReach_32 (by decide) ?_
        exact sa_retB true rfl hx hb hr hlk dX0_mayReach_36 (by unfold xMay; simp; omega)
  · refine sa_const hx hb dX0_mayReach_9 ?_
    exact sa_retB false rfl hx hb hr hlk dX0_mayReach_10 (by unfold xMay; simp; omega)
theorem kX0_mayReach {l : Launch} {D : va_G} {h : Nat} {a : Nat → Nat} {cI : ClassId} {G : Int → Int32} {RP EN RN LO HI : Int → Int} {p : Program} {e : Env} {R : Room} {s : State} {m : MethodId} {args : Array Value} {below : List Frame} {meth : Method} {c : Code} {H : Heap} {locs : List Loc} {cells slots : Nat} {Q : State → Prop} {cc : ByteArray} {pc nL : Nat} {ls : Array Slot} {rest : List Value} {st : Int} {to : Int} (S : CallFix p m c cc nL s args lw_all RX0) (hK : va_K D vwCl (xT cI) s) (hP : va_P D vwCl (wX h a cI G RP EN RN LO HI) H) (hst : 0 ≤ st ∧ st ≤ 3) (hto : 0 ≤ to ∧ to < 2147483648) (hok : xOK RP EN RN LO HI) (hsz : ls.size = nL) (hdg : decode cc pc = .ok (.invokevirtual 32, 3)) (kk : W p l e R s m args below meth c H locs cells slots Q (F0 m (pc + 3) ls (.int (sa_b (xMay RP EN RN HI st to)) :: rest))) (hR : 3 + 1 ≤ R.frames ∧ 8 + (4 + 11) + 31 * 3 ≤ R.locals := by decide) (hrest : (rest.map fun v => v.category).sum ≤ 8 := by exact Nat.le_of_ble_eq_true rfl) (hcells : cells ≤ R.cells ∧ slots ≤ R.slots := by decide) : W p l e R s m args below meth c H locs cells slots Q (F0 m pc ls (.int (sa_i to) :: .int (sa_i st) :: .ref h :: rest)) :=
  sa_callP (nA := 2) S (metX0_mayReach l D h a cI G RP EN RN LO HI st to hst hto hok) (lw_V q51 q53 qs0 q14 q54) (by decide +kernel) rfl hR hK hP 0 0 rfl rfl hsz rfl hrest hcells hdg kk
set_option maxHeartbeats 4000000 in
set_option maxRecDepth 100000 in
theorem metX0_isKnown_L5 {l : Launch} {D : va_G} {h : Nat} {a : Nat → Nat} {cI : ClassId} {G : Int → Int32} {RP EN RN LO HI : Int → Int} {p : Program} {e : Env} {s : State} {m : MethodId} {below : List Frame} {meth : Method} {c : Code} {av : Array Value} {st at_ : Int} (S : CallFix p m c cX0_isKnown 4 s av lw_all RX0) (hr : meth.sig.returnType = some .boolean) (hlk : meth.locks = false) (hP : va_P D vwCl (wX h a cI G RP EN RN LO HI) s.heap) (hK : va_K D vwCl (xT cI) s) (hst : 0 ≤ st ∧ st ≤ 3) (hat : 0 ≤ at_ ∧ at_ < 2147483648) (hok : xOK RP EN RN LO HI) (bb : Bool) :
    ∀ (n : Nat) (k : Int), 13 * st ≤ k → k ≤ 13 * st + RN st → 13 * st + RN st - k < (n : Int) → xKnF LO HI at_ (13 * st + RN st - k).toNat k = bb → ∀ ls : Array Slot, lv_has ls 4 [(0, .ref h), (1, .int (sa_i st)), (2, .int (sa_i at_)), (3, .int (sa_i k))] → W p l e (sa_rm 0) s m av below meth c s.heap [] 0 0 (MQ below (vp_Si (fun r => r = sa_b bb)) av s 0 0 (fun _ => False)) (F0 m 5 ls []) := by
  obtain ⟨hx, hb, -, -, -⟩ := id S
  have b1 := hok st
  intro n
  induction n with
  | zero => intro k h1 h2 h3; exact absurd h3 (by omega)
  | succ n ih =>
    intro k h1 h2 h3 hF ls hl
    have b2 := hok k
    refine lv_iload_n hx hb dX0_isKnown_5 rfl (lv_at hl 3 rfl) ?_
    refine sa_bipush hx hb dX0_isKnown_6 (by decide +kernel) ?_
    refine lv_iload_n hx hb dX0_isKnown_8 rfl (lv_at hl 1 rfl) ?_
    refine sa_mul hx hb dX0_isKnown_9 ?_
    refine lv_aload_n hx hb dX0_isKnown_10 rfl (lv_at hl 0 rfl) ?_
    refine x_g3 S hK hP dX0_isKnown_11 ?_
    refine lv_iload_n hx hb dX0_isKnown_14 rfl (lv_at hl 1 rfl) ?_
    refine x_l3 S hK hP dX0_isKnown_15 ?_
    refine sa_add hx hb dX0_isKnown_16 ?_
    refine sa_icmp_ge (tgt := 48) hx hb dX0_isKnown_17 (by decide) (fun c_17 => ?_) (fun c_17 => ?_)
    · refine sa_const hx hb dX0_isKnown_48 ?_
      exact sa_retB false rfl hx hb hr hlk dX0_isKnown_49 ((xKnF_end (show 13 * st + RN st ≤ k by omega)).symm.trans hF)
    · have hF2 := xKnF_step (LO := LO) (HI := HI) (at_ := at_) (show k < 13 * st + RN st by omega)
      refine lv_aload_n hx hb dX0_isKnown_20 rfl (lv_at hl 0 rfl) ?_
      refine x_g4 S hK hP dX0_isKnown_21 ?_
      refine lv_iload_n hx hb dX0_isKnown_24 rfl (lv_at hl 3 rfl) ?_
      refine x_l4 S hK hP dX0_isKnown_25 ?_
      refine lv_iload_n hx hb dX0_isKnown_26 rfl (lv_at hl 2 rfl) ?_
      refine sa_icmp_gt (tgt := 42) hx hb dX0_isKnown_27 (by decide) (fun c_27 => ?_) (fun c_27 => ?_)
      · refine sa_iinc (k := 3) (lv' := [(3, .int (sa_i (k + 1))), (0, .ref h), (1, .int (sa_i st)), (2, .int (sa_i at_))]) hx hb dX0_isKnown_42 hl rfl (by decide) rfl (fun ls hl => ?_)
        refine lv_goto (tgt := 5) hx hb dX0_isKnown_45 (by decide) ?_
        exact ih (k + 1) (by omega) (by omega) (by omega) (by rw [← hF, hF2]; simp; intros; omega) ls (lv_sub hl [1, 2, 3, 0] rfl)
      · refine lv_iload_n hx hb dX0_isKnown_30 rfl (lv_at hl 2 rfl) ?_
        refine lv_aload_n hx hb dX0_isKnown_31 rfl (lv_at hl 0 rfl) ?_
        refine x_g5 S hK hP dX0_isKnown_32 ?_
        refine lv_iload_n hx hb dX0_isKnown_35 rfl (lv_at hl 3 rfl) ?_
        refine x_l5 S hK hP dX0_isKnown_36 ?_
        refine sa_icmp_ge (tgt := 42) hx hb dX0_isKnown_37 (by decide) (fun c_37 => ?_) (fun c_37 => ?_)
        · refine sa_iinc (k := 3) (lv' := [(3, .int (sa_i (k + 1))), (0, .ref h), (1, .int (sa_i st)), (2, .int (sa_i at_))]) hx hb dX0_isKnown_42 hl rfl (by decide) rfl (fun ls hl => ?_)
          refine lv_goto (tgt := 5) hx hb dX0_isKnown_45 (by decide) ?_
          exact ih (k + 1) (by omega) (by omega) (by omega) (by rw [← hF, hF2]; simp; intros; omega) ls (lv_sub hl [1, 2, 3, 0] rfl)
        · refine sa_const hx hb dX0_isKnown_40 ?_
          exact sa_retB true rfl hx hb hr hlk dX0_isKnown_41 (by rw [← hF, hF2]; simp; exact Or.inl ⟨by omega, by omega⟩)
set_option maxHeartbeats 4000000 in
set_option maxRecDepth 100000 in
theorem metX0_isKnown (l : Launch) (D : va_G) (h : Nat) (a : Nat → Nat) (cI : ClassId) (G : Int → Int32) (RP EN RN LO HI : Int → Int) (st : Int) (at_ : Int) (hst : 0 ≤ st ∧ st ≤ 3) (hat : 0 ≤ at_ ∧ at_ < 2147483648) (hok : xOK RP EN RN LO HI) : sa_MetP l yX0_isKnown cX0_isKnown 4 (some .boolean) 0 [.ref h, .int (sa_i st), .int (sa_i at_)] D vwCl (xT cI) (wX h a cI G RP EN RN LO HI) (sa_b (xKn RN LO HI st at_)) := by
  refine sa_metP (by decide) (Nat.le_of_ble_eq_true rfl) ?_
  intro p e s m below meth c S hr hlk hP hK ls hl
  have hl : lv_has ls 4 [(0, .ref h), (1, .int (sa_i st)), (2, .int (sa_i at_))] := hl
  have S : CallFix p m c cX0_isKnown 4 s _ lw_all RX0 := S
  obtain ⟨hx, hb, -, -, -⟩ := id S
  have b1 := hok st
  refine sa_bipush hx hb dX0_isKnown_0 (by decide +kernel) ?_
  refine lv_iload_n hx hb dX0_isKnown_2 rfl (lv_at hl 1 rfl) ?_
  refine sa_mul hx hb dX0_isKnown_3 ?_
  refine sa_name (fun k_4 e_k_4 => ?_)
  refine lv_istore_n (lv' := [(3, .int (sa_i k_4)), (0, .ref h), (1, .int (sa_i st)), (2, .int (sa_i at_))]) hx hb dX0_isKnown_4 rfl hl (by decide) rfl (fun ls hl => ?_)
  exact metX0_isKnown_L5 S hr hlk hP hK hst hat hok _ ((RN st).toNat + 1) k_4 (by omega) (by omega) (by omega) (by rw [e_k_4, show 13 * st + RN st - 13 * st = RN st by omega]; rfl) ls (lv_sub hl [1, 2, 3, 0] rfl)
theorem kX0_isKnown {l : Launch} {D : va_G} {h : Nat} {a : Nat → Nat} {cI : ClassId} {G : Int → Int32} {RP EN RN LO HI : Int → Int} {p : Program} {e : Env} {R : Room} {s : State} {m : MethodId} {args : Array Value} {below : List Frame} {meth : Method} {c : Code} {H : Heap} {locs : List Loc} {cells slots : Nat} {Q : State → Prop} {cc : ByteArray} {pc nL : Nat} {ls : Array Slot} {rest : List Value} {st : Int} {at_ : Int} (S : CallFix p m c cc nL s args lw_all RX0) (hK : va_K D vwCl (xT cI) s) (hP : va_P D vwCl (wX h a cI G RP EN RN LO HI) H) (hst : 0 ≤ st ∧ st ≤ 3) (hat : 0 ≤ at_ ∧ at_ < 2147483648) (hok : xOK RP EN RN LO HI) (hsz : ls.size = nL) (hdg : decode cc pc = .ok (.invokevirtual 36, 3)) (kk : W p l e R s m args below meth c H locs cells slots Q (F0 m (pc + 3) ls (.int (sa_b (xKn RN LO HI st at_)) :: rest))) (hR : 0 + 1 ≤ R.frames ∧ 8 + (4 + 11) + 31 * 0 ≤ R.locals := by decide) (hrest : (rest.map fun v => v.category).sum ≤ 8 := by exact Nat.le_of_ble_eq_true rfl) (hcells : cells ≤ R.cells ∧ slots ≤ R.slots := by decide) : W p l e R s m args below meth c H locs cells slots Q (F0 m pc ls (.int (sa_i at_) :: .int (sa_i st) :: .ref h :: rest)) :=
  sa_callP (nA := 2) S (metX0_isKnown l D h a cI G RP EN RN LO HI st at_ hst hat hok) (lw_V q67 q69 qs3 q14 q70) (by decide +kernel) rfl hR hK hP 0 0 rfl rfl hsz rfl hrest hcells hdg kk
set_option maxHeartbeats 4000000 in
set_option maxRecDepth 100000 in
theorem metX0_lastKnown (l : Launch) (D : va_G) (h : Nat) (a : Nat → Nat) (cI : ClassId) (G : Int → Int32) (RP EN RN LO HI : Int → Int) (st : Int) (hst : 0 ≤ st ∧ st ≤ 3) (hok : xOK RP EN RN LO HI) : sa_MetP l yX0_lastKnown cX0_lastKnown 3 (some .int) 0 [.ref h, .int (sa_i st)] D vwCl (xT cI) (wX h a cI G RP EN RN LO HI) (sa_i (xLast RP RN HI st)) := by
  refine sa_metP (by decide) (Nat.le_of_ble_eq_true rfl) ?_
  intro p e s m below meth c S hr hlk hP hK ls hl
  have hl : lv_has ls 3 [(0, .ref h), (1, .int (sa_i st))] := hl
  have S : CallFix p m c cX0_lastKnown 3 s _ lw_all RX0 := S
  obtain ⟨hx, hb, -, -, -⟩ := id S
  have b1 := hok st
  refine lv_aload_n hx hb dX0_lastKnown_0 rfl (lv_at hl 0 rfl) ?_
  refine x_g3 S hK hP dX0_lastKnown_1 ?_
  refine lv_iload_n hx hb dX0_lastKnown_4 rfl (lv_at hl 1 rfl) ?_
  refine x_l3 S hK hP dX0_lastKnown_5 ?_
  refine sa_name (fun n_6 e_n_6 => ?_)
  refine lv_istore_n (lv' := [(2, .int (sa_i n_6)), (0, .ref h), (1, .int (sa_i st))]) hx hb dX0_lastKnown_6 rfl hl (by decide) rfl (fun ls hl => ?_)
  refine lv_iload_n hx hb dX0_lastKnown_7 rfl (lv_at hl 0 rfl) ?_
  refine sa_if_le (tgt := 27) hx hb dX0_lastKnown_8 (by decide) (fun c_8 => ?_) (fun c_8 => ?_)
  · refine lv_aload_n hx hb dX0_lastKnown_27 rfl (lv_at hl 1 rfl) ?_
    refine x_g1 S hK hP dX0_lastKnown_28 ?_
    refine lv_iload_n hx hb dX0_lastKnown_31 rfl (lv_at hl 2 rfl) ?_
    refine x_l1 S hK hP dX0_lastKnown_32 ?_
    exact sa_ret hx hb hr hlk dX0_lastKnown_33 (congrArg sa_i (by unfold xLast; rw [if_neg (by omega)]))
  · refine lv_aload_n hx hb dX0_lastKnown_11 rfl (lv_at hl 1 rfl) ?_
    refine x_g5 S hK hP dX0_lastKnown_12 ?_
    refine sa_bipush hx hb dX0_lastKnown_15 (by decide +kernel) ?_
    refine lv_iload_n hx hb dX0_lastKnown_17 rfl (lv_at hl 2 rfl) ?_
    refine sa_mul hx hb dX0_lastKnown_18 ?_
    refine lv_iload_n hx hb dX0_lastKnown_19 rfl (lv_at hl 0 rfl) ?_
    refine sa_add hx hb dX0_lastKnown_20 ?_
    refine sa_const hx hb dX0_lastKnown_21 ?_
    refine sa_sub hx hb dX0_lastKnown_22 ?_
    refine x_l5 S hK hP dX0_lastKnown_23 ?_
    refine lv_goto (tgt := 33) hx hb dX0_lastKnown_24 (by decide) ?_
    exact sa_ret hx hb hr hlk dX0_lastKnown_33 (congrArg sa_i (by unfold xLast; rw [if_pos (by omega), e_n_6]))
theorem kX0_lastKnown {l : Launch} {D : va_G} {h : Nat} {a : Nat → Nat} {cI : ClassId} {G : Int → Int32} {RP EN RN LO HI : Int → Int} {p : Program} {e : Env} {R : Room} {s : State} {m : MethodId} {args : Array Value} {below : List Frame} {meth : Method} {c : Code} {H : Heap} {locs : List Loc} {cells slots : Nat} {Q : State → Prop} {cc : ByteArray} {pc nL : Nat} {ls : Array Slot} {rest : List Value} {st : Int} (S : CallFix p m c cc nL s args lw_all RX0) (hK : va_K D vwCl (xT cI) s) (hP : va_P D vwCl (wX h a cI G RP EN RN LO HI) H) (hst : 0 ≤ st ∧ st ≤ 3) (hok : xOK RP EN RN LO HI) (hsz : ls.size = nL) (hdg : decode cc pc = .ok (.invokevirtual 50, 3)) (kk : W p l e R s m args below meth c H locs cells slots Q (F0 m (pc + 3) ls (.int (sa_i (xLast RP RN HI st)) :: rest))) (hR : 0 + 1 ≤ R.frames ∧ 8 + (3 + 11) + 31 * 0 ≤ R.locals := by decide) (hrest : (rest.map fun v => v.category).sum ≤ 8 := by exact Nat.le_of_ble_eq_true rfl) (hcells : cells ≤ R.cells ∧ slots ≤ R.slots := by decide) : W p l e R s m args below meth c H locs cells slots Q (F0 m pc ls (.int (sa_i st) :: .ref h :: rest)) :=
  sa_callP (nA := 1) S (metX0_lastKnown l D h a cI G RP EN RN LO HI st hst hok) (lw_V q100 q102 qs7 q14 q103) (by decide +kernel) rfl hR hK hP 0 0 rfl rfl hsz rfl hrest hcells hdg kk
end
section
/-! ===== StreamAssembler: the questions (printed by gen/x2.py) ===== -/
def xRb (RP RN LO HI : Int → Int) (st : Int) : Int := if xKn RN LO HI st (RP st) = true then HI (13 * st) - RP st else 0
def xGaps (RP EN RN LO HI : Int → Int) (st : Int) : Int := (RN st - (if xKn RN LO HI st (RP st) = true then 1 else 0)) + (if xLast RP RN HI st < xHi RP EN RN HI st then 1 else 0)
def xGap (RP EN RN LO HI : Int → Int) (st num : Int) : Int := if num < 0 ∨ xGaps RP EN RN LO HI st ≤ num then -4 else if num + (if xKn RN LO HI st (RP st) = true then 1 else 0) = 0 then RP st else HI (13 * st + (num + (if xKn RN LO HI st (RP st) = true then 1 else 0)) - 1)
def xAl (RP EN RN HI : Int → Int) (st : Int) : Int := if 0 ≤ EN st then EN st else if xLim RP st < xHi RP EN RN HI st + xCr RP EN RN HI then xLim RP st else xHi RP EN RN HI st + xCr RP EN RN HI
def xCo (RP EN : Int → Int) (st : Int) : Int := if EN st = RP st then 1 else 0
theorem xGaps_t {RP EN RN LO HI : Int → Int} {st : Int} (h : xKn RN LO HI st (RP st) = true) : xGaps RP EN RN LO HI st = (RN st - 1) + (if xLast RP RN HI st < xHi RP EN RN HI st then 1 else 0) := by
  unfold xGaps
  rw [if_pos h]
theorem xGaps_f {RP EN RN LO HI : Int → Int} {st : Int} (h : xKn RN LO HI st (RP st) = false) : xGaps RP EN RN LO HI st = (RN st - 0) + (if xLast RP RN HI st < xHi RP EN RN HI st then 1 else 0) := by
  unfold xGaps
  rw [if_neg (by rw [h]; decide)]
theorem xGap_t {RP EN RN LO HI : Int → Int} {st num : Int} (h : xKn RN LO HI st (RP st) = true) : xGap RP EN RN LO HI st num = if num < 0 ∨ xGaps RP EN RN LO HI st ≤ num then -4 else if num + 1 = 0 then RP st else HI (13 * st + (num + 1) - 1) := by
  unfold xGap
  rw [h]
  rfl
theorem xGap_f {RP EN RN LO HI : Int → Int} {st num : Int} (h : xKn RN LO HI st (RP st) = false) : xGap RP EN RN LO HI st num = if num < 0 ∨ xGaps RP EN RN LO HI st ≤ num then -4 else if num + 0 = 0 then RP st else HI (13 * st + (num + 0) - 1) := by
  unfold xGap
  rw [h]
  rfl
theorem xGaps_in {RP EN RN LO HI : Int → Int} (hok : xOK RP EN RN LO HI) (st : Int) : -1 ≤ xGaps RP EN RN LO HI st ∧ xGaps RP EN RN LO HI st ≤ 13 := by
  have b1 := hok st
  unfold xGaps
  split <;> split <;> omega
set_option maxHeartbeats 4000000 in
set_option maxRecDepth 100000 in
theorem metX0_highest_bad (l : Launch) (D : va_G) (h : Nat) (a : Nat → Nat) (cI : ClassId) (G : Int → Int32) (RP EN RN LO HI : Int → Int) (st : Int) (hsr : -2147483648 ≤ st ∧ st < 2147483648) (hst : ¬ (0 ≤ st ∧ st ≤ 3)) : sa_MetP l yX0_highest cX0_highest 3 (some .int) 1 [.ref h, .int (sa_i st)] D vwCl (xT cI) (wX h a cI G RP EN RN LO HI) (sa_i (-1)) := by
  refine sa_metP (by decide) (Nat.le_of_ble_eq_true rfl) ?_
  intro p e s m below meth c S hr hlk hP hK ls hl
  have hl : lv_has ls 3 [(0, .ref h), (1, .int (sa_i st))] := hl
  have S : CallFix p m c cX0_highest 3 s _ lw_all RX0 := S
  obtain ⟨hx, hb, -, -, -⟩ := id S
  refine lv_iload_n hx hb dX0_highest_0 rfl (lv_at hl 1 rfl) ?_
  refine kX0_isStreamN S hsr hst hl.1 dX0_highest_1 ?_
  refine sa_if_ne (tgt := 9) hx hb dX0_highest_4 (by decide) (fun c_ => absurd c_ (by decide)) (fun c_4 => ?_)
  refine sa_const hx hb dX0_highest_7 ?_
  exact sa_ret hx hb hr hlk dX0_highest_8 (rfl)
set_option maxHeartbeats 4000000 in
set_option maxRecDepth 100000 in
theorem metX0_readable_bad (l : Launch) (D : va_G) (h : Nat) (a : Nat → Nat) (cI : ClassId) (G : Int → Int32) (RP EN RN LO HI : Int → Int) (st : Int) (hsr : -2147483648 ≤ st ∧ st < 2147483648) (hst : ¬ (0 ≤ st ∧ st ≤ 3)) : sa_MetP l yX0_readable cX0_readable 3 (some .int) 1 [.ref h, .int (sa_i st)] D vwCl (xT cI) (wX h a cI G RP EN RN LO HI) (sa_i (-1)) := by
  refine sa_metP (by decide) (Nat.le_of_ble_eq_true rfl) ?_
  intro p e s m below meth c S hr hlk hP hK ls hl
  have hl : lv_has ls 3 [(0, .ref h), (1, .int (sa_i st))] := hl
  have S : CallFix p m c cX0_readable 3 s _ lw_all RX0 := S
  obtain ⟨hx, hb, -, -, -⟩ := id S
  refine lv_iload_n hx hb dX0_readable_0 rfl (lv_at hl 1 rfl) ?_
  refine kX0_isStreamN S hsr hst hl.1 dX0_readable_1 ?_
  refine sa_if_ne (tgt := 9) hx hb dX0_readable_4 (by decide) (fun c_ => absurd c_ (by decide)) (fun c_4 => ?_)
  refine sa_const hx hb dX0_readable_7 ?_
  exact sa_ret hx hb hr hlk dX0_readable_8 (rfl)
set_option maxHeartbeats 4000000 in
set_option maxRecDepth 100000 in
theorem metX0_gaps_bad (l : Launch) (D : va_G) (h : Nat) (a : Nat → Nat) (cI : ClassId) (G : Int → Int32) (RP EN RN LO HI : Int → Int) (st : Int) (hsr : -2147483648 ≤ st ∧ st < 2147483648) (hst : ¬ (0 ≤ st ∧ st ≤ 3)) : sa_MetP l yX0_gaps cX0_gaps 3 (some .int) 2 [.ref h, .int (sa_i st)] D vwCl (xT cI) (wX h a cI G RP EN RN LO HI) (sa_i (-1)) := by
  refine sa_metP (by decide) (Nat.le_of_ble_eq_true rfl) ?_
  intro p e s m below meth c S hr hlk hP hK ls hl
  have hl : lv_has ls 3 [(0, .ref h), (1, .int (sa_i st))] := hl
  have S : CallFix p m c cX0_gaps 3 s _ lw_all RX0 := S
  obtain ⟨hx, hb, -, -, -⟩ := id S
  refine lv_iload_n hx hb dX0_gaps_0 rfl (lv_at hl 1 rfl) ?_
  refine kX0_isStreamN S hsr hst hl.1 dX0_gaps_1 ?_
  refine sa_if_ne (tgt := 9) hx hb dX0_gaps_4 (by decide) (fun c_ => absurd c_ (by decide)) (fun c_4 => ?_)
  refine sa_const hx hb dX0_gaps_7 ?_
  exact sa_ret hx hb hr hlk dX0_gaps_8 (rfl)
set_option maxHeartbeats 4000000 in
set_option maxRecDepth 100000 in
theorem metX0_gap_bad (l : Launch) (D : va_G) (h : Nat) (a : Nat → Nat) (cI : ClassId) (G : Int → Int32) (RP EN RN LO HI : Int → Int) (st : Int) (num : Int) (hsr : -2147483648 ≤ st ∧ st < 2147483648) (hst : ¬ (0 ≤ st ∧ st ≤ 3)) : sa_MetP l yX0_gap cX0_gap 4 (some .int) 3 [.ref h, .int (sa_i st), .int (sa_i num)] D vwCl (xT cI) (wX h a cI G RP EN RN LO HI) (sa_i (-1)) := by
  refine sa_metP (by decide) (Nat.le_of_ble_eq_true rfl) ?_
  intro p e s m below meth c S hr hlk hP hK ls hl
  have hl : lv_has ls 4 [(0, .ref h), (1, .int (sa_i st)), (2, .int (sa_i num))] := hl
  have S : CallFix p m c cX0_gap 4 s _ lw_all RX0 := S
  obtain ⟨hx, hb, -, -, -⟩ := id S
  refine lv_iload_n hx hb dX0_gap_0 rfl (lv_at hl 1 rfl) ?_
  refine kX0_isStreamN S hsr hst hl.1 dX0_gap_1 ?_
  refine sa_if_ne (tgt := 9) hx hb dX0_gap_4 (by decide) (fun c_ => absurd c_ (by decide)) (fun c_4 => ?_)
  refine sa_const hx hb dX0_gap_7 ?_
  exact sa_ret hx hb hr hlk dX0_gap_8 (rfl)
set_option maxHeartbeats 4000000 in
set_option maxRecDepth 100000 in
theorem metX0_allowed_bad (l : Launch) (D : va_G) (h : Nat) (a : Nat → Nat) (cI : ClassId) (G : Int → Int32) (RP EN RN LO HI : Int → Int) (st : Int) (hsr : -2147483648 ≤ st ∧ st < 2147483648) (hst : ¬ (0 ≤ st ∧ st ≤ 3)) : sa_MetP l yX0_allowed cX0_allowed 4 (some .int) 3 [.ref h, .int (sa_i st)] D vwCl (xT cI) (wX h a cI G RP EN RN LO HI) (sa_i (-1)) := by
  refine sa_metP (by decide) (Nat.le_of_ble_eq_true rfl) ?_
  intro p e s m below meth c S hr hlk hP hK ls hl
  have hl : lv_has ls 4 [(0, .ref h), (1, .int (sa_i st))] := hl
  have S : CallFix p m c cX0_allowed 4 s _ lw_all RX0 := S
  obtain ⟨hx, hb, -, -, -⟩ := id S
  refine lv_iload_n hx hb dX0_allowed_0 rfl (lv_at hl 1 rfl) ?_
  refine kX0_isStreamN S hsr hst hl.1 dX0_allowed_1 ?_
  refine sa_if_ne (tgt := 9) hx hb dX0_allowed_4 (by decide) (fun c_ => absurd c_ (by decide)) (fun c_4 => ?_)
  refine sa_const hx hb dX0_allowed_7 ?_
  exact sa_ret hx hb hr hlk dX0_allowed_8 (rfl)
set_option maxHeartbeats 4000000 in
set_option maxRecDepth 100000 in
theorem metX0_complete_bad (l : Launch) (D : va_G) (h : Nat) (a : Nat → Nat) (cI : ClassId) (G : Int → Int32) (RP EN RN LO HI : Int → Int) (st : Int) (hsr : -2147483648 ≤ st ∧ st < 2147483648) (hst : ¬ (0 ≤ st ∧ st ≤ 3)) : sa_MetP l yX0_complete cX0_complete 2 (some .int) 1 [.ref h, .int (sa_i st)] D vwCl (xT cI) (wX h a cI G RP EN RN LO HI) (sa_i (-1)) := by
  refine sa_metP (by decide) (Nat.le_of_ble_eq_true rfl) ?_
  intro p e s m below meth c S hr hlk hP hK ls hl
  have hl : lv_has ls 2 [(0, .ref h), (1, .int (sa_i st))] := hl
  have S : CallFix p m c cX0_complete 2 s _ lw_all RX0 := S
  obtain ⟨hx, hb, -, -, -⟩ := id S
  refine lv_iload_n hx hb dX0_complete_0 rfl (lv_at hl 1 rfl) ?_
  refine kX0_isStreamN S hsr hst hl.1 dX0_complete_1 ?_
  refine sa_if_ne (tgt := 9) hx hb dX0_complete_4 (by decide) (fun c_ => absurd c_ (by decide)) (fun c_4 => ?_)
  refine sa_const hx hb dX0_complete_7 ?_
  exact sa_ret hx hb hr hlk dX0_complete_8 (rfl)
set_option maxHeartbeats 4000000 in
set_option maxRecDepth 100000 in
theorem metX0_read_bad (l : Launch) (D : va_G) (h : Nat) (a : Nat → Nat) (cI : ClassId) (G : Int → Int32) (RP EN RN LO HI : Int → Int) (st : Int) (hsr : -2147483648 ≤ st ∧ st < 2147483648) (hst : ¬ (0 ≤ st ∧ st ≤ 3)) : sa_MetP l yX0_read cX0_read 3 (some .int) 1 [.ref h, .int (sa_i st)] D vwCl (xT cI) (wX h a cI G RP EN RN LO HI) (sa_i (-1)) := by
  refine sa_metP (by decide) (Nat.le_of_ble_eq_true rfl) ?_
  intro p e s m below meth c S hr hlk hP hK ls hl
  have hl : lv_has ls 3 [(0, .ref h), (1, .int (sa_i st))] := hl
  have S : CallFix p m c cX0_read 3 s _ lw_all RX0 := S
  obtain ⟨hx, hb, -, -, -⟩ := id S
  refine lv_iload_n hx hb dX0_read_0 rfl (lv_at hl 1 rfl) ?_
  refine kX0_isStreamN S hsr hst hl.1 dX0_read_1 ?_
  refine sa_if_ne (tgt := 9) hx hb dX0_read_4 (by decide) (fun c_ => absurd c_ (by decide)) (fun c_4 => ?_)
  refine sa_const hx hb dX0_read_7 ?_
  exact sa_ret hx hb hr hlk dX0_read_8 (rfl)
set_option maxHeartbeats 4000000 in
set_option maxRecDepth 100000 in
theorem metX0_piece_bad (l : Launch) (D : va_G) (h : Nat) (a : Nat → Nat) (cI : ClassId) (G : Int → Int32) (RP EN RN LO HI : Int → Int) (st : Int) (off : Int) (len : Int) (bv : Int32) (hsr : -2147483648 ≤ st ∧ st < 2147483648) (hor : -2147483648 ≤ off ∧ off < 2147483648) (hlr : -2147483648 ≤ len ∧ len < 2147483648) (hbad : ¬ (0 ≤ st ∧ st ≤ 3) ∨ len < 1 ∨ 4 < len ∨ off < 0 ∨ 1000 < off) : sa_MetP l yX0_piece cX0_piece 9 (some .int) 4 [.ref h, .int (sa_i st), .int (sa_i off), .int (sa_i len), .int bv] D vwCl (xT cI) (wX h a cI G RP EN RN LO HI) (sa_i (-1)) := by
  refine sa_metP (by decide) (Nat.le_of_ble_eq_true rfl) ?_
  intro p e s m below meth c S hr hlk hP hK ls hl
  have hl : lv_has ls 9 [(0, .ref h), (1, .int (sa_i st)), (2, .int (sa_i off)), (3, .int (sa_i len)), (4, .int bv)] := hl
  have S : CallFix p m c cX0_piece 9 s _ lw_all RX0 := S
  obtain ⟨hx, hb, -, -, -⟩ := id S
  refine lv_iload_n hx hb dX0_piece_0 rfl (lv_at hl 1 rfl) ?_
  refine kX0_isStreamB S hsr hl.1 dX0_piece_1 ?_
  refine sa_ifB_eq (tgt := 28) hx hb dX0_piece_4 (by decide) (fun c_4 => ?_) (fun c_4 => ?_)
  · have kc_4 := xS_f c_4
    refine sa_const hx hb dX0_piece_28 ?_
    exact sa_ret hx hb hr hlk dX0_piece_29 (rfl)
  · have kc_4 := xS_t c_4
    refine lv_iload_n hx hb dX0_piece_7 rfl (lv_at hl 3 rfl) ?_
    refine sa_const hx hb dX0_piece_8 ?_
    refine sa_icmp_lt (tgt := 28) hx hb dX0_piece_9 (by decide) (fun c_9 => ?_) (fun c_9 => ?_)
    · refine sa_const hx hb dX0_piece_28 ?_
      exact sa_ret hx hb hr hlk dX0_piece_29 (rfl)
    · refine lv_iload_n hx hb dX0_piece_12 rfl (lv_at hl 3 rfl) ?_
      refine sa_const hx hb dX0_piece_13 ?_
      refine sa_icmp_gt (tgt := 28) hx hb dX0_piece_14 (by decide) (fun c_14 => ?_) (fun c_14 => ?_)
      · refine sa_const hx hb dX0_piece_28 ?_
        exact sa_ret hx hb hr hlk dX0_piece_29 (rfl)
      · refine lv_iload_n hx hb dX0_piece_17 rfl (lv_at hl 2 rfl) ?_
        refine sa_if_lt (tgt := 28) hx hb dX0_piece_18 (by decide) (fun c_18 => ?_) (fun c_18 => ?_)
        · refine sa_const hx hb dX0_piece_28 ?_
          exact sa_ret hx hb hr hlk dX0_piece_29 (rfl)
        · refine lv_iload_n hx hb dX0_piece_21 rfl (lv_at hl 2 rfl) ?_
          refine sa_sipush hx hb dX0_piece_22 (by decide +kernel) ?_
          refine sa_icmp_le (tgt := 30) hx hb dX0_piece_25 (by decide) (fun c_25 => ?_) (fun c_25 => ?_)
          · exfalso; omega
          · refine sa_const hx hb dX0_piece_28 ?_
            exact sa_ret hx hb hr hlk dX0_piece_29 (rfl)
set_option maxHeartbeats 4000000 in
set_option maxRecDepth 100000 in
theorem metX0_finish_bad (l : Launch) (D : va_G) (h : Nat) (a : Nat → Nat) (cI : ClassId) (G : Int → Int32) (RP EN RN LO HI : Int → Int) (st : Int) (en : Int) (hsr : -2147483648 ≤ st ∧ st < 2147483648) (her : -2147483648 ≤ en ∧ en < 2147483648) (hbad : ¬ (0 ≤ st ∧ st ≤ 3) ∨ en < 0) : sa_MetP l yX0_finish cX0_finish 4 (some .int) 4 [.ref h, .int (sa_i st), .int (sa_i en)] D vwCl (xT cI) (wX h a cI G RP EN RN LO HI) (sa_i (-1)) := by
  refine sa_metP (by decide) (Nat.le_of_ble_eq_true rfl) ?_
  intro p e s m below meth c S hr hlk hP hK ls hl
  have hl : lv_has ls 4 [(0, .ref h), (1, .int (sa_i st)), (2, .int (sa_i en))] := hl
  have S : CallFix p m c cX0_finish 4 s _ lw_all RX0 := S
  obtain ⟨hx, hb, -, -, -⟩ := id S
  refine lv_iload_n hx hb dX0_finish_0 rfl (lv_at hl 1 rfl) ?_
  refine kX0_isStreamB S hsr hl.1 dX0_finish_1 ?_
  refine sa_ifB_eq (tgt := 11) hx hb dX0_finish_4 (by decide) (fun c_4 => ?_) (fun c_4 => ?_)
  · have kc_4 := xS_f c_4
    refine sa_const hx hb dX0_finish_11 ?_
    exact sa_ret hx hb hr hlk dX0_finish_12 (rfl)
  · have kc_4 := xS_t c_4
    refine lv_iload_n hx hb dX0_finish_7 rfl (lv_at hl 2 rfl) ?_
    refine sa_if_ge (tgt := 13) hx hb dX0_finish_8 (by decide) (fun c_8 => ?_) (fun c_8 => ?_)
    · exfalso; omega
    · refine sa_const hx hb dX0_finish_11 ?_
      exact sa_ret hx hb hr hlk dX0_finish_12 (rfl)
set_option maxHeartbeats 4000000 in
set_option maxRecDepth 100000 in
theorem metX0_complete (l : Launch) (D : va_G) (h : Nat) (a : Nat → Nat) (cI : ClassId) (G : Int → Int32) (RP EN RN LO HI : Int → Int) (st : Int) (hst : 0 ≤ st ∧ st ≤ 3) (hok : xOK RP EN RN LO HI) : sa_MetP l yX0_complete cX0_complete 2 (some .int) 1 [.ref h, .int (sa_i st)] D vwCl (xT cI) (wX h a cI G RP EN RN LO HI) (sa_i (xCo RP EN st)) := by
  refine sa_metP (by decide) (Nat.le_of_ble_eq_true rfl) ?_
  intro p e s m below meth c S hr hlk hP hK ls hl
  have hl : lv_has ls 2 [(0, .ref h), (1, .int (sa_i st))] := hl
  have S : CallFix p m c cX0_complete 2 s _ lw_all RX0 := S
  obtain ⟨hx, hb, -, -, -⟩ := id S
  have b1 := hok st
  refine lv_iload_n hx hb dX0_complete_0 rfl (lv_at hl 1 rfl) ?_
  refine kX0_isStream S hst hl.1 dX0_complete_1 ?_
  refine sa_if_ne (tgt := 9) hx hb dX0_complete_4 (by decide) (fun c_4 => ?_) (fun c_ => absurd c_ (by decide))
  refine lv_aload_n hx hb dX0_complete_9 rfl (lv_at hl 0 rfl) ?_
  refine x_g2 S hK hP dX0_complete_10 ?_
  refine lv_iload_n hx hb dX0_complete_13 rfl (lv_at hl 1 rfl) ?_
  refine x_l2 S hK hP dX0_complete_14 ?_
  refine lv_aload_n hx hb dX0_complete_15 rfl (lv_at hl 0 rfl) ?_
  refine x_g1 S hK hP dX0_complete_16 ?_
  refine lv_iload_n hx hb dX0_complete_19 rfl (lv_at hl 1 rfl) ?_
  refine x_l1 S hK hP dX0_complete_20 ?_
  refine sa_icmp_ne (tgt := 28) hx hb dX0_complete_21 (by decide) (fun c_21 => ?_) (fun c_21 => ?_)
  · refine sa_const hx hb dX0_complete_28 ?_
    exact sa_ret hx hb hr hlk dX0_complete_29 (congrArg sa_i (by unfold xCo; rw [if_neg (by omega)]))
  · refine sa_const hx hb dX0_complete_24 ?_
    refine lv_goto (tgt := 29) hx hb dX0_complete_25 (by decide) ?_
    exact sa_ret hx hb hr hlk dX0_complete_29 (congrArg sa_i (by unfold xCo; rw [if_pos (by omega)]))
set_option maxHeartbeats 4000000 in
set_option maxRecDepth 100000 in
theorem metX0_readable (l : Launch) (D : va_G) (h : Nat) (a : Nat → Nat) (cI : ClassId) (G : Int → Int32) (RP EN RN LO HI : Int → Int) (st : Int) (hst : 0 ≤ st ∧ st ≤ 3) (hok : xOK RP EN RN LO HI) : sa_MetP l yX0_readable cX0_readable 3 (some .int) 1 [.ref h, .int (sa_i st)] D vwCl (xT cI) (wX h a cI G RP EN RN LO HI) (sa_i (xRb RP RN LO HI st)) := by
  refine sa_metP (by decide) (Nat.le_of_ble_eq_true rfl) ?_
  intro p e s m below meth c S hr hlk hP hK ls hl
  have hl : lv_has ls 3 [(0, .ref h), (1, .int (sa_i st))] := hl
  have S : CallFix p m c cX0_readable 3 s _ lw_all RX0 := S
  obtain ⟨hx, hb, -, -, -⟩ := id S
  have b1 := hok st
  refine lv_iload_n hx hb dX0_readable_0 rfl (lv_at hl 1 rfl) ?_
  refine kX0_isStream S hst hl.1 dX0_readable_1 ?_
  refine sa_if_ne (tgt := 9) hx hb dX0_readable_4 (by decide) (fun c_4 => ?_) (fun c_ => absurd c_ (by decide))
  refine lv_aload_n hx hb dX0_readable_9 rfl (lv_at hl 0 rfl) ?_
  refine x_g1 S hK hP dX0_readable_10 ?_
  refine lv_iload_n hx hb dX0_readable_13 rfl (lv_at hl 1 rfl) ?_
  refine x_l1 S hK hP dX0_readable_14 ?_
  refine sa_name (fun q_15 e_q_15 => ?_)
  refine lv_istore_n (lv' := [(2, .int (sa_i q_15)), (0, .ref h), (1, .int (sa_i st))]) hx hb dX0_readable_15 rfl hl (by decide) rfl (fun ls hl => ?_)
  refine lv_aload_n hx hb dX0_readable_16 rfl (lv_at hl 1 rfl) ?_
  refine lv_iload_n hx hb dX0_readable_17 rfl (lv_at hl 2 rfl) ?_
  refine lv_iload_n hx hb dX0_readable_18 rfl (lv_at hl 0 rfl) ?_
  refine kX0_isKnown S hK hP (by omega) (by omega) hok hl.1 dX0_readable_19 ?_
  refine sa_ifB_eq (tgt := 39) hx hb dX0_readable_22 (by decide) (fun c_22 => ?_) (fun c_22 => ?_)
  · refine sa_const hx hb dX0_readable_39 ?_
    exact sa_ret hx hb hr hlk dX0_readable_40 (congrArg sa_i (by unfold xRb; rw [e_q_15] at c_22; rw [if_neg (by rw [c_22]; decide)]))
  · refine lv_aload_n hx hb dX0_readable_25 rfl (lv_at hl 1 rfl) ?_
    refine x_g5 S hK hP dX0_readable_26 ?_
    refine sa_bipush hx hb dX0_readable_29 (by decide +kernel) ?_
    refine lv_iload_n hx hb dX0_readable_31 rfl (lv_at hl 2 rfl) ?_
    refine sa_mul hx hb dX0_readable_32 ?_
    refine x_l5 S hK hP dX0_readable_33 ?_
    refine lv_iload_n hx hb dX0_readable_34 rfl (lv_at hl 0 rfl) ?_
    refine sa_sub hx hb dX0_readable_35 ?_
    refine lv_goto (tgt := 40) hx hb dX0_readable_36 (by decide) ?_
    exact sa_ret hx hb hr hlk dX0_readable_40 (congrArg sa_i (by unfold xRb; rw [e_q_15] at c_22; rw [if_pos c_22, ← e_q_15]))
set_option maxHeartbeats 4000000 in
set_option maxRecDepth 100000 in
theorem metX0_gaps (l : Launch) (D : va_G) (h : Nat) (a : Nat → Nat) (cI : ClassId) (G : Int → Int32) (RP EN RN LO HI : Int → Int) (st : Int) (hst : 0 ≤ st ∧ st ≤ 3) (hok : xOK RP EN RN LO HI) : sa_MetP l yX0_gaps cX0_gaps 3 (some .int) 2 [.ref h, .int (sa_i st)] D vwCl (xT cI) (wX h a cI G RP EN RN LO HI) (sa_i (xGaps RP EN RN LO HI st)) := by
  refine sa_metP (by decide) (Nat.le_of_ble_eq_true rfl) ?_
  intro p e s m below meth c S hr hlk hP hK ls hl
  have hl : lv_has ls 3 [(0, .ref h), (1, .int (sa_i st))] := hl
  have S : CallFix p m c cX0_gaps 3 s _ lw_all RX0 := S
  obtain ⟨hx, hb, -, -, -⟩ := id S
  have b1 := hok st
  have b2 := xLast_in hok st
  have b3 := xHi_in hok st
  refine lv_iload_n hx hb dX0_gaps_0 rfl (lv_at hl 1 rfl) ?_
  refine kX0_isStream S hst hl.1 dX0_gaps_1 ?_
  refine sa_if_ne (tgt := 9) hx hb dX0_gaps_4 (by decide) (fun c_4 => ?_) (fun c_ => absurd c_ (by decide))
  refine lv_aload_n hx hb dX0_gaps_9 rfl (lv_at hl 0 rfl) ?_
  refine x_g3 S hK hP dX0_gaps_10 ?_
  refine lv_iload_n hx hb dX0_gaps_13 rfl (lv_at hl 1 rfl) ?_
  refine x_l3 S hK hP dX0_gaps_14 ?_
  refine lv_aload_n hx hb dX0_gaps_15 rfl (lv_at hl 0 rfl) ?_
  refine lv_iload_n hx hb dX0_gaps_16 rfl (lv_at hl 1 rfl) ?_
  refine lv_aload_n hx hb dX0_gaps_17 rfl (lv_at hl 0 rfl) ?_
  refine x_g1 S hK hP dX0_gaps_18 ?_
  refine lv_iload_n hx hb dX0_gaps_21 rfl (lv_at hl 1 rfl) ?_
  refine x_l1 S hK hP dX0_gaps_22 ?_
  refine kX0_isKnown S hK hP (by omega) (by omega) hok hl.1 dX0_gaps_23 ?_
  refine sa_ifB_eq (tgt := 33) hx hb dX0_gaps_26 (by decide) (fun c_26 => ?_) (fun c_26 => ?_)
  · refine sa_const hx hb dX0_gaps_33 ?_
    refine sa_sub hx hb dX0_gaps_34 ?_
    refine sa_name (fun q_35 e_q_35 => ?_)
    refine lv_istore_n (lv' := [(2, .int (sa_i q_35)), (0, .ref h), (1, .int (sa_i st))]) hx hb dX0_gaps_35 rfl hl (by decide) rfl (fun ls hl => ?_)
    refine lv_iload_n hx hb dX0_gaps_36 rfl (lv_at hl 0 rfl) ?_
    refine lv_aload_n hx hb dX0_gaps_37 rfl (lv_at hl 1 rfl) ?_
    refine lv_iload_n hx hb dX0_gaps_38 rfl (lv_at hl 2 rfl) ?_
    refine kX0_lastKnown S hK hP (by omega) hok hl.1 dX0_gaps_39 ?_
    refine lv_aload_n hx hb dX0_gaps_42 rfl (lv_at hl 1 rfl) ?_
    refine lv_iload_n hx hb dX0_gaps_43 rfl (lv_at hl 2 rfl) ?_
    refine kX0_highest S hK hP (by omega) hok hl.1 dX0_gaps_44 ?_
    refine sa_icmp_ge (tgt := 54) hx hb dX0_gaps_47 (by decide) (fun c_47 => ?_) (fun c_47 => ?_)
    · refine sa_const hx hb dX0_gaps_54 ?_
      refine sa_add hx hb dX0_gaps_55 ?_
      exact sa_ret hx hb hr hlk dX0_gaps_56 (congrArg sa_i (by rw [xGaps_f c_26]; split <;> omega))
    · refine sa_const hx hb dX0_gaps_50 ?_
      refine lv_goto (tgt := 55) hx hb dX0_gaps_51 (by decide) ?_
      refine sa_add hx hb dX0_gaps_55 ?_
      exact sa_ret hx hb hr hlk dX0_gaps_56 (congrArg sa_i (by rw [xGaps_f c_26]; split <;> omega))
  · refine sa_const hx hb dX0_gaps_29 ?_
    refine lv_goto (tgt := 34) hx hb dX0_gaps_30 (by decide) ?_
    refine sa_sub hx hb dX0_gaps_34 ?_
    refine sa_name (fun q_35 e_q_35 => ?_)
    refine lv_istore_n (lv' := [(2, .int (sa_i q_35)), (0, .ref h), (1, .int (sa_i st))]) hx hb dX0_gaps_35 rfl hl (by decide) rfl (fun ls hl => ?_)
    refine lv_iload_n hx hb dX0_gaps_36 rfl (lv_at hl 0 rfl) ?_
    refine lv_aload_n hx hb dX0_gaps_37 rfl (lv_at hl 1 rfl) ?_
    refine lv_iload_n hx hb dX0_gaps_38 rfl (lv_at hl 2 rfl) ?_
    refine kX0_lastKnown S hK hP (by omega) hok hl.1 dX0_gaps_39 ?_
    refine lv_aload_n hx hb dX0_gaps_42 rfl (lv_at hl 1 rfl) ?_
    refine lv_iload_n hx hb dX0_gaps_43 rfl (lv_at hl 2 rfl) ?_
    refine kX0_highest S hK hP (by omega) hok hl.1 dX0_gaps_44 ?_
    refine sa_icmp_ge (tgt := 54) hx hb dX0_gaps_47 (by decide) (fun c_47 => ?_) (fun c_47 => ?_)
    · refine sa_const hx hb dX0_gaps_54 ?_
      refine sa_add hx hb dX0_gaps_55 ?_
      exact sa_ret hx hb hr hlk dX0_gaps_56 (congrArg sa_i (by rw [xGaps_t c_26]; split <;> omega))
    · refine sa_const hx hb dX0_gaps_50 ?_
      refine lv_goto (tgt := 55) hx hb dX0_gaps_51 (by decide) ?_
      refine sa_add hx hb dX0_gaps_55 ?_
      exact sa_ret hx hb hr hlk dX0_gaps_56 (congrArg sa_i (by rw [xGaps_t c_26]; split <;> omega))
theorem kX0_gaps {l : Launch} {D : va_G} {h : Nat} {a : Nat → Nat} {cI : ClassId} {G : Int → Int32} {RP EN RN LO HI : Int → Int} {p : Program} {e : Env} {R : Room} {s : State} {m : MethodId} {args : Array Value} {below : List Frame} {meth : Method} {c : Code} {H : Heap} {locs : List Loc} {cells slots : Nat} {Q : State → Prop} {cc : ByteArray} {pc nL : Nat} {ls : Array Slot} {rest : List Value} {st : Int} (S : CallFix p m c cc nL s args lw_all RX0) (hK : va_K D vwCl (xT cI) s) (hP : va_P D vwCl (wX h a cI G RP EN RN LO HI) H) (hst : 0 ≤ st ∧ st ≤ 3) (hok : xOK RP EN RN LO HI) (hsz : ls.size = nL) (hdg : decode cc pc = .ok (.invokevirtual 53, 3)) (kk : W p l e R s m args below meth c H locs cells slots Q (F0 m (pc + 3) ls (.int (sa_i (xGaps RP EN RN LO HI st)) :: rest))) (hR : 2 + 1 ≤ R.frames ∧ 8 + (3 + 11) + 31 * 2 ≤ R.locals := by decide) (hrest : (rest.map fun v => v.category).sum ≤ 8 := by exact Nat.le_of_ble_eq_true rfl) (hcells : cells ≤ R.cells ∧ slots ≤ R.slots := by decide) : W p l e R s m args below meth c H locs cells slots Q (F0 m pc ls (.int (sa_i st) :: .ref h :: rest)) :=
  sa_callP (nA := 1) S (metX0_gaps l D h a cI G RP EN RN LO HI st hst hok) (lw_V q108 q97 q98 q14 q99) (by decide +kernel) rfl hR hK hP 0 0 rfl rfl hsz rfl hrest hcells hdg kk
set_option maxHeartbeats 4000000 in
set_option maxRecDepth 100000 in
theorem metX0_gap (l : Launch) (D : va_G) (h : Nat) (a : Nat → Nat) (cI : ClassId) (G : Int → Int32) (RP EN RN LO HI : Int → Int) (st : Int) (num : Int) (hst : 0 ≤ st ∧ st ≤ 3) (hnr : -2147483648 ≤ num ∧ num < 2147483648) (hok : xOK RP EN RN LO HI) : sa_MetP l yX0_gap cX0_gap 4 (some .int) 3 [.ref h, .int (sa_i st), .int (sa_i num)] D vwCl (xT cI) (wX h a cI G RP EN RN LO HI) (sa_i (xGap RP EN RN LO HI st num)) := by
  refine sa_metP (by decide) (Nat.le_of_ble_eq_true rfl) ?_
  intro p e s m below meth c S hr hlk hP hK ls hl
  have hl : lv_has ls 4 [(0, .ref h), (1, .int (sa_i st)), (2, .int (sa_i num))] := hl
  have S : CallFix p m c cX0_gap 4 s _ lw_all RX0 := S
  obtain ⟨hx, hb, -, -, -⟩ := id S
  have b1 := hok st
  have b2 := xGaps_in hok st
  refine lv_iload_n hx hb dX0_gap_0 rfl (lv_at hl 1 rfl) ?_
  refine kX0_isStream S hst hl.1 dX0_gap_1 ?_
  refine sa_if_ne (tgt := 9) hx hb dX0_gap_4 (by decide) (fun c_4 => ?_) (fun c_ => absurd c_ (by decide))
  refine lv_iload_n hx hb dX0_gap_9 rfl (lv_at hl 2 rfl) ?_
  refine sa_if_lt (tgt := 22) hx hb dX0_gap_10 (by decide) (fun c_10 => ?_) (fun c_10 => ?_)
  · refine sa_bipush hx hb dX0_gap_22 (by decide +kernel) ?_
    exact sa_ret hx hb hr hlk dX0_gap_24 (congrArg sa_i (by unfold xGap; rw [if_pos (by omega)]))
  · refine lv_iload_n hx hb dX0_gap_13 rfl (lv_at hl 2 rfl) ?_
    refine lv_aload_n hx hb dX0_gap_14 rfl (lv_at hl 0 rfl) ?_
    refine lv_iload_n hx hb dX0_gap_15 rfl (lv_at hl 1 rfl) ?_
    refine kX0_gaps S hK hP (by omega) hok hl.1 dX0_gap_16 ?_
    refine sa_icmp_lt (tgt := 25) hx hb dX0_gap_19 (by decide) (fun c_19 => ?_) (fun c_19 => ?_)
    · refine lv_iload_n hx hb dX0_gap_25 rfl (lv_at hl 2 rfl) ?_
      refine lv_aload_n hx hb dX0_gap_26 rfl (lv_at hl 0 rfl) ?_
      refine lv_iload_n hx hb dX0_gap_27 rfl (lv_at hl 1 rfl) ?_
      refine lv_aload_n hx hb dX0_gap_28 rfl (lv_at hl 0 rfl) ?_
      refine x_g1 S hK hP dX0_gap_29 ?_
      refine lv_iload_n hx hb dX0_gap_32 rfl (lv_at hl 1 rfl) ?_
      refine x_l1 S hK hP dX0_gap_33 ?_
      refine kX0_isKnown S hK hP (by omega) (by omega) hok hl.1 dX0_gap_34 ?_
      refine sa_ifB_eq (tgt := 44) hx hb dX0_gap_37 (by decide) (fun c_37 => ?_) (fun c_37 => ?_)
      · refine sa_const hx hb dX0_gap_44 ?_
        refine sa_add hx hb dX0_gap_45 ?_
        refine sa_name (fun k_46 e_k_46 => ?_)
        refine lv_istore_n (lv' := [(3, .int (sa_i k_46)), (0, .ref h), (1, .int (sa_i st)), (2, .int (sa_i num))]) hx hb dX0_gap_46 rfl hl (by decide) rfl (fun ls hl => ?_)
        have b3 := xGaps_f (EN := EN) c_37
        have b4 : (if xLast RP RN HI st < xHi RP EN RN HI st then (1 : Int) else 0) ≤ 1 := by split <;> omega
        refine lv_iload_n hx hb dX0_gap_47 rfl (lv_at hl 0 rfl) ?_
        refine sa_if_ne (tgt := 60) hx hb dX0_gap_48 (by decide) (fun c_48 => ?_) (fun c_48 => ?_)
        · refine lv_aload_n hx hb dX0_gap_60 rfl (lv_at hl 1 rfl) ?_
          refine x_g5 S hK hP dX0_gap_61 ?_
          refine sa_bipush hx hb dX0_gap_64 (by decide +kernel) ?_
          refine lv_iload_n hx hb dX0_gap_66 rfl (lv_at hl 2 rfl) ?_
          refine sa_mul hx hb dX0_gap_67 ?_
          refine lv_iload_n hx hb dX0_gap_68 rfl (lv_at hl 0 rfl) ?_
          refine sa_add hx hb dX0_gap_69 ?_
          refine sa_const hx hb dX0_gap_70 ?_
          refine sa_sub hx hb dX0_gap_71 ?_
          refine x_l5 S hK hP dX0_gap_72 ?_
          exact sa_ret hx hb hr hlk dX0_gap_73 (congrArg sa_i (by rw [xGap_f c_37, if_neg (by omega), if_neg (by omega), ← e_k_46]))
        · refine lv_aload_n hx hb dX0_gap_51 rfl (lv_at hl 1 rfl) ?_
          refine x_g1 S hK hP dX0_gap_52 ?_
          refine lv_iload_n hx hb dX0_gap_55 rfl (lv_at hl 2 rfl) ?_
          refine x_l1 S hK hP dX0_gap_56 ?_
          refine lv_goto (tgt := 73) hx hb dX0_gap_57 (by decide) ?_
          exact sa_ret hx hb hr hlk dX0_gap_73 (congrArg sa_i (by rw [xGap_f c_37, if_neg (by omega), if_pos (by omega)]))
      · refine sa_const hx hb dX0_gap_40 ?_
        refine lv_goto (tgt := 45) hx hb dX0_gap_41 (by decide) ?_
        refine sa_add hx hb dX0_gap_45 ?_
        refine sa_name (fun k_46 e_k_46 => ?_)
        refine lv_istore_n (lv' := [(3, .int (sa_i k_46)), (0, .ref h), (1, .int (sa_i st)), (2, .int (sa_i num))]) hx hb dX0_gap_46 rfl hl (by decide) rfl (fun ls hl => ?_)
        have b3 := xGaps_t (EN := EN) c_37
        have b4 : (if xLast RP RN HI st < xHi RP EN RN HI st then (1 : Int) else 0) ≤ 1 := by split <;> omega
        refine lv_iload_n hx hb dX0_gap_47 rfl (lv_at hl 0 rfl) ?_
        refine sa_if_ne (tgt := 60) hx hb dX0_gap_48 (by decide) (fun c_48 => ?_) (fun c_48 => ?_)
        · refine lv_aload_n hx hb dX0_gap_60 rfl (lv_at hl 1 rfl) ?_
          refine x_g5 S hK hP dX0_gap_61 ?_
          refine sa_bipush hx hb dX0_gap_64 (by decide +kernel) ?_
          refine lv_iload_n hx hb dX0_gap_66 rfl (lv_at hl 2 rfl) ?_
          refine sa_mul hx hb dX0_gap_67 ?_
          refine lv_iload_n hx hb dX0_gap_68 rfl (lv_at hl 0 rfl) ?_
          refine sa_add hx hb dX0_gap_69 ?_
          refine sa_const hx hb dX0_gap_70 ?_
          refine sa_sub hx hb dX0_gap_71 ?_
          refine x_l5 S hK hP dX0_gap_72 ?_
          exact sa_ret hx hb hr hlk dX0_gap_73 (congrArg sa_i (by rw [xGap_t c_37, if_neg (by omega), if_neg (by omega), ← e_k_46]))
        · refine lv_aload_n hx hb dX0_gap_51 rfl (lv_at hl 1 rfl) ?_
          refine x_g1 S hK hP dX0_gap_52 ?_
          refine lv_iload_n hx hb dX0_gap_55 rfl (lv_at hl 2 rfl) ?_
          refine x_l1 S hK hP dX0_gap_56 ?_
          refine lv_goto (tgt := 73) hx hb dX0_gap_57 (by decide) ?_
          exact sa_ret hx hb hr hlk dX0_gap_73 (congrArg sa_i (by rw [xGap_t c_37, if_neg (by omega), if_pos (by omega)]))
    · refine sa_bipush hx hb dX0_gap_22 (by decide +kernel) ?_
      exact sa_ret hx hb hr hlk dX0_gap_24 (congrArg sa_i (by unfold xGap; rw [if_pos (by omega)]))
set_option maxHeartbeats 4000000 in
set_option maxRecDepth 100000 in
theorem metX0_allowed (l : Launch) (D : va_G) (h : Nat) (a : Nat → Nat) (cI : ClassId) (G : Int → Int32) (RP EN RN LO HI : Int → Int) (st : Int) (hst : 0 ≤ st ∧ st ≤ 3) (hok : xOK RP EN RN LO HI) : sa_MetP l yX0_allowed cX0_allowed 4 (some .int) 3 [.ref h, .int (sa_i st)] D vwCl (xT cI) (wX h a cI G RP EN RN LO HI) (sa_i (xAl RP EN RN HI st)) := by
  refine sa_metP (by decide) (Nat.le_of_ble_eq_true rfl) ?_
  intro p e s m below meth c S hr hlk hP hK ls hl
  have hl : lv_has ls 4 [(0, .ref h), (1, .int (sa_i st))] := hl
  have S : CallFix p m c cX0_allowed 4 s _ lw_all RX0 := S
  obtain ⟨hx, hb, -, -, -⟩ := id S
  have b1 := hok st
  have b2 := xLim_in hok st
  have b3 := xHi_in hok st
  have b4 := xCr_in hok
  refine lv_iload_n hx hb dX0_allowed_0 rfl (lv_at hl 1 rfl) ?_
  refine kX0_isStream S hst hl.1 dX0_allowed_1 ?_
  refine sa_if_ne (tgt := 9) hx hb dX0_allowed_4 (by decide) (fun c_4 => ?_) (fun c_ => absurd c_ (by decide))
  refine lv_aload_n hx hb dX0_allowed_9 rfl (lv_at hl 0 rfl) ?_
  refine x_g2 S hK hP dX0_allowed_10 ?_
  refine lv_iload_n hx hb dX0_allowed_13 rfl (lv_at hl 1 rfl) ?_
  refine x_l2 S hK hP dX0_allowed_14 ?_
  refine sa_if_lt (tgt := 25) hx hb dX0_allowed_15 (by decide) (fun c_15 => ?_) (fun c_15 => ?_)
  · refine lv_aload_n hx hb dX0_allowed_25 rfl (lv_at hl 0 rfl) ?_
    refine lv_iload_n hx hb dX0_allowed_26 rfl (lv_at hl 1 rfl) ?_
    refine kX0_limitOf S hK hP (by omega) hok hl.1 dX0_allowed_27 ?_
    refine sa_name (fun own_30 e_own_30 => ?_)
    refine lv_istore_n (lv' := [(2, .int (sa_i own_30)), (0, .ref h), (1, .int (sa_i st))]) hx hb dX0_allowed_30 rfl hl (by decide) rfl (fun ls hl => ?_)
    refine lv_aload_n hx hb dX0_allowed_31 rfl (lv_at hl 1 rfl) ?_
    refine lv_iload_n hx hb dX0_allowed_32 rfl (lv_at hl 2 rfl) ?_
    refine kX0_highest S hK hP (by omega) hok hl.1 dX0_allowed_33 ?_
    refine lv_aload_n hx hb dX0_allowed_36 rfl (lv_at hl 1 rfl) ?_
    refine kX0_credit S hK hP hok hl.1 dX0_allowed_37 ?_
    refine sa_add hx hb dX0_allowed_40 ?_
    refine sa_name (fun sh_41 e_sh_41 => ?_)
    refine lv_istore_n (lv' := [(3, .int (sa_i sh_41)), (2, .int (sa_i own_30)), (0, .ref h), (1, .int (sa_i st))]) hx hb dX0_allowed_41 rfl hl (by decide) rfl (fun ls hl => ?_)
    refine lv_iload_n hx hb dX0_allowed_42 rfl (lv_at hl 1 rfl) ?_
    refine lv_iload_n hx hb dX0_allowed_43 rfl (lv_at hl 0 rfl) ?_
    refine sa_icmp_ge (tgt := 51) hx hb dX0_allowed_44 (by decide) (fun c_44 => ?_) (fun c_44 => ?_)
    · refine lv_iload_n hx hb dX0_allowed_51 rfl (lv_at hl 0 rfl) ?_
      exact sa_ret hx hb hr hlk dX0_allowed_52 (congrArg sa_i (by unfold xAl; rw [if_neg (by omega)]; split <;> omega))
    · refine lv_iload_n hx hb dX0_allowed_47 rfl (lv_at hl 1 rfl) ?_
      refine lv_goto (tgt := 52) hx hb dX0_allowed_48 (by decide) ?_
      exact sa_ret hx hb hr hlk dX0_allowed_52 (congrArg sa_i (by unfold xAl; rw [if_neg (by omega)]; split <;> omega))
  · refine lv_aload_n hx hb dX0_allowed_18 rfl (lv_at hl 0 rfl) ?_
    refine x_g2 S hK hP dX0_allowed_19 ?_
    refine lv_iload_n hx hb dX0_allowed_22 rfl (lv_at hl 1 rfl) ?_
    refine x_l2 S hK hP dX0_allowed_23 ?_
    exact sa_ret hx hb hr hlk dX0_allowed_24 (congrArg sa_i (by unfold xAl; rw [if_pos (by omega)]))
end
section
/-! ===== StreamAssembler: the methods that change it (printed by gen/x3.py) ===== -/
set_option maxHeartbeats 4000000 in
set_option maxRecDepth 100000 in
theorem metX0_dropRanges_L14 {l : Launch} {D : va_G} {h : Nat} {a : Nat → Nat} {cI : ClassId} {G : Int → Int32} {RP EN RN LO HI : Int → Int} {p : Program} {e : Env} {s : State} {m : MethodId} {below : List Frame} {meth : Method} {c : Code} {av : Array Value} {A : Nat → Prop} {st fr to : Int} (S : CallFix p m c cX0_dropRanges 7 s av lw_all RX0) (hr : meth.sig.returnType = none) (hlk : meth.locks = false) (hK : va_K D vwCl (xT cI) s) (hA : ∀ q : Nat, s.heap.size ≤ q → A q) (hst : 0 ≤ st ∧ st ≤ 3) (hrn : 0 ≤ RN st ∧ RN st ≤ 12) (hfr : 0 ≤ fr ∧ fr ≤ to ∧ to ≤ RN st) :
    ∀ (n : Nat) (k : Int), fr ≤ k → (k ≤ fr ∨ k + (to - fr) ≤ RN st) → RN st - k < (n : Int) → 0 < n → ∀ (H : Heap) (locs : List Loc), va_P D vwCl (wX h a cI G RP EN RN (xDrop (13 * st) fr k (to - fr) LO) (xDrop (13 * st) fr k (to - fr) HI)) H → va_D A (wX h a cI G RP EN RN (xDrop (13 * st) fr k (to - fr) LO) (xDrop (13 * st) fr k (to - fr) HI)) → va_S A s.heap H locs → ∀ ls : Array Slot, lv_has ls 7 [(0, .ref h), (1, .int (sa_i st)), (2, .int (sa_i fr)), (3, .int (sa_i to)), (4, .int (sa_i (13 * st))), (5, .int (sa_i (to - fr))), (6, .int (sa_i k))] → W p l e (sa_rm 0) s m av below meth c H locs 0 0 (sa_EV below D vwCl (xT cI) (wX h a cI G RP EN (sa_up RN st (RN st - (to - fr))) (xDrop (13 * st) fr (RN st - (to - fr)) (to - fr) LO) (xDrop (13 * st) fr (RN st - (to - fr)) (to - fr) HI)) A av s) (F0 m 14 ls []) := by
  obtain ⟨hx, hb, -, -, -⟩ := id S
  intro n
  induction n with
  | zero => intro k h1 h2 h3 h4; exact absurd h4 (by omega)
  | succ n ih =>
    intro k h1 h2 h3 h4 H locs hP hD hS ls hl
    refine lv_iload hx hb dX0_dropRanges_14 (lv_at hl 6 rfl) ?_
    refine lv_iload hx hb dX0_dropRanges_16 (lv_at hl 5 rfl) ?_
    refine sa_add hx hb dX0_dropRanges_18 ?_
    refine lv_aload_n hx hb dX0_dropRanges_19 rfl (lv_at hl 0 rfl) ?_
    refine x_g3 S hK hP dX0_dropRanges_20 ?_
    refine lv_iload_n hx hb dX0_dropRanges_23 rfl (lv_at hl 1 rfl) ?_
    refine x_l3 S hK hP dX0_dropRanges_24 ?_
    refine sa_icmp_ge (tgt := 80) hx hb dX0_dropRanges_25 (by decide) (fun c_25 => ?_) (fun c_25 => ?_)
    · have hE : ∀ f : Int → Int, xDrop (13 * st) fr k (to - fr) f = xDrop (13 * st) fr (RN st - (to - fr)) (to - fr) f := fun f => xDrop_end (by omega)
      rw [hE LO, hE HI] at hP hD
      refine lv_aload_n hx hb dX0_dropRanges_80 rfl (lv_at hl 0 rfl) ?_
      refine x_g3 S hK hP dX0_dropRanges_81 ?_
      refine lv_iload_n hx hb dX0_dropRanges_84 rfl (lv_at hl 1 rfl) ?_
      refine lv_dup2_11 hx hb dX0_dropRanges_85 rfl rfl ?_
      refine x_l3 S hK hP dX0_dropRanges_86 ?_
      refine lv_iload hx hb dX0_dropRanges_87 (lv_at hl 5 rfl) ?_
      refine sa_sub hx hb dX0_dropRanges_89 ?_
      refine x_s3 S hK hP hD hS dX0_dropRanges_90 (fun H locs hP hD hS => ?_)
      exact sa_retV hx hb hr hlk hK hP hD hS dX0_dropRanges_91
    · refine lv_aload_n hx hb dX0_dropRanges_28 rfl (lv_at hl 0 rfl) ?_
      refine x_g4 S hK hP dX0_dropRanges_29 ?_
      refine lv_iload hx hb dX0_dropRanges_32 (lv_at hl 4 rfl) ?_
      refine lv_iload hx hb dX0_dropRanges_34 (lv_at hl 6 rfl) ?_
      refine sa_add hx hb dX0_dropRanges_36 ?_
      refine lv_aload_n hx hb dX0_dropRanges_37 rfl (lv_at hl 0 rfl) ?_
      refine x_g4 S hK hP dX0_dropRanges_38 ?_
      refine lv_iload hx hb dX0_dropRanges_41 (lv_at hl 4 rfl) ?_
      refine lv_iload hx hb dX0_dropRanges_43 (lv_at hl 6 rfl) ?_
      refine sa_add hx hb dX0_dropRanges_45 ?_
      refine lv_iload hx hb dX0_dropRanges_46 (lv_at hl 5 rfl) ?_
      refine sa_add hx hb dX0_dropRanges_48 ?_
      refine x_l4 S hK hP dX0_dropRanges_49 ?_
      refine x_s4 S hK hP hD hS dX0_dropRanges_50 (fun H locs hP hD hS => ?_)
      refine lv_aload_n hx hb dX0_dropRanges_51 rfl (lv_at hl 0 rfl) ?_
      refine x_g5 S hK hP dX0_dropRanges_52 ?_
      refine lv_iload hx hb dX0_dropRanges_55 (lv_at hl 4 rfl) ?_
      refine lv_iload hx hb dX0_dropRanges_57 (lv_at hl 6 rfl) ?_
      refine sa_add hx hb dX0_dropRanges_59 ?_
      refine lv_aload_n hx hb dX0_dropRanges_60 rfl (lv_at hl 0 rfl) ?_
      refine x_g5 S hK hP dX0_dropRanges_61 ?_
      refine lv_iload hx hb dX0_dropRanges_64 (lv_at hl 4 rfl) ?_
      refine lv_iload hx hb dX0_dropRanges_66 (lv_at hl 6 rfl) ?_
      refine sa_add hx hb dX0_dropRanges_68 ?_
      refine lv_iload hx hb dX0_dropRanges_69 (lv_at hl 5 rfl) ?_
      refine sa_add hx hb dX0_dropRanges_71 ?_
      refine x_l5 S hK hP dX0_dropRanges_72 ?_
      refine x_s5 S hK hP hD hS dX0_dropRanges_73 (fun H locs hP hD hS => ?_)
      refine sa_iinc (k := 6) (lv' := [(6, .int (sa_i (k + 1))), (0, .ref h), (1, .int (sa_i st)), (2, .int (sa_i fr)), (3, .int (sa_i to)), (4, .int (sa_i (13 * st))), (5, .int (sa_i (to - fr)))]) hx hb dX0_dropRanges_74 hl rfl (by decide) rfl (fun ls hl => ?_)
      refine lv_goto (tgt := 14) hx hb dX0_dropRanges_77 (by decide) ?_
      have hE : ∀ f : Int → Int, sa_up (xDrop (13 * st) fr k (to - fr) f) (13 * st + k) (xDrop (13 * st) fr k (to - fr) f (13 * st + k + (to - fr))) = xDrop (13 * st) fr (k + 1) (to - fr) f := fun f => xDrop_step (by omega) (by omega)
      rw [hE LO, hE HI] at hP hD
      exact ih (k + 1) (by omega) (by omega) (by omega) (by omega) H locs hP hD hS ls (lv_sub hl [1, 2, 3, 4, 5, 6, 0] rfl)
set_option maxHeartbeats 4000000 in
set_option maxRecDepth 100000 in
theorem metX0_dropRanges (l : Launch) (D : va_G) (h : Nat) (a : Nat → Nat) (cI : ClassId) (G : Int → Int32) (RP EN RN LO HI : Int → Int) (st : Int) (fr : Int) (to : Int) (sz : Nat) (hst : 0 ≤ st ∧ st ≤ 3) (hrn : 0 ≤ RN st ∧ RN st ≤ 12) (hfr : 0 ≤ fr ∧ fr ≤ to ∧ to ≤ RN st) : sa_MetV l yX0_dropRanges cX0_dropRanges 7 0 [.ref h, .int (sa_i st), .int (sa_i fr), .int (sa_i to)] D vwCl (xT cI) (wX h a cI G RP EN RN LO HI) (wX h a cI G RP EN (sa_up RN st (RN st - (to - fr))) (xDrop (13 * st) fr (RN st - (to - fr)) (to - fr) LO) (xDrop (13 * st) fr (RN st - (to - fr)) (to - fr) HI)) sz := by
  refine sa_metV (by decide) (Nat.le_of_ble_eq_true rfl) ?_
  intro p e s m below meth c A S hr hlk hP hK hD hS hA ls hl
  have hl : lv_has ls 7 [(0, .ref h), (1, .int (sa_i st)), (2, .int (sa_i fr)), (3, .int (sa_i to))] := hl
  have S : CallFix p m c cX0_dropRanges 7 s _ lw_all RX0 := S
  obtain ⟨hx, hb, -, -, -⟩ := id S
  refine sa_bipush hx hb dX0_dropRanges_0 (by decide +kernel) ?_
  refine lv_iload_n hx hb dX0_dropRanges_2 rfl (lv_at hl 1 rfl) ?_
  refine sa_mul hx hb dX0_dropRanges_3 ?_
  refine sa_name (fun base_4 e_base_4 => ?_)
  refine lv_istore (lv' := [(4, .int (sa_i base_4)), (0, .ref h), (1, .int (sa_i st)), (2, .int (sa_i fr)), (3, .int (sa_i to))]) hx hb dX0_dropRanges_4 hl (by decide) rfl (fun ls hl => ?_)
  refine lv_iload_n hx hb dX0_dropRanges_6 rfl (lv_at hl 4 rfl) ?_
  refine lv_iload_n hx hb dX0_dropRanges_7 rfl (lv_at hl 3 rfl) ?_
  refine sa_sub hx hb dX0_dropRanges_8 ?_
  refine sa_name (fun gone_9 e_gone_9 => ?_)
  refine lv_istore (lv' := [(5, .int (sa_i gone_9)), (4, .int (sa_i base_4)), (0, .ref h), (1, .int (sa_i st)), (2, .int (sa_i fr)), (3, .int (sa_i to))]) hx hb dX0_dropRanges_9 hl (by decide) rfl (fun ls hl => ?_)
  refine lv_iload_n hx hb dX0_dropRanges_11 rfl (lv_at hl 4 rfl) ?_
  refine lv_istore (lv' := [(6, .int (sa_i fr)), (5, .int (sa_i gone_9)), (4, .int (sa_i base_4)), (0, .ref h), (1, .int (sa_i st)), (2, .int (sa_i fr)), (3, .int (sa_i to))]) hx hb dX0_dropRanges_12 hl (by decide) rfl (fun ls hl => ?_)
  subst e_base_4
  subst e_gone_9
  exact metX0_dropRanges_L14 S hr hlk hK hA hst hrn hfr ((RN st).toNat + 1) fr (by omega) (by omega) (by omega) (by omega) _ _ (by rw [xDrop_0, xDrop_0]; exact hP) (by rw [xDrop_0, xDrop_0]; exact hD) hS ls (lv_sub hl [3, 4, 5, 6, 2, 1, 0] rfl)
theorem kX0_dropRanges {l : Launch} {D : va_G} {h : Nat} {a : Nat → Nat} {cI : ClassId} {G : Int → Int32} {RP EN RN LO HI : Int → Int} {p : Program} {e : Env} {R : Room} {s : State} {m : MethodId} {args : Array Value} {below : List Frame} {meth : Method} {c : Code} {H : Heap} {locs : List Loc} {cells slots : Nat} {Q : State → Prop} {cc : ByteArray} {pc nL : Nat} {ls : Array Slot} {rest : List Value} {st : Int} {fr : Int} {to : Int} {A : Nat → Prop} {H0 : Heap} (S : CallFix p m c cc nL s args lw_all RX0) (hK : va_K D vwCl (xT cI) s) (hP : va_P D vwCl (wX h a cI G RP EN RN LO HI) H) (hD : va_D A (wX h a cI G RP EN RN LO HI)) (hS : va_S A H0 H locs) (hA : ∀ q : Nat, H0.size ≤ q → A q) (hst : 0 ≤ st ∧ st ≤ 3) (hrn : 0 ≤ RN st ∧ RN st ≤ 12) (hfr : 0 ≤ fr ∧ fr ≤ to ∧ to ≤ RN st) (hsz : ls.size = nL) (hdg : decode cc pc = .ok (.invokevirtual 47, 3)) (kk : ∀ (H1 : Heap) (locs1 : List Loc), va_P D vwCl (wX h a cI G RP EN (sa_up RN st (RN st - (to - fr))) (xDrop (13 * st) fr (RN st - (to - fr)) (to - fr) LO) (xDrop (13 * st) fr (RN st - (to - fr)) (to - fr) HI)) H1 → va_D A (wX h a cI G RP EN (sa_up RN st (RN st - (to - fr))) (xDrop (13 * st) fr (RN st - (to - fr)) (to - fr) LO) (xDrop (13 * st) fr (RN st - (to - fr)) (to - fr) HI)) → va_S A H0 H1 locs1 → W p l e R s m args below meth c H1 locs1 cells slots Q (F0 m (pc + 3) ls rest)) (hR : 0 + 1 ≤ R.frames ∧ 8 + (7 + 11) + 31 * 0 ≤ R.locals := by decide) (hrest : (rest.map fun v => v.category).sum ≤ 8 := by exact Nat.le_of_ble_eq_true rfl) (hcells : cells ≤ R.cells ∧ slots ≤ R.slots := by decide) : W p l e R s m args below meth c H locs cells slots Q (F0 m pc ls (.int (sa_i to) :: .int (sa_i fr) :: .int (sa_i st) :: .ref h :: rest)) :=
  sa_callV (nA := 3) (wc := (wX h a cI G RP EN RN LO HI)) (wr := []) S (metX0_dropRanges l D h a cI G RP EN RN LO HI st fr to H.size hst hrn hfr) (lw_V q79 q81 qs6 q14 q82) (by decide +kernel) rfl hR hK hP hD hS hA [0, 1, 2, 3, 4, 5, 6] [] rfl rfl rfl rfl (by decide) 0 0 rfl rfl hsz rfl hrest hcells hdg kk
set_option maxHeartbeats 4000000 in
set_option maxRecDepth 100000 in
theorem metX0_openRange_L13 {l : Launch} {D : va_G} {h : Nat} {a : Nat → Nat} {cI : ClassId} {G : Int → Int32} {RP EN RN LO HI : Int → Int} {p : Program} {e : Env} {s : State} {m : MethodId} {below : List Frame} {meth : Method} {c : Code} {av : Array Value} {A : Nat → Prop} {st pl : Int} (S : CallFix p m c cX0_openRange 5 s av lw_all RX0) (hr : meth.sig.returnType = none) (hlk : meth.locks = false) (hK : va_K D vwCl (xT cI) s) (hA : ∀ q : Nat, s.heap.size ≤ q → A q) (hst : 0 ≤ st ∧ st ≤ 3) (hrn : 0 ≤ RN st ∧ RN st ≤ 12) (hpl : 0 ≤ pl ∧ pl ≤ RN st) :
    ∀ (n : Nat) (k : Int), pl ≤ k → k ≤ RN st → k - pl < (n : Int) → ∀ (H : Heap) (locs : List Loc), va_P D vwCl (wX h a cI G RP EN RN (xOpen (13 * st) k (RN st) LO) (xOpen (13 * st) k (RN st) HI)) H → va_D A (wX h a cI G RP EN RN (xOpen (13 * st) k (RN st) LO) (xOpen (13 * st) k (RN st) HI)) → va_S A s.heap H locs → ∀ ls : Array Slot, lv_has ls 5 [(0, .ref h), (1, .int (sa_i st)), (2, .int (sa_i pl)), (3, .int (sa_i (13 * st))), (4, .int (sa_i k))] → W p l e (sa_rm 0) s m av below meth c H locs 0 0 (sa_EV below D vwCl (xT cI) (wX h a cI G RP EN (sa_up RN st (RN st + 1)) (xOpen (13 * st) pl (RN st) LO) (xOpen (13 * st) pl (RN st) HI)) A av s) (F0 m 13 ls []) := by
  obtain ⟨hx, hb, -, -, -⟩ := id S
  intro n
  induction n with
  | zero => intro k h1 h2 h3; exact absurd h3 (by omega)
  | succ n ih =>
    intro k h1 h2 h3 H locs hP hD hS ls hl
    refine lv_iload hx hb dX0_openRange_13 (lv_at hl 4 rfl) ?_
    refine lv_iload_n hx hb dX0_openRange_15 rfl (lv_at hl 2 rfl) ?_
    refine sa_icmp_le (tgt := 65) hx hb dX0_openRange_16 (by decide) (fun c_16 => ?_) (fun c_16 => ?_)
    · have hk : k = pl := by omega
      rw [hk] at hP hD
      refine lv_aload_n hx hb dX0_openRange_65 rfl (lv_at hl 0 rfl) ?_
      refine x_g3 S hK hP dX0_openRange_66 ?_
      refine lv_iload_n hx hb dX0_openRange_69 rfl (lv_at hl 1 rfl) ?_
      refine lv_dup2_11 hx hb dX0_openRange_70 rfl rfl ?_
      refine x_l3 S hK hP dX0_openRange_71 ?_
      refine sa_const hx hb dX0_openRange_72 ?_
      refine sa_add hx hb dX0_openRange_73 ?_
      refine x_s3 S hK hP hD hS dX0_openRange_74 (fun H locs hP hD hS => ?_)
      exact sa_retV hx hb hr hlk hK hP hD hS dX0_openRange_75
    · refine lv_aload_n hx hb dX0_openRange_19 rfl (lv_at hl 0 rfl) ?_
      refine x_g4 S hK hP dX0_openRange_20 ?_
      refine lv_iload_n hx hb dX0_openRange_23 rfl (lv_at hl 3 rfl) ?_
      refine lv_iload hx hb dX0_openRange_24 (lv_at hl 4 rfl) ?_
      refine sa_add hx hb dX0_openRange_26 ?_
      refine lv_aload_n hx hb dX0_openRange_27 rfl (lv_at hl 0 rfl) ?_
      refine x_g4 S hK hP dX0_openRange_28 ?_
      refine lv_iload_n hx hb dX0_openRange_31 rfl (lv_at hl 3 rfl) ?_
      refine lv_iload hx hb dX0_openRange_32 (lv_at hl 4 rfl) ?_
      refine sa_add hx hb dX0_openRange_34 ?_
      refine sa_const hx hb dX0_openRange_35 ?_
      refine sa_sub hx hb dX0_openRange_36 ?_
      refine x_l4 S hK hP dX0_openRange_37 ?_
      refine x_s4 S hK hP hD hS dX0_openRange_38 (fun H locs hP hD hS => ?_)
      refine lv_aload_n hx hb dX0_openRange_39 rfl (lv_at hl 0 rfl) ?_
      refine x_g5 S hK hP dX0_openRange_40 ?_
      refine lv_iload_n hx hb dX0_openRange_43 rfl (lv_at hl 3 rfl) ?_
      refine lv_iload hx hb dX0_openRange_44 (lv_at hl 4 rfl) ?_
      refine sa_add hx hb dX0_openRange_46 ?_
      refine lv_aload_n hx hb dX0_openRange_47 rfl (lv_at hl 0 rfl) ?_
      refine x_g5 S hK hP dX0_openRange_48 ?_
      refine lv_iload_n hx hb dX0_openRange_51 rfl (lv_at hl 3 rfl) ?_
      refine lv_iload hx hb dX0_openRange_52 (lv_at hl 4 rfl) ?_
      refine sa_add hx hb dX0_openRange_54 ?_
      refine sa_const hx hb dX0_openRange_55 ?_
      refine sa_sub hx hb dX0_openRange_56 ?_
      refine x_l5 S hK hP dX0_openRange_57 ?_
      refine x_s5 S hK hP hD hS dX0_openRange_58 (fun H locs hP hD hS => ?_)
      refine sa_iinc (k := 4) (lv' := [(4, .int (sa_i (k + (-1)))), (0, .ref h), (1, .int (sa_i st)), (2, .int (sa_i pl)), (3, .int (sa_i (13 * st)))]) hx hb dX0_openRange_59 hl rfl (by decide) rfl (fun ls hl => ?_)
      refine lv_goto (tgt := 13) hx hb dX0_openRange_62 (by decide) ?_
      have hE : ∀ f : Int → Int, sa_up (xOpen (13 * st) k (RN st) f) (13 * st + k) (xOpen (13 * st) k (RN st) f (13 * st + k - 1)) = xOpen (13 * st) (k + (-1)) (RN st) f := fun f => (xOpen_step (by omega)).trans (by rw [show k - 1 = k + (-1) by omega])
      rw [hE LO, hE HI] at hP hD
      exact ih (k + (-1)) (by omega) (by omega) (by omega) H locs hP hD hS ls (lv_sub hl [1, 2, 3, 4, 0] rfl)
set_option maxHeartbeats 4000000 in
set_option maxRecDepth 100000 in
theorem metX0_openRange (l : Launch) (D : va_G) (h : Nat) (a : Nat → Nat) (cI : ClassId) (G : Int → Int32) (RP EN RN LO HI : Int → Int) (st : Int) (pl : Int) (sz : Nat) (hst : 0 ≤ st ∧ st ≤ 3) (hrn : 0 ≤ RN st ∧ RN st ≤ 12) (hpl : 0 ≤ pl ∧ pl ≤ RN st) : sa_MetV l yX0_openRange cX0_openRange 5 0 [.ref h, .int (sa_i st), .int (sa_i pl)] D vwCl (xT cI) (wX h a cI G RP EN RN LO HI) (wX h a cI G RP EN (sa_up RN st (RN st + 1)) (xOpen (13 * st) pl (RN st) LO) (xOpen (13 * st) pl (RN st) HI)) sz := by
  refine sa_metV (by decide) (Nat.le_of_ble_eq_true rfl) ?_
  intro p e s m below meth c A S hr hlk hP hK hD hS hA ls hl
  have hl : lv_has ls 5 [(0, .ref h), (1, .int (sa_i st)), (2, .int (sa_i pl))] := hl
  have S : CallFix p m c cX0_openRange 5 s _ lw_all RX0 := S
  obtain ⟨hx, hb, -, -, -⟩ := id S
  refine sa_bipush hx hb dX0_openRange_0 (by decide +kernel) ?_
  refine lv_iload_n hx hb dX0_openRange_2 rfl (lv_at hl 1 rfl) ?_
  refine sa_mul hx hb dX0_openRange_3 ?_
  refine sa_name (fun base_4 e_base_4 => ?_)
  refine lv_istore_n (lv' := [(3, .int (sa_i base_4)), (0, .ref h), (1, .int (sa_i st)), (2, .int (sa_i pl))]) hx hb dX0_openRange_4 rfl hl (by decide) rfl (fun ls hl => ?_)
  refine lv_aload_n hx hb dX0_openRange_5 rfl (lv_at hl 1 rfl) ?_
  refine x_g3 S hK hP dX0_openRange_6 ?_
  refine lv_iload_n hx hb dX0_openRange_9 rfl (lv_at hl 2 rfl) ?_
  refine x_l3 S hK hP dX0_openRange_10 ?_
  refine sa_name (fun k_11 e_k_11 => ?_)
  refine lv_istore (lv' := [(4, .int (sa_i k_11)), (3, .int (sa_i base_4)), (0, .ref h), (1, .int (sa_i st)), (2, .int (sa_i pl))]) hx hb dX0_openRange_11 hl (by decide) rfl (fun ls hl => ?_)
  subst e_base_4
  subst e_k_11
  exact metX0_openRange_L13 S hr hlk hK hA hst hrn hpl ((RN st - pl).toNat + 1) (RN st) (by omega) (by omega) (by omega) _ _ (by rw [xOpen_0, xOpen_0]; exact hP) (by rw [xOpen_0, xOpen_0]; exact hD) hS ls (lv_sub hl [2, 3, 4, 1, 0] rfl)
theorem kX0_openRange {l : Launch} {D : va_G} {h : Nat} {a : Nat → Nat} {cI : ClassId} {G : Int → Int32} {RP EN RN LO HI : Int → Int} {p : Program} {e : Env} {R : Room} {s : State} {m : MethodId} {args : Array Value} {below : List Frame} {meth : Method} {c : Code} {H : Heap} {locs : List Loc} {cells slots : Nat} {Q : State → Prop} {cc : ByteArray} {pc nL : Nat} {ls : Array Slot} {rest : List Value} {st : Int} {pl : Int} {A : Nat → Prop} {H0 : Heap} (S : CallFix p m c cc nL s args lw_all RX0) (hK : va_K D vwCl (xT cI) s) (hP : va_P D vwCl (wX h a cI G RP EN RN LO HI) H) (hD : va_D A (wX h a cI G RP EN RN LO HI)) (hS : va_S A H0 H locs) (hA : ∀ q : Nat, H0.size ≤ q → A q) (hst : 0 ≤ st ∧ st ≤ 3) (hrn : 0 ≤ RN st ∧ RN st ≤ 12) (hpl : 0 ≤ pl ∧ pl ≤ RN st) (hsz : ls.size = nL) (hdg : decode cc pc = .ok (.invokevirtual 63, 3)) (kk : ∀ (H1 : Heap) (locs1 : List Loc), va_P D vwCl (wX h a cI G RP EN (sa_up RN st (RN st + 1)) (xOpen (13 * st) pl (RN st) LO) (xOpen (13 * st) pl (RN st) HI)) H1 → va_D A (wX h a cI G RP EN (sa_up RN st (RN st + 1)) (xOpen (13 * st) pl (RN st) LO) (xOpen (13 * st) pl (RN st) HI)) → va_S A H0 H1 locs1 → W p l e R s m args below meth c H1 locs1 cells slots Q (F0 m (pc + 3) ls rest)) (hR : 0 + 1 ≤ R.frames ∧ 8 + (5 + 11) + 31 * 0 ≤ R.locals := by decide) (hrest : (rest.map fun v => v.category).sum ≤ 8 := by exact Nat.le_of_ble_eq_true rfl) (hcells : cells ≤ R.cells ∧ slots ≤ R.slots := by decide) : W p l e R s m args below meth c H locs cells slots Q (F0 m pc ls (.int (sa_i pl) :: .int (sa_i st) :: .ref h :: rest)) :=
  sa_callV (nA := 2) (wc := (wX h a cI G RP EN RN LO HI)) (wr := []) S (metX0_openRange l D h a cI G RP EN RN LO HI st pl H.size hst hrn hpl) (lw_V q75 q77 qs5 q14 q78) (by decide +kernel) rfl hR hK hP hD hS hA [0, 1, 2, 3, 4, 5, 6] [] rfl rfl rfl rfl (by decide) 0 0 rfl rfl hsz rfl hrest hcells hdg kk
end
section
/-! ===== StreamAssembler: addRange (printed by gen/x4.py) ===== -/
set_option maxHeartbeats 4000000 in
set_option maxRecDepth 100000 in
theorem metX0_addRange_L72 {l : Launch} {D : va_G} {h : Nat} {a : Nat → Nat} {cI : ClassId} {G : Int → Int32} {RP EN RN LO HI : Int → Int} {p : Program} {e : Env} {s : State} {m : MethodId} {below : List Frame} {meth : Method} {c : Code} {av : Array Value} {A : Nat → Prop} {st fr to f : Int} (S : CallFix p m c cX0_addRange 11 s av lw_all RX0) (hr : meth.sig.returnType = none) (hlk : meth.locks = false) (hK : va_K D vwCl (xT cI) s) (hA : ∀ q : Nat, s.heap.size ≤ q → A q) (hst : 0 ≤ st ∧ st ≤ 3) (hok : xOK RP EN RN LO HI) (hfr : 0 ≤ fr ∧ fr < to ∧ to ≤ 240) (hf : f = xF RN HI st fr) (hf2 : 0 ≤ f ∧ f ≤ RN st) {locs : List Loc} {H : Heap} (hP : va_P D vwCl (wX h a cI G RP EN RN LO HI) H) (hD : va_D A (wX h a cI G RP EN RN LO HI)) (hS : va_S A s.heap H locs) :
    ∀ (n : Nat) (k la nl nh : Int), f ≤ k → k ≤ RN st → RN st - k < (n : Int) → f ≤ la ∧ la ≤ k → 0 ≤ nl ∧ nl ≤ 240 → 0 ≤ nh ∧ nh ≤ 240 → xScn LO HI (13 * st) to (RN st - k).toNat k (la, nl, nh) = xQ RN LO HI st fr to → ∀ ls : Array Slot, lv_has ls 11 [(0, .ref h), (1, .int (sa_i st)), (2, .int (sa_i fr)), (3, .int (sa_i to)), (4, .int (sa_i (13 * st))), (5, .int (sa_i (RN st))), (6, .int (sa_i f)), (7, .int (sa_i la)), (8, .int (sa_i nl)), (9, .int (sa_i nh)), (10, .int (sa_i k))] → W p l e (sa_rm 1) s m av below meth c H locs 0 0 (sa_EV below D vwCl (xT cI) (wX h a cI G RP EN (xAddRN RN LO HI st fr to) (xAddLO RN LO HI st fr to) (xAddHI RN LO HI st fr to)) A av s) (F0 m 72 ls []) := by
  obtain ⟨hx, hb, -, -, -⟩ := id S
  have b1 := hok st
  intro n
  induction n with
  | zero => intro k la nl nh h1 h2 h3; exact absurd h3 (by omega)
  | succ n ih =>
    intro k la nl nh h1 h2 h3 h4 h5 h6 hF ls hl
    have b2 := hok (13 * st + k)
    refine lv_iload hx hb dX0_addRange_72 (lv_at hl 10 rfl) ?_
    refine lv_iload hx hb dX0_addRange_74 (lv_at hl 5 rfl) ?_
    refine sa_icmp_ge (tgt := 169) hx hb dX0_addRange_76 (by decide) (fun c_76 => ?_) (fun c_76 => ?_)
    · refine lv_iload hx hb dX0_addRange_169 (lv_at hl 6 rfl) ?_
      refine lv_iload hx hb dX0_addRange_171 (lv_at hl 7 rfl) ?_
      refine sa_icmp_ne (tgt := 186) hx hb dX0_addRange_173 (by decide) (fun c_173 => ?_) (fun c_173 => ?_)
      · refine lv_aload_n hx hb dX0_addRange_186 rfl (lv_at hl 0 rfl) ?_
        refine lv_iload_n hx hb dX0_addRange_187 rfl (lv_at hl 1 rfl) ?_
        refine lv_iload hx hb dX0_addRange_188 (lv_at hl 6 rfl) ?_
        refine sa_const hx hb dX0_addRange_190 ?_
        refine sa_add hx hb dX0_addRange_191 ?_
        refine lv_iload hx hb dX0_addRange_192 (lv_at hl 7 rfl) ?_
        refine kX0_dropRanges S hK hP hD hS hA hst (by omega) (by omega) hl.1 dX0_addRange_194 (fun H locs hP hD hS => ?_)
        refine lv_aload_n hx hb dX0_addRange_197 rfl (lv_at hl 0 rfl) ?_
        refine x_g4 S hK hP dX0_addRange_198 ?_
        refine lv_iload hx hb dX0_addRange_201 (lv_at hl 4 rfl) ?_
        refine lv_iload hx hb dX0_addRange_203 (lv_at hl 6 rfl) ?_
        refine sa_add hx hb dX0_addRange_205 ?_
        refine lv_iload hx hb dX0_addRange_206 (lv_at hl 8 rfl) ?_
        refine x_s4 S hK hP hD hS dX0_addRange_208 (fun H locs hP hD hS => ?_)
        refine lv_aload_n hx hb dX0_addRange_209 rfl (lv_at hl 0 rfl) ?_
        refine x_g5 S hK hP dX0_addRange_210 ?_
        refine lv_iload hx hb dX0_addRange_213 (lv_at hl 4 rfl) ?_
        refine lv_iload hx hb dX0_addRange_215 (lv_at hl 6 rfl) ?_
        refine sa_add hx hb dX0_addRange_217 ?_
        refine lv_iload hx hb dX0_addRange_218 (lv_at hl 9 rfl) ?_
        refine x_s5 S hK hP hD hS dX0_addRange_220 (fun H locs hP hD hS => ?_)
        have hq : (la, nl, nh) = xQ RN LO HI st fr to := (xScn_end (show RN st ≤ k by omega)).symm.trans hF
        have eR : xAddRN RN LO HI st fr to = sa_up RN st (RN st - (la - (f + 1))) := by unfold xAddRN; rw [← hf, ← hq, if_neg (by omega)]
        have eL : xAddLO RN LO HI st fr to = sa_up (xDrop (13 * st) (f + 1) (RN st - (la - (f + 1))) (la - (f + 1)) LO) ((13 * st) + f) nl := by unfold xAddLO; rw [← hf, ← hq, if_neg (by omega)]
        have eH : xAddHI RN LO HI st fr to = sa_up (xDrop (13 * st) (f + 1) (RN st - (la - (f + 1))) (la - (f + 1)) HI) ((13 * st) + f) nh := by unfold xAddHI; rw [← hf, ← hq, if_neg (by omega)]
        exact sa_retV hx hb hr hlk hK (by rw [eR, eL, eH]; exact hP) (by rw [eR, eL, eH]; exact hD) hS dX0_addRange_221
      · refine lv_aload_n hx hb dX0_addRange_176 rfl (lv_at hl 0 rfl) ?_
        refine lv_iload_n hx hb dX0_addRange_177 rfl (lv_at hl 1 rfl) ?_
        refine lv_iload hx hb dX0_addRange_178 (lv_at hl 6 rfl) ?_
        refine kX0_openRange S hK hP hD hS hA hst (by omega) (by omega) hl.1 dX0_addRange_180 (fun H locs hP hD hS => ?_)
        refine lv_goto (tgt := 197) hx hb dX0_addRange_183 (by decide) ?_
        refine lv_aload_n hx hb dX0_addRange_197 rfl (lv_at hl 0 rfl) ?_
        refine x_g4 S hK hP dX0_addRange_198 ?_
        refine lv_iload hx hb dX0_addRange_201 (lv_at hl 4 rfl) ?_
        refine lv_iload hx hb dX0_addRange_203 (lv_at hl 6 rfl) ?_
        refine sa_add hx hb dX0_addRange_205 ?_
        refine lv_iload hx hb dX0_addRange_206 (lv_at hl 8 rfl) ?_
        refine x_s4 S hK hP hD hS dX0_addRange_208 (fun H locs hP hD hS => ?_)
        refine lv_aload_n hx hb dX0_addRange_209 rfl (lv_at hl 0 rfl) ?_
        refine x_g5 S hK hP dX0_addRange_210 ?_
        refine lv_iload hx hb dX0_addRange_213 (lv_at hl 4 rfl) ?_
        refine lv_iload hx hb dX0_addRange_215 (lv_at hl 6 rfl) ?_
        refine sa_add hx hb dX0_addRange_217 ?_
        refine lv_iload hx hb dX0_addRange_218 (lv_at hl 9 rfl) ?_
        refine x_s5 S hK hP hD hS dX0_addRange_220 (fun H locs hP hD hS => ?_)
        have hq : (la, nl, nh) = xQ RN LO HI st fr to := (xScn_end (show RN st ≤ k by omega)).symm.trans hF
        have eR : xAddRN RN LO HI st fr to = sa_up RN st (RN st + 1) := by unfold xAddRN; rw [← hf, ← hq, if_pos (by omega)]
        have eL : xAddLO RN LO HI st fr to = sa_up (xOpen (13 * st) f (RN st) LO) ((13 * st) + f) nl := by unfold xAddLO; rw [← hf, ← hq, if_pos (by omega)]
        have eH : xAddHI RN LO HI st fr to = sa_up (xOpen (13 * st) f (RN st) HI) ((13 * st) + f) nh := by unfold xAddHI; rw [← hf, ← hq, if_pos (by omega)]
        exact sa_retV hx hb hr hlk hK (by rw [eR, eL, eH]; exact hP) (by rw [eR, eL, eH]; exact hD) hS dX0_addRange_221
    · have hF2 := xScn_step (LO := LO) (HI := HI) (base := 13 * st) (to := to) (q := (la, nl, nh)) (show k < RN st by omega)
      refine lv_aload_n hx hb dX0_addRange_79 rfl (lv_at hl 0 rfl) ?_
      refine x_g4 S hK hP dX0_addRange_80 ?_
      refine lv_iload hx hb dX0_addRange_83 (lv_at hl 4 rfl) ?_
      refine lv_iload hx hb dX0_addRange_85 (lv_at hl 10 rfl) ?_
      refine sa_add hx hb dX0_addRange_87 ?_
      refine x_l4 S hK hP dX0_addRange_88 ?_
      refine lv_iload_n hx hb dX0_addRange_89 rfl (lv_at hl 3 rfl) ?_
      refine sa_icmp_gt (tgt := 163) hx hb dX0_addRange_90 (by decide) (fun c_90 => ?_) (fun c_90 => ?_)
      · refine sa_iinc (k := 10) (lv' := [(10, .int (sa_i (k + 1))), (0, .ref h), (1, .int (sa_i st)), (2, .int (sa_i fr)), (3, .int (sa_i to)), (4, .int (sa_i (13 * st))), (5, .int (sa_i (RN st))), (6, .int (sa_i f)), (7, .int (sa_i la)), (8, .int (sa_i nl)), (9, .int (sa_i nh))]) hx hb dX0_addRange_163 hl rfl (by decide) rfl (fun ls hl => ?_)
        refine lv_goto (tgt := 72) hx hb dX0_addRange_166 (by decide) ?_
        dsimp only at hF2
        rw [if_neg (by omega)] at hF2
        exact ih (k + 1) la nl nh (by omega) (by omega) (by omega) (by omega) (by omega) (by omega) (hF2.symm.trans hF) ls (lv_sub hl [1, 2, 3, 4, 5, 6, 7, 8, 9, 10, 0] rfl)
      · refine lv_aload_n hx hb dX0_addRange_93 rfl (lv_at hl 0 rfl) ?_
        refine x_g4 S hK hP dX0_addRange_94 ?_
        refine lv_iload hx hb dX0_addRange_97 (lv_at hl 4 rfl) ?_
        refine lv_iload hx hb dX0_addRange_99 (lv_at hl 10 rfl) ?_
        refine sa_add hx hb dX0_addRange_101 ?_
        refine x_l4 S hK hP dX0_addRange_102 ?_
        refine lv_iload hx hb dX0_addRange_103 (lv_at hl 8 rfl) ?_
        refine sa_icmp_ge (tgt := 121) hx hb dX0_addRange_105 (by decide) (fun c_105 => ?_) (fun c_105 => ?_)
        · refine lv_iload hx hb dX0_addRange_121 (lv_at hl 8 rfl) ?_
          refine lv_istore (lv' := [(8, .int (sa_i nl)), (0, .ref h), (1, .int (sa_i st)), (2, .int (sa_i fr)), (3, .int (sa_i to)), (4, .int (sa_i (13 * st))), (5, .int (sa_i (RN st))), (6, .int (sa_i f)), (7, .int (sa_i la)), (9, .int (sa_i nh)), (10, .int (sa_i k))]) hx hb dX0_addRange_123 hl (by decide) rfl (fun ls hl => ?_)
          refine lv_aload_n hx hb dX0_addRange_125 rfl (lv_at hl 1 rfl) ?_
          refine x_g5 S hK hP dX0_addRange_126 ?_
          refine lv_iload hx hb dX0_addRange_129 (lv_at hl 5 rfl) ?_
          refine lv_iload hx hb dX0_addRange_131 (lv_at hl 10 rfl) ?_
          refine sa_add hx hb dX0_addRange_133 ?_
          refine x_l5 S hK hP dX0_addRange_134 ?_
          refine lv_iload hx hb dX0_addRange_135 (lv_at hl 9 rfl) ?_
          refine sa_icmp_le (tgt := 153) hx hb dX0_addRange_137 (by decide) (fun c_137 => ?_) (fun c_137 => ?_)
          · refine lv_iload hx hb dX0_addRange_153 (lv_at hl 9 rfl) ?_
            refine lv_istore (lv' := [(9, .int (sa_i nh)), (8, .int (sa_i nl)), (0, .ref h), (1, .int (sa_i st)), (2, .int (sa_i fr)), (3, .int (sa_i to)), (4, .int (sa_i (13 * st))), (5, .int (sa_i (RN st))), (6, .int (sa_i f)), (7, .int (sa_i la)), (10, .int (sa_i k))]) hx hb dX0_addRange_155 hl (by decide) rfl (fun ls hl => ?_)
            refine lv_iload hx hb dX0_addRange_157 (lv_at hl 10 rfl) ?_
            refine sa_const hx hb dX0_addRange_159 ?_
            refine sa_add hx hb dX0_addRange_160 ?_
            refine sa_name (fun la_161 e_la_161 => ?_)
            refine lv_istore (lv' := [(7, .int (sa_i la_161)), (9, .int (sa_i nh)), (8, .int (sa_i nl)), (0, .ref h), (1, .int (sa_i st)), (2, .int (sa_i fr)), (3, .int (sa_i to)), (4, .int (sa_i (13 * st))), (5, .int (sa_i (RN st))), (6, .int (sa_i f)), (10, .int (sa_i k))]) hx hb dX0_addRange_161 hl (by decide) rfl (fun ls hl => ?_)
            refine sa_iinc (k := 10) (lv' := [(10, .int (sa_i (k + 1))), (7, .int (sa_i la_161)), (9, .int (sa_i nh)), (8, .int (sa_i nl)), (0, .ref h), (1, .int (sa_i st)), (2, .int (sa_i fr)), (3, .int (sa_i to)), (4, .int (sa_i (13 * st))), (5, .int (sa_i (RN st))), (6, .int (sa_i f))]) hx hb dX0_addRange_163 hl rfl (by decide) rfl (fun ls hl => ?_)
            refine lv_goto (tgt := 72) hx hb dX0_addRange_166 (by decide) ?_
            dsimp only at hF2
            rw [if_pos (by omega), if_neg (by omega), if_neg (by omega)] at hF2
            subst e_la_161
            exact ih (k + 1) (k + 1) nl nh (by omega) (by omega) (by omega) (by omega) (by omega) (by omega) (hF2.symm.trans hF) ls (lv_sub hl [4, 5, 6, 7, 8, 9, 10, 1, 3, 2, 0] rfl)
          · refine lv_aload_n hx hb dX0_addRange_140 rfl (lv_at hl 1 rfl) ?_
            refine x_g5 S hK hP dX0_addRange_141 ?_
            refine lv_iload hx hb dX0_addRange_144 (lv_at hl 5 rfl) ?_
            refine lv_iload hx hb dX0_addRange_146 (lv_at hl 10 rfl) ?_
            refine sa_add hx hb dX0_addRange_148 ?_
            refine x_l5 S hK hP dX0_addRange_149 ?_
            refine lv_goto (tgt := 155) hx hb dX0_addRange_150 (by decide) ?_
            refine sa_name (fun nh_155 e_nh_155 => ?_)
            refine lv_istore (lv' := [(9, .int (sa_i nh_155)), (8, .int (sa_i nl)), (0, .ref h), (1, .int (sa_i st)), (2, .int (sa_i fr)), (3, .int (sa_i to)), (4, .int (sa_i (13 * st))), (5, .int (sa_i (RN st))), (6, .int (sa_i f)), (7, .int (sa_i la)), (10, .int (sa_i k))]) hx hb dX0_addRange_155 hl (by decide) rfl (fun ls hl => ?_)
            refine lv_iload hx hb dX0_addRange_157 (lv_at hl 10 rfl) ?_
            refine sa_const hx hb dX0_addRange_159 ?_
            refine sa_add hx hb dX0_addRange_160 ?_
            refine sa_name (fun la_161 e_la_161 => ?_)
            refine lv_istore (lv' := [(7, .int (sa_i la_161)), (9, .int (sa_i nh_155)), (8, .int (sa_i nl)), (0, .ref h), (1, .int (sa_i st)), (2, .int (sa_i fr)), (3, .int (sa_i to)), (4, .int (sa_i (13 * st))), (5, .int (sa_i (RN st))), (6, .int (sa_i f)), (10, .int (sa_i k))]) hx hb dX0_addRange_161 hl (by decide) rfl (fun ls hl => ?_)
            refine sa_iinc (k := 10) (lv' := [(10, .int (sa_i (k + 1))), (7, .int (sa_i la_161)), (9, .int (sa_i nh_155)), (8, .int (sa_i nl)), (0, .ref h), (1, .int (sa_i st)), (2, .int (sa_i fr)), (3, .int (sa_i to)), (4, .int (sa_i (13 * st))), (5, .int (sa_i (RN st))), (6, .int (sa_i f))]) hx hb dX0_addRange_163 hl rfl (by decide) rfl (fun ls hl => ?_)
            refine lv_goto (tgt := 72) hx hb dX0_addRange_166 (by decide) ?_
            dsimp only at hF2
            rw [if_pos (by omega), if_neg (by omega), if_pos (by omega)] at hF2
            subst e_la_161
            subst e_nh_155
            exact ih (k + 1) (k + 1) nl (HI (13 * st + k)) (by omega) (by omega) (by omega) (by omega) (by omega) (by omega) (hF2.symm.trans hF) ls (lv_sub hl [4, 5, 6, 7, 8, 9, 10, 1, 3, 2, 0] rfl)
        · refine lv_aload_n hx hb dX0_addRange_108 rfl (lv_at hl 0 rfl) ?_
          refine x_g4 S hK hP dX0_addRange_109 ?_
          refine lv_iload hx hb dX0_addRange_112 (lv_at hl 4 rfl) ?_
          refine lv_iload hx hb dX0_addRange_114 (lv_at hl 10 rfl) ?_
          refine sa_add hx hb dX0_addRange_116 ?_
          refine x_l4 S hK hP dX0_addRange_117 ?_
          refine lv_goto (tgt := 123) hx hb dX0_addRange_118 (by decide) ?_
          refine sa_name (fun nl_123 e_nl_123 => ?_)
          refine lv_istore (lv' := [(8, .int (sa_i nl_123)), (0, .ref h), (1, .int (sa_i st)), (2, .int (sa_i fr)), (3, .int (sa_i to)), (4, .int (sa_i (13 * st))), (5, .int (sa_i (RN st))), (6, .int (sa_i f)), (7, .int (sa_i la)), (9, .int (sa_i nh)), (10, .int (sa_i k))]) hx hb dX0_addRange_123 hl (by decide) rfl (fun ls hl => ?_)
          refine lv_aload_n hx hb dX0_addRange_125 rfl (lv_at hl 1 rfl) ?_
          refine x_g5 S hK hP dX0_addRange_126 ?_
          refine lv_iload hx hb dX0_addRange_129 (lv_at hl 5 rfl) ?_
          refine lv_iload hx hb dX0_addRange_131 (lv_at hl 10 rfl) ?_
          refine sa_add hx hb dX0_addRange_133 ?_
          refine x_l5 S hK hP dX0_addRange_134 ?_
          refine lv_iload hx hb dX0_addRange_135 (lv_at hl 9 rfl) ?_
          refine sa_icmp_le (tgt := 153) hx hb dX0_addRange_137 (by decide) (fun c_137 => ?_) (fun c_137 => ?_)
          · refine lv_iload hx hb dX0_addRange_153 (lv_at hl 9 rfl) ?_
            refine lv_istore (lv' := [(9, .int (sa_i nh)), (8, .int (sa_i nl_123)), (0, .ref h), (1, .int (sa_i st)), (2, .int (sa_i fr)), (3, .int (sa_i to)), (4, .int (sa_i (13 * st))), (5, .int (sa_i (RN st))), (6, .int (sa_i f)), (7, .int (sa_i la)), (10, .int (sa_i k))]) hx hb dX0_addRange_155 hl (by decide) rfl (fun ls hl => ?_)
            refine lv_iload hx hb dX0_addRange_157 (lv_at hl 10 rfl) ?_
            refine sa_const hx hb dX0_addRange_159 ?_
            refine sa_add hx hb dX0_addRange_160 ?_
            refine sa_name (fun la_161 e_la_161 => ?_)
            refine lv_istore (lv' := [(7, .int (sa_i la_161)), (9, .int (sa_i nh)), (8, .int (sa_i nl_123)), (0, .ref h), (1, .int (sa_i st)), (2, .int (sa_i fr)), (3, .int (sa_i to)), (4, .int (sa_i (13 * st))), (5, .int (sa_i (RN st))), (6, .int (sa_i f)), (10, .int (sa_i k))]) hx hb dX0_addRange_161 hl (by decide) rfl (fun ls hl => ?_)
            refine sa_iinc (k := 10) (lv' := [(10, .int (sa_i (k + 1))), (7, .int (sa_i la_161)), (9, .int (sa_i nh)), (8, .int (sa_i nl_123)), (0, .ref h), (1, .int (sa_i st)), (2, .int (sa_i fr)), (3, .int (sa_i to)), (4, .int (sa_i (13 * st))), (5, .int (sa_i (RN st))), (6, .int (sa_i f))]) hx hb dX0_addRange_163 hl rfl (by decide) rfl (fun ls hl => ?_)
            refine lv_goto (tgt := 72) hx hb dX0_addRange_166 (by decide) ?_
            dsimp only at hF2
            rw [if_pos (by omega), if_pos (by omega), if_neg (by omega)] at hF2
            subst e_la_161
            subst e_nl_123
            exact ih (k + 1) (k + 1) (LO (13 * st + k)) nh (by omega) (by omega) (by omega) (by omega) (by omega) (by omega) (hF2.symm.trans hF) ls (lv_sub hl [4, 5, 6, 7, 8, 9, 10, 1, 3, 2, 0] rfl)
          · refine lv_aload_n hx hb dX0_addRange_140 rfl (lv_at hl 1 rfl) ?_
            refine x_g5 S hK hP dX0_addRange_141 ?_
            refine lv_iload hx hb dX0_addRange_144 (lv_at hl 5 rfl) ?_
            refine lv_iload hx hb dX0_addRange_146 (lv_at hl 10 rfl) ?_
            refine sa_add hx hb dX0_addRange_148 ?_
            refine x_l5 S hK hP dX0_addRange_149 ?_
            refine lv_goto (tgt := 155) hx hb dX0_addRange_150 (by decide) ?_
            refine sa_name (fun nh_155 e_nh_155 => ?_)
            refine lv_istore (lv' := [(9, .int (sa_i nh_155)), (8, .int (sa_i nl_123)), (0, .ref h), (1, .int (sa_i st)), (2, .int (sa_i fr)), (3, .int (sa_i to)), (4, .int (sa_i (13 * st))), (5, .int (sa_i (RN st))), (6, .int (sa_i f)), (7, .int (sa_i la)), (10, .int (sa_i k))]) hx hb dX0_addRange_155 hl (by decide) rfl (fun ls hl => ?_)
            refine lv_iload hx hb dX0_addRange_157 (lv_at hl 10 rfl) ?_
            refine sa_const hx hb dX0_addRange_159 ?_
            refine sa_add hx hb dX0_addRange_160 ?_
            refine sa_name (fun la_161 e_la_161 => ?_)
            refine lv_istore (lv' := [(7, .int (sa_i la_161)), (9, .int (sa_i nh_155)), (8, .int (sa_i nl_123)), (0, .ref h), (1, .int (sa_i st)), (2, .int (sa_i fr)), (3, .int (sa_i to)), (4, .int (sa_i (13 * st))), (5, .int (sa_i (RN st))), (6, .int (sa_i f)), (10, .int (sa_i k))]) hx hb dX0_addRange_161 hl (by decide) rfl (fun ls hl => ?_)
            refine sa_iinc (k := 10) (lv' := [(10, .int (sa_i (k + 1))), (7, .int (sa_i la_161)), (9, .int (sa_i nh_155)), (8, .int (sa_i nl_123)), (0, .ref h), (1, .int (sa_i st)), (2, .int (sa_i fr)), (3, .int (sa_i to)), (4, .int (sa_i (13 * st))), (5, .int (sa_i (RN st))), (6, .int (sa_i f))]) hx hb dX0_addRange_163 hl rfl (by decide) rfl (fun ls hl => ?_)
            refine lv_goto (tgt := 72) hx hb dX0_addRange_166 (by decide) ?_
            dsimp only at hF2
            rw [if_pos (by omega), if_pos (by omega), if_pos (by omega)] at hF2
            subst e_la_161
            subst e_nl_123
            subst e_nh_155
            exact ih (k + 1) (k + 1) (LO (13 * st + k)) (HI (13 * st + k)) (by omega) (by omega) (by omega) (by omega) (by omega) (by omega) (hF2.symm.trans hF) ls (lv_sub hl [4, 5, 6, 7, 8, 9, 10, 1, 3, 2, 0] rfl)
set_option maxHeartbeats 4000000 in
set_option maxRecDepth 100000 in
theorem metX0_addRange_L20 {l : Launch} {D : va_G} {h : Nat} {a : Nat → Nat} {cI : ClassId} {G : Int → Int32} {RP EN RN LO HI : Int → Int} {p : Program} {e : Env} {s : State} {m : MethodId} {below : List Frame} {meth : Method} {c : Code} {av : Array Value} {A : Nat → Prop} {st fr to : Int} (S : CallFix p m c cX0_addRange 11 s av lw_all RX0) (hr : meth.sig.returnType = none) (hlk : meth.locks = false) (hK : va_K D vwCl (xT cI) s) (hA : ∀ q : Nat, s.heap.size ≤ q → A q) (hst : 0 ≤ st ∧ st ≤ 3) (hok : xOK RP EN RN LO HI) (hfr : 0 ≤ fr ∧ fr < to ∧ to ≤ 240) {locs : List Loc} {H : Heap} (hP : va_P D vwCl (wX h a cI G RP EN RN LO HI) H) (hD : va_D A (wX h a cI G RP EN RN LO HI)) (hS : va_S A s.heap H locs) :
    ∀ (n : Nat) (k f : Int), 0 ≤ k → k ≤ RN st → RN st - k < (n : Int) → 0 ≤ f ∧ f ≤ k → xFst HI (13 * st) fr (RN st - k).toNat k f = xF RN HI st fr → ∀ ls : Array Slot, lv_has ls 11 [(0, .ref h), (1, .int (sa_i st)), (2, .int (sa_i fr)), (3, .int (sa_i to)), (4, .int (sa_i (13 * st))), (5, .int (sa_i (RN st))), (6, .int (sa_i f)), (7, .int (sa_i k))] → W p l e (sa_rm 1) s m av below meth c H locs 0 0 (sa_EV below D vwCl (xT cI) (wX h a cI G RP EN (xAddRN RN LO HI st fr to) (xAddLO RN LO HI st fr to) (xAddHI RN LO HI st fr to)) A av s) (F0 m 20 ls []) := by
  obtain ⟨hx, hb, -, -, -⟩ := id S
  have b1 := hok st
  intro n
  induction n with
  | zero => intro k f h1 h2 h3; exact absurd h3 (by omega)
  | succ n ih =>
    intro k f h1 h2 h3 h4 hF ls hl
    have b2 := hok (13 * st + k)
    refine lv_iload hx hb dX0_addRange_20 (lv_at hl 7 rfl) ?_
    refine lv_iload hx hb dX0_addRange_22 (lv_at hl 5 rfl) ?_
    refine sa_icmp_ge (tgt := 58) hx hb dX0_addRange_24 (by decide) (fun c_24 => ?_) (fun c_24 => ?_)
    · refine lv_iload hx hb dX0_addRange_58 (lv_at hl 6 rfl) ?_
      refine lv_istore (lv' := [(7, .int (sa_i f)), (0, .ref h), (1, .int (sa_i st)), (2, .int (sa_i fr)), (3, .int (sa_i to)), (4, .int (sa_i (13 * st))), (5, .int (sa_i (RN st))), (6, .int (sa_i f))]) hx hb dX0_addRange_60 hl (by decide) rfl (fun ls hl => ?_)
      refine lv_iload_n hx hb dX0_addRange_62 rfl (lv_at hl 3 rfl) ?_
      refine lv_istore (lv' := [(8, .int (sa_i fr)), (7, .int (sa_i f)), (0, .ref h), (1, .int (sa_i st)), (2, .int (sa_i fr)), (3, .int (sa_i to)), (4, .int (sa_i (13 * st))), (5, .int (sa_i (RN st))), (6, .int (sa_i f))]) hx hb dX0_addRange_63 hl (by decide) rfl (fun ls hl => ?_)
      refine lv_iload_n hx hb dX0_addRange_65 rfl (lv_at hl 5 rfl) ?_
      refine lv_istore (lv' := [(9, .int (sa_i to)), (8, .int (sa_i fr)), (7, .int (sa_i f)), (0, .ref h), (1, .int (sa_i st)), (2, .int (sa_i fr)), (3, .int (sa_i to)), (4, .int (sa_i (13 * st))), (5, .int (sa_i (RN st))), (6, .int (sa_i f))]) hx hb dX0_addRange_66 hl (by decide) rfl (fun ls hl => ?_)
      refine lv_iload hx hb dX0_addRange_68 (lv_at hl 9 rfl) ?_
      refine lv_istore (lv' := [(10, .int (sa_i f)), (9, .int (sa_i to)), (8, .int (sa_i fr)), (7, .int (sa_i f)), (0, .ref h), (1, .int (sa_i st)), (2, .int (sa_i fr)), (3, .int (sa_i to)), (4, .int (sa_i (13 * st))), (5, .int (sa_i (RN st))), (6, .int (sa_i f))]) hx hb dX0_addRange_70 hl (by decide) rfl (fun ls hl => ?_)
      have hf : f = xF RN HI st fr := (xFst_end (show RN st ≤ k by omega)).symm.trans hF
      exact metX0_addRange_L72 S hr hlk hK hA hst hok hfr hf (by omega) hP hD hS ((RN st).toNat + 1) f f fr to (by omega) (by omega) (by omega) (by omega) (by omega) (by omega) (by rw [hf]; rfl) ls (lv_sub hl [4, 5, 6, 7, 8, 9, 10, 3, 2, 1, 0] rfl)
    · have hF2 := xFst_step (HI := HI) (base := 13 * st) (fr := fr) (f := f) (show k < RN st by omega)
      refine lv_aload_n hx hb dX0_addRange_27 rfl (lv_at hl 0 rfl) ?_
      refine x_g5 S hK hP dX0_addRange_28 ?_
      refine lv_iload hx hb dX0_addRange_31 (lv_at hl 4 rfl) ?_
      refine lv_iload hx hb dX0_addRange_33 (lv_at hl 7 rfl) ?_
      refine sa_add hx hb dX0_addRange_35 ?_
      refine x_l5 S hK hP dX0_addRange_36 ?_
      refine lv_iload_n hx hb dX0_addRange_37 rfl (lv_at hl 2 rfl) ?_
      refine sa_icmp_ge (tgt := 48) hx hb dX0_addRange_38 (by decide) (fun c_38 => ?_) (fun c_38 => ?_)
      · refine lv_iload hx hb dX0_addRange_48 (lv_at hl 6 rfl) ?_
        refine lv_istore (lv' := [(6, .int (sa_i f)), (0, .ref h), (1, .int (sa_i st)), (2, .int (sa_i fr)), (3, .int (sa_i to)), (4, .int (sa_i (13 * st))), (5, .int (sa_i (RN st))), (7, .int (sa_i k))]) hx hb dX0_addRange_50 hl (by decide) rfl (fun ls hl => ?_)
        refine sa_iinc (k := 7) (lv' := [(7, .int (sa_i (k + 1))), (6, .int (sa_i f)), (0, .ref h), (1, .int (sa_i st)), (2, .int (sa_i fr)), (3, .int (sa_i to)), (4, .int (sa_i (13 * st))), (5, .int (sa_i (RN st)))]) hx hb dX0_addRange_52 hl rfl (by decide) rfl (fun ls hl => ?_)
        refine lv_goto (tgt := 20) hx hb dX0_addRange_55 (by decide) ?_
        rw [if_neg (by omega)] at hF2
        exact ih (k + 1) f (by omega) (by omega) (by omega) (by omega) (hF2.symm.trans hF) ls (lv_sub hl [2, 3, 4, 5, 6, 7, 1, 0] rfl)
      · refine lv_iload hx hb dX0_addRange_41 (lv_at hl 7 rfl) ?_
        refine sa_const hx hb dX0_addRange_43 ?_
        refine sa_add hx hb dX0_addRange_44 ?_
        refine lv_goto (tgt := 50) hx hb dX0_addRange_45 (by decide) ?_
        refine sa_name (fun f_50 e_f_50 => ?_)
        refine lv_istore (lv' := [(6, .int (sa_i f_50)), (0, .ref h), (1, .int (sa_i st)), (2, .int (sa_i fr)), (3, .int (sa_i to)), (4, .int (sa_i (13 * st))), (5, .int (sa_i (RN st))), (7, .int (sa_i k))]) hx hb dX0_addRange_50 hl (by decide) rfl (fun ls hl => ?_)
        refine sa_iinc (k := 7) (lv' := [(7, .int (sa_i (k + 1))), (6, .int (sa_i f_50)), (0, .ref h), (1, .int (sa_i st)), (2, .int (sa_i fr)), (3, .int (sa_i to)), (4, .int (sa_i (13 * st))), (5, .int (sa_i (RN st)))]) hx hb dX0_addRange_52 hl rfl (by decide) rfl (fun ls hl => ?_)
        refine lv_goto (tgt := 20) hx hb dX0_addRange_55 (by decide) ?_
        rw [if_pos (by omega)] at hF2
        subst e_f_50
        exact ih (k + 1) (k + 1) (by omega) (by omega) (by omega) (by omega) (hF2.symm.trans hF) ls (lv_sub hl [2, 3, 4, 5, 6, 7, 1, 0] rfl)
set_option maxHeartbeats 4000000 in
set_option maxRecDepth 100000 in
theorem metX0_addRange (l : Launch) (D : va_G) (h : Nat) (a : Nat → Nat) (cI : ClassId) (G : Int → Int32) (RP EN RN LO HI : Int → Int) (st : Int) (fr : Int) (to : Int) (sz : Nat) (hst : 0 ≤ st ∧ st ≤ 3) (hok : xOK RP EN RN LO HI) (hfr : 0 ≤ fr ∧ fr < to ∧ to ≤ 240) : sa_MetV l yX0_addRange cX0_addRange 11 1 [.ref h, .int (sa_i st), .int (sa_i fr), .int (sa_i to)] D vwCl (xT cI) (wX h a cI G RP EN RN LO HI) (wX h a cI G RP EN (xAddRN RN LO HI st fr to) (xAddLO RN LO HI st fr to) (xAddHI RN LO HI st fr to)) sz := by
  refine sa_metV (by decide) (Nat.le_of_ble_eq_true rfl) ?_
  intro p e s m below meth c A S hr hlk hP hK hD hS hA ls hl
  have hl : lv_has ls 11 [(0, .ref h), (1, .int (sa_i st)), (2, .int (sa_i fr)), (3, .int (sa_i to))] := hl
  have S : CallFix p m c cX0_addRange 11 s _ lw_all RX0 := S
  obtain ⟨hx, hb, -, -, -⟩ := id S
  have b1 := hok st
  refine sa_bipush hx hb dX0_addRange_0 (by decide +kernel) ?_
  refine lv_iload_n hx hb dX0_addRange_2 rfl (lv_at hl 1 rfl) ?_
  refine sa_mul hx hb dX0_addRange_3 ?_
  refine sa_name (fun base_4 e_base_4 => ?_)
  refine lv_istore (lv' := [(4, .int (sa_i base_4)), (0, .ref h), (1, .int (sa_i st)), (2, .int (sa_i fr)), (3, .int (sa_i to))]) hx hb dX0_addRange_4 hl (by decide) rfl (fun ls hl => ?_)
  refine lv_aload_n hx hb dX0_addRange_6 rfl (lv_at hl 1 rfl) ?_
  refine x_g3 S hK hP dX0_addRange_7 ?_
  refine lv_iload_n hx hb dX0_addRange_10 rfl (lv_at hl 2 rfl) ?_
  refine x_l3 S hK hP dX0_addRange_11 ?_
  refine sa_name (fun n_12 e_n_12 => ?_)
  refine lv_istore (lv' := [(5, .int (sa_i n_12)), (4, .int (sa_i base_4)), (0, .ref h), (1, .int (sa_i st)), (2, .int (sa_i fr)), (3, .int (sa_i to))]) hx hb dX0_addRange_12 hl (by decide) rfl (fun ls hl => ?_)
  refine sa_const hx hb dX0_addRange_14 ?_
  refine lv_istore (lv' := [(6, .int (sa_i 0)), (5, .int (sa_i n_12)), (4, .int (sa_i base_4)), (0, .ref h), (1, .int (sa_i st)), (2, .int (sa_i fr)), (3, .int (sa_i to))]) hx hb dX0_addRange_15 hl (by decide) rfl (fun ls hl => ?_)
  refine sa_const hx hb dX0_addRange_17 ?_
  refine lv_istore (lv' := [(7, .int (sa_i 0)), (6, .int (sa_i 0)), (5, .int (sa_i n_12)), (4, .int (sa_i base_4)), (0, .ref h), (1, .int (sa_i st)), (2, .int (sa_i fr)), (3, .int (sa_i to))]) hx hb dX0_addRange_18 hl (by decide) rfl (fun ls hl => ?_)
  subst e_base_4
  subst e_n_12
  exact metX0_addRange_L20 S hr hlk hK hA hst hok hfr hP hD hS ((RN st).toNat + 1) 0 0 (by omega) (by omega) (by omega) (by omega) (by unfold xF; rw [show RN st - 0 = RN st by omega]) ls (lv_sub hl [4, 5, 6, 7, 3, 2, 1, 0] rfl)
theorem kX0_addRange {l : Launch} {D : va_G} {h : Nat} {a : Nat → Nat} {cI : ClassId} {G : Int → Int32} {RP EN RN LO HI : Int → Int} {p : Program} {e : Env} {R : Room} {s : State} {m : MethodId} {args : Array Value} {below : List Frame} {meth : Method} {c : Code} {H : Heap} {locs : List Loc} {cells slots : Nat} {Q : State → Prop} {cc : ByteArray} {pc nL : Nat} {ls : Array Slot} {rest : List Value} {st : Int} {fr : Int} {to : Int} {A : Nat → Prop} {H0 : Heap} (S : CallFix p m c cc nL s args lw_all RX0) (hK : va_K D vwCl (xT cI) s) (hP : va_P D vwCl (wX h a cI G RP EN RN LO HI) H) (hD : va_D A (wX h a cI G RP EN RN LO HI)) (hS : va_S A H0 H locs) (hA : ∀ q : Nat, H0.size ≤ q → A q) (hst : 0 ≤ st ∧ st ≤ 3) (hok : xOK RP EN RN LO HI) (hfr : 0 ≤ fr ∧ fr < to ∧ to ≤ 240) (hsz : ls.size = nL) (hdg : decode cc pc = .ok (.invokevirtual 39, 3)) (kk : ∀ (H1 : Heap) (locs1 : List Loc), va_P D vwCl (wX h a cI G RP EN (xAddRN RN LO HI st fr to) (xAddLO RN LO HI st fr to) (xAddHI RN LO HI st fr to)) H1 → va_D A (wX h a cI G RP EN (xAddRN RN LO HI st fr to) (xAddLO RN LO HI st fr to) (xAddHI RN LO HI st fr to)) → va_S A H0 H1 locs1 → W p l e R s m args below meth c H1 locs1 cells slots Q (F0 m (pc + 3) ls rest)) (hR : 1 + 1 ≤ R.frames ∧ 8 + (11 + 11) + 31 * 1 ≤ R.locals := by decide) (hrest : (rest.map fun v => v.category).sum ≤ 8 := by exact Nat.le_of_ble_eq_true rfl) (hcells : cells ≤ R.cells ∧ slots ≤ R.slots := by decide) : W p l e R s m args below meth c H locs cells slots Q (F0 m pc ls (.int (sa_i to) :: .int (sa_i fr) :: .int (sa_i st) :: .ref h :: rest)) :=
  sa_callV (nA := 3) (wc := (wX h a cI G RP EN RN LO HI)) (wr := []) S (metX0_addRange l D h a cI G RP EN RN LO HI st fr to H.size hst hok hfr) (lw_V q71 q73 qs4 q14 q74) (by decide +kernel) rfl hR hK hP hD hS hA [0, 1, 2, 3, 4, 5, 6] [] rfl rfl rfl rfl (by decide) 0 0 rfl rfl hsz rfl hrest hcells hdg kk
end
section
/-! ===== StreamAssembler: finish, read, piece (printed by gen/x5.py) ===== -/
def xFi (RP EN RN HI : Int → Int) (st en : Int) : Int := if (0 ≤ EN st ∧ EN st ≠ en) ∨ en < xHi RP EN RN HI st then -3 else if xMay RP EN RN HI st en = true then 0 else -2
theorem xKn_pos {RN LO HI : Int → Int} {st at_ : Int} (h : xKn RN LO HI st at_ = true) : 0 < RN st := by
  by_cases h0 : 0 < RN st
  · exact h0
  · unfold xKn at h
    rw [show (RN st).toNat = 0 by omega] at h
    simp [xKnF] at h
theorem xMay_lim {RP EN RN HI : Int → Int} {st to : Int} (h : xMay RP EN RN HI st to = true) : to ≤ xLim RP st := by
  unfold xMay at h
  simp at h
  exact h.1
def xRdU (RP RN LO HI : Int → Int) (st : Int) : (Int → Int) × (Int → Int) × (Int → Int) × (Int → Int) := if LO (13 * st) + 1 = HI (13 * st) then (sa_up RP st (RP st + 1), sa_up RN st (RN st - (1 - 0)), xDrop (13 * st) 0 (RN st - (1 - 0)) (1 - 0) (sa_up LO (13 * st) (LO (13 * st) + 1)), xDrop (13 * st) 0 (RN st - (1 - 0)) (1 - 0) HI) else (sa_up RP st (RP st + 1), RN, sa_up LO (13 * st) (LO (13 * st) + 1), HI)
def xRdP (G : Int → Int32) (RP EN RN LO HI : Int → Int) (st : Int) (r : Int32) (u : (Int → Int) × (Int → Int) × (Int → Int) × (Int → Int)) : Prop := (EN st = RP st ∧ r = sa_i (-5) ∧ u = (RP, RN, LO, HI)) ∨ (EN st ≠ RP st ∧ xKn RN LO HI st (RP st) = false ∧ r = sa_i (-4) ∧ u = (RP, RN, LO, HI)) ∨ (EN st ≠ RP st ∧ xKn RN LO HI st (RP st) = true ∧ r = G (32 * st + RP st % 32) ∧ u = xRdU RP RN LO HI st)
def xFrom (RP : Int → Int) (st off : Int) : Int := if RP st < off then off else RP st
def xPiU (G : Int → Int32) (RP RN LO HI : Int → Int) (st off len : Int) (bv : Int32) : (Int → Int32) × (Int → Int) × (Int → Int) × (Int → Int) := if xFrom RP st off < off + len then (xPG (xKn RN LO HI st) st off bv (off + len - xFrom RP st off).toNat (xFrom RP st off) G, xAddRN RN LO HI st (xFrom RP st off) (off + len), xAddLO RN LO HI st (xFrom RP st off) (off + len), xAddHI RN LO HI st (xFrom RP st off) (off + len)) else (xPG (xKn RN LO HI st) st off bv (off + len - xFrom RP st off).toNat (xFrom RP st off) G, RN, LO, HI)
def xPiP (G : Int → Int32) (RP EN RN LO HI : Int → Int) (st off len : Int) (bv : Int32) (r : Int32) (u : (Int → Int32) × (Int → Int) × (Int → Int) × (Int → Int)) : Prop := ((0 ≤ EN st ∧ EN st < off + len) ∧ r = sa_i (-3) ∧ u = (G, RN, LO, HI)) ∨ (¬ (0 ≤ EN st ∧ EN st < off + len) ∧ xMay RP EN RN HI st (off + len) = false ∧ r = sa_i (-2) ∧ u = (G, RN, LO, HI)) ∨ (¬ (0 ≤ EN st ∧ EN st < off + len) ∧ xMay RP EN RN HI st (off + len) = true ∧ r = sa_i (xPF (xKn RN LO HI st) (off + len - xFrom RP st off).toNat (xFrom RP st off) 0) ∧ u = xPiU G RP RN LO HI st off len bv)
set_option maxHeartbeats 4000000 in
set_option maxRecDepth 100000 in
theorem metX0_finish (l : Launch) (D : va_G) (h : Nat) (a : Nat → Nat) (cI : ClassId) (G : Int → Int32) (RP EN RN LO HI : Int → Int) (st : Int) (en : Int) (sz : Nat) (hst : 0 ≤ st ∧ st ≤ 3) (hen : 0 ≤ en ∧ en < 2147483648) (hok : xOK RP EN RN LO HI) : sa_MetI l yX0_finish cX0_finish 4 4 [.ref h, .int (sa_i st), .int (sa_i en)] D vwCl (xT cI) (wX h a cI G RP EN RN LO HI) (fun u : Int → Int => wX h a cI G RP u RN LO HI) sz (fun (r : Int32) (u : Int → Int) => r = sa_i (xFi RP EN RN HI st en) ∧ u = if xFi RP EN RN HI st en = 0 then sa_up EN st en else EN) := by
  refine sa_metI (by decide) (Nat.le_of_ble_eq_true rfl) ?_
  intro p e s m below meth c A S hr hlk hP hK hD hS hA ls hl
  have hl : lv_has ls 4 [(0, .ref h), (1, .int (sa_i st)), (2, .int (sa_i en))] := hl
  have S : CallFix p m c cX0_finish 4 s _ lw_all RX0 := S
  obtain ⟨hx, hb, -, -, -⟩ := id S
  have b1 := hok st
  have b2 := xHi_in hok st
  refine lv_iload_n hx hb dX0_finish_0 rfl (lv_at hl 1 rfl) ?_
  refine kX0_isStream S hst hl.1 dX0_finish_1 ?_
  refine sa_if_eq (tgt := 11) hx hb dX0_finish_4 (by decide) (fun c_ => absurd c_ (by decide)) (fun c_4 => ?_)
  refine lv_iload_n hx hb dX0_finish_7 rfl (lv_at hl 2 rfl) ?_
  refine sa_if_ge (tgt := 13) hx hb dX0_finish_8 (by decide) (fun c_8 => ?_) (fun c_ => by exfalso; omega)
  refine lv_aload_n hx hb dX0_finish_13 rfl (lv_at hl 0 rfl) ?_
  refine x_g2 S hK hP dX0_finish_14 ?_
  refine lv_iload_n hx hb dX0_finish_17 rfl (lv_at hl 1 rfl) ?_
  refine x_l2 S hK hP dX0_finish_18 ?_
  refine sa_name (fun kn_19 e_kn_19 => ?_)
  refine lv_istore_n (lv' := [(3, .int (sa_i kn_19)), (0, .ref h), (1, .int (sa_i st)), (2, .int (sa_i en))]) hx hb dX0_finish_19 rfl hl (by decide) rfl (fun ls hl => ?_)
  refine lv_iload_n hx hb dX0_finish_20 rfl (lv_at hl 0 rfl) ?_
  refine sa_if_lt (tgt := 29) hx hb dX0_finish_21 (by decide) (fun c_21 => ?_) (fun c_21 => ?_)
  · refine lv_iload_n hx hb dX0_finish_29 rfl (lv_at hl 3 rfl) ?_
    refine lv_aload_n hx hb dX0_finish_30 rfl (lv_at hl 1 rfl) ?_
    refine lv_iload_n hx hb dX0_finish_31 rfl (lv_at hl 2 rfl) ?_
    refine kX0_highest S hK hP hst hok hl.1 dX0_finish_32 ?_
    refine sa_icmp_ge (tgt := 41) hx hb dX0_finish_35 (by decide) (fun c_35 => ?_) (fun c_35 => ?_)
    · refine lv_aload_n hx hb dX0_finish_41 rfl (lv_at hl 1 rfl) ?_
      refine lv_iload_n hx hb dX0_finish_42 rfl (lv_at hl 2 rfl) ?_
      refine lv_iload_n hx hb dX0_finish_43 rfl (lv_at hl 3 rfl) ?_
      refine kX0_mayReach S hK hP hst (by omega) hok hl.1 dX0_finish_44 ?_
      refine sa_ifB_ne (tgt := 53) hx hb dX0_finish_47 (by decide) (fun c_47 => ?_) (fun c_47 => ?_)
      · refine lv_aload_n hx hb dX0_finish_53 rfl (lv_at hl 1 rfl) ?_
        refine x_g2 S hK hP dX0_finish_54 ?_
        refine lv_iload_n hx hb dX0_finish_57 rfl (lv_at hl 2 rfl) ?_
        refine lv_iload_n hx hb dX0_finish_58 rfl (lv_at hl 3 rfl) ?_
        refine x_s2 S hK hP hD hS dX0_finish_59 (fun H locs hP hD hS => ?_)
        refine sa_const hx hb dX0_finish_60 ?_
        have e0 : xFi RP EN RN HI st en = 0 := by unfold xFi; rw [if_neg (by omega), if_pos c_47]
        exact sa_retI (sa_up EN st en) hx hb hr hlk hK hP hD hS dX0_finish_61 ⟨by rw [e0], by rw [e0, if_pos (by decide)]⟩
      · refine sa_bipush hx hb dX0_finish_50 (by decide +kernel) ?_
        have e0 : xFi RP EN RN HI st en = -2 := by unfold xFi; rw [if_neg (by omega), if_neg (by rw [c_47]; decide)]
        exact sa_retI EN hx hb hr hlk hK hP hD hS dX0_finish_52 ⟨by rw [e0], by rw [e0, if_neg (by decide)]⟩
    · refine sa_bipush hx hb dX0_finish_38 (by decide +kernel) ?_
      have e0 : xFi RP EN RN HI st en = -3 := by unfold xFi; rw [if_pos (by omega)]
      exact sa_retI EN hx hb hr hlk hK hP hD hS dX0_finish_40 ⟨by rw [e0], by rw [e0, if_neg (by decide)]⟩
  · refine lv_iload_n hx hb dX0_finish_24 rfl (lv_at hl 0 rfl) ?_
    refine lv_iload_n hx hb dX0_finish_25 rfl (lv_at hl 3 rfl) ?_
    refine sa_icmp_ne (tgt := 38) hx hb dX0_finish_26 (by decide) (fun c_26 => ?_) (fun c_26 => ?_)
    · refine sa_bipush hx hb dX0_finish_38 (by decide +kernel) ?_
      have e0 : xFi RP EN RN HI st en = -3 := by unfold xFi; rw [if_pos (by omega)]
      exact sa_retI EN hx hb hr hlk hK hP hD hS dX0_finish_40 ⟨by rw [e0], by rw [e0, if_neg (by decide)]⟩
    · refine lv_iload_n hx hb dX0_finish_29 rfl (lv_at hl 3 rfl) ?_
      refine lv_aload_n hx hb dX0_finish_30 rfl (lv_at hl 1 rfl) ?_
      refine lv_iload_n hx hb dX0_finish_31 rfl (lv_at hl 2 rfl) ?_
      refine kX0_highest S hK hP hst hok hl.1 dX0_finish_32 ?_
      refine sa_icmp_ge (tgt := 41) hx hb dX0_finish_35 (by decide) (fun c_35 => ?_) (fun c_35 => ?_)
      · refine lv_aload_n hx hb dX0_finish_41 rfl (lv_at hl 1 rfl) ?_
        refine lv_iload_n hx hb dX0_finish_42 rfl (lv_at hl 2 rfl) ?_
        refine lv_iload_n hx hb dX0_finish_43 rfl (lv_at hl 3 rfl) ?_
        refine kX0_mayReach S hK hP hst (by omega) hok hl.1 dX0_finish_44 ?_
        refine sa_ifB_ne (tgt := 53) hx hb dX0_finish_47 (by decide) (fun c_47 => ?_) (fun c_47 => ?_)
        · refine lv_aload_n hx hb dX0_finish_53 rfl (lv_at hl 1 rfl) ?_
          refine x_g2 S hK hP dX0_finish_54 ?_
          refine lv_iload_n hx hb dX0_finish_57 rfl (lv_at hl 2 rfl) ?_
          refine lv_iload_n hx hb dX0_finish_58 rfl (lv_at hl 3 rfl) ?_
          refine x_s2 S hK hP hD hS dX0_finish_59 (fun H locs hP hD hS => ?_)
          refine sa_const hx hb dX0_finish_60 ?_
          have e0 : xFi RP EN RN HI st en = 0 := by unfold xFi; rw [if_neg (by omega), if_pos c_47]
          exact sa_retI (sa_up EN st en) hx hb hr hlk hK hP hD hS dX0_finish_61 ⟨by rw [e0], by rw [e0, if_pos (by decide)]⟩
        · refine sa_bipush hx hb dX0_finish_50 (by decide +kernel) ?_
          have e0 : xFi RP EN RN HI st en = -2 := by unfold xFi; rw [if_neg (by omega), if_neg (by rw [c_47]; decide)]
          exact sa_retI EN hx hb hr hlk hK hP hD hS dX0_finish_52 ⟨by rw [e0], by rw [e0, if_neg (by decide)]⟩
      · refine sa_bipush hx hb dX0_finish_38 (by decide +kernel) ?_
        have e0 : xFi RP EN RN HI st en = -3 := by unfold xFi; rw [if_pos (by omega)]
        exact sa_retI EN hx hb hr hlk hK hP hD hS dX0_finish_40 ⟨by rw [e0], by rw [e0, if_neg (by decide)]⟩
set_option maxHeartbeats 4000000 in
set_option maxRecDepth 100000 in
theorem metX0_read (l : Launch) (D : va_G) (h : Nat) (a : Nat → Nat) (cI : ClassId) (G : Int → Int32) (RP EN RN LO HI : Int → Int) (st : Int) (sz : Nat) (hst : 0 ≤ st ∧ st ≤ 3) (hok : xOK RP EN RN LO HI) : sa_MetI l yX0_read cX0_read 3 1 [.ref h, .int (sa_i st)] D vwCl (xT cI) (wX h a cI G RP EN RN LO HI) (fun u : (Int → Int) × (Int → Int) × (Int → Int) × (Int → Int) => wX h a cI G u.1 EN u.2.1 u.2.2.1 u.2.2.2) sz (xRdP G RP EN RN LO HI st) := by
  refine sa_metI (by decide) (Nat.le_of_ble_eq_true rfl) ?_
  intro p e s m below meth c A S hr hlk hP hK hD hS hA ls hl
  have hl : lv_has ls 3 [(0, .ref h), (1, .int (sa_i st))] := hl
  have S : CallFix p m c cX0_read 3 s _ lw_all RX0 := S
  obtain ⟨hx, hb, -, -, -⟩ := id S
  have b1 := hok st
  have b2 := hok (13 * st)
  have b3 := sa_up_self LO (13 * st) (LO (13 * st) + 1)
  refine lv_iload_n hx hb dX0_read_0 rfl (lv_at hl 1 rfl) ?_
  refine kX0_isStream S hst hl.1 dX0_read_1 ?_
  refine sa_if_ne (tgt := 9) hx hb dX0_read_4 (by decide) (fun c_4 => ?_) (fun c_ => absurd c_ (by decide))
  refine lv_aload_n hx hb dX0_read_9 rfl (lv_at hl 0 rfl) ?_
  refine x_g1 S hK hP dX0_read_10 ?_
  refine lv_iload_n hx hb dX0_read_13 rfl (lv_at hl 1 rfl) ?_
  refine x_l1 S hK hP dX0_read_14 ?_
  refine lv_istore_n (lv' := [(2, .int (sa_i (RP st))), (0, .ref h), (1, .int (sa_i st))]) hx hb dX0_read_15 rfl hl (by decide) rfl (fun ls hl => ?_)
  refine lv_aload_n hx hb dX0_read_16 rfl (lv_at hl 1 rfl) ?_
  refine x_g2 S hK hP dX0_read_17 ?_
  refine lv_iload_n hx hb dX0_read_20 rfl (lv_at hl 2 rfl) ?_
  refine x_l2 S hK hP dX0_read_21 ?_
  refine lv_iload_n hx hb dX0_read_22 rfl (lv_at hl 0 rfl) ?_
  refine sa_icmp_ne (tgt := 29) hx hb dX0_read_23 (by decide) (fun c_23 => ?_) (fun c_23 => ?_)
  · refine lv_aload_n hx hb dX0_read_29 rfl (lv_at hl 1 rfl) ?_
    refine lv_iload_n hx hb dX0_read_30 rfl (lv_at hl 2 rfl) ?_
    refine lv_iload_n hx hb dX0_read_31 rfl (lv_at hl 0 rfl) ?_
    refine kX0_isKnown S hK hP hst (by omega) hok hl.1 dX0_read_32 ?_
    refine sa_ifB_ne (tgt := 41) hx hb dX0_read_35 (by decide) (fun c_35 => ?_) (fun c_35 => ?_)
    · have b4 := xKn_pos c_35
      refine lv_aload_n hx hb dX0_read_41 rfl (lv_at hl 1 rfl) ?_
      refine x_g1 S hK hP dX0_read_42 ?_
      refine lv_iload_n hx hb dX0_read_45 rfl (lv_at hl 2 rfl) ?_
      refine lv_iload_n hx hb dX0_read_46 rfl (lv_at hl 0 rfl) ?_
      refine sa_const hx hb dX0_read_47 ?_
      refine sa_add hx hb dX0_read_48 ?_
      refine x_s1 S hK hP hD hS dX0_read_49 (fun H locs hP hD hS => ?_)
      refine lv_aload_n hx hb dX0_read_50 rfl (lv_at hl 1 rfl) ?_
      refine x_g4 S hK hP dX0_read_51 ?_
      refine sa_bipush hx hb dX0_read_54 (by decide +kernel) ?_
      refine lv_iload_n hx hb dX0_read_56 rfl (lv_at hl 2 rfl) ?_
      refine sa_mul hx hb dX0_read_57 ?_
      refine lv_dup2_11 hx hb dX0_read_58 rfl rfl ?_
      refine x_l4 S hK hP dX0_read_59 ?_
      refine sa_const hx hb dX0_read_60 ?_
      refine sa_add hx hb dX0_read_61 ?_
      refine x_s4 S hK hP hD hS dX0_read_62 (fun H locs hP hD hS => ?_)
      refine lv_aload_n hx hb dX0_read_63 rfl (lv_at hl 1 rfl) ?_
      refine x_g4 S hK hP dX0_read_64 ?_
      refine sa_bipush hx hb dX0_read_67 (by decide +kernel) ?_
      refine lv_iload_n hx hb dX0_read_69 rfl (lv_at hl 2 rfl) ?_
      refine sa_mul hx hb dX0_read_70 ?_
      refine x_l4 S hK hP dX0_read_71 ?_
      refine lv_aload_n hx hb dX0_read_72 rfl (lv_at hl 1 rfl) ?_
      refine x_g5 S hK hP dX0_read_73 ?_
      refine sa_bipush hx hb dX0_read_76 (by decide +kernel) ?_
      refine lv_iload_n hx hb dX0_read_78 rfl (lv_at hl 2 rfl) ?_
      refine sa_mul hx hb dX0_read_79 ?_
      refine x_l5 S hK hP dX0_read_80 ?_
      refine sa_icmp_ne (tgt := 91) hx hb dX0_read_81 (by decide) (fun c_81 => ?_) (fun c_81 => ?_)
      · refine lv_aload_n hx hb dX0_read_91 rfl (lv_at hl 1 rfl) ?_
        refine x_g0 S hK hP dX0_read_92 ?_
        refine sa_bipush hx hb dX0_read_95 (by decide +kernel) ?_
        refine lv_iload_n hx hb dX0_read_97 rfl (lv_at hl 2 rfl) ?_
        refine sa_mul hx hb dX0_read_98 ?_
        refine lv_iload_n hx hb dX0_read_99 rfl (lv_at hl 0 rfl) ?_
        refine sa_bipush hx hb dX0_read_100 (by decide +kernel) ?_
        refine lv_iand hx hb dX0_read_102 ?_
        rw [sa_and31 (z := RP st) (by omega) (by omega)]
        refine sa_add hx hb dX0_read_103 ?_
        refine x_l0 S hK hP dX0_read_104 ?_
        exact sa_retI (sa_up RP st (RP st + 1), RN, sa_up LO (13 * st) (LO (13 * st) + 1), HI) hx hb hr hlk hK hP hD hS dX0_read_105 (Or.inr (Or.inr ⟨by omega, c_35, rfl, by unfold xRdU; rw [if_neg (by omega)]⟩))
      · refine lv_aload_n hx hb dX0_read_84 rfl (lv_at hl 1 rfl) ?_
        refine lv_iload_n hx hb dX0_read_85 rfl (lv_at hl 2 rfl) ?_
        refine sa_const hx hb dX0_read_86 ?_
        refine sa_const hx hb dX0_read_87 ?_
        refine kX0_dropRanges S hK hP hD hS hA hst (by omega) (by omega) hl.1 dX0_read_88 (fun H locs hP hD hS => ?_)
        refine lv_aload_n hx hb dX0_read_91 rfl (lv_at hl 1 rfl) ?_
        refine x_g0 S hK hP dX0_read_92 ?_
        refine sa_bipush hx hb dX0_read_95 (by decide +kernel) ?_
        refine lv_iload_n hx hb dX0_read_97 rfl (lv_at hl 2 rfl) ?_
        refine sa_mul hx hb dX0_read_98 ?_
        refine lv_iload_n hx hb dX0_read_99 rfl (lv_at hl 0 rfl) ?_
        refine sa_bipush hx hb dX0_read_100 (by decide +kernel) ?_
        refine lv_iand hx hb dX0_read_102 ?_
        rw [sa_and31 (z := RP st) (by omega) (by omega)]
        refine sa_add hx hb dX0_read_103 ?_
        refine x_l0 S hK hP dX0_read_104 ?_
        exact sa_retI (sa_up RP st (RP st + 1), sa_up RN st (RN st - (1 - 0)), xDrop (13 * st) 0 (RN st - (1 - 0)) (1 - 0) (sa_up LO (13 * st) (LO (13 * st) + 1)), xDrop (13 * st) 0 (RN st - (1 - 0)) (1 - 0) HI) hx hb hr hlk hK hP hD hS dX0_read_105 (Or.inr (Or.inr ⟨by omega, c_35, rfl, by unfold xRdU; rw [if_pos (by omega)]⟩))
    · refine sa_bipush hx hb dX0_read_38 (by decide +kernel) ?_
      exact sa_retI (RP, RN, LO, HI) hx hb hr hlk hK hP hD hS dX0_read_40 (Or.inr (Or.inl ⟨by omega, c_35, rfl, rfl⟩))
  · refine sa_bipush hx hb dX0_read_26 (by decide +kernel) ?_
    exact sa_retI (RP, RN, LO, HI) hx hb hr hlk hK hP hD hS dX0_read_28 (Or.inl ⟨by omega, rfl, rfl⟩)
set_option maxHeartbeats 4000000 in
set_option maxRecDepth 100000 in
theorem metX0_piece_L100 {l : Launch} {D : va_G} {h : Nat} {a : Nat → Nat} {cI : ClassId} {G0 : Int → Int32} {RP EN RN LO HI : Int → Int} {p : Program} {e : Env} {s : State} {m : MethodId} {below : List Frame} {meth : Method} {c : Code} {av : Array Value} {A : Nat → Prop} {st off len fr : Int} {bv : Int32} (S : CallFix p m c cX0_piece 9 s av lw_all RX0) (hr : meth.sig.returnType = some .int) (hlk : meth.locks = false) (hK : va_K D vwCl (xT cI) s) (hA : ∀ q : Nat, s.heap.size ≤ q → A q) (hst : 0 ≤ st ∧ st ≤ 3) (hok : xOK RP EN RN LO HI) (hof : 0 ≤ off ∧ off ≤ 1000) (hln : 1 ≤ len ∧ len ≤ 4) (hto : off + len ≤ 240) (hend : ¬ (0 ≤ EN st ∧ EN st < off + len)) (hmay : xMay RP EN RN HI st (off + len) = true) (hfm : fr = xFrom RP st off) (hfr : 0 ≤ fr ∧ off ≤ fr ∧ fr ≤ 1000) :
    ∀ (n : Nat) (at_ fs : Int), fr ≤ at_ → (at_ ≤ off + len ∨ at_ = fr) → off + len - at_ < (n : Int) → 0 < n → 0 ≤ fs ∧ fs ≤ at_ - fr → ∀ (G : Int → Int32), xPG (xKn RN LO HI st) st off bv (off + len - at_).toNat at_ G = xPG (xKn RN LO HI st) st off bv (off + len - fr).toNat fr G0 → xPF (xKn RN LO HI st) (off + len - at_).toNat at_ fs = xPF (xKn RN LO HI st) (off + len - fr).toNat fr 0 → ∀ (H : Heap) (locs : List Loc), va_P D vwCl (wX h a cI G RP EN RN LO HI) H → va_D A (wX h a cI G RP EN RN LO HI) → va_S A s.heap H locs → ∀ ls : Array Slot, lv_has ls 9 [(0, .ref h), (1, .int (sa_i st)), (2, .int (sa_i off)), (3, .int (sa_i len)), (4, .int bv), (5, .int (sa_i (off + len))), (6, .int (sa_i fr)), (7, .int (sa_i fs)), (8, .int (sa_i at_))] → W p l e (sa_rm 4) s m av below meth c H locs 0 0 (sa_EI below D vwCl (xT cI) (fun u : (Int → Int32) × (Int → Int) × (Int → Int) × (Int → Int) => wX h a cI u.1 RP EN u.2.1 u.2.2.1 u.2.2.2) (xPiP G0 RP EN RN LO HI st off len bv) A av s) (F0 m 100 ls []) := by
  obtain ⟨hx, hb, -, -, -⟩ := id S
  have b1 := hok st
  intro n
  induction n with
  | zero => intro at_ fs h1 h2 h3 h4; exact absurd h4 (by omega)
  | succ n ih =>
    intro at_ fs h1 h2 h3 h4 h5 G hG hF H locs hP hD hS ls hl
    refine lv_iload hx hb dX0_piece_100 (lv_at hl 8 rfl) ?_
    refine lv_iload hx hb dX0_piece_102 (lv_at hl 5 rfl) ?_
    refine sa_icmp_ge (tgt := 155) hx hb dX0_piece_104 (by decide) (fun c_104 => ?_) (fun c_104 => ?_)
    · refine lv_iload hx hb dX0_piece_155 (lv_at hl 6 rfl) ?_
      refine lv_iload hx hb dX0_piece_157 (lv_at hl 5 rfl) ?_
      refine sa_icmp_ge (tgt := 171) hx hb dX0_piece_159 (by decide) (fun c_159 => ?_) (fun c_159 => ?_)
      · refine lv_iload hx hb dX0_piece_171 (lv_at hl 7 rfl) ?_
        have eG := (xPG_end (kn := (xKn RN LO HI st)) (s := st) (off := off) (bv := bv) (G := G) (show off + len ≤ at_ by omega)).symm.trans hG
        have eF := (xPF_end (kn := (xKn RN LO HI st)) (f := fs) (show off + len ≤ at_ by omega)).symm.trans hF
        exact sa_retI (G, RN, LO, HI) hx hb hr hlk hK hP hD hS dX0_piece_173 (Or.inr (Or.inr ⟨hend, hmay, by rw [eF, hfm], by unfold xPiU; rw [← hfm, if_neg (by omega), eG]⟩))
      · refine lv_aload_n hx hb dX0_piece_162 rfl (lv_at hl 0 rfl) ?_
        refine lv_iload_n hx hb dX0_piece_163 rfl (lv_at hl 1 rfl) ?_
        refine lv_iload hx hb dX0_piece_164 (lv_at hl 6 rfl) ?_
        refine lv_iload hx hb dX0_piece_166 (lv_at hl 5 rfl) ?_
        refine kX0_addRange S hK hP hD hS hA hst hok (by omega) hl.1 dX0_piece_168 (fun H locs hP hD hS => ?_)
        refine lv_iload hx hb dX0_piece_171 (lv_at hl 7 rfl) ?_
        have eG := (xPG_end (kn := (xKn RN LO HI st)) (s := st) (off := off) (bv := bv) (G := G) (show off + len ≤ at_ by omega)).symm.trans hG
        have eF := (xPF_end (kn := (xKn RN LO HI st)) (f := fs) (show off + len ≤ at_ by omega)).symm.trans hF
        exact sa_retI (G, xAddRN RN LO HI st fr (off + len), xAddLO RN LO HI st fr (off + len), xAddHI RN LO HI st fr (off + len)) hx hb hr hlk hK hP hD hS dX0_piece_173 (Or.inr (Or.inr ⟨hend, hmay, by rw [eF, hfm], by unfold xPiU; rw [← hfm, if_pos (by omega), eG]⟩))
    · refine lv_aload_n hx hb dX0_piece_107 rfl (lv_at hl 0 rfl) ?_
      refine lv_iload_n hx hb dX0_piece_108 rfl (lv_at hl 1 rfl) ?_
      refine lv_iload hx hb dX0_piece_109 (lv_at hl 8 rfl) ?_
      refine kX0_isKnown S hK hP hst (by omega) hok hl.1 dX0_piece_111 ?_
      refine sa_ifB_ne (tgt := 149) hx hb dX0_piece_114 (by decide) (fun c_114 => ?_) (fun c_114 => ?_)
      · refine sa_iinc (k := 8) (lv' := [(8, .int (sa_i (at_ + 1))), (0, .ref h), (1, .int (sa_i st)), (2, .int (sa_i off)), (3, .int (sa_i len)), (4, .int bv), (5, .int (sa_i (off + len))), (6, .int (sa_i fr)), (7, .int (sa_i fs))]) hx hb dX0_piece_149 hl rfl (by decide) rfl (fun ls hl => ?_)
        refine lv_goto (tgt := 100) hx hb dX0_piece_152 (by decide) ?_
        have hG2 := xPG_step (kn := (xKn RN LO HI st)) (s := st) (off := off) (bv := bv) (G := G) (show at_ < off + len by omega)
        have hF2 := xPF_step (kn := (xKn RN LO HI st)) (f := fs) (show at_ < off + len by omega)
        rw [if_pos c_114] at hG2 hF2
        exact ih (at_ + 1) fs (by omega) (by omega) (by omega) (by omega) (by omega) _ (hG2.symm.trans hG) (hF2.symm.trans hF) H locs hP hD hS ls (lv_sub hl [1, 2, 3, 4, 5, 6, 7, 8, 0] rfl)
      · refine lv_aload_n hx hb dX0_piece_117 rfl (lv_at hl 0 rfl) ?_
        refine x_g0 S hK hP dX0_piece_118 ?_
        refine sa_bipush hx hb dX0_piece_121 (by decide +kernel) ?_
        refine lv_iload_n hx hb dX0_piece_123 rfl (lv_at hl 1 rfl) ?_
        refine sa_mul hx hb dX0_piece_124 ?_
        refine lv_iload hx hb dX0_piece_125 (lv_at hl 8 rfl) ?_
        refine sa_bipush hx hb dX0_piece_127 (by decide +kernel) ?_
        refine lv_iand hx hb dX0_piece_129 ?_
        rw [sa_and31 (z := at_) (by omega) (by omega)]
        refine sa_add hx hb dX0_piece_130 ?_
        refine lv_iload hx hb dX0_piece_131 (lv_at hl 4 rfl) ?_
        refine sa_bipush hx hb dX0_piece_133 (by decide +kernel) ?_
        refine lv_iload hx hb dX0_piece_135 (lv_at hl 8 rfl) ?_
        refine lv_iload_n hx hb dX0_piece_137 rfl (lv_at hl 2 rfl) ?_
        refine sa_sub hx hb dX0_piece_138 ?_
        refine sa_mul hx hb dX0_piece_139 ?_
        refine lv_ishr hx hb dX0_piece_140 ?_
        refine sa_sipush hx hb dX0_piece_141 (by decide +kernel) ?_
        refine lv_iand hx hb dX0_piece_144 ?_
        refine x_s0 S hK hP hD hS dX0_piece_145 (fun H locs hP hD hS => ?_)
        refine sa_iinc (k := 7) (lv' := [(7, .int (sa_i (fs + 1))), (0, .ref h), (1, .int (sa_i st)), (2, .int (sa_i off)), (3, .int (sa_i len)), (4, .int bv), (5, .int (sa_i (off + len))), (6, .int (sa_i fr)), (8, .int (sa_i at_))]) hx hb dX0_piece_146 hl rfl (by decide) rfl (fun ls hl => ?_)
        refine sa_iinc (k := 8) (lv' := [(8, .int (sa_i (at_ + 1))), (7, .int (sa_i (fs + 1))), (0, .ref h), (1, .int (sa_i st)), (2, .int (sa_i off)), (3, .int (sa_i len)), (4, .int bv), (5, .int (sa_i (off + len))), (6, .int (sa_i fr))]) hx hb dX0_piece_149 hl rfl (by decide) rfl (fun ls hl => ?_)
        refine lv_goto (tgt := 100) hx hb dX0_piece_152 (by decide) ?_
        have hG2 := xPG_step (kn := (xKn RN LO HI st)) (s := st) (off := off) (bv := bv) (G := G) (show at_ < off + len by omega)
        have hF2 := xPF_step (kn := (xKn RN LO HI st)) (f := fs) (show at_ < off + len by omega)
        rw [if_neg (by rw [c_114]; decide)] at hG2 hF2
        exact ih (at_ + 1) (fs + 1) (by omega) (by omega) (by omega) (by omega) (by omega) _ (hG2.symm.trans hG) (hF2.symm.trans hF) H locs hP hD hS ls (lv_sub hl [2, 3, 4, 5, 6, 7, 8, 1, 0] rfl)
set_option maxHeartbeats 4000000 in
set_option maxRecDepth 100000 in
theorem metX0_piece (l : Launch) (D : va_G) (h : Nat) (a : Nat → Nat) (cI : ClassId) (G : Int → Int32) (RP EN RN LO HI : Int → Int) (st : Int) (off : Int) (len : Int) (bv : Int32) (sz : Nat) (hst : 0 ≤ st ∧ st ≤ 3) (hof : 0 ≤ off ∧ off ≤ 1000) (hln : 1 ≤ len ∧ len ≤ 4) (hok : xOK RP EN RN LO HI) : sa_MetI l yX0_piece cX0_piece 9 4 [.ref h, .int (sa_i st), .int (sa_i off), .int (sa_i len), .int bv] D vwCl (xT cI) (wX h a cI G RP EN RN LO HI) (fun u : (Int → Int32) × (Int → Int) × (Int → Int) × (Int → Int) => wX h a cI u.1 RP EN u.2.1 u.2.2.1 u.2.2.2) sz (xPiP G RP EN RN LO HI st off len bv) := by
  refine sa_metI (by decide) (Nat.le_of_ble_eq_true rfl) ?_
  intro p e s m below meth c A S hr hlk hP hK hD hS hA ls hl
  have hl : lv_has ls 9 [(0, .ref h), (1, .int (sa_i st)), (2, .int (sa_i off)), (3, .int (sa_i len)), (4, .int bv)] := hl
  have S : CallFix p m c cX0_piece 9 s _ lw_all RX0 := S
  obtain ⟨hx, hb, -, -, -⟩ := id S
  have b1 := hok st
  have b2 := xLim_in hok st
  refine lv_iload_n hx hb dX0_piece_0 rfl (lv_at hl 1 rfl) ?_
  refine kX0_isStream S hst hl.1 dX0_piece_1 ?_
  refine sa_if_eq (tgt := 28) hx hb dX0_piece_4 (by decide) (fun c_ => absurd c_ (by decide)) (fun c_4 => ?_)
  refine lv_iload_n hx hb dX0_piece_7 rfl (lv_at hl 3 rfl) ?_
  refine sa_const hx hb dX0_piece_8 ?_
  refine sa_icmp_lt (tgt := 28) hx hb dX0_piece_9 (by decide) (fun c_ => by exfalso; omega) (fun c_9 => ?_)
  refine lv_iload_n hx hb dX0_piece_12 rfl (lv_at hl 3 rfl) ?_
  refine sa_const hx hb dX0_piece_13 ?_
  refine sa_icmp_gt (tgt := 28) hx hb dX0_piece_14 (by decide) (fun c_ => by exfalso; omega) (fun c_14 => ?_)
  refine lv_iload_n hx hb dX0_piece_17 rfl (lv_at hl 2 rfl) ?_
  refine sa_if_lt (tgt := 28) hx hb dX0_piece_18 (by decide) (fun c_ => by exfalso; omega) (fun c_18 => ?_)
  refine lv_iload_n hx hb dX0_piece_21 rfl (lv_at hl 2 rfl) ?_
  refine sa_sipush hx hb dX0_piece_22 (by decide +kernel) ?_
  refine sa_icmp_le (tgt := 30) hx hb dX0_piece_25 (by decide) (fun c_25 => ?_) (fun c_ => by exfalso; omega)
  refine lv_iload_n hx hb dX0_piece_30 rfl (lv_at hl 2 rfl) ?_
  refine lv_iload_n hx hb dX0_piece_31 rfl (lv_at hl 3 rfl) ?_
  refine sa_add hx hb dX0_piece_32 ?_
  refine lv_istore (lv' := [(5, .int (sa_i (off + len))), (0, .ref h), (1, .int (sa_i st)), (2, .int (sa_i off)), (3, .int (sa_i len)), (4, .int bv)]) hx hb dX0_piece_33 hl (by decide) rfl (fun ls hl => ?_)
  refine lv_aload_n hx hb dX0_piece_35 rfl (lv_at hl 1 rfl) ?_
  refine x_g2 S hK hP dX0_piece_36 ?_
  refine lv_iload_n hx hb dX0_piece_39 rfl (lv_at hl 2 rfl) ?_
  refine x_l2 S hK hP dX0_piece_40 ?_
  refine sa_if_lt (tgt := 58) hx hb dX0_piece_41 (by decide) (fun c_41 => ?_) (fun c_41 => ?_)
  · refine lv_aload_n hx hb dX0_piece_58 rfl (lv_at hl 1 rfl) ?_
    refine lv_iload_n hx hb dX0_piece_59 rfl (lv_at hl 2 rfl) ?_
    refine lv_iload hx hb dX0_piece_60 (lv_at hl 0 rfl) ?_
    refine kX0_mayReach S hK hP hst (by omega) hok hl.1 dX0_piece_62 ?_
    refine sa_ifB_ne (tgt := 71) hx hb dX0_piece_65 (by decide) (fun c_65 => ?_) (fun c_65 => ?_)
    · have b3 := xMay_lim c_65
      refine lv_iload_n hx hb dX0_piece_71 rfl (lv_at hl 3 rfl) ?_
      refine lv_aload_n hx hb dX0_piece_72 rfl (lv_at hl 1 rfl) ?_
      refine x_g1 S hK hP dX0_piece_73 ?_
      refine lv_iload_n hx hb dX0_piece_76 rfl (lv_at hl 2 rfl) ?_
      refine x_l1 S hK hP dX0_piece_77 ?_
      refine sa_icmp_le (tgt := 85) hx hb dX0_piece_78 (by decide) (fun c_78 => ?_) (fun c_78 => ?_)
      · refine lv_aload_n hx hb dX0_piece_85 rfl (lv_at hl 1 rfl) ?_
        refine x_g1 S hK hP dX0_piece_86 ?_
        refine lv_iload_n hx hb dX0_piece_89 rfl (lv_at hl 2 rfl) ?_
        refine x_l1 S hK hP dX0_piece_90 ?_
        refine lv_istore (lv' := [(6, .int (sa_i (RP st))), (5, .int (sa_i (off + len))), (0, .ref h), (1, .int (sa_i st)), (2, .int (sa_i off)), (3, .int (sa_i len)), (4, .int bv)]) hx hb dX0_piece_91 hl (by decide) rfl (fun ls hl => ?_)
        refine sa_const hx hb dX0_piece_93 ?_
        refine lv_istore (lv' := [(7, .int (sa_i 0)), (6, .int (sa_i (RP st))), (5, .int (sa_i (off + len))), (0, .ref h), (1, .int (sa_i st)), (2, .int (sa_i off)), (3, .int (sa_i len)), (4, .int bv)]) hx hb dX0_piece_94 hl (by decide) rfl (fun ls hl => ?_)
        refine lv_iload hx hb dX0_piece_96 (lv_at hl 1 rfl) ?_
        refine lv_istore (lv' := [(8, .int (sa_i (RP st))), (7, .int (sa_i 0)), (6, .int (sa_i (RP st))), (5, .int (sa_i (off + len))), (0, .ref h), (1, .int (sa_i st)), (2, .int (sa_i off)), (3, .int (sa_i len)), (4, .int bv)]) hx hb dX0_piece_98 hl (by decide) rfl (fun ls hl => ?_)
        exact metX0_piece_L100 S hr hlk hK hA hst hok hof hln (by omega) (by omega) c_65 (fr := RP st) (by unfold xFrom; rw [if_neg (by omega)]) (by omega) ((off + len).toNat + 1) (RP st) 0 (by omega) (by omega) (by omega) (by omega) (by omega) G rfl rfl _ _ hP hD hS ls (lv_sub hl [4, 5, 6, 7, 8, 3, 2, 1, 0] rfl)
      · refine lv_iload_n hx hb dX0_piece_81 rfl (lv_at hl 3 rfl) ?_
        refine lv_goto (tgt := 91) hx hb dX0_piece_82 (by decide) ?_
        refine lv_istore (lv' := [(6, .int (sa_i off)), (5, .int (sa_i (off + len))), (0, .ref h), (1, .int (sa_i st)), (2, .int (sa_i off)), (3, .int (sa_i len)), (4, .int bv)]) hx hb dX0_piece_91 hl (by decide) rfl (fun ls hl => ?_)
        refine sa_const hx hb dX0_piece_93 ?_
        refine lv_istore (lv' := [(7, .int (sa_i 0)), (6, .int (sa_i off)), (5, .int (sa_i (off + len))), (0, .ref h), (1, .int (sa_i st)), (2, .int (sa_i off)), (3, .int (sa_i len)), (4, .int bv)]) hx hb dX0_piece_94 hl (by decide) rfl (fun ls hl => ?_)
        refine lv_iload hx hb dX0_piece_96 (lv_at hl 1 rfl) ?_
        refine lv_istore (lv' := [(8, .int (sa_i off)), (7, .int (sa_i 0)), (6, .int (sa_i off)), (5, .int (sa_i (off + len))), (0, .ref h), (1, .int (sa_i st)), (2, .int (sa_i off)), (3, .int (sa_i len)), (4, .int bv)]) hx hb dX0_piece_98 hl (by decide) rfl (fun ls hl => ?_)
        exact metX0_piece_L100 S hr hlk hK hA hst hok hof hln (by omega) (by omega) c_65 (fr := off) (by unfold xFrom; rw [if_pos (by omega)]) (by omega) ((off + len).toNat + 1) off 0 (by omega) (by omega) (by omega) (by omega) (by omega) G rfl rfl _ _ hP hD hS ls (lv_sub hl [4, 5, 6, 7, 8, 3, 2, 1, 0] rfl)
    · refine sa_bipush hx hb dX0_piece_68 (by decide +kernel) ?_
      exact sa_retI (G, RN, LO, HI) hx hb hr hlk hK hP hD hS dX0_piece_70 (Or.inr (Or.inl ⟨by omega, c_65, rfl, rfl⟩))
  · refine lv_iload hx hb dX0_piece_44 (lv_at hl 0 rfl) ?_
    refine lv_aload_n hx hb dX0_piece_46 rfl (lv_at hl 1 rfl) ?_
    refine x_g2 S hK hP dX0_piece_47 ?_
    refine lv_iload_n hx hb dX0_piece_50 rfl (lv_at hl 2 rfl) ?_
    refine x_l2 S hK hP dX0_piece_51 ?_
    refine sa_icmp_le (tgt := 58) hx hb dX0_piece_52 (by decide) (fun c_52 => ?_) (fun c_52 => ?_)
    · refine lv_aload_n hx hb dX0_piece_58 rfl (lv_at hl 1 rfl) ?_
      refine lv_iload_n hx hb dX0_piece_59 rfl (lv_at hl 2 rfl) ?_
      refine lv_iload hx hb dX0_piece_60 (lv_at hl 0 rfl) ?_
      refine kX0_mayReach S hK hP hst (by omega) hok hl.1 dX0_piece_62 ?_
      refine sa_ifB_ne (tgt := 71) hx hb dX0_piece_65 (by decide) (fun c_65 => ?_) (fun c_65 => ?_)
      · have b3 := xMay_lim c_65
        refine lv_iload_n hx hb dX0_piece_71 rfl (lv_at hl 3 rfl) ?_
        refine lv_aload_n hx hb dX0_piece_72 rfl (lv_at hl 1 rfl) ?_
        refine x_g1 S hK hP dX0_piece_73 ?_
        refine lv_iload_n hx hb dX0_piece_76 rfl (lv_at hl 2 rfl) ?_
        refine x_l1 S hK hP dX0_piece_77 ?_
        refine sa_icmp_le (tgt := 85) hx hb dX0_piece_78 (by decide) (fun c_78 => ?_) (fun c_78 => ?_)
        · refine lv_aload_n hx hb dX0_piece_85 rfl (lv_at hl 1 rfl) ?_
          refine x_g1 S hK hP dX0_piece_86 ?_
          refine lv_iload_n hx hb dX0_piece_89 rfl (lv_at hl 2 rfl) ?_
          refine x_l1 S hK hP dX0_piece_90 ?_
          refine lv_istore (lv' := [(6, .int (sa_i (RP st))), (5, .int (sa_i (off + len))), (0, .ref h), (1, .int (sa_i st)), (2, .int (sa_i off)), (3, .int (sa_i len)), (4, .int bv)]) hx hb dX0_piece_91 hl (by decide) rfl (fun ls hl => ?_)
          refine sa_const hx hb dX0_piece_93 ?_
          refine lv_istore (lv' := [(7, .int (sa_i 0)), (6, .int (sa_i (RP st))), (5, .int (sa_i (off + len))), (0, .ref h), (1, .int (sa_i st)), (2, .int (sa_i off)), (3, .int (sa_i len)), (4, .int bv)]) hx hb dX0_piece_94 hl (by decide) rfl (fun ls hl => ?_)
          refine lv_iload hx hb dX0_piece_96 (lv_at hl 1 rfl) ?_
          refine lv_istore (lv' := [(8, .int (sa_i (RP st))), (7, .int (sa_i 0)), (6, .int (sa_i (RP st))), (5, .int (sa_i (off + len))), (0, .ref h), (1, .int (sa_i st)), (2, .int (sa_i off)), (3, .int (sa_i len)), (4, .int bv)]) hx hb dX0_piece_98 hl (by decide) rfl (fun ls hl => ?_)
          exact metX0_piece_L100 S hr hlk hK hA hst hok hof hln (by omega) (by omega) c_65 (fr := RP st) (by unfold xFrom; rw [if_neg (by omega)]) (by omega) ((off + len).toNat + 1) (RP st) 0 (by omega) (by omega) (by omega) (by omega) (by omega) G rfl rfl _ _ hP hD hS ls (lv_sub hl [4, 5, 6, 7, 8, 3, 2, 1, 0] rfl)
        · refine lv_iload_n hx hb dX0_piece_81 rfl (lv_at hl 3 rfl) ?_
          refine lv_goto (tgt := 91) hx hb dX0_piece_82 (by decide) ?_
          refine lv_istore (lv' := [(6, .int (sa_i off)), (5, .int (sa_i (off + len))), (0, .ref h), (1, .int (sa_i st)), (2, .int (sa_i off)), (3, .int (sa_i len)), (4, .int bv)]) hx hb dX0_piece_91 hl (by decide) rfl (fun ls hl => ?_)
          refine sa_const hx hb dX0_piece_93 ?_
          refine lv_istore (lv' := [(7, .int (sa_i 0)), (6, .int (sa_i off)), (5, .int (sa_i (off + len))), (0, .ref h), (1, .int (sa_i st)), (2, .int (sa_i off)), (3, .int (sa_i len)), (4, .int bv)]) hx hb dX0_piece_94 hl (by decide) rfl (fun ls hl => ?_)
          refine lv_iload hx hb dX0_piece_96 (lv_at hl 1 rfl) ?_
          refine lv_istore (lv' := [(8, .int (sa_i off)), (7, .int (sa_i 0)), (6, .int (sa_i off)), (5, .int (sa_i (off + len))), (0, .ref h), (1, .int (sa_i st)), (2, .int (sa_i off)), (3, .int (sa_i len)), (4, .int bv)]) hx hb dX0_piece_98 hl (by decide) rfl (fun ls hl => ?_)
          exact metX0_piece_L100 S hr hlk hK hA hst hok hof hln (by omega) (by omega) c_65 (fr := off) (by unfold xFrom; rw [if_pos (by omega)]) (by omega) ((off + len).toNat + 1) off 0 (by omega) (by omega) (by omega) (by omega) (by omega) G rfl rfl _ _ hP hD hS ls (lv_sub hl [4, 5, 6, 7, 8, 3, 2, 1, 0] rfl)
      · refine sa_bipush hx hb dX0_piece_68 (by decide +kernel) ?_
        exact sa_retI (G, RN, LO, HI) hx hb hr hlk hK hP hD hS dX0_piece_70 (Or.inr (Or.inl ⟨by omega, c_65, rfl, rfl⟩))
    · refine sa_bipush hx hb dX0_piece_55 (by decide +kernel) ?_
      exact sa_retI (G, RN, LO, HI) hx hb hr hlk hK hP hD hS dX0_piece_57 (Or.inl ⟨⟨by omega, by omega⟩, rfl, rfl⟩)
end
section
/-! ===== StreamAssemblerModel: the methods that change nothing (printed by gen/m1.py) ===== -/
theorem mBad_t {s : Int} (h : mBad s = true) : s < 0 ∨ 3 < s := by simpa [mBad] using h
theorem mBad_f {s : Int} (h : mBad s = false) : 0 ≤ s ∧ s ≤ 3 := by
  by_cases h0 : s < 0
  · simp [mBad, h0] at h
  · by_cases h1 : 3 < s
    · simp [mBad, h1] at h
    · omega
theorem mBad_i {s : Int} (h : 0 ≤ s ∧ s ≤ 3) : mBad s = false := by
  cases hq : mBad s with
  | false => rfl
  | true => exact absurd (mBad_t hq) (by omega)
theorem mBad_n {s : Int} (h : ¬ (0 ≤ s ∧ s ≤ 3)) : mBad s = true := by
  cases hq : mBad s with
  | false => exact absurd (mBad_f hq) h
  | true => rfl
theorem mLim_in {PT ED : Int → Int} (hok : mOK PT ED) (s : Int) : 24 ≤ mLim PT s ∧ mLim PT s ≤ 240 := by
  have h := hok s
  unfold mLim
  split <;> omega
set_option maxHeartbeats 4000000 in
set_option maxRecDepth 100000 in
theorem metX1_bad (l : Launch) (st : Int) (hst : -2147483648 ≤ st ∧ st < 2147483648) : sa_MetS l yX1_bad cX1_bad 1 (some .boolean) 0 [.int (sa_i st)] (sa_b (mBad st)) := by
  refine sa_metS (by decide) (Nat.le_of_ble_eq_true rfl) ?_
  intro p e s m below meth c S hr hlk ls hl
  have hl : lv_has ls 1 [(0, .int (sa_i st))] := hl
  obtain ⟨hx, hb, -, -, -⟩ := id S
  refine lv_iload_n hx hb dX1_bad_0 rfl (lv_at hl 0 rfl) ?_
  refine sa_if_lt (tgt := 9) hx hb dX1_bad_1 (by decide) (fun c_1 => ?_) (fun c_1 => ?_)
  · refine sa_const hx hb dX1_bad_9 ?_
    refine lv_goto (tgt := 14) hx hb dX1_bad_10 (by decide) ?_
    exact sa_retB true rfl hx hb hr hlk dX1_bad_14 ((mBad_n (by omega)).symm)
  · refine lv_iload_n hx hb dX1_bad_4 rfl (lv_at hl 0 rfl) ?_
    refine sa_const hx hb dX1_bad_5 ?_
    refine sa_icmp_le (tgt := 13) hx hb dX1_bad_6 (by decide) (fun c_6 => ?_) (fun c_6 => ?_)
    · refine sa_const hx hb dX1_bad_13 ?_
      exact sa_retB false rfl hx hb hr hlk dX1_bad_14 ((mBad_i (by omega)).symm)
    · refine sa_const hx hb dX1_bad_9 ?_
      refine lv_goto (tgt := 14) hx hb dX1_bad_10 (by decide) ?_
      exact sa_retB true rfl hx hb hr hlk dX1_bad_14 ((mBad_n (by omega)).symm)
theorem kX1_badB {l : Launch} {p : Program} {e : Env} {R : Room} {s : State} {m : MethodId} {args : Array Value} {below : List Frame} {meth : Method} {c : Code} {H : Heap} {locs : List Loc} {cells slots : Nat} {Q : State → Prop} {cc : ByteArray} {pc nL : Nat} {ls : Array Slot} {rest : List Value} {st : Int} (S : CallFix p m c cc nL s args lw_all RX1) (hst : -2147483648 ≤ st ∧ st < 2147483648) (hsz : ls.size = nL) (hdg : decode cc pc = .ok (.invokestatic 30, 3)) (kk : W p l e R s m args below meth c H locs cells slots Q (F0 m (pc + 3) ls (.int (sa_b (mBad st)) :: rest))) (hR : 0 + 1 ≤ R.frames ∧ 8 + (1 + 11) + 31 * 0 ≤ R.locals := by decide) (hrest : (rest.map fun v => v.category).sum ≤ 8 := by exact Nat.le_of_ble_eq_true rfl) (hcells : cells ≤ R.cells ∧ slots ≤ R.slots := by decide) : W p l e R s m args below meth c H locs cells slots Q (F0 m pc ls (.int (sa_i st) :: rest)) :=
  sa_callS (nA := 1) S (metX1_bad l st hst) (lw_S q141 q142 q15 q143) (by decide +kernel) rfl hR hsz rfl hrest hcells hdg kk
theorem kX1_bad {l : Launch} {p : Program} {e : Env} {R : Room} {s : State} {m : MethodId} {args : Array Value} {below : List Frame} {meth : Method} {c : Code} {H : Heap} {locs : List Loc} {cells slots : Nat} {Q : State → Prop} {cc : ByteArray} {pc nL : Nat} {ls : Array Slot} {rest : List Value} {st : Int} (S : CallFix p m c cc nL s args lw_all RX1) (hst : 0 ≤ st ∧ st ≤ 3) (hsz : ls.size = nL) (hdg : decode cc pc = .ok (.invokestatic 30, 3)) (kk : W p l e R s m args below meth c H locs cells slots Q (F0 m (pc + 3) ls (.int (sa_i 0) :: rest))) (hR : 0 + 1 ≤ R.frames ∧ 8 + (1 + 11) + 31 * 0 ≤ R.locals := by decide) (hrest : (rest.map fun v => v.category).sum ≤ 8 := by exact Nat.le_of_ble_eq_true rfl) (hcells : cells ≤ R.cells ∧ slots ≤ R.slots := by decide) : W p l e R s m args below meth c H locs cells slots Q (F0 m pc ls (.int (sa_i st) :: rest)) :=
  kX1_badB S (by omega) hsz hdg (by rw [mBad_i hst]; exact kk) hR hrest hcells
theorem kX1_badN {l : Launch} {p : Program} {e : Env} {R : Room} {s : State} {m : MethodId} {args : Array Value} {below : List Frame} {meth : Method} {c : Code} {H : Heap} {locs : List Loc} {cells slots : Nat} {Q : State → Prop} {cc : ByteArray} {pc nL : Nat} {ls : Array Slot} {rest : List Value} {st : Int} (S : CallFix p m c cc nL s args lw_all RX1) (hr : -2147483648 ≤ st ∧ st < 2147483648) (hst : ¬ (0 ≤ st ∧ st ≤ 3)) (hsz : ls.size = nL) (hdg : decode cc pc = .ok (.invokestatic 30, 3)) (kk : W p l e R s m args below meth c H locs cells slots Q (F0 m (pc + 3) ls (.int (sa_i 1) :: rest))) (hR : 0 + 1 ≤ R.frames ∧ 8 + (1 + 11) + 31 * 0 ≤ R.locals := by decide) (hrest : (rest.map fun v => v.category).sum ≤ 8 := by exact Nat.le_of_ble_eq_true rfl) (hcells : cells ≤ R.cells ∧ slots ≤ R.slots := by decide) : W p l e R s m args below meth c H locs cells slots Q (F0 m pc ls (.int (sa_i st) :: rest)) :=
  kX1_badB S hr hsz hdg (by rw [mBad_n hst]; exact kk) hR hrest hcells
set_option maxHeartbeats 4000000 in
set_option maxRecDepth 100000 in
theorem metX1_limit (l : Launch) (D : va_G) (h : Nat) (a : Nat → Nat) (cI cZ : ClassId) (K : Int → Bool) (B : Int → Int32) (PT ED : Int → Int) (st : Int) (hst : 0 ≤ st ∧ st ≤ 3) (hok : mOK PT ED) : sa_MetP l yX1_limit cX1_limit 2 (some .int) 0 [.ref h, .int (sa_i st)] D vwCl (mT cI cZ) (wM h a cI cZ K B PT ED) (sa_i (mLim PT st)) := by
  refine sa_metP (by decide) (Nat.le_of_ble_eq_true rfl) ?_
  intro p e s m below meth c S hr hlk hP hK ls hl
  have hl : lv_has ls 2 [(0, .ref h), (1, .int (sa_i st))] := hl
  have S : CallFix p m c cX1_limit 2 s _ lw_all RX1 := S
  obtain ⟨hx, hb, -, -, -⟩ := id S
  have b1 := hok st
  refine lv_aload_n hx hb dX1_limit_0 rfl (lv_at hl 0 rfl) ?_
  refine m_g2 S hK hP dX1_limit_1 ?_
  refine lv_iload_n hx hb dX1_limit_4 rfl (lv_at hl 1 rfl) ?_
  refine m_l2 S hK hP dX1_limit_5 ?_
  refine sa_bipush hx hb dX1_limit_6 (by decide +kernel) ?_
  refine sa_add hx hb dX1_limit_8 ?_
  refine sa_sipush hx hb dX1_limit_9 (by decide +kernel) ?_
  refine sa_icmp_ge (tgt := 27) hx hb dX1_limit_12 (by decide) (fun c_12 => ?_) (fun c_12 => ?_)
  · refine sa_sipush hx hb dX1_limit_27 (by decide +kernel) ?_
    exact sa_ret hx hb hr hlk dX1_limit_30 (congrArg sa_i (by unfold mLim; split <;> omega))
  · refine lv_aload_n hx hb dX1_limit_15 rfl (lv_at hl 0 rfl) ?_
    refine m_g2 S hK hP dX1_limit_16 ?_
    refine lv_iload_n hx hb dX1_limit_19 rfl (lv_at hl 1 rfl) ?_
    refine m_l2 S hK hP dX1_limit_20 ?_
    refine sa_bipush hx hb dX1_limit_21 (by decide +kernel) ?_
    refine sa_add hx hb dX1_limit_23 ?_
    refine lv_goto (tgt := 30) hx hb dX1_limit_24 (by decide) ?_
    exact sa_ret hx hb hr hlk dX1_limit_30 (congrArg sa_i (by unfold mLim; split <;> omega))
theorem kX1_limit {l : Launch} {D : va_G} {h : Nat} {a : Nat → Nat} {cI cZ : ClassId} {K : Int → Bool} {B : Int → Int32} {PT ED : Int → Int} {p : Program} {e : Env} {R : Room} {s : State} {m : MethodId} {args : Array Value} {below : List Frame} {meth : Method} {c : Code} {H : Heap} {locs : List Loc} {cells slots : Nat} {Q : State → Prop} {cc : ByteArray} {pc nL : Nat} {ls : Array Slot} {rest : List Value} {st : Int} (S : CallFix p m c cc nL s args lw_all RX1) (hK : va_K D vwCl (mT cI cZ) s) (hP : va_P D vwCl (wM h a cI cZ K B PT ED) H) (hst : 0 ≤ st ∧ st ≤ 3) (hok : mOK PT ED) (hsz : ls.size = nL) (hdg : decode cc pc = .ok (.invokevirtual 23, 3)) (kk : W p l e R s m args below meth c H locs cells slots Q (F0 m (pc + 3) ls (.int (sa_i (mLim PT st)) :: rest))) (hR : 0 + 1 ≤ R.frames ∧ 8 + (2 + 11) + 31 * 0 ≤ R.locals := by decide) (hrest : (rest.map fun v => v.category).sum ≤ 8 := by exact Nat.le_of_ble_eq_true rfl) (hcells : cells ≤ R.cells ∧ slots ≤ R.slots := by decide) : W p l e R s m args below meth c H locs cells slots Q (F0 m pc ls (.int (sa_i st) :: .ref h :: rest)) :=
  sa_callP (nA := 1) S (metX1_limit l D h a cI cZ K B PT ED st hst hok) (lw_V q148 q150 qs9 q15 q151) (by decide +kernel) rfl hR hK hP 1 0 rfl rfl hsz rfl hrest hcells hdg kk
set_option maxHeartbeats 4000000 in
set_option maxRecDepth 100000 in
theorem metX1_top_L20 {l : Launch} {D : va_G} {h : Nat} {a : Nat → Nat} {cI cZ : ClassId} {K : Int → Bool} {B : Int → Int32} {PT ED : Int → Int} {p : Program} {e : Env} {s : State} {m : MethodId} {below : List Frame} {meth : Method} {c : Code} {av : Array Value} {st : Int} (S : CallFix p m c cX1_top 3 s av lw_all RX1) (hr : meth.sig.returnType = some .int) (hlk : meth.locks = false) (hP : va_P D vwCl (wM h a cI cZ K B PT ED) s.heap) (hK : va_K D vwCl (mT cI cZ) s) (hst : 0 ≤ st ∧ st ≤ 3) (rv : Int) :
    ∀ (n : Nat) (i : Int), i < (n : Int) ∧ 0 ≤ i → i ≤ 240 → mTopF K st i.toNat = rv → ∀ ls : Array Slot, lv_has ls 3 [(0, .ref h), (1, .int (sa_i st)), (2, .int (sa_i i))] → W p l e (sa_rm 0) s m av below meth c s.heap [] 0 0 (MQ below (vp_Si (fun r => r = sa_i rv)) av s 0 0 (fun _ => False)) (F0 m 20 ls []) := by
  obtain ⟨hx, hb, -, -, -⟩ := id S
  intro n
  induction n with
  | zero => intro i h1 h2 h3; exact absurd h1 (by omega)
  | succ n ih =>
    intro i h1 h2 h3 ls hl
    refine lv_iload_n hx hb dX1_top_20 rfl (lv_at hl 2 rfl) ?_
    refine sa_if_le (tgt := 49) hx hb dX1_top_21 (by decide) (fun c_21 => ?_) (fun c_21 => ?_)
    · refine sa_const hx hb dX1_top_49 ?_
      exact sa_ret hx hb hr hlk dX1_top_50 (congrArg sa_i (by rw [← h3, mTopF_0 (show i ≤ 0 by omega)]))
    · have hF := mTopF_step (K := K) (s := st) (show 0 < i by omega)
      refine lv_aload_n hx hb dX1_top_24 rfl (lv_at hl 0 rfl) ?_
      refine m_g0 S hK hP dX1_top_25 ?_
      refine sa_sipush hx hb dX1_top_28 (by decide +kernel) ?_
      refine lv_iload_n hx hb dX1_top_31 rfl (lv_at hl 1 rfl) ?_
      refine sa_mul hx hb dX1_top_32 ?_
      refine lv_iload_n hx hb dX1_top_33 rfl (lv_at hl 2 rfl) ?_
      refine sa_add hx hb dX1_top_34 ?_
      refine sa_const hx hb dX1_top_35 ?_
      refine sa_sub hx hb dX1_top_36 ?_
      refine m_l0 S hK hP dX1_top_37 ?_
      refine sa_ifB_eq (tgt := 43) hx hb dX1_top_38 (by decide) (fun c_38 => ?_) (fun c_38 => ?_)
      · refine sa_iinc (k := 2) (lv' := [(2, .int (sa_i (i + (-1)))), (0, .ref h), (1, .int (sa_i st))]) hx hb dX1_top_43 hl rfl (by decide) rfl (fun ls hl => ?_)
        refine lv_goto (tgt := 20) hx hb dX1_top_46 (by decide) ?_
        rw [if_neg (by rw [c_38]; decide)] at hF
        exact ih (i + (-1)) (by omega) (by omega) (by rw [← h3, hF, show i + (-1) = i - 1 by omega]) ls (lv_sub hl [1, 2, 0] rfl)
      · refine lv_iload_n hx hb dX1_top_41 rfl (lv_at hl 2 rfl) ?_
        exact sa_ret hx hb hr hlk dX1_top_42 (congrArg sa_i (by rw [← h3, hF, if_pos c_38]))
set_option maxHeartbeats 4000000 in
set_option maxRecDepth 100000 in
theorem metX1_top (l : Launch) (D : va_G) (h : Nat) (a : Nat → Nat) (cI cZ : ClassId) (K : Int → Bool) (B : Int → Int32) (PT ED : Int → Int) (st : Int) (hst : 0 ≤ st ∧ st ≤ 3) (hok : mOK PT ED) : sa_MetP l yX1_top cX1_top 3 (some .int) 0 [.ref h, .int (sa_i st)] D vwCl (mT cI cZ) (wM h a cI cZ K B PT ED) (sa_i (mTop K ED st)) := by
  refine sa_metP (by decide) (Nat.le_of_ble_eq_true rfl) ?_
  intro p e s m below meth c S hr hlk hP hK ls hl
  have hl : lv_has ls 3 [(0, .ref h), (1, .int (sa_i st))] := hl
  have S : CallFix p m c cX1_top 3 s _ lw_all RX1 := S
  obtain ⟨hx, hb, -, -, -⟩ := id S
  have b1 := hok st
  refine lv_aload_n hx hb dX1_top_0 rfl (lv_at hl 0 rfl) ?_
  refine m_g3 S hK hP dX1_top_1 ?_
  refine lv_iload_n hx hb dX1_top_4 rfl (lv_at hl 1 rfl) ?_
  refine m_l3 S hK hP dX1_top_5 ?_
  refine sa_if_lt (tgt := 16) hx hb dX1_top_6 (by decide) (fun c_6 => ?_) (fun c_6 => ?_)
  · refine sa_sipush hx hb dX1_top_16 (by decide +kernel) ?_
    refine lv_istore_n (lv' := [(2, .int (sa_i 240)), (0, .ref h), (1, .int (sa_i st))]) hx hb dX1_top_19 rfl hl (by decide) rfl (fun ls hl => ?_)
    exact metX1_top_L20 S hr hlk hP hK hst _ 241 240 (by omega) (by omega) (by unfold mTop; rw [if_neg (by omega)]; rfl) ls (lv_sub hl [1, 2, 0] rfl)
  · refine lv_aload_n hx hb dX1_top_9 rfl (lv_at hl 0 rfl) ?_
    refine m_g3 S hK hP dX1_top_10 ?_
    refine lv_iload_n hx hb dX1_top_13 rfl (lv_at hl 1 rfl) ?_
    refine m_l3 S hK hP dX1_top_14 ?_
    exact sa_ret hx hb hr hlk dX1_top_15 (congrArg sa_i (by unfold mTop; rw [if_pos (by omega)]))
theorem kX1_top {l : Launch} {D : va_G} {h : Nat} {a : Nat → Nat} {cI cZ : ClassId} {K : Int → Bool} {B : Int → Int32} {PT ED : Int → Int} {p : Program} {e : Env} {R : Room} {s : State} {m : MethodId} {args : Array Value} {below : List Frame} {meth : Method} {c : Code} {H : Heap} {locs : List Loc} {cells slots : Nat} {Q : State → Prop} {cc : ByteArray} {pc nL : Nat} {ls : Array Slot} {rest : List Value} {st : Int} (S : CallFix p m c cc nL s args lw_all RX1) (hK : va_K D vwCl (mT cI cZ) s) (hP : va_P D vwCl (wM h a cI cZ K B PT ED) H) (hst : 0 ≤ st ∧ st ≤ 3) (hok : mOK PT ED) (hsz : ls.size = nL) (hdg : decode cc pc = .ok (.invokevirtual 27, 3)) (kk : W p l e R s m args below meth c H locs cells slots Q (F0 m (pc + 3) ls (.int (sa_i (mTop K ED st)) :: rest))) (hR : 0 + 1 ≤ R.frames ∧ 8 + (3 + 11) + 31 * 0 ≤ R.locals := by decide) (hrest : (rest.map fun v => v.category).sum ≤ 8 := by exact Nat.le_of_ble_eq_true rfl) (hcells : cells ≤ R.cells ∧ slots ≤ R.slots := by decide) : W p l e R s m args below meth c H locs cells slots Q (F0 m pc ls (.int (sa_i st) :: .ref h :: rest)) :=
  sa_callP (nA := 1) S (metX1_top l D h a cI cZ K B PT ED st hst hok) (lw_V q152 q154 qs10 q15 q155) (by decide +kernel) rfl hR hK hP 1 0 rfl rfl hsz rfl hrest hcells hdg kk
set_option maxHeartbeats 4000000 in
set_option maxRecDepth 100000 in
theorem metX1_fits_L19 {l : Launch} {D : va_G} {h : Nat} {a : Nat → Nat} {cI cZ : ClassId} {K : Int → Bool} {B : Int → Int32} {PT ED : Int → Int} {p : Program} {e : Env} {s : State} {m : MethodId} {below : List Frame} {meth : Method} {c : Code} {av : Array Value} {st up : Int} (S : CallFix p m c cX1_fits 7 s av lw_all RX1) (hr : meth.sig.returnType = some .boolean) (hlk : meth.locks = false) (hP : va_P D vwCl (wM h a cI cZ K B PT ED) s.heap) (hK : va_K D vwCl (mT cI cZ) s) (hst : 0 ≤ st ∧ st ≤ 3) (hup : 0 ≤ up ∧ up ≤ 240) (hlm : up ≤ mLim PT st) (hok : mOK PT ED) :
    ∀ (n : Nat) (i tp pp : Int), 4 - i < (n : Int) ∧ i ≤ 4 → 0 ≤ i → 0 ≤ tp ∧ tp ≤ 240 * i → 0 ≤ pp ∧ pp ≤ 240 * i → tp = mTs K ED st up i.toNat → pp = mPs PT i.toNat → ∀ ls : Array Slot, lv_has ls 7 [(0, .ref h), (1, .int (sa_i st)), (2, .int (sa_i up)), (3, .int (sa_i tp)), (4, .int (sa_i pp)), (5, .int (sa_i i))] → W p l e (sa_rm 1) s m av below meth c s.heap [] 0 0 (MQ below (vp_Si (fun r => r = sa_b (mFit K PT ED st up))) av s 0 0 (fun _ => False)) (F0 m 19 ls []) := by
  obtain ⟨hx, hb, -, -, -⟩ := id S
  intro n
  induction n with
  | zero => intro i tp pp h1 h2 h3 h4 h5 h6; exact absurd h1 (by omega)
  | succ n ih =>
    intro i tp pp h1 h2 h3 h4 h5 h6 ls hl
    have b1 := hok i
    have b2 := mTop_in (K := K) hok i
    refine lv_iload hx hb dX1_fits_19 (lv_at hl 5 rfl) ?_
    refine sa_const hx hb dX1_fits_21 ?_
    refine sa_icmp_ge (tgt := 72) hx hb dX1_fits_22 (by decide) (fun c_22 => ?_) (fun c_22 => ?_)
    · have hi : i = 4 := by omega
      have e1 : mTs K ED st up 4 = tp := by rw [h5, hi]; rfl
      have e2 : mPs PT 4 = pp := by rw [h6, hi]; rfl
      refine lv_iload_n hx hb dX1_fits_72 rfl (lv_at hl 3 rfl) ?_
      refine lv_iload hx hb dX1_fits_73 (lv_at hl 4 rfl) ?_
      refine sa_bipush hx hb dX1_fits_75 (by decide +kernel) ?_
      refine sa_add hx hb dX1_fits_77 ?_
      refine sa_icmp_gt (tgt := 85) hx hb dX1_fits_78 (by decide) (fun c_78 => ?_) (fun c_78 => ?_)
      · refine sa_const hx hb dX1_fits_85 ?_
        exact sa_retB false rfl hx hb hr hlk dX1_fits_86 (by unfold mFit; rw [e1, e2]; simp; omega)
      · refine sa_const hx hb dX1_fits_81 ?_
        refine lv_goto (tgt := 86) hx hb dX1_fits_82 (by decide) ?_
        exact sa_retB true rfl hx hb hr hlk dX1_fits_86 (by unfold mFit; rw [e1, e2]; simp; omega)
    · refine lv_aload_n hx hb dX1_fits_25 rfl (lv_at hl 0 rfl) ?_
      refine lv_iload hx hb dX1_fits_26 (lv_at hl 5 rfl) ?_
      refine kX1_top S hK hP (by omega) hok hl.1 dX1_fits_28 ?_
      refine lv_istore (lv' := [(6, .int (sa_i (mTop K ED i))), (0, .ref h), (1, .int (sa_i st)), (2, .int (sa_i up)), (3, .int (sa_i tp)), (4, .int (sa_i pp)), (5, .int (sa_i i))]) hx hb dX1_fits_31 hl (by decide) rfl (fun ls hl => ?_)
      refine lv_iload_n hx hb dX1_fits_33 rfl (lv_at hl 4 rfl) ?_
      refine lv_iload hx hb dX1_fits_34 (lv_at hl 6 rfl) ?_
      refine lv_iload_n hx hb dX1_fits_36 rfl (lv_at hl 2 rfl) ?_
      refine sa_icmp_ne (tgt := 50) hx hb dX1_fits_37 (by decide) (fun c_37 => ?_) (fun c_37 => ?_)
      · refine lv_iload hx hb dX1_fits_50 (lv_at hl 0 rfl) ?_
        refine sa_add hx hb dX1_fits_52 ?_
        refine sa_name (fun tq_53 e_tq_53 => ?_)
        refine lv_istore_n (lv' := [(3, .int (sa_i tq_53)), (6, .int (sa_i (mTop K ED i))), (0, .ref h), (1, .int (sa_i st)), (2, .int (sa_i up)), (4, .int (sa_i pp)), (5, .int (sa_i i))]) hx hb dX1_fits_53 rfl hl (by decide) rfl (fun ls hl => ?_)
        refine lv_iload hx hb dX1_fits_54 (lv_at hl 5 rfl) ?_
        refine lv_aload_n hx hb dX1_fits_56 rfl (lv_at hl 2 rfl) ?_
        refine m_g2 S hK hP dX1_fits_57 ?_
        refine lv_iload hx hb dX1_fits_60 (lv_at hl 6 rfl) ?_
        refine m_l2 S hK hP dX1_fits_62 ?_
        refine sa_add hx hb dX1_fits_63 ?_
        refine sa_name (fun pq_64 e_pq_64 => ?_)
        refine lv_istore (lv' := [(4, .int (sa_i pq_64)), (3, .int (sa_i tq_53)), (6, .int (sa_i (mTop K ED i))), (0, .ref h), (1, .int (sa_i st)), (2, .int (sa_i up)), (5, .int (sa_i i))]) hx hb dX1_fits_64 hl (by decide) rfl (fun ls hl => ?_)
        refine sa_iinc (k := 6) (lv' := [(5, .int (sa_i (i + 1))), (4, .int (sa_i pq_64)), (3, .int (sa_i tq_53)), (6, .int (sa_i (mTop K ED i))), (0, .ref h), (1, .int (sa_i st)), (2, .int (sa_i up))]) hx hb dX1_fits_66 hl rfl (by decide) rfl (fun ls hl => ?_)
        refine lv_goto (tgt := 19) hx hb dX1_fits_69 (by decide) ?_
        have e1 : mUp K ED st up i = mTop K ED i := by unfold mUp; rw [if_neg (by omega)]
        have e2 := mTs_step (K := K) (ED := ED) (s := st) (up := up) (show 0 ≤ i by omega)
        have e3 := mPs_step (PT := PT) (show 0 ≤ i by omega)
        exact ih (i + 1) tq_53 pq_64 (by omega) (by omega) (by omega) (by omega) (by omega) (by omega) ls (lv_sub hl [4, 5, 6, 2, 1, 0] rfl)
      · refine lv_iload_n hx hb dX1_fits_40 rfl (lv_at hl 3 rfl) ?_
        refine lv_iload hx hb dX1_fits_41 (lv_at hl 0 rfl) ?_
        refine sa_icmp_le (tgt := 50) hx hb dX1_fits_43 (by decide) (fun c_43 => ?_) (fun c_43 => ?_)
        · refine lv_iload hx hb dX1_fits_50 (lv_at hl 0 rfl) ?_
          refine sa_add hx hb dX1_fits_52 ?_
          refine sa_name (fun tq_53 e_tq_53 => ?_)
          refine lv_istore_n (lv' := [(3, .int (sa_i tq_53)), (6, .int (sa_i (mTop K ED i))), (0, .ref h), (1, .int (sa_i st)), (2, .int (sa_i up)), (4, .int (sa_i pp)), (5, .int (sa_i i))]) hx hb dX1_fits_53 rfl hl (by decide) rfl (fun ls hl => ?_)
          refine lv_iload hx hb dX1_fits_54 (lv_at hl 5 rfl) ?_
          refine lv_aload_n hx hb dX1_fits_56 rfl (lv_at hl 2 rfl) ?_
          refine m_g2 S hK hP dX1_fits_57 ?_
          refine lv_iload hx hb dX1_fits_60 (lv_at hl 6 rfl) ?_
          refine m_l2 S hK hP dX1_fits_62 ?_
          refine sa_add hx hb dX1_fits_63 ?_
          refine sa_name (fun pq_64 e_pq_64 => ?_)
          refine lv_istore (lv' := [(4, .int (sa_i pq_64)), (3, .int (sa_i tq_53)), (6, .int (sa_i (mTop K ED i))), (0, .ref h), (1, .int (sa_i st)), (2, .int (sa_i up)), (5, .int (sa_i i))]) hx hb dX1_fits_64 hl (by decide) rfl (fun ls hl => ?_)
          refine sa_iinc (k := 6) (lv' := [(5, .int (sa_i (i + 1))), (4, .int (sa_i pq_64)), (3, .int (sa_i tq_53)), (6, .int (sa_i (mTop K ED i))), (0, .ref h), (1, .int (sa_i st)), (2, .int (sa_i up))]) hx hb dX1_fits_66 hl rfl (by decide) rfl (fun ls hl => ?_)
          refine lv_goto (tgt := 19) hx hb dX1_fits_69 (by decide) ?_
          have e1 : mUp K ED st up i = mTop K ED i := by unfold mUp; rw [if_neg (by omega)]
          have e2 := mTs_step (K := K) (ED := ED) (s := st) (up := up) (show 0 ≤ i by omega)
          have e3 := mPs_step (PT := PT) (show 0 ≤ i by omega)
          exact ih (i + 1) tq_53 pq_64 (by omega) (by omega) (by omega) (by omega) (by omega) (by omega) ls (lv_sub hl [4, 5, 6, 2, 1, 0] rfl)
        · refine lv_iload_n hx hb dX1_fits_46 rfl (lv_at hl 3 rfl) ?_
          refine lv_goto (tgt := 52) hx hb dX1_fits_47 (by decide) ?_
          refine sa_add hx hb dX1_fits_52 ?_
          refine sa_name (fun tq_53 e_tq_53 => ?_)
          refine lv_istore_n (lv' := [(3, .int (sa_i tq_53)), (6, .int (sa_i (mTop K ED i))), (0, .ref h), (1, .int (sa_i st)), (2, .int (sa_i up)), (4, .int (sa_i pp)), (5, .int (sa_i i))]) hx hb dX1_fits_53 rfl hl (by decide) rfl (fun ls hl => ?_)
          refine lv_iload hx hb dX1_fits_54 (lv_at hl 5 rfl) ?_
          refine lv_aload_n hx hb dX1_fits_56 rfl (lv_at hl 2 rfl) ?_
          refine m_g2 S hK hP dX1_fits_57 ?_
          refine lv_iload hx hb dX1_fits_60 (lv_at hl 6 rfl) ?_
          refine m_l2 S hK hP dX1_fits_62 ?_
          refine sa_add hx hb dX1_fits_63 ?_
          refine sa_name (fun pq_64 e_pq_64 => ?_)
          refine lv_istore (lv' := [(4, .int (sa_i pq_64)), (3, .int (sa_i tq_53)), (6, .int (sa_i (mTop K ED i))), (0, .ref h), (1, .int (sa_i st)), (2, .int (sa_i up)), (5, .int (sa_i i))]) hx hb dX1_fits_64 hl (by decide) rfl (fun ls hl => ?_)
          refine sa_iinc (k := 6) (lv' := [(5, .int (sa_i (i + 1))), (4, .int (sa_i pq_64)), (3, .int (sa_i tq_53)), (6, .int (sa_i (mTop K ED i))), (0, .ref h), (1, .int (sa_i st)), (2, .int (sa_i up))]) hx hb dX1_fits_66 hl rfl (by decide) rfl (fun ls hl => ?_)
          refine lv_goto (tgt := 19) hx hb dX1_fits_69 (by decide) ?_
          have e1 : mUp K ED st up i = up := by unfold mUp; rw [if_pos (by omega)]
          have e2 := mTs_step (K := K) (ED := ED) (s := st) (up := up) (show 0 ≤ i by omega)
          have e3 := mPs_step (PT := PT) (show 0 ≤ i by omega)
          exact ih (i + 1) tq_53 pq_64 (by omega) (by omega) (by omega) (by omega) (by omega) (by omega) ls (lv_sub hl [4, 5, 6, 2, 1, 0] rfl)
set_option maxHeartbeats 4000000 in
set_option maxRecDepth 100000 in
theorem metX1_fits (l : Launch) (D : va_G) (h : Nat) (a : Nat → Nat) (cI cZ : ClassId) (K : Int → Bool) (B : Int → Int32) (PT ED : Int → Int) (st : Int) (up : Int) (hst : 0 ≤ st ∧ st ≤ 3) (hup : 0 ≤ up ∧ up < 2147483648) (hok : mOK PT ED) : sa_MetP l yX1_fits cX1_fits 7 (some .boolean) 1 [.ref h, .int (sa_i st), .int (sa_i up)] D vwCl (mT cI cZ) (wM h a cI cZ K B PT ED) (sa_b (mFit K PT ED st up)) := by
  refine sa_metP (by decide) (Nat.le_of_ble_eq_true rfl) ?_
  intro p e s m below meth c S hr hlk hP hK ls hl
  have hl : lv_has ls 7 [(0, .ref h), (1, .int (sa_i st)), (2, .int (sa_i up))] := hl
  have S : CallFix p m c cX1_fits 7 s _ lw_all RX1 := S
  obtain ⟨hx, hb, -, -, -⟩ := id S
  have b1 := hok st
  have b2 := mLim_in hok st
  refine lv_iload_n hx hb dX1_fits_0 rfl (lv_at hl 2 rfl) ?_
  refine lv_aload_n hx hb dX1_fits_1 rfl (lv_at hl 0 rfl) ?_
  refine lv_iload_n hx hb dX1_fits_2 rfl (lv_at hl 1 rfl) ?_
  refine kX1_limit S hK hP (by omega) hok hl.1 dX1_fits_3 ?_
  refine sa_icmp_le (tgt := 11) hx hb dX1_fits_6 (by decide) (fun c_6 => ?_) (fun c_6 => ?_)
  · refine sa_const hx hb dX1_fits_11 ?_
    refine lv_istore_n (lv' := [(3, .int (sa_i 0)), (0, .ref h), (1, .int (sa_i st)), (2, .int (sa_i up))]) hx hb dX1_fits_12 rfl hl (by decide) rfl (fun ls hl => ?_)
    refine sa_const hx hb dX1_fits_13 ?_
    refine lv_istore (lv' := [(4, .int (sa_i 0)), (3, .int (sa_i 0)), (0, .ref h), (1, .int (sa_i st)), (2, .int (sa_i up))]) hx hb dX1_fits_14 hl (by decide) rfl (fun ls hl => ?_)
    refine sa_const hx hb dX1_fits_16 ?_
    refine lv_istore (lv' := [(5, .int (sa_i 0)), (4, .int (sa_i 0)), (3, .int (sa_i 0)), (0, .ref h), (1, .int (sa_i st)), (2, .int (sa_i up))]) hx hb dX1_fits_17 hl (by decide) rfl (fun ls hl => ?_)
    exact metX1_fits_L19 S hr hlk hP hK hst (by omega) (by omega) hok 5 0 0 0 (by omega) (by omega) (by omega) (by omega) rfl rfl ls (lv_sub hl [3, 4, 5, 2, 1, 0] rfl)
  · refine sa_const hx hb dX1_fits_9 ?_
    exact sa_retB false rfl hx hb hr hlk dX1_fits_10 (by unfold mFit; simp; omega)
theorem kX1_fits {l : Launch} {D : va_G} {h : Nat} {a : Nat → Nat} {cI cZ : ClassId} {K : Int → Bool} {B : Int → Int32} {PT ED : Int → Int} {p : Program} {e : Env} {R : Room} {s : State} {m : MethodId} {args : Array Value} {below : List Frame} {meth : Method} {c : Code} {H : Heap} {locs : List Loc} {cells slots : Nat} {Q : State → Prop} {cc : ByteArray} {pc nL : Nat} {ls : Array Slot} {rest : List Value} {st : Int} {up : Int} (S : CallFix p m c cc nL s args lw_all RX1) (hK : va_K D vwCl (mT cI cZ) s) (hP : va_P D vwCl (wM h a cI cZ K B PT ED) H) (hst : 0 ≤ st ∧ st ≤ 3) (hup : 0 ≤ up ∧ up < 2147483648) (hok : mOK PT ED) (hsz : ls.size = nL) (hdg : decode cc pc = .ok (.invokevirtual 34, 3)) (kk : W p l e R s m args below meth c H locs cells slots Q (F0 m (pc + 3) ls (.int (sa_b (mFit K PT ED st up)) :: rest))) (hR : 1 + 1 ≤ R.frames ∧ 8 + (7 + 11) + 31 * 1 ≤ R.locals := by decide) (hrest : (rest.map fun v => v.category).sum ≤ 8 := by exact Nat.le_of_ble_eq_true rfl) (hcells : cells ≤ R.cells ∧ slots ≤ R.slots := by decide) : W p l e R s m args below meth c H locs cells slots Q (F0 m pc ls (.int (sa_i up) :: .int (sa_i st) :: .ref h :: rest)) :=
  sa_callP (nA := 2) S (metX1_fits l D h a cI cZ K B PT ED st up hst hup hok) (lw_V q144 q146 qs8 q15 q147) (by decide +kernel) rfl hR hK hP 1 0 rfl rfl hsz rfl hrest hcells hdg kk
set_option maxHeartbeats 4000000 in
set_option maxRecDepth 100000 in
theorem metX1_isKnown (l : Launch) (D : va_G) (h : Nat) (a : Nat → Nat) (cI cZ : ClassId) (K : Int → Bool) (B : Int → Int32) (PT ED : Int → Int) (st : Int) (off : Int) (hst : 0 ≤ st ∧ st ≤ 3) (hof : 0 ≤ off ∧ off < 2147483648) : sa_MetP l yX1_isKnown cX1_isKnown 3 (some .boolean) 0 [.ref h, .int (sa_i st), .int (sa_i off)] D vwCl (mT cI cZ) (wM h a cI cZ K B PT ED) (sa_b (mKn K st off)) := by
  refine sa_metP (by decide) (Nat.le_of_ble_eq_true rfl) ?_
  intro p e s m below meth c S hr hlk hP hK ls hl
  have hl : lv_has ls 3 [(0, .ref h), (1, .int (sa_i st)), (2, .int (sa_i off))] := hl
  have S : CallFix p m c cX1_isKnown 3 s _ lw_all RX1 := S
  obtain ⟨hx, hb, -, -, -⟩ := id S
  refine lv_iload_n hx hb dX1_isKnown_0 rfl (lv_at hl 2 rfl) ?_
  refine sa_sipush hx hb dX1_isKnown_1 (by decide +kernel) ?_
  refine sa_icmp_ge (tgt := 26) hx hb dX1_isKnown_4 (by decide) (fun c_4 => ?_) (fun c_4 => ?_)
  · refine sa_const hx hb dX1_isKnown_26 ?_
    exact sa_retB false rfl hx hb hr hlk dX1_isKnown_27 (by unfold mKn; simp; omega)
  · refine lv_aload_n hx hb dX1_isKnown_7 rfl (lv_at hl 0 rfl) ?_
    refine m_g0 S hK hP dX1_isKnown_8 ?_
    refine sa_sipush hx hb dX1_isKnown_11 (by decide +kernel) ?_
    refine lv_iload_n hx hb dX1_isKnown_14 rfl (lv_at hl 1 rfl) ?_
    refine sa_mul hx hb dX1_isKnown_15 ?_
    refine lv_iload_n hx hb dX1_isKnown_16 rfl (lv_at hl 2 rfl) ?_
    refine sa_add hx hb dX1_isKnown_17 ?_
    refine m_l0 S hK hP dX1_isKnown_18 ?_
    refine sa_ifB_eq (tgt := 26) hx hb dX1_isKnown_19 (by decide) (fun c_19 => ?_) (fun c_19 => ?_)
    · refine sa_const hx hb dX1_isKnown_26 ?_
      exact sa_retB false rfl hx hb hr hlk dX1_isKnown_27 (by unfold mKn; rw [c_19]; simp)
    · refine sa_const hx hb dX1_isKnown_22 ?_
      refine lv_goto (tgt := 27) hx hb dX1_isKnown_23 (by decide) ?_
      exact sa_retB true rfl hx hb hr hlk dX1_isKnown_27 (by unfold mKn; rw [c_19]; simp; omega)
theorem kX1_isKnown {l : Launch} {D : va_G} {h : Nat} {a : Nat → Nat} {cI cZ : ClassId} {K : Int → Bool} {B : Int → Int32} {PT ED : Int → Int} {p : Program} {e : Env} {R : Room} {s : State} {m : MethodId} {args : Array Value} {below : List Frame} {meth : Method} {c : Code} {H : Heap} {locs : List Loc} {cells slots : Nat} {Q : State → Prop} {cc : ByteArray} {pc nL : Nat} {ls : Array Slot} {rest : List Value} {st : Int} {off : Int} (S : CallFix p m c cc nL s args lw_all RX1) (hK : va_K D vwCl (mT cI cZ) s) (hP : va_P D vwCl (wM h a cI cZ K B PT ED) H) (hst : 0 ≤ st ∧ st ≤ 3) (hof : 0 ≤ off ∧ off < 2147483648) (hsz : ls.size = nL) (hdg : decode cc pc = .ok (.invokevirtual 38, 3)) (kk : W p l e R s m args below meth c H locs cells slots Q (F0 m (pc + 3) ls (.int (sa_b (mKn K st off)) :: rest))) (hR : 0 + 1 ≤ R.frames ∧ 8 + (3 + 11) + 31 * 0 ≤ R.locals := by decide) (hrest : (rest.map fun v => v.category).sum ≤ 8 := by exact Nat.le_of_ble_eq_true rfl) (hcells : cells ≤ R.cells ∧ slots ≤ R.slots := by decide) : W p l e R s m args below meth c H locs cells slots Q (F0 m pc ls (.int (sa_i off) :: .int (sa_i st) :: .ref h :: rest)) :=
  sa_callP (nA := 2) S (metX1_isKnown l D h a cI cZ K B PT ED st off hst hof) (lw_V q164 q166 qs11 q15 q167) (by decide +kernel) rfl hR hK hP 1 0 rfl rfl hsz rfl hrest hcells hdg kk
set_option maxHeartbeats 4000000 in
set_option maxRecDepth 100000 in
theorem metX1_begins (l : Launch) (D : va_G) (h : Nat) (a : Nat → Nat) (cI cZ : ClassId) (K : Int → Bool) (B : Int → Int32) (PT ED : Int → Int) (st : Int) (off : Int) (hst : 0 ≤ st ∧ st ≤ 3) (hof : 0 ≤ off ∧ off < 2147483648) (ho1 : off = PT st ∨ 1 ≤ off) (hok : mOK PT ED) : sa_MetP l yX1_begins cX1_begins 3 (some .boolean) 1 [.ref h, .int (sa_i st), .int (sa_i off)] D vwCl (mT cI cZ) (wM h a cI cZ K B PT ED) (sa_b (mBg K PT st off)) := by
  refine sa_metP (by decide) (Nat.le_of_ble_eq_true rfl) ?_
  intro p e s m below meth c S hr hlk hP hK ls hl
  have hl : lv_has ls 3 [(0, .ref h), (1, .int (sa_i st)), (2, .int (sa_i off))] := hl
  have S : CallFix p m c cX1_begins 3 s _ lw_all RX1 := S
  obtain ⟨hx, hb, -, -, -⟩ := id S
  have b1 := hok st
  refine lv_aload_n hx hb dX1_begins_0 rfl (lv_at hl 0 rfl) ?_
  refine lv_iload_n hx hb dX1_begins_1 rfl (lv_at hl 1 rfl) ?_
  refine lv_iload_n hx hb dX1_begins_2 rfl (lv_at hl 2 rfl) ?_
  refine kX1_isKnown S hK hP (by omega) (by omega) hl.1 dX1_begins_3 ?_
  refine sa_ifB_eq (tgt := 11) hx hb dX1_begins_6 (by decide) (fun c_6 => ?_) (fun c_6 => ?_)
  · refine lv_iload_n hx hb dX1_begins_11 rfl (lv_at hl 2 rfl) ?_
    refine lv_aload_n hx hb dX1_begins_12 rfl (lv_at hl 0 rfl) ?_
    refine m_g2 S hK hP dX1_begins_13 ?_
    refine lv_iload_n hx hb dX1_begins_16 rfl (lv_at hl 1 rfl) ?_
    refine m_l2 S hK hP dX1_begins_17 ?_
    refine sa_icmp_eq (tgt := 32) hx hb dX1_begins_18 (by decide) (fun c_18 => ?_) (fun c_18 => ?_)
    · refine sa_const hx hb dX1_begins_32 ?_
      refine lv_goto (tgt := 37) hx hb dX1_begins_33 (by decide) ?_
      exact sa_retB true rfl hx hb hr hlk dX1_begins_37 (by unfold mBg; rw [c_6]; simp; omega)
    · refine lv_aload_n hx hb dX1_begins_21 rfl (lv_at hl 0 rfl) ?_
      refine lv_iload_n hx hb dX1_begins_22 rfl (lv_at hl 1 rfl) ?_
      refine lv_iload_n hx hb dX1_begins_23 rfl (lv_at hl 2 rfl) ?_
      refine sa_const hx hb dX1_begins_24 ?_
      refine sa_sub hx hb dX1_begins_25 ?_
      refine kX1_isKnown S hK hP (by omega) (by omega) hl.1 dX1_begins_26 ?_
      refine sa_ifB_eq (tgt := 36) hx hb dX1_begins_29 (by decide) (fun c_29 => ?_) (fun c_29 => ?_)
      · refine sa_const hx hb dX1_begins_36 ?_
        exact sa_retB false rfl hx hb hr hlk dX1_begins_37 (by unfold mBg; rw [c_6, c_29]; simp; omega)
      · refine sa_const hx hb dX1_begins_32 ?_
        refine lv_goto (tgt := 37) hx hb dX1_begins_33 (by decide) ?_
        exact sa_retB true rfl hx hb hr hlk dX1_begins_37 (by unfold mBg; rw [c_6, c_29]; simp)
  · refine sa_const hx hb dX1_begins_9 ?_
    exact sa_retB false rfl hx hb hr hlk dX1_begins_10 (by unfold mBg; rw [c_6]; rfl)
theorem kX1_begins {l : Launch} {D : va_G} {h : Nat} {a : Nat → Nat} {cI cZ : ClassId} {K : Int → Bool} {B : Int → Int32} {PT ED : Int → Int} {p : Program} {e : Env} {R : Room} {s : State} {m : MethodId} {args : Array Value} {below : List Frame} {meth : Method} {c : Code} {H : Heap} {locs : List Loc} {cells slots : Nat} {Q : State → Prop} {cc : ByteArray} {pc nL : Nat} {ls : Array Slot} {rest : List Value} {st : Int} {off : Int} (S : CallFix p m c cc nL s args lw_all RX1) (hK : va_K D vwCl (mT cI cZ) s) (hP : va_P D vwCl (wM h a cI cZ K B PT ED) H) (hst : 0 ≤ st ∧ st ≤ 3) (hof : 0 ≤ off ∧ off < 2147483648) (ho1 : off = PT st ∨ 1 ≤ off) (hok : mOK PT ED) (hsz : ls.size = nL) (hdg : decode cc pc = .ok (.invokevirtual 41, 3)) (kk : W p l e R s m args below meth c H locs cells slots Q (F0 m (pc + 3) ls (.int (sa_b (mBg K PT st off)) :: rest))) (hR : 1 + 1 ≤ R.frames ∧ 8 + (3 + 11) + 31 * 1 ≤ R.locals := by decide) (hrest : (rest.map fun v => v.category).sum ≤ 8 := by exact Nat.le_of_ble_eq_true rfl) (hcells : cells ≤ R.cells ∧ slots ≤ R.slots := by decide) : W p l e R s m args below meth c H locs cells slots Q (F0 m pc ls (.int (sa_i off) :: .int (sa_i st) :: .ref h :: rest)) :=
  sa_callP (nA := 2) S (metX1_begins l D h a cI cZ K B PT ED st off hst hof ho1 hok) (lw_V q180 q182 qs12 q15 q183) (by decide +kernel) rfl hR hK hP 1 0 rfl rfl hsz rfl hrest hcells hdg kk
end
section
/-! ===== StreamAssemblerModel: the questions (printed by gen/m2.py) ===== -/
def mRb (K : Int → Bool) (PT : Int → Int) (st : Int) : Int := mRd (mKn K st) (PT st) 240 0
def mGaps (K : Int → Bool) (PT ED : Int → Int) (st : Int) : Int := mCnt (mBg K PT st) (mTop K ED st - PT st).toNat (PT st) 0
def mGap (K : Int → Bool) (PT ED : Int → Int) (st num : Int) : Int := mFnd (mBg K PT st) num (mTop K ED st - PT st).toNat (PT st) 0
def mAll (K : Int → Bool) (PT ED : Int → Int) (st : Int) : Int := if 0 ≤ ED st then ED st else mAl (mFit K PT ED st) 241 0 0
def mCo (PT ED : Int → Int) (st : Int) : Int := if 0 ≤ ED st ∧ PT st = ED st then 1 else 0
set_option maxHeartbeats 4000000 in
set_option maxRecDepth 100000 in
theorem metX1_readable_bad (l : Launch) (D : va_G) (h : Nat) (a : Nat → Nat) (cI cZ : ClassId) (K : Int → Bool) (B : Int → Int32) (PT ED : Int → Int) (st : Int) (hsr : -2147483648 ≤ st ∧ st < 2147483648) (hst : ¬ (0 ≤ st ∧ st ≤ 3)) : sa_MetP l yX1_readable cX1_readable 3 (some .int) 1 [.ref h, .int (sa_i st)] D vwCl (mT cI cZ) (wM h a cI cZ K B PT ED) (sa_i (-1)) := by
  refine sa_metP (by decide) (Nat.le_of_ble_eq_true rfl) ?_
  intro p e s m below meth c S hr hlk hP hK ls hl
  have hl : lv_has ls 3 [(0, .ref h), (1, .int (sa_i st))] := hl
  have S : CallFix p m c cX1_readable 3 s _ lw_all RX1 := S
  obtain ⟨hx, hb, -, -, -⟩ := id S
  refine lv_iload_n hx hb dX1_readable_0 rfl (lv_at hl 1 rfl) ?_
  refine kX1_badN S hsr hst hl.1 dX1_readable_1 ?_
  refine sa_if_eq (tgt := 9) hx hb dX1_readable_4 (by decide) (fun c_ => absurd c_ (by decide)) (fun c_4 => ?_)
  refine sa_const hx hb dX1_readable_7 ?_
  exact sa_ret hx hb hr hlk dX1_readable_8 (rfl)
set_option maxHeartbeats 4000000 in
set_option maxRecDepth 100000 in
theorem metX1_gaps_bad (l : Launch) (D : va_G) (h : Nat) (a : Nat → Nat) (cI cZ : ClassId) (K : Int → Bool) (B : Int → Int32) (PT ED : Int → Int) (st : Int) (hsr : -2147483648 ≤ st ∧ st < 2147483648) (hst : ¬ (0 ≤ st ∧ st ≤ 3)) : sa_MetP l yX1_gaps cX1_gaps 4 (some .int) 2 [.ref h, .int (sa_i st)] D vwCl (mT cI cZ) (wM h a cI cZ K B PT ED) (sa_i (-1)) := by
  refine sa_metP (by decide) (Nat.le_of_ble_eq_true rfl) ?_
  intro p e s m below meth c S hr hlk hP hK ls hl
  have hl : lv_has ls 4 [(0, .ref h), (1, .int (sa_i st))] := hl
  have S : CallFix p m c cX1_gaps 4 s _ lw_all RX1 := S
  obtain ⟨hx, hb, -, -, -⟩ := id S
  refine lv_iload_n hx hb dX1_gaps_0 rfl (lv_at hl 1 rfl) ?_
  refine kX1_badN S hsr hst hl.1 dX1_gaps_1 ?_
  refine sa_if_eq (tgt := 9) hx hb dX1_gaps_4 (by decide) (fun c_ => absurd c_ (by decide)) (fun c_4 => ?_)
  refine sa_const hx hb dX1_gaps_7 ?_
  exact sa_ret hx hb hr hlk dX1_gaps_8 (rfl)
set_option maxHeartbeats 4000000 in
set_option maxRecDepth 100000 in
theorem metX1_gap_bad (l : Launch) (D : va_G) (h : Nat) (a : Nat → Nat) (cI cZ : ClassId) (K : Int → Bool) (B : Int → Int32) (PT ED : Int → Int) (st : Int) (num : Int) (hsr : -2147483648 ≤ st ∧ st < 2147483648) (hst : ¬ (0 ≤ st ∧ st ≤ 3)) : sa_MetP l yX1_gap cX1_gap 5 (some .int) 2 [.ref h, .int (sa_i st), .int (sa_i num)] D vwCl (mT cI cZ) (wM h a cI cZ K B PT ED) (sa_i (-1)) := by
  refine sa_metP (by decide) (Nat.le_of_ble_eq_true rfl) ?_
  intro p e s m below meth c S hr hlk hP hK ls hl
  have hl : lv_has ls 5 [(0, .ref h), (1, .int (sa_i st)), (2, .int (sa_i num))] := hl
  have S : CallFix p m c cX1_gap 5 s _ lw_all RX1 := S
  obtain ⟨hx, hb, -, -, -⟩ := id S
  refine lv_iload_n hx hb dX1_gap_0 rfl (lv_at hl 1 rfl) ?_
  refine kX1_badN S hsr hst hl.1 dX1_gap_1 ?_
  refine sa_if_eq (tgt := 9) hx hb dX1_gap_4 (by decide) (fun c_ => absurd c_ (by decide)) (fun c_4 => ?_)
  refine sa_const hx hb dX1_gap_7 ?_
  exact sa_ret hx hb hr hlk dX1_gap_8 (rfl)
set_option maxHeartbeats 4000000 in
set_option maxRecDepth 100000 in
theorem metX1_allowed_bad (l : Launch) (D : va_G) (h : Nat) (a : Nat → Nat) (cI cZ : ClassId) (K : Int → Bool) (B : Int → Int32) (PT ED : Int → Int) (st : Int) (hsr : -2147483648 ≤ st ∧ st < 2147483648) (hst : ¬ (0 ≤ st ∧ st ≤ 3)) : sa_MetP l yX1_allowed cX1_allowed 4 (some .int) 2 [.ref h, .int (sa_i st)] D vwCl (mT cI cZ) (wM h a cI cZ K B PT ED) (sa_i (-1)) := by
  refine sa_metP (by decide) (Nat.le_of_ble_eq_true rfl) ?_
  intro p e s m below meth c S hr hlk hP hK ls hl
  have hl : lv_has ls 4 [(0, .ref h), (1, .int (sa_i st))] := hl
  have S : CallFix p m c cX1_allowed 4 s _ lw_all RX1 := S
  obtain ⟨hx, hb, -, -, -⟩ := id S
  refine lv_iload_n hx hb dX1_allowed_0 rfl (lv_at hl 1 rfl) ?_
  refine kX1_badN S hsr hst hl.1 dX1_allowed_1 ?_
  refine sa_if_eq (tgt := 9) hx hb dX1_allowed_4 (by decide) (fun c_ => absurd c_ (by decide)) (fun c_4 => ?_)
  refine sa_const hx hb dX1_allowed_7 ?_
  exact sa_ret hx hb hr hlk dX1_allowed_8 (rfl)
set_option maxHeartbeats 4000000 in
set_option maxRecDepth 100000 in
theorem metX1_complete_bad (l : Launch) (D : va_G) (h : Nat) (a : Nat → Nat) (cI cZ : ClassId) (K : Int → Bool) (B : Int → Int32) (PT ED : Int → Int) (st : Int) (hsr : -2147483648 ≤ st ∧ st < 2147483648) (hst : ¬ (0 ≤ st ∧ st ≤ 3)) : sa_MetP l yX1_complete cX1_complete 2 (some .int) 1 [.ref h, .int (sa_i st)] D vwCl (mT cI cZ) (wM h a cI cZ K B PT ED) (sa_i (-1)) := by
  refine sa_metP (by decide) (Nat.le_of_ble_eq_true rfl) ?_
  intro p e s m below meth c S hr hlk hP hK ls hl
  have hl : lv_has ls 2 [(0, .ref h), (1, .int (sa_i st))] := hl
  have S : CallFix p m c cX1_complete 2 s _ lw_all RX1 := S
  obtain ⟨hx, hb, -, -, -⟩ := id S
  refine lv_iload_n hx hb dX1_complete_0 rfl (lv_at hl 1 rfl) ?_
  refine kX1_badN S hsr hst hl.1 dX1_complete_1 ?_
  refine sa_if_eq (tgt := 9) hx hb dX1_complete_4 (by decide) (fun c_ => absurd c_ (by decide)) (fun c_4 => ?_)
  refine sa_const hx hb dX1_complete_7 ?_
  exact sa_ret hx hb hr hlk dX1_complete_8 (rfl)
set_option maxHeartbeats 4000000 in
set_option maxRecDepth 100000 in
theorem metX1_read_bad (l : Launch) (D : va_G) (h : Nat) (a : Nat → Nat) (cI cZ : ClassId) (K : Int → Bool) (B : Int → Int32) (PT ED : Int → Int) (st : Int) (hsr : -2147483648 ≤ st ∧ st < 2147483648) (hst : ¬ (0 ≤ st ∧ st ≤ 3)) : sa_MetP l yX1_read cX1_read 2 (some .int) 1 [.ref h, .int (sa_i st)] D vwCl (mT cI cZ) (wM h a cI cZ K B PT ED) (sa_i (-1)) := by
  refine sa_metP (by decide) (Nat.le_of_ble_eq_true rfl) ?_
  intro p e s m below meth c S hr hlk hP hK ls hl
  have hl : lv_has ls 2 [(0, .ref h), (1, .int (sa_i st))] := hl
  have S : CallFix p m c cX1_read 2 s _ lw_all RX1 := S
  obtain ⟨hx, hb, -, -, -⟩ := id S
  refine lv_iload_n hx hb dX1_read_0 rfl (lv_at hl 1 rfl) ?_
  refine kX1_badN S hsr hst hl.1 dX1_read_1 ?_
  refine sa_if_eq (tgt := 9) hx hb dX1_read_4 (by decide) (fun c_ => absurd c_ (by decide)) (fun c_4 => ?_)
  refine sa_const hx hb dX1_read_7 ?_
  exact sa_ret hx hb hr hlk dX1_read_8 (rfl)
set_option maxHeartbeats 4000000 in
set_option maxRecDepth 100000 in
theorem metX1_highest_bad (l : Launch) (D : va_G) (h : Nat) (a : Nat → Nat) (cI cZ : ClassId) (K : Int → Bool) (B : Int → Int32) (PT ED : Int → Int) (st : Int) (hsr : -2147483648 ≤ st ∧ st < 2147483648) (hst : ¬ (0 ≤ st ∧ st ≤ 3)) : sa_MetP l yX1_highest cX1_highest 2 (some .int) 1 [.ref h, .int (sa_i st)] D vwCl (mT cI cZ) (wM h a cI cZ K B PT ED) (sa_i (-1)) := by
  refine sa_metP (by decide) (Nat.le_of_ble_eq_true rfl) ?_
  intro p e s m below meth c S hr hlk hP hK ls hl
  have hl : lv_has ls 2 [(0, .ref h), (1, .int (sa_i st))] := hl
  have S : CallFix p m c cX1_highest 2 s _ lw_all RX1 := S
  obtain ⟨hx, hb, -, -, -⟩ := id S
  refine lv_iload_n hx hb dX1_highest_0 rfl (lv_at hl 1 rfl) ?_
  refine kX1_badN S hsr hst hl.1 dX1_highest_1 ?_
  refine sa_if_eq (tgt := 11) hx hb dX1_highest_4 (by decide) (fun c_ => absurd c_ (by decide)) (fun c_4 => ?_)
  refine sa_const hx hb dX1_highest_7 ?_
  refine lv_goto (tgt := 16) hx hb dX1_highest_8 (by decide) ?_
  exact sa_ret hx hb hr hlk dX1_highest_16 (rfl)
set_option maxHeartbeats 4000000 in
set_option maxRecDepth 100000 in
theorem metX1_piece_bad (l : Launch) (D : va_G) (h : Nat) (a : Nat → Nat) (cI cZ : ClassId) (K : Int → Bool) (B : Int → Int32) (PT ED : Int → Int) (st : Int) (off : Int) (len : Int) (bv : Int32) (hsr : -2147483648 ≤ st ∧ st < 2147483648) (hor : -2147483648 ≤ off ∧ off < 2147483648) (hlr : -2147483648 ≤ len ∧ len < 2147483648) (hbad : ¬ (0 ≤ st ∧ st ≤ 3) ∨ len < 1 ∨ 4 < len ∨ off < 0 ∨ 1000 < off) : sa_MetP l yX1_piece cX1_piece 8 (some .int) 2 [.ref h, .int (sa_i st), .int (sa_i off), .int (sa_i len), .int bv] D vwCl (mT cI cZ) (wM h a cI cZ K B PT ED) (sa_i (-1)) := by
  refine sa_metP (by decide) (Nat.le_of_ble_eq_true rfl) ?_
  intro p e s m below meth c S hr hlk hP hK ls hl
  have hl : lv_has ls 8 [(0, .ref h), (1, .int (sa_i st)), (2, .int (sa_i off)), (3, .int (sa_i len)), (4, .int bv)] := hl
  have S : CallFix p m c cX1_piece 8 s _ lw_all RX1 := S
  obtain ⟨hx, hb, -, -, -⟩ := id S
  refine lv_iload_n hx hb dX1_piece_0 rfl (lv_at hl 1 rfl) ?_
  refine kX1_badB S hsr hl.1 dX1_piece_1 ?_
  refine sa_ifB_ne (tgt := 28) hx hb dX1_piece_4 (by decide) (fun c_4 => ?_) (fun c_4 => ?_)
  · have kc_4 := mBad_t c_4
    refine sa_const hx hb dX1_piece_28 ?_
    exact sa_ret hx hb hr hlk dX1_piece_29 (rfl)
  · have kc_4 := mBad_f c_4
    refine lv_iload_n hx hb dX1_piece_7 rfl (lv_at hl 3 rfl) ?_
    refine sa_const hx hb dX1_piece_8 ?_
    refine sa_icmp_lt (tgt := 28) hx hb dX1_piece_9 (by decide) (fun c_9 => ?_) (fun c_9 => ?_)
    · refine sa_const hx hb dX1_piece_28 ?_
      exact sa_ret hx hb hr hlk dX1_piece_29 (rfl)
    · refine lv_iload_n hx hb dX1_piece_12 rfl (lv_at hl 3 rfl) ?_
      refine sa_const hx hb dX1_piece_13 ?_
      refine sa_icmp_gt (tgt := 28) hx hb dX1_piece_14 (by decide) (fun c_14 => ?_) (fun c_14 => ?_)
      · refine sa_const hx hb dX1_piece_28 ?_
        exact sa_ret hx hb hr hlk dX1_piece_29 (rfl)
      · refine lv_iload_n hx hb dX1_piece_17 rfl (lv_at hl 2 rfl) ?_
        refine sa_if_lt (tgt := 28) hx hb dX1_piece_18 (by decide) (fun c_18 => ?_) (fun c_18 => ?_)
        · refine sa_const hx hb dX1_piece_28 ?_
          exact sa_ret hx hb hr hlk dX1_piece_29 (rfl)
        · refine lv_iload_n hx hb dX1_piece_21 rfl (lv_at hl 2 rfl) ?_
          refine sa_sipush hx hb dX1_piece_22 (by decide +kernel) ?_
          refine sa_icmp_le (tgt := 30) hx hb dX1_piece_25 (by decide) (fun c_25 => ?_) (fun c_25 => ?_)
          · exfalso; omega
          · refine sa_const hx hb dX1_piece_28 ?_
            exact sa_ret hx hb hr hlk dX1_piece_29 (rfl)
set_option maxHeartbeats 4000000 in
set_option maxRecDepth 100000 in
theorem metX1_finish_bad (l : Launch) (D : va_G) (h : Nat) (a : Nat → Nat) (cI cZ : ClassId) (K : Int → Bool) (B : Int → Int32) (PT ED : Int → Int) (st : Int) (en : Int) (hsr : -2147483648 ≤ st ∧ st < 2147483648) (her : -2147483648 ≤ en ∧ en < 2147483648) (hbad : ¬ (0 ≤ st ∧ st ≤ 3) ∨ en < 0) : sa_MetP l yX1_finish cX1_finish 3 (some .int) 2 [.ref h, .int (sa_i st), .int (sa_i en)] D vwCl (mT cI cZ) (wM h a cI cZ K B PT ED) (sa_i (-1)) := by
  refine sa_metP (by decide) (Nat.le_of_ble_eq_true rfl) ?_
  intro p e s m below meth c S hr hlk hP hK ls hl
  have hl : lv_has ls 3 [(0, .ref h), (1, .int (sa_i st)), (2, .int (sa_i en))] := hl
  have S : CallFix p m c cX1_finish 3 s _ lw_all RX1 := S
  obtain ⟨hx, hb, -, -, -⟩ := id S
  refine lv_iload_n hx hb dX1_finish_0 rfl (lv_at hl 1 rfl) ?_
  refine kX1_badB S hsr hl.1 dX1_finish_1 ?_
  refine sa_ifB_ne (tgt := 11) hx hb dX1_finish_4 (by decide) (fun c_4 => ?_) (fun c_4 => ?_)
  · have kc_4 := mBad_t c_4
    refine sa_const hx hb dX1_finish_11 ?_
    exact sa_ret hx hb hr hlk dX1_finish_12 (rfl)
  · have kc_4 := mBad_f c_4
    refine lv_iload_n hx hb dX1_finish_7 rfl (lv_at hl 2 rfl) ?_
    refine sa_if_ge (tgt := 13) hx hb dX1_finish_8 (by decide) (fun c_8 => ?_) (fun c_8 => ?_)
    · exfalso; omega
    · refine sa_const hx hb dX1_finish_11 ?_
      exact sa_ret hx hb hr hlk dX1_finish_12 (rfl)
set_option maxHeartbeats 4000000 in
set_option maxRecDepth 100000 in
theorem metX1_complete (l : Launch) (D : va_G) (h : Nat) (a : Nat → Nat) (cI cZ : ClassId) (K : Int → Bool) (B : Int → Int32) (PT ED : Int → Int) (st : Int) (hst : 0 ≤ st ∧ st ≤ 3) (hok : mOK PT ED) : sa_MetP l yX1_complete cX1_complete 2 (some .int) 1 [.ref h, .int (sa_i st)] D vwCl (mT cI cZ) (wM h a cI cZ K B PT ED) (sa_i (mCo PT ED st)) := by
  refine sa_metP (by decide) (Nat.le_of_ble_eq_true rfl) ?_
  intro p e s m below meth c S hr hlk hP hK ls hl
  have hl : lv_has ls 2 [(0, .ref h), (1, .int (sa_i st))] := hl
  have S : CallFix p m c cX1_complete 2 s _ lw_all RX1 := S
  obtain ⟨hx, hb, -, -, -⟩ := id S
  have b1 := hok st
  refine lv_iload_n hx hb dX1_complete_0 rfl (lv_at hl 1 rfl) ?_
  refine kX1_bad S hst hl.1 dX1_complete_1 ?_
  refine sa_if_eq (tgt := 9) hx hb dX1_complete_4 (by decide) (fun c_4 => ?_) (fun c_ => absurd c_ (by decide))
  refine lv_aload_n hx hb dX1_complete_9 rfl (lv_at hl 0 rfl) ?_
  refine m_g3 S hK hP dX1_complete_10 ?_
  refine lv_iload_n hx hb dX1_complete_13 rfl (lv_at hl 1 rfl) ?_
  refine m_l3 S hK hP dX1_complete_14 ?_
  refine sa_if_lt (tgt := 37) hx hb dX1_complete_15 (by decide) (fun c_15 => ?_) (fun c_15 => ?_)
  · refine sa_const hx hb dX1_complete_37 ?_
    exact sa_ret hx hb hr hlk dX1_complete_38 (congrArg sa_i (by unfold mCo; rw [if_neg (by omega)]))
  · refine lv_aload_n hx hb dX1_complete_18 rfl (lv_at hl 0 rfl) ?_
    refine m_g2 S hK hP dX1_complete_19 ?_
    refine lv_iload_n hx hb dX1_complete_22 rfl (lv_at hl 1 rfl) ?_
    refine m_l2 S hK hP dX1_complete_23 ?_
    refine lv_aload_n hx hb dX1_complete_24 rfl (lv_at hl 0 rfl) ?_
    refine m_g3 S hK hP dX1_complete_25 ?_
    refine lv_iload_n hx hb dX1_complete_28 rfl (lv_at hl 1 rfl) ?_
    refine m_l3 S hK hP dX1_complete_29 ?_
    refine sa_icmp_ne (tgt := 37) hx hb dX1_complete_30 (by decide) (fun c_30 => ?_) (fun c_30 => ?_)
    · refine sa_const hx hb dX1_complete_37 ?_
      exact sa_ret hx hb hr hlk dX1_complete_38 (congrArg sa_i (by unfold mCo; rw [if_neg (by omega)]))
    · refine sa_const hx hb dX1_complete_33 ?_
      refine lv_goto (tgt := 38) hx hb dX1_complete_34 (by decide) ?_
      exact sa_ret hx hb hr hlk dX1_complete_38 (congrArg sa_i (by unfold mCo; rw [if_pos (by omega)]))
set_option maxHeartbeats 4000000 in
set_option maxRecDepth 100000 in
theorem metX1_highest (l : Launch) (D : va_G) (h : Nat) (a : Nat → Nat) (cI cZ : ClassId) (K : Int → Bool) (B : Int → Int32) (PT ED : Int → Int) (st : Int) (hst : 0 ≤ st ∧ st ≤ 3) (hok : mOK PT ED) : sa_MetP l yX1_highest cX1_highest 2 (some .int) 1 [.ref h, .int (sa_i st)] D vwCl (mT cI cZ) (wM h a cI cZ K B PT ED) (sa_i (mTop K ED st)) := by
  refine sa_metP (by decide) (Nat.le_of_ble_eq_true rfl) ?_
  intro p e s m below meth c S hr hlk hP hK ls hl
  have hl : lv_has ls 2 [(0, .ref h), (1, .int (sa_i st))] := hl
  have S : CallFix p m c cX1_highest 2 s _ lw_all RX1 := S
  obtain ⟨hx, hb, -, -, -⟩ := id S
  have b1 := hok st
  refine lv_iload_n hx hb dX1_highest_0 rfl (lv_at hl 1 rfl) ?_
  refine kX1_bad S hst hl.1 dX1_highest_1 ?_
  refine sa_if_eq (tgt := 11) hx hb dX1_highest_4 (by decide) (fun c_4 => ?_) (fun c_ => absurd c_ (by decide))
  refine lv_aload_n hx hb dX1_highest_11 rfl (lv_at hl 0 rfl) ?_
  refine lv_iload_n hx hb dX1_highest_12 rfl (lv_at hl 1 rfl) ?_
  refine kX1_top S hK hP (by omega) hok hl.1 dX1_highest_13 ?_
  exact sa_ret hx hb hr hlk dX1_highest_16 (rfl)
set_option maxHeartbeats 4000000 in
set_option maxRecDepth 100000 in
theorem metX1_readable_L11 {l : Launch} {D : va_G} {h : Nat} {a : Nat → Nat} {cI cZ : ClassId} {K : Int → Bool} {B : Int → Int32} {PT ED : Int → Int} {p : Program} {e : Env} {s : State} {m : MethodId} {below : List Frame} {meth : Method} {c : Code} {av : Array Value} {st : Int} (S : CallFix p m c cX1_readable 3 s av lw_all RX1) (hr : meth.sig.returnType = some .int) (hlk : meth.locks = false) (hP : va_P D vwCl (wM h a cI cZ K B PT ED) s.heap) (hK : va_K D vwCl (mT cI cZ) s) (hst : 0 ≤ st ∧ st ≤ 3) (hok : mOK PT ED) (rv : Int) :
    ∀ (n : Nat) (q : Int), 240 - q < (n : Int) ∧ q ≤ 240 → 0 ≤ q → mRd (mKn K st) (PT st) (240 - q).toNat q = rv → ∀ ls : Array Slot, lv_has ls 3 [(0, .ref h), (1, .int (sa_i st)), (2, .int (sa_i q))] → W p l e (sa_rm 1) s m av below meth c s.heap [] 0 0 (MQ below (vp_Si (fun r => r = sa_i rv)) av s 0 0 (fun _ => False)) (F0 m 11 ls []) := by
  obtain ⟨hx, hb, -, -, -⟩ := id S
  have b1 := hok st
  intro n
  induction n with
  | zero => intro q h1 h2 h3; exact absurd h1 (by omega)
  | succ n ih =>
    intro q h1 h2 h3 ls hl
    refine lv_iload_n hx hb dX1_readable_11 rfl (lv_at hl 2 rfl) ?_
    refine sa_sipush hx hb dX1_readable_12 (by decide +kernel) ?_
    refine sa_icmp_ge (tgt := 40) hx hb dX1_readable_15 (by decide) (fun c_15 => ?_) (fun c_15 => ?_)
    · refine lv_iload_n hx hb dX1_readable_40 rfl (lv_at hl 2 rfl) ?_
      exact sa_ret hx hb hr hlk dX1_readable_41 (congrArg sa_i ((mRd_end (show 240 ≤ q by omega)).symm.trans h3))
    · have hF := mRd_step (kn := mKn K st) (p := PT st) (show q < 240 by omega)
      refine lv_aload_n hx hb dX1_readable_18 rfl (lv_at hl 0 rfl) ?_
      refine lv_iload_n hx hb dX1_readable_19 rfl (lv_at hl 1 rfl) ?_
      refine lv_aload_n hx hb dX1_readable_20 rfl (lv_at hl 0 rfl) ?_
      refine m_g2 S hK hP dX1_readable_21 ?_
      refine lv_iload_n hx hb dX1_readable_24 rfl (lv_at hl 1 rfl) ?_
      refine m_l2 S hK hP dX1_readable_25 ?_
      refine lv_iload_n hx hb dX1_readable_26 rfl (lv_at hl 2 rfl) ?_
      refine sa_add hx hb dX1_readable_27 ?_
      refine kX1_isKnown S hK hP (by omega) (by omega) hl.1 dX1_readable_28 ?_
      refine sa_ifB_eq (tgt := 40) hx hb dX1_readable_31 (by decide) (fun c_31 => ?_) (fun c_31 => ?_)
      · refine lv_iload_n hx hb dX1_readable_40 rfl (lv_at hl 2 rfl) ?_
        exact sa_ret hx hb hr hlk dX1_readable_41 (congrArg sa_i (by rw [← h3, hF, if_neg (by rw [c_31]; decide)]))
      · refine sa_iinc (k := 2) (lv' := [(2, .int (sa_i (q + 1))), (0, .ref h), (1, .int (sa_i st))]) hx hb dX1_readable_34 hl rfl (by decide) rfl (fun ls hl => ?_)
        refine lv_goto (tgt := 11) hx hb dX1_readable_37 (by decide) ?_
        rw [if_pos c_31] at hF
        exact ih (q + 1) (by omega) (by omega) (hF.symm.trans h3) ls (lv_sub hl [1, 2, 0] rfl)
set_option maxHeartbeats 4000000 in
set_option maxRecDepth 100000 in
theorem metX1_readable (l : Launch) (D : va_G) (h : Nat) (a : Nat → Nat) (cI cZ : ClassId) (K : Int → Bool) (B : Int → Int32) (PT ED : Int → Int) (st : Int) (hst : 0 ≤ st ∧ st ≤ 3) (hok : mOK PT ED) : sa_MetP l yX1_readable cX1_readable 3 (some .int) 1 [.ref h, .int (sa_i st)] D vwCl (mT cI cZ) (wM h a cI cZ K B PT ED) (sa_i (mRb K PT st)) := by
  refine sa_metP (by decide) (Nat.le_of_ble_eq_true rfl) ?_
  intro p e s m below meth c S hr hlk hP hK ls hl
  have hl : lv_has ls 3 [(0, .ref h), (1, .int (sa_i st))] := hl
  have S : CallFix p m c cX1_readable 3 s _ lw_all RX1 := S
  obtain ⟨hx, hb, -, -, -⟩ := id S
  have b1 := hok st
  refine lv_iload_n hx hb dX1_readable_0 rfl (lv_at hl 1 rfl) ?_
  refine kX1_bad S hst hl.1 dX1_readable_1 ?_
  refine sa_if_eq (tgt := 9) hx hb dX1_readable_4 (by decide) (fun c_4 => ?_) (fun c_ => absurd c_ (by decide))
  refine sa_const hx hb dX1_readable_9 ?_
  refine lv_istore_n (lv' := [(2, .int (sa_i 0)), (0, .ref h), (1, .int (sa_i st))]) hx hb dX1_readable_10 rfl hl (by decide) rfl (fun ls hl => ?_)
  exact metX1_readable_L11 S hr hlk hP hK hst hok _ 241 0 (by omega) (by omega) rfl ls (lv_sub hl [1, 2, 0] rfl)
set_option maxHeartbeats 4000000 in
set_option maxRecDepth 100000 in
theorem metX1_gaps_L18 {l : Launch} {D : va_G} {h : Nat} {a : Nat → Nat} {cI cZ : ClassId} {K : Int → Bool} {B : Int → Int32} {PT ED : Int → Int} {p : Program} {e : Env} {s : State} {m : MethodId} {below : List Frame} {meth : Method} {c : Code} {av : Array Value} {st : Int} (S : CallFix p m c cX1_gaps 4 s av lw_all RX1) (hr : meth.sig.returnType = some .int) (hlk : meth.locks = false) (hP : va_P D vwCl (wM h a cI cZ K B PT ED) s.heap) (hK : va_K D vwCl (mT cI cZ) s) (hst : 0 ≤ st ∧ st ≤ 3) (hok : mOK PT ED) (rv : Int) :
    ∀ (n : Nat) (i q : Int), mTop K ED st - i < (n : Int) ∧ 0 < n → PT st ≤ i → i ≤ 240 → 0 ≤ q ∧ q ≤ i → mCnt (mBg K PT st) (mTop K ED st - i).toNat i q = rv → ∀ ls : Array Slot, lv_has ls 4 [(0, .ref h), (1, .int (sa_i st)), (2, .int (sa_i q)), (3, .int (sa_i i))] → W p l e (sa_rm 2) s m av below meth c s.heap [] 0 0 (MQ below (vp_Si (fun r => r = sa_i rv)) av s 0 0 (fun _ => False)) (F0 m 18 ls []) := by
  obtain ⟨hx, hb, -, -, -⟩ := id S
  have b1 := hok st
  have b2 := mTop_in (K := K) hok st
  intro n
  induction n with
  | zero => intro i q h1 h2 h3 h4 h5; exact absurd h1 (by omega)
  | succ n ih =>
    intro i q h1 h2 h3 h4 h5 ls hl
    refine lv_iload_n hx hb dX1_gaps_18 rfl (lv_at hl 3 rfl) ?_
    refine lv_aload_n hx hb dX1_gaps_19 rfl (lv_at hl 0 rfl) ?_
    refine lv_iload_n hx hb dX1_gaps_20 rfl (lv_at hl 1 rfl) ?_
    refine kX1_top S hK hP (by omega) hok hl.1 dX1_gaps_21 ?_
    refine sa_icmp_ge (tgt := 45) hx hb dX1_gaps_24 (by decide) (fun c_24 => ?_) (fun c_24 => ?_)
    · refine lv_iload_n hx hb dX1_gaps_45 rfl (lv_at hl 2 rfl) ?_
      exact sa_ret hx hb hr hlk dX1_gaps_46 (congrArg sa_i ((mCnt_end (show mTop K ED st ≤ i by omega)).symm.trans h5))
    · have hF := mCnt_step (bg := mBg K PT st) (c := q) (show i < mTop K ED st by omega)
      refine lv_aload_n hx hb dX1_gaps_27 rfl (lv_at hl 0 rfl) ?_
      refine lv_iload_n hx hb dX1_gaps_28 rfl (lv_at hl 1 rfl) ?_
      refine lv_iload_n hx hb dX1_gaps_29 rfl (lv_at hl 3 rfl) ?_
      refine kX1_begins S hK hP (by omega) (by omega) (by omega) hok hl.1 dX1_gaps_30 ?_
      refine sa_ifB_eq (tgt := 39) hx hb dX1_gaps_33 (by decide) (fun c_33 => ?_) (fun c_33 => ?_)
      · refine sa_iinc (k := 3) (lv' := [(3, .int (sa_i (i + 1))), (0, .ref h), (1, .int (sa_i st)), (2, .int (sa_i q))]) hx hb dX1_gaps_39 hl rfl (by decide) rfl (fun ls hl => ?_)
        refine lv_goto (tgt := 18) hx hb dX1_gaps_42 (by decide) ?_
        rw [if_neg (by rw [c_33]; decide)] at hF
        exact ih (i + 1) q (by omega) (by omega) (by omega) (by omega) (hF.symm.trans h5) ls (lv_sub hl [1, 2, 3, 0] rfl)
      · refine sa_iinc (k := 2) (lv' := [(2, .int (sa_i (q + 1))), (0, .ref h), (1, .int (sa_i st)), (3, .int (sa_i i))]) hx hb dX1_gaps_36 hl rfl (by decide) rfl (fun ls hl => ?_)
        refine sa_iinc (k := 3) (lv' := [(3, .int (sa_i (i + 1))), (2, .int (sa_i (q + 1))), (0, .ref h), (1, .int (sa_i st))]) hx hb dX1_gaps_39 hl rfl (by decide) rfl (fun ls hl => ?_)
        refine lv_goto (tgt := 18) hx hb dX1_gaps_42 (by decide) ?_
        rw [if_pos c_33] at hF
        exact ih (i + 1) (q + 1) (by omega) (by omega) (by omega) (by omega) (hF.symm.trans h5) ls (lv_sub hl [2, 3, 1, 0] rfl)
set_option maxHeartbeats 4000000 in
set_option maxRecDepth 100000 in
theorem metX1_gaps (l : Launch) (D : va_G) (h : Nat) (a : Nat → Nat) (cI cZ : ClassId) (K : Int → Bool) (B : Int → Int32) (PT ED : Int → Int) (st : Int) (hst : 0 ≤ st ∧ st ≤ 3) (hok : mOK PT ED) : sa_MetP l yX1_gaps cX1_gaps 4 (some .int) 2 [.ref h, .int (sa_i st)] D vwCl (mT cI cZ) (wM h a cI cZ K B PT ED) (sa_i (mGaps K PT ED st)) := by
  refine sa_metP (by decide) (Nat.le_of_ble_eq_true rfl) ?_
  intro p e s m below meth c S hr hlk hP hK ls hl
  have hl : lv_has ls 4 [(0, .ref h), (1, .int (sa_i st))] := hl
  have S : CallFix p m c cX1_gaps 4 s _ lw_all RX1 := S
  obtain ⟨hx, hb, -, -, -⟩ := id S
  have b1 := hok st
  have b2 := mTop_in (K := K) hok st
  refine lv_iload_n hx hb dX1_gaps_0 rfl (lv_at hl 1 rfl) ?_
  refine kX1_bad S hst hl.1 dX1_gaps_1 ?_
  refine sa_if_eq (tgt := 9) hx hb dX1_gaps_4 (by decide) (fun c_4 => ?_) (fun c_ => absurd c_ (by decide))
  refine sa_const hx hb dX1_gaps_9 ?_
  refine lv_istore_n (lv' := [(2, .int (sa_i 0)), (0, .ref h), (1, .int (sa_i st))]) hx hb dX1_gaps_10 rfl hl (by decide) rfl (fun ls hl => ?_)
  refine lv_aload_n hx hb dX1_gaps_11 rfl (lv_at hl 1 rfl) ?_
  refine m_g2 S hK hP dX1_gaps_12 ?_
  refine lv_iload_n hx hb dX1_gaps_15 rfl (lv_at hl 2 rfl) ?_
  refine m_l2 S hK hP dX1_gaps_16 ?_
  refine lv_istore_n (lv' := [(3, .int (sa_i (PT st))), (2, .int (sa_i 0)), (0, .ref h), (1, .int (sa_i st))]) hx hb dX1_gaps_17 rfl hl (by decide) rfl (fun ls hl => ?_)
  exact metX1_gaps_L18 S hr hlk hP hK hst hok _ 241 (PT st) 0 (by omega) (by omega) (by omega) (by omega) rfl ls (lv_sub hl [2, 3, 1, 0] rfl)
set_option maxHeartbeats 4000000 in
set_option maxRecDepth 100000 in
theorem metX1_gap_L19 {l : Launch} {D : va_G} {h : Nat} {a : Nat → Nat} {cI cZ : ClassId} {K : Int → Bool} {B : Int → Int32} {PT ED : Int → Int} {p : Program} {e : Env} {s : State} {m : MethodId} {below : List Frame} {meth : Method} {c : Code} {av : Array Value} {st num : Int} (S : CallFix p m c cX1_gap 5 s av lw_all RX1) (hr : meth.sig.returnType = some .int) (hlk : meth.locks = false) (hP : va_P D vwCl (wM h a cI cZ K B PT ED) s.heap) (hK : va_K D vwCl (mT cI cZ) s) (hst : 0 ≤ st ∧ st ≤ 3) (hnm : -2147483648 ≤ num ∧ num < 2147483648) (hok : mOK PT ED) (rv : Int) :
    ∀ (n : Nat) (i q : Int), mTop K ED st - i < (n : Int) ∧ 0 < n → PT st ≤ i → i ≤ 240 → 0 ≤ q ∧ q ≤ i → mFnd (mBg K PT st) num (mTop K ED st - i).toNat i q = rv → ∀ ls : Array Slot, lv_has ls 5 [(0, .ref h), (1, .int (sa_i st)), (2, .int (sa_i num)), (3, .int (sa_i q)), (4, .int (sa_i i))] → W p l e (sa_rm 2) s m av below meth c s.heap [] 0 0 (MQ below (vp_Si (fun r => r = sa_i rv)) av s 0 0 (fun _ => False)) (F0 m 19 ls []) := by
  obtain ⟨hx, hb, -, -, -⟩ := id S
  have b1 := hok st
  have b2 := mTop_in (K := K) hok st
  intro n
  induction n with
  | zero => intro i q h1 h2 h3 h4 h5; exact absurd h1 (by omega)
  | succ n ih =>
    intro i q h1 h2 h3 h4 h5 ls hl
    refine lv_iload hx hb dX1_gap_19 (lv_at hl 4 rfl) ?_
    refine lv_aload_n hx hb dX1_gap_21 rfl (lv_at hl 0 rfl) ?_
    refine lv_iload_n hx hb dX1_gap_22 rfl (lv_at hl 1 rfl) ?_
    refine kX1_top S hK hP (by omega) hok hl.1 dX1_gap_23 ?_
    refine sa_icmp_ge (tgt := 56) hx hb dX1_gap_26 (by decide) (fun c_26 => ?_) (fun c_26 => ?_)
    · refine sa_bipush hx hb dX1_gap_56 (by decide +kernel) ?_
      exact sa_ret hx hb hr hlk dX1_gap_58 (congrArg sa_i ((mFnd_end (show mTop K ED st ≤ i by omega)).symm.trans h5))
    · have hF := mFnd_step (bg := mBg K PT st) (num := num) (c := q) (show i < mTop K ED st by omega)
      refine lv_aload_n hx hb dX1_gap_29 rfl (lv_at hl 0 rfl) ?_
      refine lv_iload_n hx hb dX1_gap_30 rfl (lv_at hl 1 rfl) ?_
      refine lv_iload hx hb dX1_gap_31 (lv_at hl 4 rfl) ?_
      refine kX1_begins S hK hP (by omega) (by omega) (by omega) hok hl.1 dX1_gap_33 ?_
      refine sa_ifB_eq (tgt := 50) hx hb dX1_gap_36 (by decide) (fun c_36 => ?_) (fun c_36 => ?_)
      · refine sa_iinc (k := 4) (lv' := [(4, .int (sa_i (i + 1))), (0, .ref h), (1, .int (sa_i st)), (2, .int (sa_i num)), (3, .int (sa_i q))]) hx hb dX1_gap_50 hl rfl (by decide) rfl (fun ls hl => ?_)
        refine lv_goto (tgt := 19) hx hb dX1_gap_53 (by decide) ?_
        rw [if_neg (by rw [c_36]; decide)] at hF
        exact ih (i + 1) q (by omega) (by omega) (by omega) (by omega) (hF.symm.trans h5) ls (lv_sub hl [1, 2, 3, 4, 0] rfl)
      · refine lv_iload_n hx hb dX1_gap_39 rfl (lv_at hl 3 rfl) ?_
        refine lv_iload_n hx hb dX1_gap_40 rfl (lv_at hl 2 rfl) ?_
        refine sa_icmp_ne (tgt := 47) hx hb dX1_gap_41 (by decide) (fun c_41 => ?_) (fun c_41 => ?_)
        · refine sa_iinc (k := 3) (lv' := [(3, .int (sa_i (q + 1))), (0, .ref h), (1, .int (sa_i st)), (2, .int (sa_i num)), (4, .int (sa_i i))]) hx hb dX1_gap_47 hl rfl (by decide) rfl (fun ls hl => ?_)
          refine sa_iinc (k := 4) (lv' := [(4, .int (sa_i (i + 1))), (3, .int (sa_i (q + 1))), (0, .ref h), (1, .int (sa_i st)), (2, .int (sa_i num))]) hx hb dX1_gap_50 hl rfl (by decide) rfl (fun ls hl => ?_)
          refine lv_goto (tgt := 19) hx hb dX1_gap_53 (by decide) ?_
          rw [if_pos c_36, if_neg (by omega)] at hF
          exact ih (i + 1) (q + 1) (by omega) (by omega) (by omega) (by omega) (hF.symm.trans h5) ls (lv_sub hl [2, 3, 4, 1, 0] rfl)
        · refine lv_iload hx hb dX1_gap_44 (lv_at hl 4 rfl) ?_
          exact sa_ret hx hb hr hlk dX1_gap_46 (congrArg sa_i (by rw [← h5, hF, if_pos c_36, if_pos (by omega)]))
set_option maxHeartbeats 4000000 in
set_option maxRecDepth 100000 in
theorem metX1_gap (l : Launch) (D : va_G) (h : Nat) (a : Nat → Nat) (cI cZ : ClassId) (K : Int → Bool) (B : Int → Int32) (PT ED : Int → Int) (st : Int) (num : Int) (hst : 0 ≤ st ∧ st ≤ 3) (hnm : -2147483648 ≤ num ∧ num < 2147483648) (hok : mOK PT ED) : sa_MetP l yX1_gap cX1_gap 5 (some .int) 2 [.ref h, .int (sa_i st), .int (sa_i num)] D vwCl (mT cI cZ) (wM h a cI cZ K B PT ED) (sa_i (mGap K PT ED st num)) := by
  refine sa_metP (by decide) (Nat.le_of_ble_eq_true rfl) ?_
  intro p e s m below meth c S hr hlk hP hK ls hl
  have hl : lv_has ls 5 [(0, .ref h), (1, .int (sa_i st)), (2, .int (sa_i num))] := hl
  have S : CallFix p m c cX1_gap 5 s _ lw_all RX1 := S
  obtain ⟨hx, hb, -, -, -⟩ := id S
  have b1 := hok st
  have b2 := mTop_in (K := K) hok st
  refine lv_iload_n hx hb dX1_gap_0 rfl (lv_at hl 1 rfl) ?_
  refine kX1_bad S hst hl.1 dX1_gap_1 ?_
  refine sa_if_eq (tgt := 9) hx hb dX1_gap_4 (by decide) (fun c_4 => ?_) (fun c_ => absurd c_ (by decide))
  refine sa_const hx hb dX1_gap_9 ?_
  refine lv_istore_n (lv' := [(3, .int (sa_i 0)), (0, .ref h), (1, .int (sa_i st)), (2, .int (sa_i num))]) hx hb dX1_gap_10 rfl hl (by decide) rfl (fun ls hl => ?_)
  refine lv_aload_n hx hb dX1_gap_11 rfl (lv_at hl 1 rfl) ?_
  refine m_g2 S hK hP dX1_gap_12 ?_
  refine lv_iload_n hx hb dX1_gap_15 rfl (lv_at hl 2 rfl) ?_
  refine m_l2 S hK hP dX1_gap_16 ?_
  refine lv_istore (lv' := [(4, .int (sa_i (PT st))), (3, .int (sa_i 0)), (0, .ref h), (1, .int (sa_i st)), (2, .int (sa_i num))]) hx hb dX1_gap_17 hl (by decide) rfl (fun ls hl => ?_)
  exact metX1_gap_L19 S hr hlk hP hK hst hnm hok _ 241 (PT st) 0 (by omega) (by omega) (by omega) (by omega) rfl ls (lv_sub hl [2, 3, 4, 1, 0] rfl)
set_option maxHeartbeats 4000000 in
set_option maxRecDepth 100000 in
theorem metX1_allowed_L29 {l : Launch} {D : va_G} {h : Nat} {a : Nat → Nat} {cI cZ : ClassId} {K : Int → Bool} {B : Int → Int32} {PT ED : Int → Int} {p : Program} {e : Env} {s : State} {m : MethodId} {below : List Frame} {meth : Method} {c : Code} {av : Array Value} {st : Int} (S : CallFix p m c cX1_allowed 4 s av lw_all RX1) (hr : meth.sig.returnType = some .int) (hlk : meth.locks = false) (hP : va_P D vwCl (wM h a cI cZ K B PT ED) s.heap) (hK : va_K D vwCl (mT cI cZ) s) (hst : 0 ≤ st ∧ st ≤ 3) (hok : mOK PT ED) (rv : Int) :
    ∀ (n : Nat) (i mo : Int), 241 - i < (n : Int) ∧ i ≤ 241 → 0 ≤ i → mAl (mFit K PT ED st) (241 - i).toNat i mo = rv → ∀ ls : Array Slot, lv_has ls 4 [(0, .ref h), (1, .int (sa_i st)), (2, .int (sa_i mo)), (3, .int (sa_i i))] → W p l e (sa_rm 2) s m av below meth c s.heap [] 0 0 (MQ below (vp_Si (fun r => r = sa_i rv)) av s 0 0 (fun _ => False)) (F0 m 29 ls []) := by
  obtain ⟨hx, hb, -, -, -⟩ := id S
  intro n
  induction n with
  | zero => intro i mo h1 h2 h3; exact absurd h1 (by omega)
  | succ n ih =>
    intro i mo h1 h2 h3 ls hl
    refine lv_iload_n hx hb dX1_allowed_29 rfl (lv_at hl 3 rfl) ?_
    refine sa_sipush hx hb dX1_allowed_30 (by decide +kernel) ?_
    refine sa_icmp_gt (tgt := 53) hx hb dX1_allowed_33 (by decide) (fun c_33 => ?_) (fun c_33 => ?_)
    · refine lv_iload_n hx hb dX1_allowed_53 rfl (lv_at hl 2 rfl) ?_
      exact sa_ret hx hb hr hlk dX1_allowed_54 (congrArg sa_i ((mAl_end (show 241 ≤ i by omega)).symm.trans h3))
    · have hF := mAl_step (fit := mFit K PT ED st) (most := mo) (show i < 241 by omega)
      refine lv_aload_n hx hb dX1_allowed_36 rfl (lv_at hl 0 rfl) ?_
      refine lv_iload_n hx hb dX1_allowed_37 rfl (lv_at hl 1 rfl) ?_
      refine lv_iload_n hx hb dX1_allowed_38 rfl (lv_at hl 3 rfl) ?_
      refine kX1_fits S hK hP (by omega) (by omega) hok hl.1 dX1_allowed_39 ?_
      refine sa_ifB_eq (tgt := 47) hx hb dX1_allowed_42 (by decide) (fun c_42 => ?_) (fun c_42 => ?_)
      · refine sa_iinc (k := 3) (lv' := [(3, .int (sa_i (i + 1))), (0, .ref h), (1, .int (sa_i st)), (2, .int (sa_i mo))]) hx hb dX1_allowed_47 hl rfl (by decide) rfl (fun ls hl => ?_)
        refine lv_goto (tgt := 29) hx hb dX1_allowed_50 (by decide) ?_
        rw [if_neg (by rw [c_42]; decide)] at hF
        exact ih (i + 1) mo (by omega) (by omega) (hF.symm.trans h3) ls (lv_sub hl [1, 2, 3, 0] rfl)
      · refine lv_iload_n hx hb dX1_allowed_45 rfl (lv_at hl 3 rfl) ?_
        refine lv_istore_n (lv' := [(2, .int (sa_i i)), (0, .ref h), (1, .int (sa_i st)), (3, .int (sa_i i))]) hx hb dX1_allowed_46 rfl hl (by decide) rfl (fun ls hl => ?_)
        refine sa_iinc (k := 3) (lv' := [(3, .int (sa_i (i + 1))), (2, .int (sa_i i)), (0, .ref h), (1, .int (sa_i st))]) hx hb dX1_allowed_47 hl rfl (by decide) rfl (fun ls hl => ?_)
        refine lv_goto (tgt := 29) hx hb dX1_allowed_50 (by decide) ?_
        rw [if_pos c_42] at hF
        exact ih (i + 1) i (by omega) (by omega) (hF.symm.trans h3) ls (lv_sub hl [2, 3, 1, 0] rfl)
set_option maxHeartbeats 4000000 in
set_option maxRecDepth 100000 in
theorem metX1_allowed (l : Launch) (D : va_G) (h : Nat) (a : Nat → Nat) (cI cZ : ClassId) (K : Int → Bool) (B : Int → Int32) (PT ED : Int → Int) (st : Int) (hst : 0 ≤ st ∧ st ≤ 3) (hok : mOK PT ED) : sa_MetP l yX1_allowed cX1_allowed 4 (some .int) 2 [.ref h, .int (sa_i st)] D vwCl (mT cI cZ) (wM h a cI cZ K B PT ED) (sa_i (mAll K PT ED st)) := by
  refine sa_metP (by decide) (Nat.le_of_ble_eq_true rfl) ?_
  intro p e s m below meth c S hr hlk hP hK ls hl
  have hl : lv_has ls 4 [(0, .ref h), (1, .int (sa_i st))] := hl
  have S : CallFix p m c cX1_allowed 4 s _ lw_all RX1 := S
  obtain ⟨hx, hb, -, -, -⟩ := id S
  have b1 := hok st
  refine lv_iload_n hx hb dX1_allowed_0 rfl (lv_at hl 1 rfl) ?_
  refine kX1_bad S hst hl.1 dX1_allowed_1 ?_
  refine sa_if_eq (tgt := 9) hx hb dX1_allowed_4 (by decide) (fun c_4 => ?_) (fun c_ => absurd c_ (by decide))
  refine lv_aload_n hx hb dX1_allowed_9 rfl (lv_at hl 0 rfl) ?_
  refine m_g3 S hK hP dX1_allowed_10 ?_
  refine lv_iload_n hx hb dX1_allowed_13 rfl (lv_at hl 1 rfl) ?_
  refine m_l3 S hK hP dX1_allowed_14 ?_
  refine sa_if_lt (tgt := 25) hx hb dX1_allowed_15 (by decide) (fun c_15 => ?_) (fun c_15 => ?_)
  · refine sa_const hx hb dX1_allowed_25 ?_
    refine lv_istore_n (lv' := [(2, .int (sa_i 0)), (0, .ref h), (1, .int (sa_i st))]) hx hb dX1_allowed_26 rfl hl (by decide) rfl (fun ls hl => ?_)
    refine sa_const hx hb dX1_allowed_27 ?_
    refine lv_istore_n (lv' := [(3, .int (sa_i 0)), (2, .int (sa_i 0)), (0, .ref h), (1, .int (sa_i st))]) hx hb dX1_allowed_28 rfl hl (by decide) rfl (fun ls hl => ?_)
    exact metX1_allowed_L29 S hr hlk hP hK hst hok _ 242 0 0 (by omega) (by omega) (by unfold mAll; rw [if_neg (by omega)]; rfl) ls (lv_sub hl [2, 3, 1, 0] rfl)
  · refine lv_aload_n hx hb dX1_allowed_18 rfl (lv_at hl 0 rfl) ?_
    refine m_g3 S hK hP dX1_allowed_19 ?_
    refine lv_iload_n hx hb dX1_allowed_22 rfl (lv_at hl 1 rfl) ?_
    refine m_l3 S hK hP dX1_allowed_23 ?_
    exact sa_ret hx hb hr hlk dX1_allowed_24 (congrArg sa_i (by unfold mAll; rw [if_pos (by omega)]))
end
section
/-! ===== StreamAssemblerModel: finish, read, piece (printed by gen/m3.py) ===== -/
def mFi (K : Int → Bool) (PT ED : Int → Int) (st en : Int) : Int := if (0 ≤ ED st ∧ ED st ≠ en) ∨ en < mTop K ED st then -3 else if mFit K PT ED st en = true then 0 else -2
theorem mKn_lt {K : Int → Bool} {s off : Int} (h : mKn K s off = true) : off < 240 := by
  unfold mKn at h
  simp at h
  exact h.1
theorem mFit_lim {K : Int → Bool} {PT ED : Int → Int} {s up : Int} (h : mFit K PT ED s up = true) : up ≤ mLim PT s := by
  unfold mFit at h
  simp at h
  exact h.1
def mRdP (K : Int → Bool) (B : Int → Int32) (PT ED : Int → Int) (st : Int) (r : Int32) (u : Int → Int) : Prop := (ED st = PT st ∧ r = sa_i (-5) ∧ u = PT) ∨ (ED st ≠ PT st ∧ mKn K st (PT st) = false ∧ r = sa_i (-4) ∧ u = PT) ∨ (ED st ≠ PT st ∧ mKn K st (PT st) = true ∧ r = B (240 * st + PT st) ∧ u = sa_up PT st (PT st + 1))
def mPiF (K : Int → Bool) (B : Int → Int32) (st off len : Int) (bv : Int32) : (Int → Bool) × (Int → Int32) × Int := mPc st off bv (len - 0).toNat 0 (K, B, 0)
def mPiP (K : Int → Bool) (B : Int → Int32) (PT ED : Int → Int) (st off len : Int) (bv : Int32) (r : Int32) (u : (Int → Bool) × (Int → Int32)) : Prop := ((0 ≤ ED st ∧ ED st < off + len) ∧ r = sa_i (-3) ∧ u = (K, B)) ∨ (¬ (0 ≤ ED st ∧ ED st < off + len) ∧ mFit K PT ED st (off + len) = false ∧ r = sa_i (-2) ∧ u = (K, B)) ∨ (¬ (0 ≤ ED st ∧ ED st < off + len) ∧ mFit K PT ED st (off + len) = true ∧ r = sa_i (mPiF K B st off len bv).2.2 ∧ u = ((mPiF K B st off len bv).1, (mPiF K B st off len bv).2.1))
set_option maxHeartbeats 4000000 in
set_option maxRecDepth 100000 in
theorem metX1_finish (l : Launch) (D : va_G) (h : Nat) (a : Nat → Nat) (cI cZ : ClassId) (K : Int → Bool) (B : Int → Int32) (PT ED : Int → Int) (st : Int) (en : Int) (sz : Nat) (hst : 0 ≤ st ∧ st ≤ 3) (hen : 0 ≤ en ∧ en < 2147483648) (hok : mOK PT ED) : sa_MetI l yX1_finish cX1_finish 3 2 [.ref h, .int (sa_i st), .int (sa_i en)] D vwCl (mT cI cZ) (wM h a cI cZ K B PT ED) (fun u : Int → Int => wM h a cI cZ K B PT u) sz (fun (r : Int32) (u : Int → Int) => r = sa_i (mFi K PT ED st en) ∧ u = if mFi K PT ED st en = 0 then sa_up ED st en else ED) := by
  refine sa_metI (by decide) (Nat.le_of_ble_eq_true rfl) ?_
  intro p e s m below meth c A S hr hlk hP hK hD hS hA ls hl
  have hl : lv_has ls 3 [(0, .ref h), (1, .int (sa_i st)), (2, .int (sa_i en))] := hl
  have S : CallFix p m c cX1_finish 3 s _ lw_all RX1 := S
  obtain ⟨hx, hb, -, -, -⟩ := id S
  have b1 := hok st
  have b2 := mTop_in (K := K) hok st
  refine lv_iload_n hx hb dX1_finish_0 rfl (lv_at hl 1 rfl) ?_
  refine kX1_bad S hst hl.1 dX1_finish_1 ?_
  refine sa_if_ne (tgt := 11) hx hb dX1_finish_4 (by decide) (fun c_ => absurd c_ (by decide)) (fun c_4 => ?_)
  refine lv_iload_n hx hb dX1_finish_7 rfl (lv_at hl 2 rfl) ?_
  refine sa_if_ge (tgt := 13) hx hb dX1_finish_8 (by decide) (fun c_8 => ?_) (fun c_ => by exfalso; omega)
  refine lv_aload_n hx hb dX1_finish_13 rfl (lv_at hl 0 rfl) ?_
  refine m_g3 S hK hP dX1_finish_14 ?_
  refine lv_iload_n hx hb dX1_finish_17 rfl (lv_at hl 1 rfl) ?_
  refine m_l3 S hK hP dX1_finish_18 ?_
  refine sa_if_lt (tgt := 32) hx hb dX1_finish_19 (by decide) (fun c_19 => ?_) (fun c_19 => ?_)
  · refine lv_iload_n hx hb dX1_finish_32 rfl (lv_at hl 2 rfl) ?_
    refine lv_aload_n hx hb dX1_finish_33 rfl (lv_at hl 0 rfl) ?_
    refine lv_iload_n hx hb dX1_finish_34 rfl (lv_at hl 1 rfl) ?_
    refine kX1_top S hK hP (by omega) hok hl.1 dX1_finish_35 ?_
    refine sa_icmp_ge (tgt := 44) hx hb dX1_finish_38 (by decide) (fun c_38 => ?_) (fun c_38 => ?_)
    · refine lv_aload_n hx hb dX1_finish_44 rfl (lv_at hl 0 rfl) ?_
      refine lv_iload_n hx hb dX1_finish_45 rfl (lv_at hl 1 rfl) ?_
      refine lv_iload_n hx hb dX1_finish_46 rfl (lv_at hl 2 rfl) ?_
      refine kX1_fits S hK hP (by omega) (by omega) hok hl.1 dX1_finish_47 ?_
      refine sa_ifB_ne (tgt := 56) hx hb dX1_finish_50 (by decide) (fun c_50 => ?_) (fun c_50 => ?_)
      · refine lv_aload_n hx hb dX1_finish_56 rfl (lv_at hl 0 rfl) ?_
        refine m_g3 S hK hP dX1_finish_57 ?_
        refine lv_iload_n hx hb dX1_finish_60 rfl (lv_at hl 1 rfl) ?_
        refine lv_iload_n hx hb dX1_finish_61 rfl (lv_at hl 2 rfl) ?_
        refine m_s3 S hK hP hD hS dX1_finish_62 (fun H locs hP hD hS => ?_)
        refine sa_const hx hb dX1_finish_63 ?_
        have e0 : mFi K PT ED st en = 0 := by unfold mFi; rw [if_neg (by omega), if_pos c_50]
        exact sa_retI (sa_up ED st en) hx hb hr hlk hK hP hD hS dX1_finish_64 ⟨by rw [e0], by rw [e0, if_pos (by decide)]⟩
      · refine sa_bipush hx hb dX1_finish_53 (by decide +kernel) ?_
        have e0 : mFi K PT ED st en = -2 := by unfold mFi; rw [if_neg (by omega), if_neg (by rw [c_50]; decide)]
        exact sa_retI ED hx hb hr hlk hK hP hD hS dX1_finish_55 ⟨by rw [e0], by rw [e0, if_neg (by decide)]⟩
    · refine sa_bipush hx hb dX1_finish_41 (by decide +kernel) ?_
      have e0 : mFi K PT ED st en = -3 := by unfold mFi; rw [if_pos (by omega)]
      exact sa_retI ED hx hb hr hlk hK hP hD hS dX1_finish_43 ⟨by rw [e0], by rw [e0, if_neg (by decide)]⟩
  · refine lv_aload_n hx hb dX1_finish_22 rfl (lv_at hl 0 rfl) ?_
    refine m_g3 S hK hP dX1_finish_23 ?_
    refine lv_iload_n hx hb dX1_finish_26 rfl (lv_at hl 1 rfl) ?_
    refine m_l3 S hK hP dX1_finish_27 ?_
    refine lv_iload_n hx hb dX1_finish_28 rfl (lv_at hl 2 rfl) ?_
    refine sa_icmp_ne (tgt := 41) hx hb dX1_finish_29 (by decide) (fun c_29 => ?_) (fun c_29 => ?_)
    · refine sa_bipush hx hb dX1_finish_41 (by decide +kernel) ?_
      have e0 : mFi K PT ED st en = -3 := by unfold mFi; rw [if_pos (by omega)]
      exact sa_retI ED hx hb hr hlk hK hP hD hS dX1_finish_43 ⟨by rw [e0], by rw [e0, if_neg (by decide)]⟩
    · refine lv_iload_n hx hb dX1_finish_32 rfl (lv_at hl 2 rfl) ?_
      refine lv_aload_n hx hb dX1_finish_33 rfl (lv_at hl 0 rfl) ?_
      refine lv_iload_n hx hb dX1_finish_34 rfl (lv_at hl 1 rfl) ?_
      refine kX1_top S hK hP (by omega) hok hl.1 dX1_finish_35 ?_
      refine sa_icmp_ge (tgt := 44) hx hb dX1_finish_38 (by decide) (fun c_38 => ?_) (fun c_38 => ?_)
      · refine lv_aload_n hx hb dX1_finish_44 rfl (lv_at hl 0 rfl) ?_
        refine lv_iload_n hx hb dX1_finish_45 rfl (lv_at hl 1 rfl) ?_
        refine lv_iload_n hx hb dX1_finish_46 rfl (lv_at hl 2 rfl) ?_
        refine kX1_fits S hK hP (by omega) (by omega) hok hl.1 dX1_finish_47 ?_
        refine sa_ifB_ne (tgt := 56) hx hb dX1_finish_50 (by decide) (fun c_50 => ?_) (fun c_50 => ?_)
        · refine lv_aload_n hx hb dX1_finish_56 rfl (lv_at hl 0 rfl) ?_
          refine m_g3 S hK hP dX1_finish_57 ?_
          refine lv_iload_n hx hb dX1_finish_60 rfl (lv_at hl 1 rfl) ?_
          refine lv_iload_n hx hb dX1_finish_61 rfl (lv_at hl 2 rfl) ?_
          refine m_s3 S hK hP hD hS dX1_finish_62 (fun H locs hP hD hS => ?_)
          refine sa_const hx hb dX1_finish_63 ?_
          have e0 : mFi K PT ED st en = 0 := by unfold mFi; rw [if_neg (by omega), if_pos c_50]
          exact sa_retI (sa_up ED st en) hx hb hr hlk hK hP hD hS dX1_finish_64 ⟨by rw [e0], by rw [e0, if_pos (by decide)]⟩
        · refine sa_bipush hx hb dX1_finish_53 (by decide +kernel) ?_
          have e0 : mFi K PT ED st en = -2 := by unfold mFi; rw [if_neg (by omega), if_neg (by rw [c_50]; decide)]
          exact sa_retI ED hx hb hr hlk hK hP hD hS dX1_finish_55 ⟨by rw [e0], by rw [e0, if_neg (by decide)]⟩
      · refine sa_bipush hx hb dX1_finish_41 (by decide +kernel) ?_
        have e0 : mFi K PT ED st en = -3 := by unfold mFi; rw [if_pos (by omega)]
        exact sa_retI ED hx hb hr hlk hK hP hD hS dX1_finish_43 ⟨by rw [e0], by rw [e0, if_neg (by decide)]⟩
set_option maxHeartbeats 4000000 in
set_option maxRecDepth 100000 in
theorem metX1_read (l : Launch) (D : va_G) (h : Nat) (a : Nat → Nat) (cI cZ : ClassId) (K : Int → Bool) (B : Int → Int32) (PT ED : Int → Int) (st : Int) (sz : Nat) (hst : 0 ≤ st ∧ st ≤ 3) (hok : mOK PT ED) : sa_MetI l yX1_read cX1_read 2 1 [.ref h, .int (sa_i st)] D vwCl (mT cI cZ) (wM h a cI cZ K B PT ED) (fun u : Int → Int => wM h a cI cZ K B u ED) sz (mRdP K B PT ED st) := by
  refine sa_metI (by decide) (Nat.le_of_ble_eq_true rfl) ?_
  intro p e s m below meth c A S hr hlk hP hK hD hS hA ls hl
  have hl : lv_has ls 2 [(0, .ref h), (1, .int (sa_i st))] := hl
  have S : CallFix p m c cX1_read 2 s _ lw_all RX1 := S
  obtain ⟨hx, hb, -, -, -⟩ := id S
  have b1 := hok st
  have b3 := sa_up_self PT st (PT st + 1)
  refine lv_iload_n hx hb dX1_read_0 rfl (lv_at hl 1 rfl) ?_
  refine kX1_bad S hst hl.1 dX1_read_1 ?_
  refine sa_if_eq (tgt := 9) hx hb dX1_read_4 (by decide) (fun c_4 => ?_) (fun c_ => absurd c_ (by decide))
  refine lv_aload_n hx hb dX1_read_9 rfl (lv_at hl 0 rfl) ?_
  refine m_g3 S hK hP dX1_read_10 ?_
  refine lv_iload_n hx hb dX1_read_13 rfl (lv_at hl 1 rfl) ?_
  refine m_l3 S hK hP dX1_read_14 ?_
  refine lv_aload_n hx hb dX1_read_15 rfl (lv_at hl 0 rfl) ?_
  refine m_g2 S hK hP dX1_read_16 ?_
  refine lv_iload_n hx hb dX1_read_19 rfl (lv_at hl 1 rfl) ?_
  refine m_l2 S hK hP dX1_read_20 ?_
  refine sa_icmp_ne (tgt := 27) hx hb dX1_read_21 (by decide) (fun c_21 => ?_) (fun c_21 => ?_)
  · refine lv_aload_n hx hb dX1_read_27 rfl (lv_at hl 0 rfl) ?_
    refine lv_iload_n hx hb dX1_read_28 rfl (lv_at hl 1 rfl) ?_
    refine lv_aload_n hx hb dX1_read_29 rfl (lv_at hl 0 rfl) ?_
    refine m_g2 S hK hP dX1_read_30 ?_
    refine lv_iload_n hx hb dX1_read_33 rfl (lv_at hl 1 rfl) ?_
    refine m_l2 S hK hP dX1_read_34 ?_
    refine kX1_isKnown S hK hP (by omega) (by omega) hl.1 dX1_read_35 ?_
    refine sa_ifB_ne (tgt := 44) hx hb dX1_read_38 (by decide) (fun c_38 => ?_) (fun c_38 => ?_)
    · have b4 := mKn_lt c_38
      refine lv_aload_n hx hb dX1_read_44 rfl (lv_at hl 0 rfl) ?_
      refine m_g2 S hK hP dX1_read_45 ?_
      refine lv_iload_n hx hb dX1_read_48 rfl (lv_at hl 1 rfl) ?_
      refine lv_dup2_11 hx hb dX1_read_49 rfl rfl ?_
      refine m_l2 S hK hP dX1_read_50 ?_
      refine sa_const hx hb dX1_read_51 ?_
      refine sa_add hx hb dX1_read_52 ?_
      refine m_s2 S hK hP hD hS dX1_read_53 (fun H locs hP hD hS => ?_)
      refine lv_aload_n hx hb dX1_read_54 rfl (lv_at hl 0 rfl) ?_
      refine m_g1 S hK hP dX1_read_55 ?_
      refine sa_sipush hx hb dX1_read_58 (by decide +kernel) ?_
      refine lv_iload_n hx hb dX1_read_61 rfl (lv_at hl 1 rfl) ?_
      refine sa_mul hx hb dX1_read_62 ?_
      refine lv_aload_n hx hb dX1_read_63 rfl (lv_at hl 0 rfl) ?_
      refine m_g2 S hK hP dX1_read_64 ?_
      refine lv_iload_n hx hb dX1_read_67 rfl (lv_at hl 1 rfl) ?_
      refine m_l2 S hK hP dX1_read_68 ?_
      refine sa_add hx hb dX1_read_69 ?_
      refine sa_const hx hb dX1_read_70 ?_
      refine sa_sub hx hb dX1_read_71 ?_
      refine m_l1 S hK hP dX1_read_72 ?_
      exact sa_retI (sa_up PT st (PT st + 1)) hx hb hr hlk hK hP hD hS dX1_read_73 (Or.inr (Or.inr ⟨by omega, c_38, by rw [b3, show 240 * st + (PT st + 1) - 1 = 240 * st + PT st by omega], rfl⟩))
    · refine sa_bipush hx hb dX1_read_41 (by decide +kernel) ?_
      exact sa_retI PT hx hb hr hlk hK hP hD hS dX1_read_43 (Or.inr (Or.inl ⟨by omega, c_38, rfl, rfl⟩))
  · refine sa_bipush hx hb dX1_read_24 (by decide +kernel) ?_
    exact sa_retI PT hx hb hr hlk hK hP hD hS dX1_read_26 (Or.inl ⟨by omega, rfl, rfl⟩)
set_option maxHeartbeats 4000000 in
set_option maxRecDepth 100000 in
theorem metX1_piece_L74 {l : Launch} {D : va_G} {h : Nat} {a : Nat → Nat} {cI cZ : ClassId} {K0 : Int → Bool} {B0 : Int → Int32} {PT ED : Int → Int} {p : Program} {e : Env} {s : State} {m : MethodId} {below : List Frame} {meth : Method} {c : Code} {av : Array Value} {A : Nat → Prop} {st off len : Int} {bv : Int32} (S : CallFix p m c cX1_piece 8 s av lw_all RX1) (hr : meth.sig.returnType = some .int) (hlk : meth.locks = false) (hK : va_K D vwCl (mT cI cZ) s) (hst : 0 ≤ st ∧ st ≤ 3) (hof : 0 ≤ off ∧ off ≤ 1000) (hln : 1 ≤ len ∧ len ≤ 4) (hto : off + len ≤ 240) (hend : ¬ (0 ≤ ED st ∧ ED st < off + len)) (hfit : mFit K0 PT ED st (off + len) = true) :
    ∀ (n : Nat) (k q : Int), 0 ≤ k → k ≤ len → len - k < (n : Int) → 0 ≤ q ∧ q ≤ k → ∀ (K : Int → Bool) (B : Int → Int32), mPc st off bv (len - k).toNat k (K, B, q) = mPiF K0 B0 st off len bv → ∀ (H : Heap) (locs : List Loc), va_P D vwCl (wM h a cI cZ K B PT ED) H → va_D A (wM h a cI cZ K B PT ED) → va_S A s.heap H locs → ∀ ls : Array Slot, lv_has ls 8 [(0, .ref h), (1, .int (sa_i st)), (2, .int (sa_i off)), (3, .int (sa_i len)), (4, .int bv), (5, .int (sa_i q)), (6, .int (sa_i k))] → W p l e (sa_rm 2) s m av below meth c H locs 0 0 (sa_EI below D vwCl (mT cI cZ) (fun u : (Int → Bool) × (Int → Int32) => wM h a cI cZ u.1 u.2 PT ED) (mPiP K0 B0 PT ED st off len bv) A av s) (F0 m 74 ls []) := by
  obtain ⟨hx, hb, -, -, -⟩ := id S
  intro n
  induction n with
  | zero => intro k q h1 h2 h3; exact absurd h3 (by omega)
  | succ n ih =>
    intro k q h1 h2 h3 h4 K B hF H locs hP hD hS ls hl
    refine lv_iload hx hb dX1_piece_74 (lv_at hl 6 rfl) ?_
    refine lv_iload_n hx hb dX1_piece_76 rfl (lv_at hl 3 rfl) ?_
    refine sa_icmp_ge (tgt := 138) hx hb dX1_piece_77 (by decide) (fun c_77 => ?_) (fun c_77 => ?_)
    · refine lv_iload hx hb dX1_piece_138 (lv_at hl 5 rfl) ?_
      have e0 := (mPc_end (s := st) (off := off) (bv := bv) (q := (K, B, q)) (show len ≤ k by omega)).symm.trans hF
      exact sa_retI (K, B) hx hb hr hlk hK hP hD hS dX1_piece_140 (Or.inr (Or.inr ⟨hend, hfit, by rw [← e0], by rw [← e0]⟩))
    · refine sa_sipush hx hb dX1_piece_80 (by decide +kernel) ?_
      refine lv_iload_n hx hb dX1_piece_83 rfl (lv_at hl 1 rfl) ?_
      refine sa_mul hx hb dX1_piece_84 ?_
      refine lv_iload_n hx hb dX1_piece_85 rfl (lv_at hl 2 rfl) ?_
      refine sa_add hx hb dX1_piece_86 ?_
      refine lv_iload hx hb dX1_piece_87 (lv_at hl 6 rfl) ?_
      refine sa_add hx hb dX1_piece_89 ?_
      refine lv_istore (lv' := [(7, .int (sa_i (((240 * st) + off) + k))), (0, .ref h), (1, .int (sa_i st)), (2, .int (sa_i off)), (3, .int (sa_i len)), (4, .int bv), (5, .int (sa_i q)), (6, .int (sa_i k))]) hx hb dX1_piece_90 hl (by decide) rfl (fun ls hl => ?_)
      refine lv_aload_n hx hb dX1_piece_92 rfl (lv_at hl 1 rfl) ?_
      refine m_g0 S hK hP dX1_piece_93 ?_
      refine lv_iload hx hb dX1_piece_96 (lv_at hl 0 rfl) ?_
      refine m_l0 S hK hP dX1_piece_98 ?_
      refine sa_ifB_ne (tgt := 132) hx hb dX1_piece_99 (by decide) (fun c_99 => ?_) (fun c_99 => ?_)
      · refine sa_iinc (k := 7) (lv' := [(6, .int (sa_i (k + 1))), (7, .int (sa_i (((240 * st) + off) + k))), (0, .ref h), (1, .int (sa_i st)), (2, .int (sa_i off)), (3, .int (sa_i len)), (4, .int bv), (5, .int (sa_i q))]) hx hb dX1_piece_132 hl rfl (by decide) rfl (fun ls hl => ?_)
        refine lv_goto (tgt := 74) hx hb dX1_piece_135 (by decide) ?_
        have hF2 := mPc_step (s := st) (off := off) (bv := bv) (q := (K, B, q)) (show k < len by omega)
        dsimp only at hF2
        rw [if_pos c_99] at hF2
        exact ih (k + 1) q (by omega) (by omega) (by omega) (by omega) _ _ (hF2.symm.trans hF) H locs hP hD hS ls (lv_sub hl [2, 3, 4, 5, 6, 7, 0] rfl)
      · refine lv_aload_n hx hb dX1_piece_102 rfl (lv_at hl 1 rfl) ?_
        refine m_g0 S hK hP dX1_piece_103 ?_
        refine lv_iload hx hb dX1_piece_106 (lv_at hl 0 rfl) ?_
        refine sa_const hx hb dX1_piece_108 ?_
        refine m_s0 S hK hP hD hS dX1_piece_109 (fun H locs hP hD hS => ?_)
        refine lv_aload_n hx hb dX1_piece_110 rfl (lv_at hl 1 rfl) ?_
        refine m_g1 S hK hP dX1_piece_111 ?_
        refine lv_iload hx hb dX1_piece_114 (lv_at hl 0 rfl) ?_
        refine lv_iload hx hb dX1_piece_116 (lv_at hl 5 rfl) ?_
        refine sa_bipush hx hb dX1_piece_118 (by decide +kernel) ?_
        refine lv_iload hx hb dX1_piece_120 (lv_at hl 7 rfl) ?_
        refine sa_mul hx hb dX1_piece_122 ?_
        refine lv_ishr hx hb dX1_piece_123 ?_
        refine sa_sipush hx hb dX1_piece_124 (by decide +kernel) ?_
        refine lv_iand hx hb dX1_piece_127 ?_
        refine m_s1 S hK hP hD hS dX1_piece_128 (fun H locs hP hD hS => ?_)
        refine sa_iinc (k := 6) (lv' := [(5, .int (sa_i (q + 1))), (7, .int (sa_i (((240 * st) + off) + k))), (0, .ref h), (1, .int (sa_i st)), (2, .int (sa_i off)), (3, .int (sa_i len)), (4, .int bv), (6, .int (sa_i k))]) hx hb dX1_piece_129 hl rfl (by decide) rfl (fun ls hl => ?_)
        refine sa_iinc (k := 7) (lv' := [(6, .int (sa_i (k + 1))), (5, .int (sa_i (q + 1))), (7, .int (sa_i (((240 * st) + off) + k))), (0, .ref h), (1, .int (sa_i st)), (2, .int (sa_i off)), (3, .int (sa_i len)), (4, .int bv)]) hx hb dX1_piece_132 hl rfl (by decide) rfl (fun ls hl => ?_)
        refine lv_goto (tgt := 74) hx hb dX1_piece_135 (by decide) ?_
        have hF2 := mPc_step (s := st) (off := off) (bv := bv) (q := (K, B, q)) (show k < len by omega)
        dsimp only at hF2
        rw [if_neg (by rw [c_99]; decide)] at hF2
        exact ih (k + 1) (q + 1) (by omega) (by omega) (by omega) (by omega) _ _ (hF2.symm.trans hF) H locs hP hD hS ls (lv_sub hl [3, 4, 5, 6, 7, 1, 0] rfl)
set_option maxHeartbeats 4000000 in
set_option maxRecDepth 100000 in
theorem metX1_piece (l : Launch) (D : va_G) (h : Nat) (a : Nat → Nat) (cI cZ : ClassId) (K : Int → Bool) (B : Int → Int32) (PT ED : Int → Int) (st : Int) (off : Int) (len : Int) (bv : Int32) (sz : Nat) (hst : 0 ≤ st ∧ st ≤ 3) (hof : 0 ≤ off ∧ off ≤ 1000) (hln : 1 ≤ len ∧ len ≤ 4) (hok : mOK PT ED) : sa_MetI l yX1_piece cX1_piece 8 2 [.ref h, .int (sa_i st), .int (sa_i off), .int (sa_i len), .int bv] D vwCl (mT cI cZ) (wM h a cI cZ K B PT ED) (fun u : (Int → Bool) × (Int → Int32) => wM h a cI cZ u.1 u.2 PT ED) sz (mPiP K B PT ED st off len bv) := by
  refine sa_metI (by decide) (Nat.le_of_ble_eq_true rfl) ?_
  intro p e s m below meth c A S hr hlk hP hK hD hS hA ls hl
  have hl : lv_has ls 8 [(0, .ref h), (1, .int (sa_i st)), (2, .int (sa_i off)), (3, .int (sa_i len)), (4, .int bv)] := hl
  have S : CallFix p m c cX1_piece 8 s _ lw_all RX1 := S
  obtain ⟨hx, hb, -, -, -⟩ := id S
  have b1 := hok st
  have b2 := mLim_in hok st
  refine lv_iload_n hx hb dX1_piece_0 rfl (lv_at hl 1 rfl) ?_
  refine kX1_bad S hst hl.1 dX1_piece_1 ?_
  refine sa_if_ne (tgt := 28) hx hb dX1_piece_4 (by decide) (fun c_ => absurd c_ (by decide)) (fun c_4 => ?_)
  refine lv_iload_n hx hb dX1_piece_7 rfl (lv_at hl 3 rfl) ?_
  refine sa_const hx hb dX1_piece_8 ?_
  refine sa_icmp_lt (tgt := 28) hx hb dX1_piece_9 (by decide) (fun c_ => by exfalso; omega) (fun c_9 => ?_)
  refine lv_iload_n hx hb dX1_piece_12 rfl (lv_at hl 3 rfl) ?_
  refine sa_const hx hb dX1_piece_13 ?_
  refine sa_icmp_gt (tgt := 28) hx hb dX1_piece_14 (by decide) (fun c_ => by exfalso; omega) (fun c_14 => ?_)
  refine lv_iload_n hx hb dX1_piece_17 rfl (lv_at hl 2 rfl) ?_
  refine sa_if_lt (tgt := 28) hx hb dX1_piece_18 (by decide) (fun c_ => by exfalso; omega) (fun c_18 => ?_)
  refine lv_iload_n hx hb dX1_piece_21 rfl (lv_at hl 2 rfl) ?_
  refine sa_sipush hx hb dX1_piece_22 (by decide +kernel) ?_
  refine sa_icmp_le (tgt := 30) hx hb dX1_piece_25 (by decide) (fun c_25 => ?_) (fun c_ => by exfalso; omega)
  refine lv_aload_n hx hb dX1_piece_30 rfl (lv_at hl 0 rfl) ?_
  refine m_g3 S hK hP dX1_piece_31 ?_
  refine lv_iload_n hx hb dX1_piece_34 rfl (lv_at hl 1 rfl) ?_
  refine m_l3 S hK hP dX1_piece_35 ?_
  refine sa_if_lt (tgt := 54) hx hb dX1_piece_36 (by decide) (fun c_36 => ?_) (fun c_36 => ?_)
  · refine lv_aload_n hx hb dX1_piece_54 rfl (lv_at hl 0 rfl) ?_
    refine lv_iload_n hx hb dX1_piece_55 rfl (lv_at hl 1 rfl) ?_
    refine lv_iload_n hx hb dX1_piece_56 rfl (lv_at hl 2 rfl) ?_
    refine lv_iload_n hx hb dX1_piece_57 rfl (lv_at hl 3 rfl) ?_
    refine sa_add hx hb dX1_piece_58 ?_
    refine kX1_fits S hK hP (by omega) (by omega) hok hl.1 dX1_piece_59 ?_
    refine sa_ifB_ne (tgt := 68) hx hb dX1_piece_62 (by decide) (fun c_62 => ?_) (fun c_62 => ?_)
    · have b3 := mFit_lim c_62
      refine sa_const hx hb dX1_piece_68 ?_
      refine lv_istore (lv' := [(5, .int (sa_i 0)), (0, .ref h), (1, .int (sa_i st)), (2, .int (sa_i off)), (3, .int (sa_i len)), (4, .int bv)]) hx hb dX1_piece_69 hl (by decide) rfl (fun ls hl => ?_)
      refine sa_const hx hb dX1_piece_71 ?_
      refine lv_istore (lv' := [(6, .int (sa_i 0)), (5, .int (sa_i 0)), (0, .ref h), (1, .int (sa_i st)), (2, .int (sa_i off)), (3, .int (sa_i len)), (4, .int bv)]) hx hb dX1_piece_72 hl (by decide) rfl (fun ls hl => ?_)
      exact metX1_piece_L74 S hr hlk hK hst hof hln (by omega) (by omega) c_62 5 0 0 (by omega) (by omega) (by omega) (by omega) K B rfl _ _ hP hD hS ls (lv_sub hl [2, 3, 4, 5, 6, 1, 0] rfl)
    · refine sa_bipush hx hb dX1_piece_65 (by decide +kernel) ?_
      exact sa_retI (K, B) hx hb hr hlk hK hP hD hS dX1_piece_67 (Or.inr (Or.inl ⟨by omega, c_62, rfl, rfl⟩))
  · refine lv_iload_n hx hb dX1_piece_39 rfl (lv_at hl 2 rfl) ?_
    refine lv_iload_n hx hb dX1_piece_40 rfl (lv_at hl 3 rfl) ?_
    refine sa_add hx hb dX1_piece_41 ?_
    refine lv_aload_n hx hb dX1_piece_42 rfl (lv_at hl 0 rfl) ?_
    refine m_g3 S hK hP dX1_piece_43 ?_
    refine lv_iload_n hx hb dX1_piece_46 rfl (lv_at hl 1 rfl) ?_
    refine m_l3 S hK hP dX1_piece_47 ?_
    refine sa_icmp_le (tgt := 54) hx hb dX1_piece_48 (by decide) (fun c_48 => ?_) (fun c_48 => ?_)
    · refine lv_aload_n hx hb dX1_piece_54 rfl (lv_at hl 0 rfl) ?_
      refine lv_iload_n hx hb dX1_piece_55 rfl (lv_at hl 1 rfl) ?_
      refine lv_iload_n hx hb dX1_piece_56 rfl (lv_at hl 2 rfl) ?_
      refine lv_iload_n hx hb dX1_piece_57 rfl (lv_at hl 3 rfl) ?_
      refine sa_add hx hb dX1_piece_58 ?_
      refine kX1_fits S hK hP (by omega) (by omega) hok hl.1 dX1_piece_59 ?_
      refine sa_ifB_ne (tgt := 68) hx hb dX1_piece_62 (by decide) (fun c_62 => ?_) (fun c_62 => ?_)
      · have b3 := mFit_lim c_62
        refine sa_const hx hb dX1_piece_68 ?_
        refine lv_istore (lv' := [(5, .int (sa_i 0)), (0, .ref h), (1, .int (sa_i st)), (2, .int (sa_i off)), (3, .int (sa_i len)), (4, .int bv)]) hx hb dX1_piece_69 hl (by decide) rfl (fun ls hl => ?_)
        refine sa_const hx hb dX1_piece_71 ?_
        refine lv_istore (lv' := [(6, .int (sa_i 0)), (5, .int (sa_i 0)), (0, .ref h), (1, .int (sa_i st)), (2, .int (sa_i off)), (3, .int (sa_i len)), (4, .int bv)]) hx hb dX1_piece_72 hl (by decide) rfl (fun ls hl => ?_)
        exact metX1_piece_L74 S hr hlk hK hst hof hln (by omega) (by omega) c_62 5 0 0 (by omega) (by omega) (by omega) (by omega) K B rfl _ _ hP hD hS ls (lv_sub hl [2, 3, 4, 5, 6, 1, 0] rfl)
      · refine sa_bipush hx hb dX1_piece_65 (by decide +kernel) ?_
        exact sa_retI (K, B) hx hb hr hlk hK hP hD hS dX1_piece_67 (Or.inr (Or.inl ⟨by omega, c_62, rfl, rfl⟩))
    · refine sa_bipush hx hb dX1_piece_51 (by decide +kernel) ?_
      exact sa_retI (K, B) hx hb hr hlk hK hP hD hS dX1_piece_53 (Or.inl ⟨⟨by omega, by omega⟩, rfl, rfl⟩)
end
section
/-! ===== the two constructors (printed by gen/c1.py) ===== -/
theorem sa_same {D : va_G} {cl : List vw_C} {tys : List (ClassId × FieldType)} {U : State} (hK : va_K D cl tys U) (i j : Nat) {c1 c2 : ClassId} (hi : tys[i]? = some (c1, .int)) (hj : tys[j]? = some (c2, .int)) : c1 = c2 :=
  Option.some.inj ((va_nm_int (hK.2 i _ hi).2).symm.trans (va_nm_int (hK.2 j _ hj).2))
def sa_e0 : Int → Int := sa_up (sa_up (sa_up (sa_up (fun _ => 0) 0 (-1)) 1 (-1)) 2 (-1)) 3 (-1)
def sa_a6 (q1 q2 q3 q4 q5 q6 : Nat) : Nat → Nat := fun k => match k with
  | 0 => q1
  | 1 => q2
  | 2 => q3
  | 3 => q4
  | 4 => q5
  | _ => q6
def sa_a4 (q1 q2 q3 q4 : Nat) : Nat → Nat := fun k => match k with
  | 0 => q1
  | 1 => q2
  | 2 => q3
  | _ => q4
set_option maxHeartbeats 4000000 in
set_option maxRecDepth 100000 in
theorem metX0_init_T {l : Launch} {D : va_G} {h : Nat} {a : Nat → Nat} {cI : ClassId} {p : Program} {e : Env} {s : State} {m : MethodId} {below : List Frame} {meth : Method} {c : Code} {av : Array Value} {A : Nat → Prop} {H : Heap} {locs : List Loc} {ls : Array Slot} (S : CallFix p m c cX0_init 2 s av lw_all RX0) (hr : meth.sig.returnType = none) (hlk : meth.locks = false) (hK : va_K D vwCl (xT cI) s) (hP : va_P D vwCl (wX h a cI (fun _ => 0) (fun _ => 0) (fun _ => 0) (fun _ => 0) (fun _ => 0) (fun _ => 0)) H) (hD : va_D A (wX h a cI (fun _ => 0) (fun _ => 0) (fun _ => 0) (fun _ => 0) (fun _ => 0) (fun _ => 0))) (hS : va_S A s.heap H locs) (hl : lv_has ls 2 [(0, .ref h)]) : W p l e ({ frames := 1, cells := 6, slots := 244, locals := 12 } : Room) s m av below meth c H locs 6 244 (MQ below (va_Qv (fun _ : Unit => True) (fun _ t => ∃ (a : Nat → Nat) (cI : ClassId), va_P D vwCl (wX h a cI (fun _ => 0) (fun _ => 0) sa_e0 (fun _ => 0) (fun _ => 0) (fun _ => 0)) t.heap ∧ va_K D vwCl (xT cI) t ∧ va_D A (wX h a cI (fun _ => 0) (fun _ => 0) sa_e0 (fun _ => 0) (fun _ => 0) (fun _ => 0))) A) av s 6 244 A) (F0 m 50 ls []) := by
  obtain ⟨hx, hb, -, -, -⟩ := id S
  refine sa_const hx hb dX0_init_50 ?_
  refine lv_istore_n (lv' := [(1, .int (sa_i 0)), (0, .ref h)]) hx hb dX0_init_51 rfl hl (by decide) rfl (fun ls hl => ?_)
  refine lv_iload_n hx hb dX0_init_52 rfl (lv_at hl 0 rfl) ?_
  refine sa_const hx hb dX0_init_53 ?_
  refine sa_icmp_ge (tgt := 70) hx hb dX0_init_54 (by decide) (fun c_ => absurd c_ (by decide)) (fun c_54 => ?_)
  refine lv_aload_n hx hb dX0_init_57 rfl (lv_at hl 1 rfl) ?_
  refine x_g2 S hK hP dX0_init_58 ?_
  refine lv_iload_n hx hb dX0_init_61 rfl (lv_at hl 0 rfl) ?_
  refine sa_const hx hb dX0_init_62 ?_
  refine x_s2 S hK hP hD hS dX0_init_63 (fun H locs hP hD hS => ?_)
  refine sa_iinc (k := 0) (lv' := [(1, .int (sa_i (0 + 1))), (0, .ref h)]) hx hb dX0_init_64 hl rfl (by decide) rfl (fun ls hl => ?_)
  rw [show (0 : Int) + 1 = 1 from rfl] at hl
  refine lv_goto (tgt := 52) hx hb dX0_init_67 (by decide) ?_
  refine lv_iload_n hx hb dX0_init_52 rfl (lv_at hl 0 rfl) ?_
  refine sa_const hx hb dX0_init_53 ?_
  refine sa_icmp_ge (tgt := 70) hx hb dX0_init_54 (by decide) (fun c_ => absurd c_ (by decide)) (fun c_54_1 => ?_)
  refine lv_aload_n hx hb dX0_init_57 rfl (lv_at hl 1 rfl) ?_
  refine x_g2 S hK hP dX0_init_58 ?_
  refine lv_iload_n hx hb dX0_init_61 rfl (lv_at hl 0 rfl) ?_
  refine sa_const hx hb dX0_init_62 ?_
  refine x_s2 S hK hP hD hS dX0_init_63 (fun H locs hP hD hS => ?_)
  refine sa_iinc (k := 0) (lv' := [(1, .int (sa_i (1 + 1))), (0, .ref h)]) hx hb dX0_init_64 hl rfl (by decide) rfl (fun ls hl => ?_)
  rw [show (1 : Int) + 1 = 2 from rfl] at hl
  refine lv_goto (tgt := 52) hx hb dX0_init_67 (by decide) ?_
  refine lv_iload_n hx hb dX0_init_52 rfl (lv_at hl 0 rfl) ?_
  refine sa_const hx hb dX0_init_53 ?_
  refine sa_icmp_ge (tgt := 70) hx hb dX0_init_54 (by decide) (fun c_ => absurd c_ (by decide)) (fun c_54_2 => ?_)
  refine lv_aload_n hx hb dX0_init_57 rfl (lv_at hl 1 rfl) ?_
  refine x_g2 S hK hP dX0_init_58 ?_
  refine lv_iload_n hx hb dX0_init_61 rfl (lv_at hl 0 rfl) ?_
  refine sa_const hx hb dX0_init_62 ?_
  refine x_s2 S hK hP hD hS dX0_init_63 (fun H locs hP hD hS => ?_)
  refine sa_iinc (k := 0) (lv' := [(1, .int (sa_i (2 + 1))), (0, .ref h)]) hx hb dX0_init_64 hl rfl (by decide) rfl (fun ls hl => ?_)
  rw [show (2 : Int) + 1 = 3 from rfl] at hl
  refine lv_goto (tgt := 52) hx hb dX0_init_67 (by decide) ?_
  refine lv_iload_n hx hb dX0_init_52 rfl (lv_at hl 0 rfl) ?_
  refine sa_const hx hb dX0_init_53 ?_
  refine sa_icmp_ge (tgt := 70) hx hb dX0_init_54 (by decide) (fun c_ => absurd c_ (by decide)) (fun c_54_3 => ?_)
  refine lv_aload_n hx hb dX0_init_57 rfl (lv_at hl 1 rfl) ?_
  refine x_g2 S hK hP dX0_init_58 ?_
  refine lv_iload_n hx hb dX0_init_61 rfl (lv_at hl 0 rfl) ?_
  refine sa_const hx hb dX0_init_62 ?_
  refine x_s2 S hK hP hD hS dX0_init_63 (fun H locs hP hD hS => ?_)
  refine sa_iinc (k := 0) (lv' := [(1, .int (sa_i (3 + 1))), (0, .ref h)]) hx hb dX0_init_64 hl rfl (by decide) rfl (fun ls hl => ?_)
  rw [show (3 : Int) + 1 = 4 from rfl] at hl
  refine lv_goto (tgt := 52) hx hb dX0_init_67 (by decide) ?_
  refine lv_iload_n hx hb dX0_init_52 rfl (lv_at hl 0 rfl) ?_
  refine sa_const hx hb dX0_init_53 ?_
  refine sa_icmp_ge (tgt := 70) hx hb dX0_init_54 (by decide) (fun c_54_4 => ?_) (fun c_ => absurd c_ (by decide))
  exact W.vret hx hb hr (fun t ht hW => ⟨⟨(), rfl, trivial, a, cI, by rw [ht]; exact hP, va_K.moved hW.alike hK, hD⟩, hS.F ht⟩) hS.2.2 dX0_init_70 hlk
set_option maxHeartbeats 4000000 in
set_option maxRecDepth 100000 in
theorem metX0_init (l : Launch) (D : va_G) (h sz : Nat) : Met l yX0_init (ws_ yX0_init cX0_init 2 none) ({ frames := 1, cells := 6, slots := 244, locals := 12 } : Room) (va_Pc [.ref h] (fun U => U.heap.size = sz ∧ va_P D vwCl [(h, .inr (0, [.null, .null, .null, .null, .null, .null]))] U.heap ∧ va_K D vwCl [] U ∧ va_D (fun _ => True) [(h, .inr (0, [.null, .null, .null, .null, .null, .null]))])) (va_Qv (fun _ : Unit => True) (fun _ t => ∃ (a : Nat → Nat) (cI : ClassId), va_P D vwCl (wX h a cI (fun _ => 0) (fun _ => 0) sa_e0 (fun _ => 0) (fun _ => 0) (fun _ => 0)) t.heap ∧ va_K D vwCl (xT cI) t ∧ va_D (va_A [(h, .inr (0, [.null, .null, .null, .null, .null, .null]))] sz) (wX h a cI (fun _ => 0) (fun _ => 0) sa_e0 (fun _ => 0) (fun _ => 0) (fun _ => 0))) (va_A [(h, .inr (0, [.null, .null, .null, .null, .null, .null]))] sz)) 6 244 (va_A [(h, .inr (0, [.null, .null, .null, .null, .null, .null]))] sz) := by
  refine Met.ofW (cc := cX0_init) (maxL := 2) (ret := none) (by decide) rfl ?_
  intro p e s m args below meth c s₁ B hml hv
  obtain ⟨rfl, hsz, hP, hK, hD0⟩ := hv
  have hx := B.exec
  have hb := B.bytes
  have hr := B.returns
  have hts := atoms_spec (ws := ws_ yX0_init cX0_init 2 none) B.pre
  have hts : ∀ w ∈ lw_all, w.before _ s = true := fun w h => hts w (List.mem_cons_of_mem _ h)
  have hown : s.vm.findClass RX0 = some m.cls := findClass_of_methodNamed B.named
  have hlk := B.notSynchronized
  have hin : meth.name = "<init>" := (name_of_methodNamed B.named B.method).1
  subst hsz
  have hD := hD0.self (sz := s.heap.size)
  generalize hAe : va_A [(h, .inr (0, [.null, .null, .null, .null, .null, .null]))] s.heap.size = A at hD ⊢
  have hA : ∀ q : Nat, s.heap.size ≤ q → A q := fun q h => by rw [← hAe]; exact Or.inr h
  have hS : va_S A s.heap s.heap [] := va_S.rf
  have hP : va_P D vwCl [(h, .inr (0, [.null, .null, .null, .null, .null, .null]))] s.heap := hP
  have hl := lv_entry ([.ref h]) (n := 2) (Nat.le_of_ble_eq_true rfl)
  rw [lg_entry_eq]
  generalize (lg_sl ([.ref h]) ++ List.replicate (2 - (lg_sl ([.ref h])).length) Slot.unset).toArray = ls at hl ⊢
  have hl : lv_has ls 2 [(0, .ref h)] := hl
  refine lv_aload_n hx hb dX0_init_0 rfl (lv_at hl 0 rfl) ?_
  refine W.objInit hx hb hown (hts _ q21) (hts _ q22) (hts _ q23) rfl (by rw [hml]; exact hl.1) rfl dX0_init_1 (Nat.le_of_ble_eq_true rfl) (Nat.le_of_ble_eq_true rfl) ?_
  refine W.eq (g2 := F0 m 4 ls []) rfl ?_
  refine lv_aload_n hx hb dX0_init_4 rfl (lv_at hl 0 rfl) ?_
  refine sa_sipush hx hb dX0_init_5 (by decide +kernel) ?_
  refine va_newa (atype := .int) (N' := 128) (a0 := (128, .inl (sa_ar (fun _ => 0)))) (ty := .int) hx hb (hts _ q43) rfl hK hP hD hS hA (fun _ => rfl) (by decide +kernel) (by decide +kernel) (by decide +kernel) (Nat.le_of_ble_eq_true rfl) (Nat.le_of_ble_eq_true rfl) dX0_init_8 (fun q1 c1 H hK hP hD hS => ?_)
  have hK : va_K D vwCl [(c1, .int)] s := hK.sub [0] rfl
  have hP : va_P D vwCl [(h, .inr (0, [.null, .null, .null, .null, .null, .null])), (q1, .inl (c1, 128, .inl (sa_ar (fun _ => 0))))] H := hP
  have hD : va_D A [(h, .inr (0, [.null, .null, .null, .null, .null, .null])), (q1, .inl (c1, 128, .inl (sa_ar (fun _ => 0))))] := hD
  refine va_putF (ci := 0) (v := .ref q1) (ty := .array .int) (C := RX0) (T := TX0) (N := 6) hx hb hts in_X0 tyX0 tyX0_ok nmX0 hown hK hP hD hS 0 rfl rfl 0 (by decide) (hts _ q24) (fun _ h9 => h9) rfl hin rfl (by decide +kernel) rfl rfl (Nat.le_of_ble_eq_true rfl) dX0_init_10 (fun H locs hP hD hS => ?_)
  have hP : va_P D vwCl [(h, .inr (0, [.ref q1, .null, .null, .null, .null, .null])), (q1, .inl (c1, 128, .inl (sa_ar (fun _ => 0))))] H := hP
  have hD : va_D A [(h, .inr (0, [.ref q1, .null, .null, .null, .null, .null])), (q1, .inl (c1, 128, .inl (sa_ar (fun _ => 0))))] := hD
  refine lv_aload_n hx hb dX0_init_13 rfl (lv_at hl 0 rfl) ?_
  refine sa_const hx hb dX0_init_14 ?_
  refine va_newa (atype := .int) (N' := 4) (a0 := (4, .inl (sa_ai (fun _ => 0)))) (ty := .int) hx hb (hts _ q43) rfl hK hP hD hS hA (fun _ => rfl) (by decide +kernel) (by decide +kernel) (by decide +kernel) (Nat.le_of_ble_eq_true rfl) (Nat.le_of_ble_eq_true rfl) dX0_init_15 (fun q2 c2 H hK hP hD hS => ?_)
  have ec : c1 = c2 := sa_same hK 0 1 rfl rfl
  subst ec
  have hK : va_K D vwCl [(c1, .int)] s := hK.sub [0] rfl
  have hP : va_P D vwCl [(h, .inr (0, [.ref q1, .null, .null, .null, .null, .null])), (q1, .inl (c1, 128, .inl (sa_ar (fun _ => 0)))), (q2, .inl (c1, 4, .inl (sa_ai (fun _ => 0))))] H := hP
  have hD : va_D A [(h, .inr (0, [.ref q1, .null, .null, .null, .null, .null])), (q1, .inl (c1, 128, .inl (sa_ar (fun _ => 0)))), (q2, .inl (c1, 4, .inl (sa_ai (fun _ => 0))))] := hD
  refine va_putF (ci := 0) (v := .ref q2) (ty := .array .int) (C := RX0) (T := TX0) (N := 6) hx hb hts in_X0 tyX0 tyX0_ok nmX0 hown hK hP hD hS 0 rfl rfl 1 (by decide) (hts _ q25) (fun _ h9 => h9) rfl hin rfl (by decide +kernel) rfl rfl (Nat.le_of_ble_eq_true rfl) dX0_init_17 (fun H locs hP hD hS => ?_)
  have hP : va_P D vwCl [(h, .inr (0, [.ref q1, .ref q2, .null, .null, .null, .null])), (q1, .inl (c1, 128, .inl (sa_ar (fun _ => 0)))), (q2, .inl (c1, 4, .inl (sa_ai (fun _ => 0))))] H := hP
  have hD : va_D A [(h, .inr (0, [.ref q1, .ref q2, .null, .null, .null, .null])), (q1, .inl (c1, 128, .inl (sa_ar (fun _ => 0)))), (q2, .inl (c1, 4, .inl (sa_ai (fun _ => 0))))] := hD
  refine lv_aload_n hx hb dX0_init_20 rfl (lv_at hl 0 rfl) ?_
  refine sa_const hx hb dX0_init_21 ?_
  refine va_newa (atype := .int) (N' := 4) (a0 := (4, .inl (sa_ai (fun _ => 0)))) (ty := .int) hx hb (hts _ q43) rfl hK hP hD hS hA (fun _ => rfl) (by decide +kernel) (by decide +kernel) (by decide +kernel) (Nat.le_of_ble_eq_true rfl) (Nat.le_of_ble_eq_true rfl) dX0_init_22 (fun q3 c3 H hK hP hD hS => ?_)
  have ec : c1 = c3 := sa_same hK 0 1 rfl rfl
  subst ec
  have hK : va_K D vwCl [(c1, .int)] s := hK.sub [0] rfl
  have hP : va_P D vwCl [(h, .inr (0, [.ref q1, .ref q2, .null, .null, .null, .null])), (q1, .inl (c1, 128, .inl (sa_ar (fun _ => 0)))), (q2, .inl (c1, 4, .inl (sa_ai (fun _ => 0)))), (q3, .inl (c1, 4, .inl (sa_ai (fun _ => 0))))] H := hP
  have hD : va_D A [(h, .inr (0, [.ref q1, .ref q2, .null, .null, .null, .null])), (q1, .inl (c1, 128, .inl (sa_ar (fun _ => 0)))), (q2, .inl (c1, 4, .inl (sa_ai (fun _ => 0)))), (q3, .inl (c1, 4, .inl (sa_ai (fun _ => 0))))] := hD
  refine va_putF (ci := 0) (v := .ref q3) (ty := .array .int) (C := RX0) (T := TX0) (N := 6) hx hb hts in_X0 tyX0 tyX0_ok nmX0 hown hK hP hD hS 0 rfl rfl 2 (by decide) (hts _ q26) (fun _ h9 => h9) rfl hin rfl (by decide +kernel) rfl rfl (Nat.le_of_ble_eq_true rfl) dX0_init_24 (fun H locs hP hD hS => ?_)
  have hP : va_P D vwCl [(h, .inr (0, [.ref q1, .ref q2, .ref q3, .null, .null, .null])), (q1, .inl (c1, 128, .inl (sa_ar (fun _ => 0)))), (q2, .inl (c1, 4, .inl (sa_ai (fun _ => 0)))), (q3, .inl (c1, 4, .inl (sa_ai (fun _ => 0))))] H := hP
  have hD : va_D A [(h, .inr (0, [.ref q1, .ref q2, .ref q3, .null, .null, .null])), (q1, .inl (c1, 128, .inl (sa_ar (fun _ => 0)))), (q2, .inl (c1, 4, .inl (sa_ai (fun _ => 0)))), (q3, .inl (c1, 4, .inl (sa_ai (fun _ => 0))))] := hD
  refine lv_aload_n hx hb dX0_init_27 rfl (lv_at hl 0 rfl) ?_
  refine sa_const hx hb dX0_init_28 ?_
  refine va_newa (atype := .int) (N' := 4) (a0 := (4, .inl (sa_ai (fun _ => 0)))) (ty := .int) hx hb (hts _ q43) rfl hK hP hD hS hA (fun _ => rfl) (by decide +kernel) (by decide +kernel) (by decide +kernel) (Nat.le_of_ble_eq_true rfl) (Nat.le_of_ble_eq_true rfl) dX0_init_29 (fun q4 c4 H hK hP hD hS => ?_)
  have ec : c1 = c4 := sa_same hK 0 1 rfl rfl
  subst ec
  have hK : va_K D vwCl [(c1, .int)] s := hK.sub [0] rfl
  have hP : va_P D vwCl [(h, .inr (0, [.ref q1, .ref q2, .ref q3, .null, .null, .null])), (q1, .inl (c1, 128, .inl (sa_ar (fun _ => 0)))), (q2, .inl (c1, 4, .inl (sa_ai (fun _ => 0)))), (q3, .inl (c1, 4, .inl (sa_ai (fun _ => 0)))), (q4, .inl (c1, 4, .inl (sa_ai (fun _ => 0))))] H := hP
  have hD : va_D A [(h, .inr (0, [.ref q1, .ref q2, .ref q3, .null, .null, .null])), (q1, .inl (c1, 128, .inl (sa_ar (fun _ => 0)))), (q2, .inl (c1, 4, .inl (sa_ai (fun _ => 0)))), (q3, .inl (c1, 4, .inl (sa_ai (fun _ => 0)))), (q4, .inl (c1, 4, .inl (sa_ai (fun _ => 0))))] := hD
  refine va_putF (ci := 0) (v := .ref q4) (ty := .array .int) (C := RX0) (T := TX0) (N := 6) hx hb hts in_X0 tyX0 tyX0_ok nmX0 hown hK hP hD hS 0 rfl rfl 3 (by decide) (hts _ q27) (fun _ h9 => h9) rfl hin rfl (by decide +kernel) rfl rfl (Nat.le_of_ble_eq_true rfl) dX0_init_31 (fun H locs hP hD hS => ?_)
  have hP : va_P D vwCl [(h, .inr (0, [.ref q1, .ref q2, .ref q3, .ref q4, .null, .null])), (q1, .inl (c1, 128, .inl (sa_ar (fun _ => 0)))), (q2, .inl (c1, 4, .inl (sa_ai (fun _ => 0)))), (q3, .inl (c1, 4, .inl (sa_ai (fun _ => 0)))), (q4, .inl (c1, 4, .inl (sa_ai (fun _ => 0))))] H := hP
  have hD : va_D A [(h, .inr (0, [.ref q1, .ref q2, .ref q3, .ref q4, .null, .null])), (q1, .inl (c1, 128, .inl (sa_ar (fun _ => 0)))), (q2, .inl (c1, 4, .inl (sa_ai (fun _ => 0)))), (q3, .inl (c1, 4, .inl (sa_ai (fun _ => 0)))), (q4, .inl (c1, 4, .inl (sa_ai (fun _ => 0))))] := hD
  refine lv_aload_n hx hb dX0_init_34 rfl (lv_at hl 0 rfl) ?_
  refine sa_bipush hx hb dX0_init_35 (by decide +kernel) ?_
  refine va_newa (atype := .int) (N' := 52) (a0 := (52, .inl (sa_ai (fun _ => 0)))) (ty := .int) hx hb (hts _ q43) rfl hK hP hD hS hA (fun _ => rfl) (by decide +kernel) (by decide +kernel) (by decide +kernel) (Nat.le_of_ble_eq_true rfl) (Nat.le_of_ble_eq_true rfl) dX0_init_37 (fun q5 c5 H hK hP hD hS => ?_)
  have ec : c1 = c5 := sa_same hK 0 1 rfl rfl
  subst ec
  have hK : va_K D vwCl [(c1, .int)] s := hK.sub [0] rfl
  have hP : va_P D vwCl [(h, .inr (0, [.ref q1, .ref q2, .ref q3, .ref q4, .null, .null])), (q1, .inl (c1, 128, .inl (sa_ar (fun _ => 0)))), (q2, .inl (c1, 4, .inl (sa_ai (fun _ => 0)))), (q3, .inl (c1, 4, .inl (sa_ai (fun _ => 0)))), (q4, .inl (c1, 4, .inl (sa_ai (fun _ => 0)))), (q5, .inl (c1, 52, .inl (sa_ai (fun _ => 0))))] H := hP
  have hD : va_D A [(h, .inr (0, [.ref q1, .ref q2, .ref q3, .ref q4, .null, .null])), (q1, .inl (c1, 128, .inl (sa_ar (fun _ => 0)))), (q2, .inl (c1, 4, .inl (sa_ai (fun _ => 0)))), (q3, .inl (c1, 4, .inl (sa_ai (fun _ => 0)))), (q4, .inl (c1, 4, .inl (sa_ai (fun _ => 0)))), (q5, .inl (c1, 52, .inl (sa_ai (fun _ => 0))))] := hD
  refine va_putF (ci := 0) (v := .ref q5) (ty := .array .int) (C := RX0) (T := TX0) (N := 6) hx hb hts in_X0 tyX0 tyX0_ok nmX0 hown hK hP hD hS 0 rfl rfl 4 (by decide) (hts _ q28) (fun _ h9 => h9) rfl hin rfl (by decide +kernel) rfl rfl (Nat.le_of_ble_eq_true rfl) dX0_init_39 (fun H locs hP hD hS => ?_)
  have hP : va_P D vwCl [(h, .inr (0, [.ref q1, .ref q2, .ref q3, .ref q4, .ref q5, .null])), (q1, .inl (c1, 128, .inl (sa_ar (fun _ => 0)))), (q2, .inl (c1, 4, .inl (sa_ai (fun _ => 0)))), (q3, .inl (c1, 4, .inl (sa_ai (fun _ => 0)))), (q4, .inl (c1, 4, .inl (sa_ai (fun _ => 0)))), (q5, .inl (c1, 52, .inl (sa_ai (fun _ => 0))))] H := hP
  have hD : va_D A [(h, .inr (0, [.ref q1, .ref q2, .ref q3, .ref q4, .ref q5, .null])), (q1, .inl (c1, 128, .inl (sa_ar (fun _ => 0)))), (q2, .inl (c1, 4, .inl (sa_ai (fun _ => 0)))), (q3, .inl (c1, 4, .inl (sa_ai (fun _ => 0)))), (q4, .inl (c1, 4, .inl (sa_ai (fun _ => 0)))), (q5, .inl (c1, 52, .inl (sa_ai (fun _ => 0))))] := hD
  refine lv_aload_n hx hb dX0_init_42 rfl (lv_at hl 0 rfl) ?_
  refine sa_bipush hx hb dX0_init_43 (by decide +kernel) ?_
  refine va_newa (atype := .int) (N' := 52) (a0 := (52, .inl (sa_ai (fun _ => 0)))) (ty := .int) hx hb (hts _ q43) rfl hK hP hD hS hA (fun _ => rfl) (by decide +kernel) (by decide +kernel) (by decide +kernel) (Nat.le_of_ble_eq_true rfl) (Nat.le_of_ble_eq_true rfl) dX0_init_45 (fun q6 c6 H hK hP hD hS => ?_)
  have ec : c1 = c6 := sa_same hK 0 1 rfl rfl
  subst ec
  have hK : va_K D vwCl [(c1, .int)] s := hK.sub [0] rfl
  have hP : va_P D vwCl [(h, .inr (0, [.ref q1, .ref q2, .ref q3, .ref q4, .ref q5, .null])), (q1, .inl (c1, 128, .inl (sa_ar (fun _ => 0)))), (q2, .inl (c1, 4, .inl (sa_ai (fun _ => 0)))), (q3, .inl (c1, 4, .inl (sa_ai (fun _ => 0)))), (q4, .inl (c1, 4, .inl (sa_ai (fun _ => 0)))), (q5, .inl (c1, 52, .inl (sa_ai (fun _ => 0)))), (q6, .inl (c1, 52, .inl (sa_ai (fun _ => 0))))] H := hP
  have hD : va_D A [(h, .inr (0, [.ref q1, .ref q2, .ref q3, .ref q4, .ref q5, .null])), (q1, .inl (c1, 128, .inl (sa_ar (fun _ => 0)))), (q2, .inl (c1, 4, .inl (sa_ai (fun _ => 0)))), (q3, .inl (c1, 4, .inl (sa_ai (fun _ => 0)))), (q4, .inl (c1, 4, .inl (sa_ai (fun _ => 0)))), (q5, .inl (c1, 52, .inl (sa_ai (fun _ => 0)))), (q6, .inl (c1, 52, .inl (sa_ai (fun _ => 0))))] := hD
  refine va_putF (ci := 0) (v := .ref q6) (ty := .array .int) (C := RX0) (T := TX0) (N := 6) hx hb hts in_X0 tyX0 tyX0_ok nmX0 hown hK hP hD hS 0 rfl rfl 5 (by decide) (hts _ q29) (fun _ h9 => h9) rfl hin rfl (by decide +kernel) rfl rfl (Nat.le_of_ble_eq_true rfl) dX0_init_47 (fun H locs hP hD hS => ?_)
  have hP : va_P D vwCl [(h, .inr (0, [.ref q1, .ref q2, .ref q3, .ref q4, .ref q5, .ref q6])), (q1, .inl (c1, 128, .inl (sa_ar (fun _ => 0)))), (q2, .inl (c1, 4, .inl (sa_ai (fun _ => 0)))), (q3, .inl (c1, 4, .inl (sa_ai (fun _ => 0)))), (q4, .inl (c1, 4, .inl (sa_ai (fun _ => 0)))), (q5, .inl (c1, 52, .inl (sa_ai (fun _ => 0)))), (q6, .inl (c1, 52, .inl (sa_ai (fun _ => 0))))] H := hP
  have hD : va_D A [(h, .inr (0, [.ref q1, .ref q2, .ref q3, .ref q4, .ref q5, .ref q6])), (q1, .inl (c1, 128, .inl (sa_ar (fun _ => 0)))), (q2, .inl (c1, 4, .inl (sa_ai (fun _ => 0)))), (q3, .inl (c1, 4, .inl (sa_ai (fun _ => 0)))), (q4, .inl (c1, 4, .inl (sa_ai (fun _ => 0)))), (q5, .inl (c1, 52, .inl (sa_ai (fun _ => 0)))), (q6, .inl (c1, 52, .inl (sa_ai (fun _ => 0))))] := hD
  refine W.widen (k := 6) (n := 244) (Nat.le_of_ble_eq_true rfl) (Nat.le_of_ble_eq_true rfl) ?_
  exact metX0_init_T (a := sa_a6 q1 q2 q3 q4 q5 q6) (cI := c1) ⟨hx, hb, hml, hown, hts⟩ hr hlk hK hP hD hS hl
set_option maxHeartbeats 4000000 in
set_option maxRecDepth 100000 in
theorem metX1_init_T {l : Launch} {D : va_G} {h : Nat} {a : Nat → Nat} {cI cZ : ClassId} {p : Program} {e : Env} {s : State} {m : MethodId} {below : List Frame} {meth : Method} {c : Code} {av : Array Value} {A : Nat → Prop} {H : Heap} {locs : List Loc} {ls : Array Slot} (S : CallFix p m c cX1_init 2 s av lw_all RX1) (hr : meth.sig.returnType = none) (hlk : meth.locks = false) (hK : va_K D vwCl (mT cI cZ) s) (hP : va_P D vwCl (wM h a cI cZ (fun _ => false) (fun _ => 0) (fun _ => 0) (fun _ => 0)) H) (hD : va_D A (wM h a cI cZ (fun _ => false) (fun _ => 0) (fun _ => 0) (fun _ => 0))) (hS : va_S A s.heap H locs) (hl : lv_has ls 2 [(0, .ref h)]) : W p l e ({ frames := 1, cells := 4, slots := 1928, locals := 12 } : Room) s m av below meth c H locs 4 1928 (MQ below (va_Qv (fun _ : Unit => True) (fun _ t => ∃ (a : Nat → Nat) (cI cZ : ClassId), va_P D vwCl (wM h a cI cZ (fun _ => false) (fun _ => 0) (fun _ => 0) sa_e0) t.heap ∧ va_K D vwCl (mT cI cZ) t ∧ va_D A (wM h a cI cZ (fun _ => false) (fun _ => 0) (fun _ => 0) sa_e0)) A) av s 4 1928 A) (F0 m 36 ls []) := by
  obtain ⟨hx, hb, -, -, -⟩ := id S
  refine sa_const hx hb dX1_init_36 ?_
  refine lv_istore_n (lv' := [(1, .int (sa_i 0)), (0, .ref h)]) hx hb dX1_init_37 rfl hl (by decide) rfl (fun ls hl => ?_)
  refine lv_iload_n hx hb dX1_init_38 rfl (lv_at hl 0 rfl) ?_
  refine sa_const hx hb dX1_init_39 ?_
  refine sa_icmp_ge (tgt := 56) hx hb dX1_init_40 (by decide) (fun c_ => absurd c_ (by decide)) (fun c_40 => ?_)
  refine lv_aload_n hx hb dX1_init_43 rfl (lv_at hl 1 rfl) ?_
  refine m_g3 S hK hP dX1_init_44 ?_
  refine lv_iload_n hx hb dX1_init_47 rfl (lv_at hl 0 rfl) ?_
  refine sa_const hx hb dX1_init_48 ?_
  refine m_s3 S hK hP hD hS dX1_init_49 (fun H locs hP hD hS => ?_)
  refine sa_iinc (k := 0) (lv' := [(1, .int (sa_i (0 + 1))), (0, .ref h)]) hx hb dX1_init_50 hl rfl (by decide) rfl (fun ls hl => ?_)
  rw [show (0 : Int) + 1 = 1 from rfl] at hl
  refine lv_goto (tgt := 38) hx hb dX1_init_53 (by decide) ?_
  refine lv_iload_n hx hb dX1_init_38 rfl (lv_at hl 0 rfl) ?_
  refine sa_const hx hb dX1_init_39 ?_
  refine sa_icmp_ge (tgt := 56) hx hb dX1_init_40 (by decide) (fun c_ => absurd c_ (by decide)) (fun c_40_1 => ?_)
  refine lv_aload_n hx hb dX1_init_43 rfl (lv_at hl 1 rfl) ?_
  refine m_g3 S hK hP dX1_init_44 ?_
  refine lv_iload_n hx hb dX1_init_47 rfl (lv_at hl 0 rfl) ?_
  refine sa_const hx hb dX1_init_48 ?_
  refine m_s3 S hK hP hD hS dX1_init_49 (fun H locs hP hD hS => ?_)
  refine sa_iinc (k := 0) (lv' := [(1, .int (sa_i (1 + 1))), (0, .ref h)]) hx hb dX1_init_50 hl rfl (by decide) rfl (fun ls hl => ?_)
  rw [show (1 : Int) + 1 = 2 from rfl] at hl
  refine lv_goto (tgt := 38) hx hb dX1_init_53 (by decide) ?_
  refine lv_iload_n hx hb dX1_init_38 rfl (lv_at hl 0 rfl) ?_
  refine sa_const hx hb dX1_init_39 ?_
  refine sa_icmp_ge (tgt := 56) hx hb dX1_init_40 (by decide) (fun c_ => absurd c_ (by decide)) (fun c_40_2 => ?_)
  refine lv_aload_n hx hb dX1_init_43 rfl (lv_at hl 1 rfl) ?_
  refine m_g3 S hK hP dX1_init_44 ?_
  refine lv_iload_n hx hb dX1_init_47 rfl (lv_at hl 0 rfl) ?_
  refine sa_const hx hb dX1_init_48 ?_
  refine m_s3 S hK hP hD hS dX1_init_49 (fun H locs hP hD hS => ?_)
  refine sa_iinc (k := 0) (lv' := [(1, .int (sa_i (2 + 1))), (0, .ref h)]) hx hb dX1_init_50 hl rfl (by decide) rfl (fun ls hl => ?_)
  rw [show (2 : Int) + 1 = 3 from rfl] at hl
  refine lv_goto (tgt := 38) hx hb dX1_init_53 (by decide) ?_
  refine lv_iload_n hx hb dX1_init_38 rfl (lv_at hl 0 rfl) ?_
  refine sa_const hx hb dX1_init_39 ?_
  refine sa_icmp_ge (tgt := 56) hx hb dX1_init_40 (by decide) (fun c_ => absurd c_ (by decide)) (fun c_40_3 => ?_)
  refine lv_aload_n hx hb dX1_init_43 rfl (lv_at hl 1 rfl) ?_
  refine m_g3 S hK hP dX1_init_44 ?_
  refine lv_iload_n hx hb dX1_init_47 rfl (lv_at hl 0 rfl) ?_
  refine sa_const hx hb dX1_init_48 ?_
  refine m_s3 S hK hP hD hS dX1_init_49 (fun H locs hP hD hS => ?_)
  refine sa_iinc (k := 0) (lv' := [(1, .int (sa_i (3 + 1))), (0, .ref h)]) hx hb dX1_init_50 hl rfl (by decide) rfl (fun ls hl => ?_)
  rw [show (3 : Int) + 1 = 4 from rfl] at hl
  refine lv_goto (tgt := 38) hx hb dX1_init_53 (by decide) ?_
  refine lv_iload_n hx hb dX1_init_38 rfl (lv_at hl 0 rfl) ?_
  refine sa_const hx hb dX1_init_39 ?_
  refine sa_icmp_ge (tgt := 56) hx hb dX1_init_40 (by decide) (fun c_40_4 => ?_) (fun c_ => absurd c_ (by decide))
  exact W.vret hx hb hr (fun t ht hW => ⟨⟨(), rfl, trivial, a, cI, cZ, by rw [ht]; exact hP, va_K.moved hW.alike hK, hD⟩, hS.F ht⟩) hS.2.2 dX1_init_56 hlk
set_option maxHeartbeats 4000000 in
set_option maxRecDepth 100000 in
theorem metX1_init (l : Launch) (D : va_G) (h sz : Nat) : Met l yX1_init (ws_ yX1_init cX1_init 2 none) ({ frames := 1, cells := 4, slots := 1928, locals := 12 } : Room) (va_Pc [.ref h] (fun U => U.heap.size = sz ∧ va_P D vwCl [(h, .inr (1, [.null, .null, .null, .null]))] U.heap ∧ va_K D vwCl [] U ∧ va_D (fun _ => True) [(h, .inr (1, [.null, .null, .null, .null]))])) (va_Qv (fun _ : Unit => True) (fun _ t => ∃ (a : Nat → Nat) (cI cZ : ClassId), va_P D vwCl (wM h a cI cZ (fun _ => false) (fun _ => 0) (fun _ => 0) sa_e0) t.heap ∧ va_K D vwCl (mT cI cZ) t ∧ va_D (va_A [(h, .inr (1, [.null, .null, .null, .null]))] sz) (wM h a cI cZ (fun _ => false) (fun _ => 0) (fun _ => 0) sa_e0)) (va_A [(h, .inr (1, [.null, .null, .null, .null]))] sz)) 4 1928 (va_A [(h, .inr (1, [.null, .null, .null, .null]))] sz) := by
  refine Met.ofW (cc := cX1_init) (maxL := 2) (ret := none) (by decide) rfl ?_
  intro p e s m args below meth c s₁ B hml hv
  obtain ⟨rfl, hsz, hP, hK, hD0⟩ := hv
  have hx := B.exec
  have hb := B.bytes
  have hr := B.returns
  have hts := atoms_spec (ws := ws_ yX1_init cX1_init 2 none) B.pre
  have hts : ∀ w ∈ lw_all, w.before _ s = true := fun w h => hts w (List.mem_cons_of_mem _ h)
  have hown : s.vm.findClass RX1 = some m.cls := findClass_of_methodNamed B.named
  have hlk := B.notSynchronized
  have hin : meth.name = "<init>" := (name_of_methodNamed B.named B.method).1
  subst hsz
  have hD := hD0.self (sz := s.heap.size)
  generalize hAe : va_A [(h, .inr (1, [.null, .null, .null, .null]))] s.heap.size = A at hD ⊢
  have hA : ∀ q : Nat, s.heap.size ≤ q → A q := fun q h => by rw [← hAe]; exact Or.inr h
  have hS : va_S A s.heap s.heap [] := va_S.rf
  have hP : va_P D vwCl [(h, .inr (1, [.null, .null, .null, .null]))] s.heap := hP
  have hl := lv_entry ([.ref h]) (n := 2) (Nat.le_of_ble_eq_true rfl)
  rw [lg_entry_eq]
  generalize (lg_sl ([.ref h]) ++ List.replicate (2 - (lg_sl ([.ref h])).length) Slot.unset).toArray = ls at hl ⊢
  have hl : lv_has ls 2 [(0, .ref h)] := hl
  refine lv_aload_n hx hb dX1_init_0 rfl (lv_at hl 0 rfl) ?_
  refine W.objInit hx hb hown (hts _ q122) (hts _ q22) (hts _ q23) rfl (by rw [hml]; exact hl.1) rfl dX1_init_1 (Nat.le_of_ble_eq_true rfl) (Nat.le_of_ble_eq_true rfl) ?_
  refine W.eq (g2 := F0 m 4 ls []) rfl ?_
  refine lv_aload_n hx hb dX1_init_4 rfl (lv_at hl 0 rfl) ?_
  refine sa_sipush hx hb dX1_init_5 (by decide +kernel) ?_
  refine va_newa (atype := .boolean) (N' := 960) (a0 := (960, .inl (sa_ab (fun _ => false)))) (ty := .boolean) hx hb (hts _ q136) rfl hK hP hD hS hA (fun _ => rfl) (by decide +kernel) (by decide +kernel) (by decide +kernel) (Nat.le_of_ble_eq_true rfl) (Nat.le_of_ble_eq_true rfl) dX1_init_8 (fun q1 c1 H hK hP hD hS => ?_)
  have hK : va_K D vwCl [(c1, .boolean)] s := hK.sub [0] rfl
  have hP : va_P D vwCl [(h, .inr (1, [.null, .null, .null, .null])), (q1, .inl (c1, 960, .inl (sa_ab (fun _ => false))))] H := hP
  have hD : va_D A [(h, .inr (1, [.null, .null, .null, .null])), (q1, .inl (c1, 960, .inl (sa_ab (fun _ => false))))] := hD
  refine va_putF (ci := 1) (v := .ref q1) (ty := .array .boolean) (C := RX1) (T := TX1) (N := 4) hx hb hts in_X1 tyX1 tyX1_ok nmX1 hown hK hP hD hS 0 rfl rfl 0 (by decide) (hts _ q123) (fun _ h9 => h9) rfl hin rfl (by decide +kernel) rfl rfl (Nat.le_of_ble_eq_true rfl) dX1_init_10 (fun H locs hP hD hS => ?_)
  have hP : va_P D vwCl [(h, .inr (1, [.ref q1, .null, .null, .null])), (q1, .inl (c1, 960, .inl (sa_ab (fun _ => false))))] H := hP
  have hD : va_D A [(h, .inr (1, [.ref q1, .null, .null, .null])), (q1, .inl (c1, 960, .inl (sa_ab (fun _ => false))))] := hD
  refine lv_aload_n hx hb dX1_init_13 rfl (lv_at hl 0 rfl) ?_
  refine sa_sipush hx hb dX1_init_14 (by decide +kernel) ?_
  refine va_newa (atype := .int) (N' := 960) (a0 := (960, .inl (sa_ar (fun _ => 0)))) (ty := .int) hx hb (hts _ q43) rfl hK hP hD hS hA (fun _ => rfl) (by decide +kernel) (by decide +kernel) (by decide +kernel) (Nat.le_of_ble_eq_true rfl) (Nat.le_of_ble_eq_true rfl) dX1_init_17 (fun q2 c2 H hK hP hD hS => ?_)
  have hK : va_K D vwCl [(c1, .boolean), (c2, .int)] s := hK.sub [0, 1] rfl
  have hP : va_P D vwCl [(h, .inr (1, [.ref q1, .null, .null, .null])), (q1, .inl (c1, 960, .inl (sa_ab (fun _ => false)))), (q2, .inl (c2, 960, .inl (sa_ar (fun _ => 0))))] H := hP
  have hD : va_D A [(h, .inr (1, [.ref q1, .null, .null, .null])), (q1, .inl (c1, 960, .inl (sa_ab (fun _ => false)))), (q2, .inl (c2, 960, .inl (sa_ar (fun _ => 0))))] := hD
  refine va_putF (ci := 1) (v := .ref q2) (ty := .array .int) (C := RX1) (T := TX1) (N := 4) hx hb hts in_X1 tyX1 tyX1_ok nmX1 hown hK hP hD hS 0 rfl rfl 1 (by decide) (hts _ q124) (fun _ h9 => h9) rfl hin rfl (by decide +kernel) rfl rfl (Nat.le_of_ble_eq_true rfl) dX1_init_19 (fun H locs hP hD hS => ?_)
  have hP : va_P D vwCl [(h, .inr (1, [.ref q1, .ref q2, .null, .null])), (q1, .inl (c1, 960, .inl (sa_ab (fun _ => false)))), (q2, .inl (c2, 960, .inl (sa_ar (fun _ => 0))))] H := hP
  have hD : va_D A [(h, .inr (1, [.ref q1, .ref q2, .null, .null])), (q1, .inl (c1, 960, .inl (sa_ab (fun _ => false)))), (q2, .inl (c2, 960, .inl (sa_ar (fun _ => 0))))] := hD
  refine lv_aload_n hx hb dX1_init_22 rfl (lv_at hl 0 rfl) ?_
  refine sa_const hx hb dX1_init_23 ?_
  refine va_newa (atype := .int) (N' := 4) (a0 := (4, .inl (sa_ai (fun _ => 0)))) (ty := .int) hx hb (hts _ q43) rfl hK hP hD hS hA (fun _ => rfl) (by decide +kernel) (by decide +kernel) (by decide +kernel) (Nat.le_of_ble_eq_true rfl) (Nat.le_of_ble_eq_true rfl) dX1_init_24 (fun q3 c3 H hK hP hD hS => ?_)
  have ec : c2 = c3 := sa_same hK 1 2 rfl rfl
  subst ec
  have hK : va_K D vwCl [(c1, .boolean), (c2, .int)] s := hK.sub [0, 1] rfl
  have hP : va_P D vwCl [(h, .inr (1, [.ref q1, .ref q2, .null, .null])), (q1, .inl (c1, 960, .inl (sa_ab (fun _ => false)))), (q2, .inl (c2, 960, .inl (sa_ar (fun _ => 0)))), (q3, .inl (c2, 4, .inl (sa_ai (fun _ => 0))))] H := hP
  have hD : va_D A [(h, .inr (1, [.ref q1, .ref q2, .null, .null])), (q1, .inl (c1, 960, .inl (sa_ab (fun _ => false)))), (q2, .inl (c2, 960, .inl (sa_ar (fun _ => 0)))), (q3, .inl (c2, 4, .inl (sa_ai (fun _ => 0))))] := hD
  refine va_putF (ci := 1) (v := .ref q3) (ty := .array .int) (C := RX1) (T := TX1) (N := 4) hx hb hts in_X1 tyX1 tyX1_ok nmX1 hown hK hP hD hS 0 rfl rfl 2 (by decide) (hts _ q125) (fun _ h9 => h9) rfl hin rfl (by decide +kernel) rfl rfl (Nat.le_of_ble_eq_true rfl) dX1_init_26 (fun H locs hP hD hS => ?_)
  have hP : va_P D vwCl [(h, .inr (1, [.ref q1, .ref q2, .ref q3, .null])), (q1, .inl (c1, 960, .inl (sa_ab (fun _ => false)))), (q2, .inl (c2, 960, .inl (sa_ar (fun _ => 0)))), (q3, .inl (c2, 4, .inl (sa_ai (fun _ => 0))))] H := hP
  have hD : va_D A [(h, .inr (1, [.ref q1, .ref q2, .ref q3, .null])), (q1, .inl (c1, 960, .inl (sa_ab (fun _ => false)))), (q2, .inl (c2, 960, .inl (sa_ar (fun _ => 0)))), (q3, .inl (c2, 4, .inl (sa_ai (fun _ => 0))))] := hD
  refine lv_aload_n hx hb dX1_init_29 rfl (lv_at hl 0 rfl) ?_
  refine sa_const hx hb dX1_init_30 ?_
  refine va_newa (atype := .int) (N' := 4) (a0 := (4, .inl (sa_ai (fun _ => 0)))) (ty := .int) hx hb (hts _ q43) rfl hK hP hD hS hA (fun _ => rfl) (by decide +kernel) (by decide +kernel) (by decide +kernel) (Nat.le_of_ble_eq_true rfl) (Nat.le_of_ble_eq_true rfl) dX1_init_31 (fun q4 c4 H hK hP hD hS => ?_)
  have ec : c2 = c4 := sa_same hK 1 2 rfl rfl
  subst ec
  have hK : va_K D vwCl [(c1, .boolean), (c2, .int)] s := hK.sub [0, 1] rfl
  have hP : va_P D vwCl [(h, .inr (1, [.ref q1, .ref q2, .ref q3, .null])), (q1, .inl (c1, 960, .inl (sa_ab (fun _ => false)))), (q2, .inl (c2, 960, .inl (sa_ar (fun _ => 0)))), (q3, .inl (c2, 4, .inl (sa_ai (fun _ => 0)))), (q4, .inl (c2, 4, .inl (sa_ai (fun _ => 0))))] H := hP
  have hD : va_D A [(h, .inr (1, [.ref q1, .ref q2, .ref q3, .null])), (q1, .inl (c1, 960, .inl (sa_ab (fun _ => false)))), (q2, .inl (c2, 960, .inl (sa_ar (fun _ => 0)))), (q3, .inl (c2, 4, .inl (sa_ai (fun _ => 0)))), (q4, .inl (c2, 4, .inl (sa_ai (fun _ => 0))))] := hD
  refine va_putF (ci := 1) (v := .ref q4) (ty := .array .int) (C := RX1) (T := TX1) (N := 4) hx hb hts in_X1 tyX1 tyX1_ok nmX1 hown hK hP hD hS 0 rfl rfl 3 (by decide) (hts _ q126) (fun _ h9 => h9) rfl hin rfl (by decide +kernel) rfl rfl (Nat.le_of_ble_eq_true rfl) dX1_init_33 (fun H locs hP hD hS => ?_)
  have hP : va_P D vwCl [(h, .inr (1, [.ref q1, .ref q2, .ref q3, .ref q4])), (q1, .inl (c1, 960, .inl (sa_ab (fun _ => false)))), (q2, .inl (c2, 960, .inl (sa_ar (fun _ => 0)))), (q3, .inl (c2, 4, .inl (sa_ai (fun _ => 0)))), (q4, .inl (c2, 4, .inl (sa_ai (fun _ => 0))))] H := hP
  have hD : va_D A [(h, .inr (1, [.ref q1, .ref q2, .ref q3, .ref q4])), (q1, .inl (c1, 960, .inl (sa_ab (fun _ => false)))), (q2, .inl (c2, 960, .inl (sa_ar (fun _ => 0)))), (q3, .inl (c2, 4, .inl (sa_ai (fun _ => 0)))), (q4, .inl (c2, 4, .inl (sa_ai (fun _ => 0))))] := hD
  refine W.widen (k := 4) (n := 1928) (Nat.le_of_ble_eq_true rfl) (Nat.le_of_ble_eq_true rfl) ?_
  exact metX1_init_T (a := sa_a4 q1 q2 q3 q4) (cI := c2) (cZ := c1) ⟨hx, hb, hml, hown, hts⟩ hr hlk (hK.sub [1, 0] rfl) hP hD hS hl
end
section
/-! ===== plain law, 1: ranges (L k, H k), k < n, between p and lim ===== -/
def RG (n p lim : Int) (L H : Int → Int) : Prop := (0 ≤ n ∧ n ≤ 12) ∧ (∀ k : Int, 0 ≤ k → k < n → p ≤ L k ∧ L k < H k ∧ H k ≤ lim) ∧ (∀ k : Int, 0 ≤ k → k + 1 < n → H k < L (k + 1))
def cov (n : Int) (L H : Int → Int) (i : Int) : Prop := ∃ k : Int, 0 ≤ k ∧ k < n ∧ L k ≤ i ∧ i < H k
theorem RG.mono {n p lim : Int} {L H : Int → Int} (h : RG n p lim L H) : ∀ (d : Nat) (j : Int), 0 ≤ j → j + 1 + (d : Int) < n → H j < L (j + 1 + (d : Int)) := by
  intro d
  induction d with
  | zero =>
    intro j h0 h1
    have := h.2.2 j h0 (by omega)
    rw [show j + 1 + ((0 : Nat) : Int) = j + 1 by omega]
    exact this
  | succ d ih =>
    intro j h0 h1
    have a1 := ih j h0 (by omega)
    have a2 := h.2.1 (j + 1 + (d : Int)) (by omega) (by omega)
    have a3 := h.2.2 (j + 1 + (d : Int)) (by omega) (by omega)
    rw [show j + 1 + ((d + 1 : Nat) : Int) = j + 1 + (d : Int) + 1 by omega]
    omega
theorem RG.lt {n p lim : Int} {L H : Int → Int} (h : RG n p lim L H) {j k : Int} (h0 : 0 ≤ j) (h1 : j < k) (h2 : k < n) : H j < L k := by
  have := h.mono (k - j - 1).toNat j h0 (by omega)
  rw [show j + 1 + ((k - j - 1).toNat : Int) = k by omega] at this
  exact this
/-- the ranges take room -/
theorem RG.room {n p lim : Int} {L H : Int → Int} (h1 : ∀ k : Int, 0 ≤ k → k < n → p ≤ L k ∧ L k < H k ∧ H k ≤ lim) (h2 : ∀ k : Int, 0 ≤ k → k + 1 < n → H k < L (k + 1)) : ∀ (d : Nat), (d : Int) < n → p + 2 * (d : Int) + 1 ≤ H (d : Int) := by
  intro d
  induction d with
  | zero =>
    intro h
    have := h1 0 (by omega) (by omega)
    rw [show (((0 : Nat) : Int)) = 0 by omega]
    omega
  | succ d ih =>
    intro h
    have a1 := ih (by omega)
    have a2 := h2 (d : Int) (by omega) (by omega)
    have a3 := h1 ((d : Int) + 1) (by omega) (by omega)
    rw [show ((d + 1 : Nat) : Int) = (d : Int) + 1 by omega]
    omega
theorem xKnF_iff {LO HI : Int → Int} {at_ : Int} : ∀ (n : Nat) (b : Int), xKnF LO HI at_ n b = true ↔ ∃ j : Int, b ≤ j ∧ j < b + (n : Int) ∧ LO j ≤ at_ ∧ at_ < HI j := by
  intro n
  induction n with
  | zero =>
    intro b
    constructor
    · intro h
      simp [xKnF] at h
    · rintro ⟨j, h1, h2, _⟩
      omega
  | succ n ih =>
    intro b
    unfold xKnF
    rw [Bool.or_eq_true, Bool.and_eq_true, decide_eq_true_iff, decide_eq_true_iff, ih (b + 1)]
    constructor
    · rintro (⟨h1, h2⟩ | ⟨j, h1, h2, h3, h4⟩)
      · exact ⟨b, by omega, by omega, h1, h2⟩
      · exact ⟨j, by omega, by omega, h3, h4⟩
    · rintro ⟨j, h1, h2, h3, h4⟩
      by_cases hj : j = b
      · subst hj
        exact Or.inl ⟨h3, h4⟩
      · exact Or.inr ⟨j, by omega, by omega, h3, h4⟩
theorem xKn_iff {RN LO HI : Int → Int} {s i : Int} (h : 0 ≤ RN s) : xKn RN LO HI s i = true ↔ cov (RN s) (fun k => LO (13 * s + k)) (fun k => HI (13 * s + k)) i := by
  unfold xKn
  rw [xKnF_iff]
  constructor
  · rintro ⟨j, h1, h2, h3, h4⟩
    have e : 13 * s + (j - 13 * s) = j := by omega
    exact ⟨j - 13 * s, by omega, by omega, show LO (13 * s + (j - 13 * s)) ≤ i by rw [e]; exact h3, show i < HI (13 * s + (j - 13 * s)) by rw [e]; exact h4⟩
  · rintro ⟨k, h1, h2, h3, h4⟩
    exact ⟨13 * s + k, by omega, by omega, h3, h4⟩
/-! ===== counting ===== -/
theorem mCnt_succ {bg : Int → Bool} (n : Nat) (i c : Int) : mCnt bg (n + 1) i c = mCnt bg n (i + 1) (if bg i = true then c + 1 else c) := rfl
theorem mCnt_add {bg : Int → Bool} : ∀ (n : Nat) (i c : Int), mCnt bg n i c = c + mCnt bg n i 0 := by
  intro n
  induction n with
  | zero => intro i c; simp [mCnt]
  | succ n ih =>
    intro i c
    unfold mCnt
    rw [ih (i + 1) (if bg i = true then c + 1 else c), ih (i + 1) (if bg i = true then 0 + 1 else 0)]
    split <;> omega
theorem mCnt_app {bg : Int → Bool} : ∀ (n1 n2 : Nat) (i : Int), mCnt bg (n1 + n2) i 0 = mCnt bg n1 i 0 + mCnt bg n2 (i + (n1 : Int)) 0 := by
  intro n1
  induction n1 with
  | zero =>
    intro n2 i
    rw [Nat.zero_add, show i + ((0 : Nat) : Int) = i by omega]
    simp [mCnt]
  | succ n1 ih =>
    intro n2 i
    rw [show n1 + 1 + n2 = (n1 + n2) + 1 by omega, mCnt_succ, mCnt_succ, mCnt_add (n1 + n2), mCnt_add n1, ih n2 (i + 1), show i + ((n1 + 1 : Nat) : Int) = i + 1 + (n1 : Int) by omega]
    omega
/-- how many gaps begin from a up to e -/
def cG (bg : Int → Bool) (a e : Int) : Int := mCnt bg (e - a).toNat a 0
theorem cG_split {bg : Int → Bool} {a b e : Int} (h1 : a ≤ b) (h2 : b ≤ e) : cG bg a e = cG bg a b + cG bg b e := by
  unfold cG
  rw [show (e - a).toNat = (b - a).toNat + (e - b).toNat by omega, mCnt_app, show a + ((b - a).toNat : Int) = b by omega]
theorem cG_self {bg : Int → Bool} {a : Int} : cG bg a a = 0 := by
  unfold cG
  rw [show (a - a).toNat = 0 by omega]
  rfl
theorem cG_step {bg : Int → Bool} {a e : Int} (h : a < e) : cG bg a e = (if bg a = true then 1 else 0) + cG bg (a + 1) e := by
  unfold cG
  rw [mCnt_step h, mCnt_add]
  split <;> omega
theorem mCnt_zero {bg : Int → Bool} : ∀ (n : Nat) (i : Int), (∀ j : Int, i ≤ j → j < i + (n : Int) → bg j = false) → mCnt bg n i 0 = 0 := by
  intro n
  induction n with
  | zero => intro i _; rfl
  | succ n ih =>
    intro i h
    unfold mCnt
    rw [if_neg (by rw [h i (by omega) (by omega)]; decide)]
    exact ih (i + 1) (fun j h1 h2 => h j (by omega) (by omega))
theorem cG_zero {bg : Int → Bool} {a e : Int} (h : ∀ j : Int, a ≤ j → j < e → bg j = false) : cG bg a e = 0 := mCnt_zero _ _ (fun j h1 h2 => h j h1 (by omega))
theorem cG_one {bg : Int → Bool} {a e : Int} (h0 : a < e) (h1 : bg a = true) (h : ∀ j : Int, a < j → j < e → bg j = false) : cG bg a e = 1 := by
  rw [cG_step h0, if_pos h1, cG_zero (fun j h2 h3 => h j (by omega) h3)]
  rfl
theorem mFnd_hit {bg : Int → Bool} {num x : Int} : ∀ (n : Nat) (i c : Int), i ≤ x → x < i + (n : Int) → bg x = true → c + cG bg i x = num → mFnd bg num n i c = x := by
  intro n
  induction n with
  | zero => intro i c h1 h2; omega
  | succ n ih =>
    intro i c h1 h2 h3 h4
    unfold mFnd
    by_cases hx : i = x
    · subst hx
      rw [cG_self] at h4
      rw [if_pos h3, if_pos (by omega)]
    · rw [cG_step (show i < x by omega)] at h4
      by_cases hb : bg i = true
      · rw [if_pos hb] at h4
        have hp : 0 ≤ cG bg (i + 1) x := by
          unfold cG
          have : ∀ (m : Nat) (j : Int), 0 ≤ mCnt bg m j 0 := by
            intro m
            induction m with
            | zero => intro j; exact Int.le_refl 0
            | succ m ih2 =>
              intro j
              unfold mCnt
              rw [mCnt_add]
              have := ih2 (j + 1)
              split <;> omega
          exact this _ _
        rw [if_pos hb, if_neg (by omega)]
        exact ih (i + 1) (c + 1) (by omega) (by omega) h3 (by omega)
      · rw [if_neg hb] at h4
        rw [if_neg hb]
        exact ih (i + 1) c (by omega) (by omega) h3 (by omega)
theorem mFnd_miss {bg : Int → Bool} {num : Int} : ∀ (n : Nat) (i c : Int), (num < c ∨ c + mCnt bg n i 0 ≤ num) → mFnd bg num n i c = -4 := by
  intro n
  induction n with
  | zero => intro i c _; rfl
  | succ n ih =>
    intro i c h
    unfold mCnt at h
    rw [mCnt_add] at h
    unfold mFnd
    by_cases hb : bg i = true
    · rw [if_pos hb] at h
      have hp : 0 ≤ mCnt bg n (i + 1) 0 := by
        have : ∀ (m : Nat) (j : Int), 0 ≤ mCnt bg m j 0 := by
          intro m
          induction m with
          | zero => intro j; exact Int.le_refl 0
          | succ m ih2 =>
            intro j
            unfold mCnt
            rw [mCnt_add]
            have := ih2 (j + 1)
            split <;> omega
        exact this _ _
      rw [if_pos hb, if_neg (by omega)]
      exact ih (i + 1) (c + 1) (by omega)
    · rw [if_neg hb] at h
      rw [if_neg hb]
      exact ih (i + 1) c (by omega)
theorem mRd_is {kn : Int → Bool} {p d : Int} : ∀ (n : Nat) (c : Int), c ≤ d → d ≤ c + (n : Int) → (∀ j : Int, c ≤ j → j < d → kn (p + j) = true) → (d = c + (n : Int) ∨ kn (p + d) = false) → mRd kn p n c = d := by
  intro n
  induction n with
  | zero => intro c h1 h2 _ _; unfold mRd; omega
  | succ n ih =>
    intro c h1 h2 h3 h4
    unfold mRd
    by_cases hc : c = d
    · subst hc
      rcases h4 with h4 | h4
      · omega
      · rw [if_neg (by rw [h4]; decide)]
    · rw [if_pos (h3 c (by omega) (by omega))]
      exact ih (c + 1) (by omega) (by omega) (fun j a b => h3 j (by omega) b) (by
        rcases h4 with h4 | h4
        · exact Or.inl (by omega)
        · exact Or.inr h4)
theorem mAl_gt {fit : Int → Bool} {T : Int} : ∀ (n : Nat) (i mo : Int), T < i → (∀ j : Int, i ≤ j → j < i + (n : Int) → (fit j = true ↔ j ≤ T)) → mAl fit n i mo = mo := by
  intro n
  induction n with
  | zero => intro i mo _ _; rfl
  | succ n ih =>
    intro i mo h1 h2
    unfold mAl
    rw [if_neg (fun q => by have := (h2 i (by omega) (by omega)).mp q; omega)]
    exact ih (i + 1) mo (by omega) (fun j a b => h2 j (by omega) (by omega))
theorem mAl_is {fit : Int → Bool} {T : Int} : ∀ (n : Nat) (i mo : Int), i ≤ T → T < i + (n : Int) → (∀ j : Int, i ≤ j → j < i + (n : Int) → (fit j = true ↔ j ≤ T)) → mAl fit n i mo = T := by
  intro n
  induction n with
  | zero => intro i mo h1 h2 _; omega
  | succ n ih =>
    intro i mo h1 h2 h3
    unfold mAl
    rw [if_pos ((h3 i (by omega) (by omega)).mpr h1)]
    by_cases hi : i = T
    · subst hi
      exact mAl_gt n (i + 1) i (by omega) (fun j a b => h3 j (by omega) (by omega))
    · exact ih (i + 1) i (by omega) (by omega) (fun j a b => h3 j (by omega) (by omega))
theorem mTopF_is {K : Int → Bool} {s t : Int} : ∀ n : Nat, 0 ≤ t → t ≤ (n : Int) → (t = 0 ∨ K (240 * s + t - 1) = true) → (∀ i : Int, t ≤ i → i < (n : Int) → K (240 * s + i) = false) → mTopF K s n = t := by
  intro n
  induction n with
  | zero => intro h0 h1 _ _; unfold mTopF; omega
  | succ n ih =>
    intro h0 h1 h2 h3
    unfold mTopF
    by_cases ht : t = (n : Int) + 1
    · rcases h2 with h2 | h2
      · omega
      · rw [ht] at h2
        rw [if_pos h2, ht]
    · rw [if_neg (by rw [show 240 * s + ((n : Int) + 1) - 1 = 240 * s + (n : Int) by omega, h3 (n : Int) (by omega) (by omega)]; decide)]
      exact ih h0 (by omega) h2 (fun i a b => h3 i a (by omega))
/-- how many from a on, n of them, aren't known -/
def cU (kn : Int → Bool) : Nat → Int → Int
  | 0, _ => 0
  | n + 1, a => (if kn a = true then 0 else 1) + cU kn n (a + 1)
theorem cU_succ {kn : Int → Bool} (n : Nat) (a : Int) : cU kn (n + 1) a = (if kn a = true then 0 else 1) + cU kn n (a + 1) := rfl
theorem cU_congr {kn kn' : Int → Bool} : ∀ (n : Nat) (a : Int), (∀ i : Int, a ≤ i → i < a + (n : Int) → kn i = kn' i) → cU kn n a = cU kn' n a := by
  intro n
  induction n with
  | zero => intro a _; rfl
  | succ n ih =>
    intro a h
    unfold cU
    rw [h a (by omega) (by omega), ih (a + 1) (fun i h1 h2 => h i (by omega) (by omega))]
theorem cU_zero {kn : Int → Bool} : ∀ (n : Nat) (a : Int), (∀ i : Int, a ≤ i → i < a + (n : Int) → kn i = true) → cU kn n a = 0 := by
  intro n
  induction n with
  | zero => intro a _; rfl
  | succ n ih =>
    intro a h
    unfold cU
    rw [if_pos (h a (by omega) (by omega)), ih (a + 1) (fun i h1 h2 => h i (by omega) (by omega))]
    rfl
theorem cU_app {kn : Int → Bool} : ∀ (n1 n2 : Nat) (a : Int), cU kn (n1 + n2) a = cU kn n1 a + cU kn n2 (a + (n1 : Int)) := by
  intro n1
  induction n1 with
  | zero =>
    intro n2 a
    rw [Nat.zero_add, show a + ((0 : Nat) : Int) = a by omega]
    unfold cU
    cases n2 <;> simp
  | succ n1 ih =>
    intro n2 a
    rw [show n1 + 1 + n2 = (n1 + n2) + 1 by omega, cU_succ, cU_succ, ih n2 (a + 1), show a + ((n1 + 1 : Nat) : Int) = a + 1 + (n1 : Int) by omega]
    omega
theorem xPF_is {kn : Int → Bool} : ∀ (n : Nat) (a f : Int), xPF kn n a f = f + cU kn n a := by
  intro n
  induction n with
  | zero => intro a f; simp [xPF, cU]
  | succ n ih =>
    intro a f
    unfold xPF cU
    rw [ih (a + 1)]
    split <;> omega
theorem xPG_is {kn : Int → Bool} {s off i : Int} {bv : Int32} : ∀ (n : Nat) (a : Int) (G : Int → Int32), (∀ t : Int, a ≤ t → t < a + (n : Int) → t ≠ i → t % 32 ≠ i % 32) → xPG kn s off bv n a G (32 * s + i % 32) = if a ≤ i ∧ i < a + (n : Int) ∧ kn i = false then xByte bv (i - off) else G (32 * s + i % 32) := by
  intro n
  induction n with
  | zero => intro a G _; unfold xPG; rw [if_neg (by omega)]
  | succ n ih =>
    intro a G h
    unfold xPG
    rw [ih (a + 1) _ (fun t h1 h2 h3 => h t (by omega) (by omega) h3)]
    by_cases ha : a = i
    · subst ha
      rw [if_neg (by omega)]
      cases hk : kn a with
      | true =>
        rw [if_pos rfl, if_neg (fun q => by have := q.2.2; simp at this)]
      | false =>
        rw [if_neg (by decide), if_pos ⟨by omega, by omega, rfl⟩, sa_up_self]
    · have hm := h a (by omega) (by omega) ha
      have hG : (if kn a = true then G else sa_up G (32 * s + a % 32) (xByte bv (a - off))) (32 * s + i % 32) = G (32 * s + i % 32) := by
        split
        · rfl
        · exact sa_up_ne G _ (by omega)
      rw [hG]
      by_cases hc : a + 1 ≤ i ∧ i < a + 1 + (n : Int) ∧ kn i = false
      · rw [if_pos hc, if_pos ⟨by omega, by omega, hc.2.2⟩]
      · rw [if_neg hc, if_neg (fun q => hc ⟨by omega, by omega, q.2.2⟩)]
theorem xPG_out {kn : Int → Bool} {s off j : Int} {bv : Int32} (hj : j < 32 * s ∨ 32 * s + 32 ≤ j) : ∀ (n : Nat) (a : Int) (G : Int → Int32), xPG kn s off bv n a G j = G j := by
  intro n
  induction n with
  | zero => intro a G; rfl
  | succ n ih =>
    intro a G
    unfold xPG
    rw [ih (a + 1)]
    split
    · rfl
    · exact sa_up_ne G _ (by omega)
/-- the model's piece -/
theorem mPc_is {s off : Int} {bv : Int32} : ∀ (n : Nat) (k : Int) (K : Int → Bool) (B : Int → Int32) (q : Int),
    (∀ j : Int, (mPc s off bv n k (K, B, q)).1 j = (K j || decide (240 * s + off + k ≤ j ∧ j < 240 * s + off + k + (n : Int)))) ∧
    (∀ j : Int, (mPc s off bv n k (K, B, q)).2.1 j = if (240 * s + off + k ≤ j ∧ j < 240 * s + off + k + (n : Int)) ∧ K j = false then xByte bv (j - (240 * s + off)) else B j) ∧
    (mPc s off bv n k (K, B, q)).2.2 = q + cU (fun i => K (240 * s + i)) n (off + k) := by
  intro n
  induction n with
  | zero =>
    intro k K B q
    refine ⟨fun j => ?_, fun j => ?_, ?_⟩
    · unfold mPc
      rw [decide_eq_false (by omega), Bool.or_false]
    · unfold mPc
      rw [if_neg (by omega)]
    · show q = q + 0
      omega
  | succ n ih =>
    intro k K B q
    unfold mPc
    by_cases hk : K (240 * s + off + k) = true
    · dsimp only
      rw [if_pos hk]
      obtain ⟨i1, i2, i3⟩ := ih (k + 1) K B q
      refine ⟨fun j => ?_, fun j => ?_, ?_⟩
      · rw [i1 j]
        by_cases hj : j = 240 * s + off + k
        · subst hj
          rw [hk]
          rfl
        · congr 1
          exact decide_eq_decide.mpr ⟨fun h => ⟨by omega, by omega⟩, fun h => ⟨by omega, by omega⟩⟩
      · rw [i2 j]
        by_cases hj : j = 240 * s + off + k
        · subst hj
          rw [if_neg (by omega), if_neg (fun h => by rw [hk] at h; exact absurd h.2 (by decide))]
        · by_cases hc : (240 * s + off + (k + 1) ≤ j ∧ j < 240 * s + off + (k + 1) + (n : Int)) ∧ K j = false
          · rw [if_pos hc, if_pos ⟨by omega, hc.2⟩]
          · rw [if_neg hc, if_neg (fun h => hc ⟨by omega, h.2⟩)]
      · rw [i3]
        rw [cU_succ, show 240 * s + (off + k) = 240 * s + off + k by omega, if_pos hk, show off + (k + 1) = off + k + 1 by omega]
        omega
    · have hf : K (240 * s + off + k) = false := by
        cases hq : K (240 * s + off + k) with
        | true => exact absurd hq hk
        | false => rfl
      dsimp only
      rw [if_neg hk]
      obtain ⟨i1, i2, i3⟩ := ih (k + 1) (sa_up K (240 * s + off + k) true) (sa_up B (240 * s + off + k) (xByte bv k)) (q + 1)
      refine ⟨fun j => ?_, fun j => ?_, ?_⟩
      · rw [i1 j]
        by_cases hj : j = 240 * s + off + k
        · subst hj
          rw [sa_up_self, Bool.true_or, decide_eq_true (by omega), Bool.or_true]
        · rw [sa_up_ne _ _ hj]
          congr 1
          exact decide_eq_decide.mpr ⟨fun h => ⟨by omega, by omega⟩, fun h => ⟨by omega, by omega⟩⟩
      · rw [i2 j]
        by_cases hj : j = 240 * s + off + k
        · subst hj
          rw [if_neg (by omega), sa_up_self, if_pos ⟨by omega, hf⟩, show 240 * s + off + k - (240 * s + off) = k by omega]
        · rw [sa_up_ne _ _ hj, sa_up_ne _ _ hj]
          by_cases hc : (240 * s + off + (k + 1) ≤ j ∧ j < 240 * s + off + (k + 1) + (n : Int)) ∧ K j = false
          · rw [if_pos hc, if_pos ⟨by omega, hc.2⟩]
          · rw [if_neg hc, if_neg (fun h => hc ⟨by omega, h.2⟩)]
      · rw [i3]
        rw [cU_succ, show 240 * s + (off + k) = 240 * s + off + k by omega, if_neg hk, show off + (k + 1) = off + k + 1 by omega,
          cU_congr (kn := fun i => sa_up K (240 * s + off + k) true (240 * s + i)) (kn' := fun i => K (240 * s + i)) n (off + k + 1) (fun i h1 h2 => sa_up_ne _ _ (by omega))]
        omega
end
section
/-! ===== plain law, 2: the relation between the class and its model; equal answers ===== -/
def Rs (G : Int → Int32) (RP EN RN LO HI : Int → Int) (K : Int → Bool) (B : Int → Int32) (s : Int) : Prop :=
  RG (RN s) (RP s) (xLim RP s) (fun k => LO (13 * s + k)) (fun k => HI (13 * s + k)) ∧
  (∀ i : Int, 0 ≤ i → i < RP s → K (240 * s + i) = true) ∧
  (∀ i : Int, RP s ≤ i → i < 240 → (K (240 * s + i) = true ↔ cov (RN s) (fun k => LO (13 * s + k)) (fun k => HI (13 * s + k)) i)) ∧
  (∀ i : Int, RP s ≤ i → i < 240 → K (240 * s + i) = true → G (32 * s + i % 32) = B (240 * s + i)) ∧
  (0 ≤ EN s → xLast RP RN HI s ≤ EN s)
def Rel (G : Int → Int32) (RP EN RN LO HI : Int → Int) (K : Int → Bool) (B : Int → Int32) : Prop :=
  xOK RP EN RN LO HI ∧ 0 ≤ xCr RP EN RN HI ∧ ∀ s : Int, 0 ≤ s → s ≤ 3 → Rs G RP EN RN LO HI K B s
theorem RG.notcov {n p lim : Int} {L H : Int → Int} (h : RG n p lim L H) {j i : Int} (h0 : 0 ≤ j) (h1 : j < n) (h2 : H j ≤ i) (h3 : j + 1 < n → i < L (j + 1)) : ¬ cov n L H i := by
  rintro ⟨k, k0, k1, k2, k3⟩
  have hj := h.2.1 j h0 h1
  rcases Int.lt_trichotomy k j with q | q | q
  · have := h.lt k0 q h1
    omega
  · subst q; omega
  · have a := h3 (by omega)
    rcases Int.lt_trichotomy k (j + 1) with r | r | r
    · omega
    · subst r; omega
    · have := h.lt (j := j + 1) (k := k) (by omega) r k1
      have := h.2.1 (j + 1) (by omega) (by omega)
      omega
theorem RG.notcov0 {n p lim : Int} {L H : Int → Int} (h : RG n p lim L H) {i : Int} (h3 : 0 < n → i < L 0) : ¬ cov n L H i := by
  rintro ⟨k, k0, k1, k2, k3⟩
  have a := h3 (by omega)
  rcases Int.lt_trichotomy k 0 with r | r | r
  · omega
  · subst r; omega
  · have := h.lt (j := 0) (k := k) (by omega) r k1
    have := h.2.1 0 (by omega) (by omega)
    omega
theorem Rs.kn {G : Int → Int32} {RP EN RN LO HI : Int → Int} {K : Int → Bool} {B : Int → Int32} {s : Int} (hok : xOK RP EN RN LO HI) (h : Rs G RP EN RN LO HI K B s) {i : Int} (hi : RP s ≤ i) : mKn K s i = true ↔ cov (RN s) (fun k => LO (13 * s + k)) (fun k => HI (13 * s + k)) i := by
  unfold mKn
  rw [Bool.and_eq_true, decide_eq_true_iff]
  constructor
  · rintro ⟨h1, h2⟩
    exact (h.2.2.1 i hi h1).mp h2
  · intro hc
    have hc2 := hc
    obtain ⟨k, k0, k1, k2, k3⟩ := hc
    have a := h.1.2.1 k k0 k1
    have b := xLim_in hok s
    exact ⟨by omega, (h.2.2.1 i hi (by omega)).mpr hc2⟩
theorem Rs.kne {G : Int → Int32} {RP EN RN LO HI : Int → Int} {K : Int → Bool} {B : Int → Int32} {s : Int} (hok : xOK RP EN RN LO HI) (h : Rs G RP EN RN LO HI K B s) {i : Int} (hi : RP s ≤ i) : mKn K s i = xKn RN LO HI s i := by
  rw [Bool.eq_iff_iff, h.kn hok hi, xKn_iff h.1.1.1]
theorem xHi_else {RP EN RN HI : Int → Int} {s : Int} (h : ¬ 0 ≤ EN s) : xHi RP EN RN HI s = xLast RP RN HI s := by
  unfold xHi xLast
  rw [if_neg h]
theorem Rs.last {G : Int → Int32} {RP EN RN LO HI : Int → Int} {K : Int → Bool} {B : Int → Int32} {s : Int} (h : Rs G RP EN RN LO HI K B s) : RP s ≤ xLast RP RN HI s ∧ xLast RP RN HI s ≤ xLim RP s ∨ RN s = 0 ∧ xLast RP RN HI s = RP s := by
  unfold xLast
  by_cases hn : 0 < RN s
  · rw [if_pos hn]
    have a := h.1.2.1 (RN s - 1) (by omega) (by omega)
    dsimp only at a
    rw [show 13 * s + (RN s - 1) = 13 * s + RN s - 1 by omega] at a
    exact Or.inl (by omega)
  · rw [if_neg hn]
    have := h.1.1
    exact Or.inr ⟨by omega, rfl⟩
theorem Rs.top {G : Int → Int32} {RP EN RN LO HI : Int → Int} {K : Int → Bool} {B : Int → Int32} {s : Int} (hok : xOK RP EN RN LO HI) (h : Rs G RP EN RN LO HI K B s) : mTop K EN s = xHi RP EN RN HI s := by
  unfold mTop
  by_cases he : 0 ≤ EN s
  · rw [if_pos he]
    unfold xHi
    rw [if_pos he]
  · rw [if_neg he, xHi_else he]
    have b1 := hok s
    have b2 := xLim_in hok s
    have hn := h.1.1
    unfold xLast
    by_cases hp : 0 < RN s
    · rw [if_pos hp]
      have a := h.1.2.1 (RN s - 1) (by omega) (by omega)
      dsimp only at a
      rw [show 13 * s + (RN s - 1) = 13 * s + RN s - 1 by omega] at a
      refine mTopF_is 240 (by omega) (by omega) (Or.inr ?_) (fun i h1 h2 => ?_)
      · have := (h.2.2.1 (HI (13 * s + RN s - 1) - 1) (by omega) (by omega)).mpr ⟨RN s - 1, by omega, by omega, by
          dsimp only
          rw [show 13 * s + (RN s - 1) = 13 * s + RN s - 1 by omega]
          omega, by
          dsimp only
          rw [show 13 * s + (RN s - 1) = 13 * s + RN s - 1 by omega]
          omega⟩
        rw [show 240 * s + HI (13 * s + RN s - 1) - 1 = 240 * s + (HI (13 * s + RN s - 1) - 1) by omega]
        exact this
      · cases hq : K (240 * s + i) with
        | false => rfl
        | true =>
          have hc := (h.2.2.1 i (by omega) (by omega)).mp hq
          exact absurd hc (h.1.notcov (j := RN s - 1) (by omega) (by omega) (by
            rw [show 13 * s + (RN s - 1) = 13 * s + RN s - 1 by omega]
            omega) (fun q => by omega))
    · rw [if_neg hp]
      refine mTopF_is 240 (by omega) (by omega) ?_ (fun i h1 h2 => ?_)
      · by_cases h0 : RP s = 0
        · exact Or.inl h0
        · have := h.2.1 (RP s - 1) (by omega) (by omega)
          rw [show 240 * s + RP s - 1 = 240 * s + (RP s - 1) by omega]
          exact Or.inr this
      · cases hq : K (240 * s + i) with
        | false => rfl
        | true =>
          have hc := (h.2.2.1 i (by omega) (by omega)).mp hq
          exact absurd hc (h.1.notcov0 (fun q => by omega))
theorem lim_eq {RP : Int → Int} {s : Int} : mLim RP s = xLim RP s := by
  unfold mLim xLim
  split <;> split <;> omega
theorem xMay_iff {RP EN RN HI : Int → Int} {s to : Int} : xMay RP EN RN HI s to = true ↔ to ≤ xLim RP s ∧ (to - xHi RP EN RN HI s ≤ 0 ∨ to - xHi RP EN RN HI s ≤ xCr RP EN RN HI) := by
  unfold xMay
  rw [Bool.and_eq_true, Bool.or_eq_true, decide_eq_true_iff, decide_eq_true_iff, decide_eq_true_iff]
theorem fit_eq {G : Int → Int32} {RP EN RN LO HI : Int → Int} {K : Int → Bool} {B : Int → Int32} (h : Rel G RP EN RN LO HI K B) {st : Int} (hst : 0 ≤ st ∧ st ≤ 3) (up : Int) : mFit K RP EN st up = xMay RP EN RN HI st up := by
  obtain ⟨hok, hcr, hs⟩ := h
  have t0 := (hs 0 (by omega) (by omega)).top hok
  have t1 := (hs 1 (by omega) (by omega)).top hok
  have t2 := (hs 2 (by omega) (by omega)).top hok
  have t3 := (hs 3 (by omega) (by omega)).top hok
  have eT : mTs K EN st up 4 = 0 + mUp K EN st up 0 + mUp K EN st up 1 + mUp K EN st up 2 + mUp K EN st up 3 := rfl
  have eP : mPs RP 4 = 0 + RP 0 + RP 1 + RP 2 + RP 3 := rfl
  have eC : xCr RP EN RN HI = 56 + (RP 0 - xHi RP EN RN HI 0) + (RP 1 - xHi RP EN RN HI 1) + (RP 2 - xHi RP EN RN HI 2) + (RP 3 - xHi RP EN RN HI 3) := rfl
  have eU : ∀ j : Int, (j = st ∧ mTop K EN j < up ∧ mUp K EN st up j = up) ∨ (¬ (j = st ∧ mTop K EN j < up) ∧ mUp K EN st up j = mTop K EN j) := by
    intro j
    unfold mUp
    by_cases hc : j = st ∧ mTop K EN j < up
    · rw [if_pos hc]
      exact Or.inl ⟨hc.1, hc.2, rfl⟩
    · rw [if_neg hc]
      exact Or.inr ⟨hc, rfl⟩
  have u0 := eU 0
  have u1 := eU 1
  have u2 := eU 2
  have u3 := eU 3
  rw [Bool.eq_iff_iff, xMay_iff]
  unfold mFit
  rw [Bool.and_eq_true, decide_eq_true_iff, decide_eq_true_iff, lim_eq, eT, eP]
  rcases (show st = 0 ∨ st = 1 ∨ st = 2 ∨ st = 3 by omega) with rfl | rfl | rfl | rfl
  all_goals
    constructor
    · rintro ⟨q1, q2⟩
      refine ⟨q1, ?_⟩
      omega
    · rintro ⟨q1, q2⟩
      refine ⟨q1, ?_⟩
      omega
theorem fi_eq {G : Int → Int32} {RP EN RN LO HI : Int → Int} {K : Int → Bool} {B : Int → Int32} (h : Rel G RP EN RN LO HI K B) {st : Int} (hst : 0 ≤ st ∧ st ≤ 3) (en : Int) : mFi K RP EN st en = xFi RP EN RN HI st en := by
  unfold mFi xFi
  rw [(h.2.2 st hst.1 hst.2).top h.1, fit_eq h hst en]
theorem al_eq {G : Int → Int32} {RP EN RN LO HI : Int → Int} {K : Int → Bool} {B : Int → Int32} (h : Rel G RP EN RN LO HI K B) {st : Int} (hst : 0 ≤ st ∧ st ≤ 3) : mAll K RP EN st = xAl RP EN RN HI st := by
  unfold mAll xAl
  by_cases he : 0 ≤ EN st
  · rw [if_pos he, if_pos he]
  · rw [if_neg he, if_neg he]
    have b1 := xLim_in h.1 st
    have b2 := xHi_in h.1 st
    have b3 := h.2.1
    have hT : ∀ T : Int, T = (if xLim RP st < xHi RP EN RN HI st + xCr RP EN RN HI then xLim RP st else xHi RP EN RN HI st + xCr RP EN RN HI) → mAl (mFit K RP EN st) 241 0 0 = T := by
      intro T eT
      have hT2 : (xLim RP st < xHi RP EN RN HI st + xCr RP EN RN HI ∧ T = xLim RP st) ∨ (xHi RP EN RN HI st + xCr RP EN RN HI ≤ xLim RP st ∧ T = xHi RP EN RN HI st + xCr RP EN RN HI) := by
        by_cases hc : xLim RP st < xHi RP EN RN HI st + xCr RP EN RN HI
        · rw [if_pos hc] at eT
          exact Or.inl ⟨hc, eT⟩
        · rw [if_neg hc] at eT
          exact Or.inr ⟨by omega, eT⟩
      refine mAl_is 241 0 0 (by omega) (by omega) (fun j h1 h2 => ?_)
      rw [fit_eq h hst j, xMay_iff]
      constructor
      · rintro ⟨q1, q2⟩
        omega
      · intro q
        exact ⟨by omega, by omega⟩
    exact hT _ rfl
theorem co_eq {RP EN RN LO HI : Int → Int} (hok : xOK RP EN RN LO HI) (st : Int) : mCo RP EN st = xCo RP EN st := by
  have b1 := hok st
  unfold mCo xCo
  split <;> split <;> omega
/-- the first range begins at the read point -/
theorem RG.first {n p lim : Int} {L H : Int → Int} (h : RG n p lim L H) (hc : cov n L H p) : 0 < n ∧ L 0 = p := by
  obtain ⟨k, k0, k1, k2, k3⟩ := hc
  have a := h.2.1 k k0 k1
  by_cases hk : k = 0
  · subst hk
    exact ⟨k1, by omega⟩
  · have b := h.lt (j := 0) (k := k) (by omega) (by omega) k1
    have d := h.2.1 0 (by omega) (by omega)
    omega
theorem rb_eq {G : Int → Int32} {RP EN RN LO HI : Int → Int} {K : Int → Bool} {B : Int → Int32} {s : Int} (hok : xOK RP EN RN LO HI) (h : Rs G RP EN RN LO HI K B s) : mRb K RP s = xRb RP RN LO HI s := by
  have b1 := hok s
  unfold mRb xRb
  rw [← h.kne hok (Int.le_refl (RP s))]
  by_cases hk : mKn K s (RP s) = true
  · rw [if_pos hk]
    obtain ⟨hn, hL⟩ := h.1.first ((h.kn hok (Int.le_refl _)).mp hk)
    have a := h.1.2.1 0 (by omega) hn
    have b2 := xLim_in hok s
    dsimp only at hL a
    rw [show 13 * s + 0 = 13 * s by omega] at hL a
    refine mRd_is 240 0 (by omega) (by omega) (fun j h1 h2 => ?_) (Or.inr ?_)
    · refine (h.kn hok (by omega)).mpr ⟨0, by omega, hn, ?_, ?_⟩
      · dsimp only
        rw [show 13 * s + 0 = 13 * s by omega]
        omega
      · dsimp only
        rw [show 13 * s + 0 = 13 * s by omega]
        omega
    · rw [show RP s + (HI (13 * s) - RP s) = HI (13 * s) by omega]
      cases hq : mKn K s (HI (13 * s)) with
      | false => rfl
      | true =>
        refine absurd ((h.kn hok (by omega)).mp hq) (h.1.notcov (j := 0) (by omega) hn ?_ (fun q => ?_))
        · rw [show 13 * s + 0 = 13 * s by omega]
          exact Int.le_refl _
        · have := h.1.2.2 0 (by omega) q
          dsimp only at this
          rw [show 13 * s + 0 = 13 * s by omega] at this
          exact this
  · rw [if_neg hk]
    refine mRd_is 240 0 (by omega) (by omega) (fun j h1 h2 => by omega) (Or.inr ?_)
    rw [show RP s + 0 = RP s by omega]
    cases hq : mKn K s (RP s) with
    | false => rfl
    | true => exact absurd hq hk
end
section
/-! ===== plain law, 3: gaps ===== -/
def bgOf (kn : Int → Bool) (p i : Int) : Bool := !kn i && (decide (i = p) || kn (i - 1))
theorem bg_known {kn : Int → Bool} {p i : Int} (h : kn i = true) : bgOf kn p i = false := by
  unfold bgOf
  rw [h]
  rfl
theorem bg_first {kn : Int → Bool} {p : Int} (h : kn p = false) : bgOf kn p p = true := by
  unfold bgOf
  rw [h]
  simp
theorem bg_after {kn : Int → Bool} {p i : Int} (h : kn i = false) (h2 : kn (i - 1) = true) : bgOf kn p i = true := by
  unfold bgOf
  rw [h, h2]
  simp
theorem bg_in {kn : Int → Bool} {p i : Int} (h : i ≠ p) (h2 : kn (i - 1) = false) : bgOf kn p i = false := by
  unfold bgOf
  rw [h2, decide_eq_false h]
  simp
theorem nk {kn : Int → Bool} {i : Int} {P : Prop} (h : kn i = true ↔ P) (hp : ¬ P) : kn i = false := by
  cases hq : kn i with
  | false => rfl
  | true => exact absurd (h.mp hq) hp
/-- between a range's end and the next range: one gap begins -/
theorem gap_mid {n p lim : Int} {L H : Int → Int} (h : RG n p lim L H) {kn : Int → Bool} (hk : ∀ i : Int, p ≤ i → (kn i = true ↔ cov n L H i)) {k T : Int} (h0 : 0 ≤ k) (h1 : k < n) (h2 : H k < T) (h3 : k + 1 < n → T ≤ L (k + 1)) : cG (bgOf kn p) (H k) T = 1 := by
  have a := h.2.1 k h0 h1
  have nc : ∀ i : Int, H k ≤ i → i < T → kn i = false := fun i i1 i2 => nk (hk i (by omega)) (h.notcov h0 h1 i1 (fun q => by have := h3 q; omega))
  refine cG_one h2 (bg_after (nc _ (Int.le_refl _) h2) ((hk _ (by omega)).mpr ⟨k, h0, h1, by omega, by omega⟩)) (fun j j1 j2 => bg_in (by omega) (nc _ (by omega) (by omega)))
theorem bg_end {n p lim : Int} {L H : Int → Int} (h : RG n p lim L H) {kn : Int → Bool} (hk : ∀ i : Int, p ≤ i → (kn i = true ↔ cov n L H i)) {k : Int} (h0 : 0 ≤ k) (h1 : k < n) : bgOf kn p (H k) = true := by
  have a := h.2.1 k h0 h1
  exact bg_after (nk (hk _ (by omega)) (h.notcov h0 h1 (Int.le_refl _) (fun q => h.2.2 k h0 q))) ((hk _ (by omega)).mpr ⟨k, h0, h1, by omega, by omega⟩)
theorem gap_in {n p lim : Int} {L H : Int → Int} (h : RG n p lim L H) {kn : Int → Bool} (hk : ∀ i : Int, p ≤ i → (kn i = true ↔ cov n L H i)) {k : Int} (h0 : 0 ≤ k) (h1 : k < n) : cG (bgOf kn p) (L k) (H k) = 0 := by
  have a := h.2.1 k h0 h1
  exact cG_zero (fun j j1 j2 => bg_known ((hk j (by omega)).mpr ⟨k, h0, h1, j1, j2⟩))
/-- before the first range (or up to T, if there is none) -/
theorem gap_fst {n p lim : Int} {L H : Int → Int} (h : RG n p lim L H) {kn : Int → Bool} (hk : ∀ i : Int, p ≤ i → (kn i = true ↔ cov n L H i)) {T : Int} (h2 : p < T) (h3 : 0 < n → T ≤ L 0) : cG (bgOf kn p) p T = 1 := by
  have nc : ∀ i : Int, p ≤ i → i < T → kn i = false := fun i i1 i2 => nk (hk i i1) (h.notcov0 (fun q => by have := h3 q; omega))
  exact cG_one h2 (bg_first (nc p (Int.le_refl _) h2)) (fun j j1 j2 => bg_in (by omega) (nc _ (by omega) (by omega)))
theorem gap_to {n p lim : Int} {L H : Int → Int} (h : RG n p lim L H) {kn : Int → Bool} (hk : ∀ i : Int, p ≤ i → (kn i = true ↔ cov n L H i)) : ∀ d : Nat, (d : Int) < n → cG (bgOf kn p) p (H (d : Int)) = (d : Int) + 1 - (if kn p = true then 1 else 0) := by
  intro d
  induction d with
  | zero =>
    intro hd
    have a := h.2.1 0 (by omega) (by omega)
    rw [show (((0 : Nat) : Int)) = 0 by omega, cG_split (show p ≤ L 0 by omega) (show L 0 ≤ H 0 by omega), gap_in h hk (Int.le_refl 0) (by omega)]
    by_cases hp : kn p = true
    · obtain ⟨q1, q2⟩ := h.first ((hk p (Int.le_refl _)).mp hp)
      rw [if_pos hp, q2, cG_self]
      rfl
    · rw [if_neg hp]
      have hlt : p < L 0 := by
        rcases Int.lt_trichotomy p (L 0) with q | q | q
        · exact q
        · exact absurd ((hk p (Int.le_refl _)).mpr ⟨0, by omega, by omega, by omega, by omega⟩) hp
        · omega
      rw [gap_fst h hk hlt (fun _ => Int.le_refl _)]
      rfl
  | succ d ih =>
    intro hd
    have a0 := h.2.1 (d : Int) (by omega) (by omega)
    have a1 := h.2.1 ((d : Int) + 1) (by omega) (by omega)
    have a2 := h.2.2 (d : Int) (by omega) (by omega)
    rw [show ((d + 1 : Nat) : Int) = (d : Int) + 1 by omega, cG_split (show p ≤ H (d : Int) by omega) (show H (d : Int) ≤ H ((d : Int) + 1) by omega), ih (by omega),
      cG_split (show H (d : Int) ≤ L ((d : Int) + 1) by omega) (show L ((d : Int) + 1) ≤ H ((d : Int) + 1) by omega), gap_in h hk (k := (d : Int) + 1) (by omega) (by omega), gap_mid h hk (k := (d : Int)) (by omega) (by omega) a2 (fun _ => Int.le_refl _)]
    omega
theorem gap_to' {n p lim : Int} {L H : Int → Int} (h : RG n p lim L H) {kn : Int → Bool} (hk : ∀ i : Int, p ≤ i → (kn i = true ↔ cov n L H i)) {k : Int} (h0 : 0 ≤ k) (h1 : k < n) : cG (bgOf kn p) p (H k) = k + 1 - (if kn p = true then 1 else 0) := by
  have := gap_to h hk k.toNat (by omega)
  rw [show ((k.toNat : Nat) : Int) = k by omega] at this
  exact this
/-- all gaps up to T, which lies at or behind the last range's end -/
theorem gap_all {n p lim : Int} {L H : Int → Int} (h : RG n p lim L H) {kn : Int → Bool} (hk : ∀ i : Int, p ≤ i → (kn i = true ↔ cov n L H i)) {la T : Int} (hla : la = if 0 < n then H (n - 1) else p) (hT : la ≤ T) : cG (bgOf kn p) p T = (n - (if kn p = true then 1 else 0)) + (if la < T then 1 else 0) := by
  by_cases hn : 0 < n
  · rw [if_pos hn] at hla
    have a := h.2.1 (n - 1) (by omega) (by omega)
    have b := gap_to' h hk (k := n - 1) (by omega) (by omega)
    rw [cG_split (show p ≤ H (n - 1) by omega) (show H (n - 1) ≤ T by omega), b]
    by_cases hl : la < T
    · rw [if_pos hl, gap_mid h hk (k := n - 1) (by omega) (by omega) (by omega) (fun q => by omega)]
      omega
    · rw [if_neg hl, show T = H (n - 1) by omega, cG_self]
      omega
  · rw [if_neg hn] at hla
    have hkp : kn p = false := nk (hk p (Int.le_refl _)) (h.notcov0 (fun q => absurd q hn))
    have := h.1
    rw [if_neg (by rw [hkp]; decide)]
    by_cases hl : la < T
    · rw [if_pos hl, gap_fst h hk (by omega) (fun q => absurd q hn)]
      omega
    · rw [if_neg hl, show T = p by omega, cG_self]
      omega
theorem mBg_is {K : Int → Bool} {RP : Int → Int} {s : Int} : mBg K RP s = bgOf (mKn K s) (RP s) := rfl
theorem Rs.la {G : Int → Int32} {RP EN RN LO HI : Int → Int} {K : Int → Bool} {B : Int → Int32} {s : Int} (hok : xOK RP EN RN LO HI) (h : Rs G RP EN RN LO HI K B s) : RP s ≤ xLast RP RN HI s ∧ xLast RP RN HI s ≤ xHi RP EN RN HI s ∧ xLast RP RN HI s = if 0 < RN s then (fun k => HI (13 * s + k)) (RN s - 1) else RP s := by
  have e : xLast RP RN HI s = if 0 < RN s then (fun k => HI (13 * s + k)) (RN s - 1) else RP s := by
    unfold xLast
    dsimp only
    rw [show 13 * s + (RN s - 1) = 13 * s + RN s - 1 by omega]
  refine ⟨?_, ?_, e⟩
  · rcases h.last with q | q <;> omega
  · by_cases he : 0 ≤ EN s
    · have := h.2.2.2.2 he
      unfold xHi
      rw [if_pos he]
      exact this
    · rw [xHi_else he]
      exact Int.le_refl _
theorem gaps_cG {G : Int → Int32} {RP EN RN LO HI : Int → Int} {K : Int → Bool} {B : Int → Int32} {s : Int} (hok : xOK RP EN RN LO HI) (h : Rs G RP EN RN LO HI K B s) : cG (mBg K RP s) (RP s) (mTop K EN s) = xGaps RP EN RN LO HI s := by
  obtain ⟨l1, l2, l3⟩ := h.la hok
  rw [mBg_is, h.top hok, gap_all h.1 (fun i hi => h.kn hok hi) l3 l2]
  unfold xGaps
  rw [h.kne hok (Int.le_refl _)]
theorem gaps_eq {G : Int → Int32} {RP EN RN LO HI : Int → Int} {K : Int → Bool} {B : Int → Int32} {s : Int} (hok : xOK RP EN RN LO HI) (h : Rs G RP EN RN LO HI K B s) : mGaps K RP EN s = xGaps RP EN RN LO HI s := gaps_cG hok h
theorem gap_eq {G : Int → Int32} {RP EN RN LO HI : Int → Int} {K : Int → Bool} {B : Int → Int32} {s : Int} (hok : xOK RP EN RN LO HI) (h : Rs G RP EN RN LO HI K B s) (num : Int) : mGap K RP EN s num = xGap RP EN RN LO HI s num := by
  obtain ⟨l1, l2, l3⟩ := h.la hok
  have hc := gaps_cG hok h
  have hkn : ∀ i : Int, RP s ≤ i → (mKn K s i = true ↔ cov (RN s) (fun k => LO (13 * s + k)) (fun k => HI (13 * s + k)) i) := fun i hi => h.kn hok hi
  have ht := h.top hok
  have hn := h.1.1
  have hit : ∀ x : Int, RP s ≤ x → x < mTop K EN s → mBg K RP s x = true → cG (mBg K RP s) (RP s) x = num → mGap K RP EN s num = x := by
    intro x x1 x2 x3 x4
    unfold mGap
    exact mFnd_hit _ _ _ x1 (by omega) x3 (by omega)
  have hmiss : (num < 0 ∨ xGaps RP EN RN LO HI s ≤ num) → mGap K RP EN s num = -4 := by
    intro hm
    unfold mGap
    refine mFnd_miss _ _ _ ?_
    have e : mCnt (mBg K RP s) (mTop K EN s - RP s).toNat (RP s) 0 = xGaps RP EN RN LO HI s := hc
    rw [e]
    omega
  have hlast : 0 < RN s → xLast RP RN HI s = HI (13 * s + (RN s - 1)) := fun q => by rw [l3, if_pos q]
  -- a place that a range's end is
  have atEnd : ∀ k : Int, 0 ≤ k → k < RN s → (k + 1 < RN s ∨ xLast RP RN HI s < xHi RP EN RN HI s) → k + 1 - (if mKn K s (RP s) = true then 1 else 0) = num → mGap K RP EN s num = HI (13 * s + k) := by
    intro k k0 k1 k2 k3
    have a := h.1.2.1 k k0 k1
    dsimp only at a
    have e1 := bg_end h.1 hkn k0 k1
    have e2 := gap_to' h.1 hkn k0 k1
    refine hit (HI (13 * s + k)) (by omega) ?_ e1 (e2.trans k3)
    rw [ht]
    have b := hlast (by omega)
    by_cases hk : k + 1 < RN s
    · have q1 := h.1.lt (j := k) (k := RN s - 1) k0 (by omega) (by omega)
      have q2 := h.1.2.1 (RN s - 1) (by omega) (by omega)
      dsimp only at q1 q2
      omega
    · rw [show RN s - 1 = k by omega] at b
      rcases k2 with k2 | k2
      · omega
      · omega
  cases hk : mKn K s (RP s) with
  | true =>
    have hx : xKn RN LO HI s (RP s) = true := by rw [← h.kne hok (Int.le_refl _)]; exact hk
    rw [xGap_t hx]
    have eg := xGaps_t (EN := EN) hx
    by_cases hm : num < 0 ∨ xGaps RP EN RN LO HI s ≤ num
    · rw [if_pos hm]
      exact hmiss hm
    · rw [if_neg hm, if_neg (by omega), show 13 * s + (num + 1) - 1 = 13 * s + num by omega]
      rw [if_pos hk] at atEnd
      by_cases hl : xLast RP RN HI s < xHi RP EN RN HI s
      · rw [if_pos hl] at eg
        exact atEnd num (by omega) (by omega) (Or.inr hl) (by omega)
      · rw [if_neg hl] at eg
        exact atEnd num (by omega) (by omega) (Or.inl (by omega)) (by omega)
  | false =>
    have hx : xKn RN LO HI s (RP s) = false := by rw [← h.kne hok (Int.le_refl _)]; exact hk
    rw [xGap_f hx]
    have eg := xGaps_f (EN := EN) hx
    by_cases hm : num < 0 ∨ xGaps RP EN RN LO HI s ≤ num
    · rw [if_pos hm]
      exact hmiss hm
    · rw [if_neg hm]
      by_cases h0 : num + 0 = 0
      · rw [if_pos h0]
        refine hit (RP s) (Int.le_refl _) ?_ (bg_first hk) (by rw [cG_self]; omega)
        rw [ht]
        by_cases hl : xLast RP RN HI s < xHi RP EN RN HI s
        · omega
        · rw [if_neg hl] at eg
          have b := hlast (by omega)
          have q2 := h.1.2.1 (RN s - 1) (by omega) (by omega)
          dsimp only at q2
          omega
      · rw [if_neg h0, show 13 * s + (num + 0) - 1 = 13 * s + (num - 1) by omega]
        rw [if_neg (by rw [hk]; decide)] at atEnd
        by_cases hl : xLast RP RN HI s < xHi RP EN RN HI s
        · rw [if_pos hl] at eg
          exact atEnd (num - 1) (by omega) (by omega) (Or.inr hl) (by omega)
        · rw [if_neg hl] at eg
          exact atEnd (num - 1) (by omega) (by omega) (Or.inl (by omega)) (by omega)
end
section
/-! ===== plain law, 4: finish and read keep the relation ===== -/
theorem RG.congr {n p lim : Int} {L H L' H' : Int → Int} (h : RG n p lim L H) (e : ∀ k : Int, 0 ≤ k → k < n → L' k = L k ∧ H' k = H k) : RG n p lim L' H' := by
  refine ⟨h.1, fun k h0 h1 => ?_, fun k h0 h1 => ?_⟩
  · rw [(e k h0 h1).1, (e k h0 h1).2]
    exact h.2.1 k h0 h1
  · rw [(e k h0 (by omega)).2, (e (k + 1) (by omega) h1).1]
    exact h.2.2 k h0 h1
theorem cov_congr {n : Int} {L H L' H' : Int → Int} (e : ∀ k : Int, 0 ≤ k → k < n → L' k = L k ∧ H' k = H k) (i : Int) : cov n L' H' i ↔ cov n L H i := by
  constructor
  · rintro ⟨k, k0, k1, k2, k3⟩
    rw [(e k k0 k1).1] at k2
    rw [(e k k0 k1).2] at k3
    exact ⟨k, k0, k1, k2, k3⟩
  · rintro ⟨k, k0, k1, k2, k3⟩
    exact ⟨k, k0, k1, by rw [(e k k0 k1).1]; exact k2, by rw [(e k k0 k1).2]; exact k3⟩
theorem xLast_other {RP RN HI RP' RN' HI' : Int → Int} {s : Int} (e1 : RP' s = RP s) (e3 : RN' s = RN s) (e4 : ∀ k : Int, 0 ≤ k → k < 13 → HI' (13 * s + k) = HI (13 * s + k)) (hn : RN s ≤ 12) : xLast RP' RN' HI' s = xLast RP RN HI s := by
  unfold xLast
  rw [e1, e3]
  by_cases h : 0 < RN s
  · rw [if_pos h, if_pos h]
    have := e4 (RN s - 1) (by omega) (by omega)
    rw [show 13 * s + (RN s - 1) = 13 * s + RN s - 1 by omega] at this
    exact this
  · rw [if_neg h, if_neg h]
theorem xHi_of {RP EN RN HI RP' EN' RN' HI' : Int → Int} {s : Int} (e2 : EN' s = EN s) (e : xLast RP' RN' HI' s = xLast RP RN HI s) : xHi RP' EN' RN' HI' s = xHi RP EN RN HI s := by
  by_cases h : 0 ≤ EN s
  · unfold xHi
    rw [e2, if_pos h, if_pos h]
  · rw [xHi_else (EN := EN) h, xHi_else (EN := EN') (by rw [e2]; exact h), e]
theorem Rs.other {G G' : Int → Int32} {RP EN RN LO HI RP' EN' RN' LO' HI' : Int → Int} {K K' : Int → Bool} {B B' : Int → Int32} {s : Int} (h : Rs G RP EN RN LO HI K B s) (hp : 0 ≤ RP s ∧ RP s ≤ 240) (e1 : RP' s = RP s) (e2 : EN' s = EN s) (e3 : RN' s = RN s) (e4 : ∀ k : Int, 0 ≤ k → k < 13 → LO' (13 * s + k) = LO (13 * s + k) ∧ HI' (13 * s + k) = HI (13 * s + k)) (e5 : ∀ i : Int, 0 ≤ i → i < 32 → G' (32 * s + i) = G (32 * s + i)) (e6 : ∀ i : Int, 0 ≤ i → i < 240 → K' (240 * s + i) = K (240 * s + i) ∧ B' (240 * s + i) = B (240 * s + i)) : Rs G' RP' EN' RN' LO' HI' K' B' s := by
  obtain ⟨h1, h2, h3, h4, h5⟩ := h
  have hn := h1.1
  have hlim : xLim RP' s = xLim RP s := by unfold xLim; rw [e1]
  have hc : ∀ k : Int, 0 ≤ k → k < RN s → (fun k => LO' (13 * s + k)) k = (fun k => LO (13 * s + k)) k ∧ (fun k => HI' (13 * s + k)) k = (fun k => HI (13 * s + k)) k := fun k k0 k1 => e4 k k0 (by omega)
  have hl : xLast RP' RN' HI' s = xLast RP RN HI s := xLast_other e1 e3 (fun k k0 k1 => (e4 k k0 k1).2) (by omega)
  unfold Rs
  rw [e1, e2, e3, hlim, hl]
  refine ⟨h1.congr hc, fun i i0 i1 => ?_, fun i i0 i1 => ?_, fun i i0 i1 hk => ?_, h5⟩
  · rw [(e6 i i0 (by omega)).1]
    exact h2 i i0 i1
  · rw [(e6 i (by omega) i1).1, cov_congr hc]
    exact h3 i i0 i1
  · rw [(e6 i (by omega) i1).1] at hk
    rw [(e6 i (by omega) i1).2, e5 (i % 32) (by omega) (by omega)]
    exact h4 i i0 i1 hk
theorem xCr_one {RP EN RN HI RP' EN' RN' HI' : Int → Int} {st : Int} (hst : 0 ≤ st ∧ st ≤ 3) (h : ∀ j : Int, 0 ≤ j → j ≤ 3 → j ≠ st → RP' j = RP j ∧ xHi RP' EN' RN' HI' j = xHi RP EN RN HI j) : xCr RP' EN' RN' HI' = xCr RP EN RN HI + (RP' st - RP st) - (xHi RP' EN' RN' HI' st - xHi RP EN RN HI st) := by
  have h0 := h 0 (by omega) (by omega)
  have h1 := h 1 (by omega) (by omega)
  have h2 := h 2 (by omega) (by omega)
  have h3 := h 3 (by omega) (by omega)
  unfold xCr
  rcases (show st = 0 ∨ st = 1 ∨ st = 2 ∨ st = 3 by omega) with rfl | rfl | rfl | rfl
  · have a1 := h1 (by decide)
    have a2 := h2 (by decide)
    have a3 := h3 (by decide)
    omega
  · have a1 := h0 (by decide)
    have a2 := h2 (by decide)
    have a3 := h3 (by decide)
    omega
  · have a1 := h0 (by decide)
    have a2 := h1 (by decide)
    have a3 := h3 (by decide)
    omega
  · have a1 := h0 (by decide)
    have a2 := h1 (by decide)
    have a3 := h2 (by decide)
    omega
theorem rel_finish {G : Int → Int32} {RP EN RN LO HI : Int → Int} {K : Int → Bool} {B : Int → Int32} (h : Rel G RP EN RN LO HI K B) {st en : Int} (hst : 0 ≤ st ∧ st ≤ 3) (h0 : 0 ≤ en) (hf : xFi RP EN RN HI st en = 0) : Rel G RP (sa_up EN st en) RN LO HI K B := by
  obtain ⟨hok, hcr, hs⟩ := h
  have hs1 := hs st hst.1 hst.2
  obtain ⟨l1, l2, l3⟩ := hs1.la hok
  have b1 := xLim_in hok st
  have hc : ¬ ((0 ≤ EN st ∧ EN st ≠ en) ∨ en < xHi RP EN RN HI st) := by
    intro q
    unfold xFi at hf
    rw [if_pos q] at hf
    exact absurd hf (by decide)
  have hm : xMay RP EN RN HI st en = true := by
    cases hq : xMay RP EN RN HI st en with
    | true => rfl
    | false =>
      unfold xFi at hf
      rw [if_neg hc, hq] at hf
      exact absurd hf (by decide)
  obtain ⟨m1, m2⟩ := xMay_iff.mp hm
  have eSt : xHi RP (sa_up EN st en) RN HI st = en := by
    unfold xHi
    rw [sa_up_self, if_pos h0]
  refine ⟨fun j => ?_, ?_, fun s s0 s3 => ?_⟩
  · have a := hok j
    by_cases hj : j = st
    · subst hj
      rw [sa_up_self]
      omega
    · rw [sa_up_ne _ _ hj]
      exact a
  · have e := xCr_one (RP := RP) (EN := EN) (RN := RN) (HI := HI) (RP' := RP) (EN' := sa_up EN st en) (RN' := RN) (HI' := HI) hst (fun j j0 j3 hj => ⟨rfl, xHi_of (sa_up_ne _ _ hj) rfl⟩)
    rw [e, eSt]
    omega
  · obtain ⟨r1, r2, r3, r4, r5⟩ := hs s s0 s3
    refine ⟨r1, r2, r3, r4, ?_⟩
    by_cases hj : s = st
    · subst hj
      rw [sa_up_self]
      intro _
      omega
    · rw [sa_up_ne _ _ hj]
      exact r5
/-- read takes the byte at the read point -/
theorem rel_read {G : Int → Int32} {RP EN RN LO HI : Int → Int} {K : Int → Bool} {B : Int → Int32} (h : Rel G RP EN RN LO HI K B) {st : Int} (hst : 0 ≤ st ∧ st ≤ 3) (hk : xKn RN LO HI st (RP st) = true) : G (32 * st + RP st % 32) = B (240 * st + RP st) ∧ Rel G (xRdU RP RN LO HI st).1 EN (xRdU RP RN LO HI st).2.1 (xRdU RP RN LO HI st).2.2.1 (xRdU RP RN LO HI st).2.2.2 K B := by
  obtain ⟨hok, hcr, hs⟩ := h
  have hs1 := hs st hst.1 hst.2
  have hm : mKn K st (RP st) = true := by rw [hs1.kne hok (Int.le_refl _)]; exact hk
  obtain ⟨hn, hL⟩ := hs1.1.first ((hs1.kn hok (Int.le_refl _)).mp hm)
  have hlt := mKn_lt hm
  have hK0 : K (240 * st + RP st) = true := by
    unfold mKn at hm
    rw [Bool.and_eq_true] at hm
    exact hm.2
  have a0 := hs1.1.2.1 0 (by omega) hn
  have hn12 := hs1.1.1
  have b1 := hok st
  have b2 := xLim_in hok st
  dsimp only at hL a0
  rw [show 13 * st + 0 = 13 * st by omega] at hL a0
  refine ⟨hs1.2.2.2.1 (RP st) (Int.le_refl _) hlt hK0, ?_⟩
  have hlim : xLim RP st ≤ xLim (sa_up RP st (RP st + 1)) st := by
    unfold xLim
    rw [sa_up_self]
    split <;> split <;> omega
  have hlim2 : ∀ s : Int, s ≠ st → xLim (sa_up RP st (RP st + 1)) s = xLim RP s := by
    intro s q
    unfold xLim
    rw [sa_up_ne _ _ q]
  have gt : ∀ k : Int, 0 < k → k < RN st → HI (13 * st) < LO (13 * st + k) := by
    intro k k0 k1
    have := hs1.1.lt (j := 0) (k := k) (by omega) k0 k1
    rw [show 13 * st + 0 = 13 * st by omega] at this
    exact this
  unfold xRdU
  by_cases hd : LO (13 * st) + 1 = HI (13 * st)
  · rw [if_pos hd]
    dsimp only
    generalize hLO : xDrop (13 * st) 0 (RN st - (1 - 0)) (1 - 0) (sa_up LO (13 * st) (LO (13 * st) + 1)) = LO'
    generalize hHI : xDrop (13 * st) 0 (RN st - (1 - 0)) (1 - 0) HI = HI'
    have vL : ∀ j : Int, LO' j = if 13 * st ≤ j ∧ j < 13 * st + (RN st - 1) then LO (j + 1) else sa_up LO (13 * st) (LO (13 * st) + 1) j := by
      intro j
      rw [← hLO]
      unfold xDrop
      by_cases hc : 13 * st ≤ j ∧ j < 13 * st + (RN st - 1)
      · rw [if_pos (by omega), if_pos hc, show j + (1 - 0) = j + 1 by omega, sa_up_ne _ _ (by omega)]
      · rw [if_neg (by omega), if_neg hc]
    have vH : ∀ j : Int, HI' j = if 13 * st ≤ j ∧ j < 13 * st + (RN st - 1) then HI (j + 1) else HI j := by
      intro j
      rw [← hHI]
      unfold xDrop
      by_cases hc : 13 * st ≤ j ∧ j < 13 * st + (RN st - 1)
      · rw [if_pos (by omega), if_pos hc, show j + (1 - 0) = j + 1 by omega]
      · rw [if_neg (by omega), if_neg hc]
    have inL : ∀ k : Int, 0 ≤ k → k < RN st - 1 → LO' (13 * st + k) = LO (13 * st + (k + 1)) := by
      intro k k0 k1
      rw [vL, if_pos (by omega), show 13 * st + k + 1 = 13 * st + (k + 1) by omega]
    have inH : ∀ k : Int, 0 ≤ k → k < RN st - 1 → HI' (13 * st + k) = HI (13 * st + (k + 1)) := by
      intro k k0 k1
      rw [vH, if_pos (by omega), show 13 * st + k + 1 = 13 * st + (k + 1) by omega]
    have outLH : ∀ s : Int, s ≠ st → ∀ k : Int, 0 ≤ k → k < 13 → LO' (13 * s + k) = LO (13 * s + k) ∧ HI' (13 * s + k) = HI (13 * s + k) := by
      intro s q k k0 k1
      rw [vL, vH, if_neg (by omega), if_neg (by omega), sa_up_ne _ _ (by omega)]
      exact ⟨rfl, rfl⟩
    have eRN : sa_up RN st (RN st - (1 - 0)) st = RN st - 1 := by rw [sa_up_self]; omega
    have eLast : xLast (sa_up RP st (RP st + 1)) (sa_up RN st (RN st - (1 - 0))) HI' st = xLast RP RN HI st := by
      unfold xLast
      rw [eRN, sa_up_self, if_pos hn]
      by_cases hq : 0 < RN st - 1
      · have := inH (RN st - 1 - 1) (by omega) (by omega)
        rw [if_pos hq, show 13 * st + (RN st - 1) - 1 = 13 * st + (RN st - 1 - 1) by omega, this, show 13 * st + (RN st - 1 - 1 + 1) = 13 * st + RN st - 1 by omega]
      · rw [if_neg hq, show 13 * st + RN st - 1 = 13 * st by omega]
        omega
    refine ⟨fun j => ?_, ?_, fun s s0 s3 => ?_⟩
    · have q := hok j
      have q2 := hok (j + 1)
      have q3 := hok (13 * st)
      have e1 : sa_up RP st (RP st + 1) j = RP j ∨ sa_up RP st (RP st + 1) j = RP st + 1 := by
        unfold sa_up
        split
        · exact Or.inr rfl
        · exact Or.inl rfl
      have e2 : sa_up RN st (RN st - (1 - 0)) j = RN j ∨ sa_up RN st (RN st - (1 - 0)) j = RN st - (1 - 0) := by
        unfold sa_up
        split
        · exact Or.inr rfl
        · exact Or.inl rfl
      have e3 : LO' j = LO (j + 1) ∨ LO' j = LO j ∨ LO' j = LO (13 * st) + 1 := by
        rw [vL]
        unfold sa_up
        split
        · exact Or.inl rfl
        · split
          · exact Or.inr (Or.inr rfl)
          · exact Or.inr (Or.inl rfl)
      have e4 : HI' j = HI (j + 1) ∨ HI' j = HI j := by
        rw [vH]
        split
        · exact Or.inl rfl
        · exact Or.inr rfl
      omega
    · have e := xCr_one (RP := RP) (EN := EN) (RN := RN) (HI := HI) (RP' := sa_up RP st (RP st + 1)) (EN' := EN) (RN' := sa_up RN st (RN st - (1 - 0))) (HI' := HI') hst (fun j j0 j3 hj => ⟨sa_up_ne _ _ hj, xHi_of rfl (xLast_other (sa_up_ne _ _ hj) (sa_up_ne _ _ hj) (fun k k0 k1 => (outLH j hj k k0 k1).2) (by have := hok j; omega))⟩)
      rw [e, xHi_of (s := st) (RP := RP) (EN := EN) (RN := RN) (HI := HI) rfl eLast, sa_up_self]
      omega
    · by_cases hj : s = st
      · subst hj
        obtain ⟨r1, r2, r3, r4, r5⟩ := hs1
        unfold Rs
        rw [eRN, eLast, sa_up_self]
        have cv : ∀ i : Int, RP s + 1 ≤ i → (cov (RN s - 1) (fun k => LO' (13 * s + k)) (fun k => HI' (13 * s + k)) i ↔ cov (RN s) (fun k => LO (13 * s + k)) (fun k => HI (13 * s + k)) i) := by
          intro i hi
          constructor
          · rintro ⟨k, k0, k1, k2, k3⟩
            dsimp only at k2 k3
            rw [inL k k0 k1] at k2
            rw [inH k k0 k1] at k3
            exact ⟨k + 1, by omega, by omega, k2, k3⟩
          · rintro ⟨k, k0, k1, k2, k3⟩
            dsimp only at k2 k3
            by_cases hk0 : k = 0
            · subst hk0
              rw [show 13 * s + 0 = 13 * s by omega] at k3
              omega
            · refine ⟨k - 1, by omega, by omega, ?_, ?_⟩
              · dsimp only
                rw [inL (k - 1) (by omega) (by omega), show k - 1 + 1 = k by omega]
                exact k2
              · dsimp only
                rw [inH (k - 1) (by omega) (by omega), show k - 1 + 1 = k by omega]
                exact k3
        refine ⟨⟨by omega, fun k k0 k1 => ?_, fun k k0 k1 => ?_⟩, fun i i0 i1 => ?_, fun i i0 i1 => ?_, fun i i0 i1 => r4 i (by omega) i1, r5⟩
        · dsimp only
          rw [inL k k0 k1, inH k k0 k1]
          have q1 := r1.2.1 (k + 1) (by omega) (by omega)
          have q2 := gt (k + 1) (by omega) (by omega)
          dsimp only at q1
          omega
        · dsimp only
          rw [inL (k + 1) (by omega) (by omega), inH k k0 (by omega)]
          exact r1.2.2 (k + 1) (by omega) (by omega)
        · by_cases hi : i = RP s
          · rw [hi]
            exact hK0
          · exact r2 i i0 (by omega)
        · rw [r3 i (by omega) i1, cv i i0]
      · exact (hs s s0 s3).other (by have := hok s; omega) (sa_up_ne _ _ hj) rfl (sa_up_ne _ _ hj) (outLH s hj) (fun _ _ _ => rfl) (fun _ _ _ => ⟨rfl, rfl⟩)
  · rw [if_neg hd]
    dsimp only
    generalize hLO : sa_up LO (13 * st) (LO (13 * st) + 1) = LO'
    have l0 : LO' (13 * st) = LO (13 * st) + 1 := by rw [← hLO, sa_up_self]
    have ln : ∀ j : Int, j ≠ 13 * st → LO' j = LO j := by
      intro j q
      rw [← hLO, sa_up_ne _ _ q]
    have outLH : ∀ s : Int, s ≠ st → ∀ k : Int, 0 ≤ k → k < 13 → LO' (13 * s + k) = LO (13 * s + k) ∧ HI (13 * s + k) = HI (13 * s + k) := fun s q k k0 k1 => ⟨ln _ (by omega), rfl⟩
    have eLast : xLast (sa_up RP st (RP st + 1)) RN HI st = xLast RP RN HI st := by
      unfold xLast
      rw [if_pos hn, if_pos hn]
    refine ⟨fun j => ?_, ?_, fun s s0 s3 => ?_⟩
    · have q := hok j
      have q3 := hok (13 * st)
      have e1 : sa_up RP st (RP st + 1) j = RP j ∨ sa_up RP st (RP st + 1) j = RP st + 1 := by
        unfold sa_up
        split
        · exact Or.inr rfl
        · exact Or.inl rfl
      have e3 : LO' j = LO j ∨ LO' j = LO (13 * st) + 1 := by
        by_cases hj : j = 13 * st
        · rw [hj]
          exact Or.inr l0
        · exact Or.inl (ln j hj)
      omega
    · have e := xCr_one (RP := RP) (EN := EN) (RN := RN) (HI := HI) (RP' := sa_up RP st (RP st + 1)) (EN' := EN) (RN' := RN) (HI' := HI) hst (fun j j0 j3 hj => ⟨sa_up_ne _ _ hj, xHi_of rfl (xLast_other (sa_up_ne _ _ hj) rfl (fun _ _ _ => rfl) (by have := hok j; omega))⟩)
      rw [e, xHi_of (s := st) (RP := RP) (EN := EN) (RN := RN) (HI := HI) rfl eLast, sa_up_self]
      omega
    · by_cases hj : s = st
      · subst hj
        obtain ⟨r1, r2, r3, r4, r5⟩ := hs1
        unfold Rs
        rw [eLast, sa_up_self]
        refine ⟨⟨by omega, fun k k0 k1 => ?_, fun k k0 k1 => ?_⟩, fun i i0 i1 => ?_, fun i i0 i1 => ?_, fun i i0 i1 => r4 i (by omega) i1, r5⟩
        · dsimp only
          have q1 := r1.2.1 k k0 k1
          dsimp only at q1
          by_cases hk0 : k = 0
          · subst hk0
            rw [show 13 * s + 0 = 13 * s by omega] at q1
            rw [show 13 * s + 0 = 13 * s by omega, l0]
            omega
          · have q2 := gt k (by omega) k1
            rw [ln _ (by omega)]
            omega
        · dsimp only
          rw [ln _ (by omega)]
          exact r1.2.2 k k0 k1
        · by_cases hi : i = RP s
          · rw [hi]
            exact hK0
          · exact r2 i i0 (by omega)
        · rw [r3 i (by omega) i1]
          constructor
          · rintro ⟨k, k0, k1, k2, k3⟩
            refine ⟨k, k0, k1, ?_, k3⟩
            dsimp only at k2
            dsimp only
            by_cases hk0 : k = 0
            · subst hk0
              rw [show 13 * s + 0 = 13 * s by omega, l0]
              omega
            · rw [ln _ (by omega)]
              exact k2
          · rintro ⟨k, k0, k1, k2, k3⟩
            refine ⟨k, k0, k1, ?_, k3⟩
            dsimp only at k2
            dsimp only
            by_cases hk0 : k = 0
            · subst hk0
              rw [show 13 * s + 0 = 13 * s by omega]
              omega
            · rw [ln _ (by omega)] at k2
              exact k2
      · exact (hs s s0 s3).other (by have := hok s; omega) (sa_up_ne _ _ hj) rfl rfl (outLH s hj) (fun _ _ _ => rfl) (fun _ _ _ => ⟨rfl, rfl⟩)
end
section
/-! ===== plain law, 5: a new range joins the ranges ===== -/
/-- the first range that doesn't end before fr -/
def isF (n fr f : Int) (H : Int → Int) : Prop := (0 ≤ f ∧ f ≤ n) ∧ (∀ k : Int, 0 ≤ k → k < f → H k < fr) ∧ (∀ k : Int, f ≤ k → k < n → fr ≤ H k)
/-- the ranges from f up to g are joined -/
def isG (n fr to f g nl nh : Int) (L H : Int → Int) : Prop := (f ≤ g ∧ g ≤ n) ∧ (∀ k : Int, f ≤ k → k < g → L k ≤ to) ∧ (∀ k : Int, g ≤ k → k < n → to < L k) ∧ ((g = f ∧ nl = fr ∧ nh = to) ∨ (f < g ∧ (nl ≤ fr ∧ nl ≤ L f ∧ (nl = fr ∨ nl = L f)) ∧ (to ≤ nh ∧ H (g - 1) ≤ nh ∧ (nh = to ∨ nh = H (g - 1)))))
theorem xFst_is {n p lim : Int} {HI L : Int → Int} {b fr : Int} (h : RG n p lim L (fun k => HI (b + k))) : ∀ (m : Nat) (k f : Int), k + (m : Int) = n → 0 ≤ k → isF k fr f (fun k => HI (b + k)) → isF n fr (xFst HI b fr m k f) (fun k => HI (b + k)) := by
  intro m
  induction m with
  | zero =>
    intro k f h1 h2 h3
    rw [show k = n by omega] at h3
    exact h3
  | succ m ih =>
    intro k f h1 h2 h3
    unfold xFst
    refine ih (k + 1) _ (by omega) (by omega) ?_
    obtain ⟨a1, a2, a3⟩ := h3
    dsimp only at a2 a3
    by_cases hc : HI (b + k) < fr
    · rw [if_pos hc]
      refine ⟨by omega, fun j j0 j1 => ?_, fun j j0 j1 => by omega⟩
      dsimp only
      by_cases hj : j = k
      · rw [hj]; exact hc
      · have q := h.lt (j := j) (k := k) j0 (by omega) (by omega)
        have q2 := h.2.1 k (by omega) (by omega)
        dsimp only at q q2
        omega
    · rw [if_neg hc]
      refine ⟨by omega, a2, fun j j0 j1 => ?_⟩
      dsimp only
      by_cases hj : j = k
      · rw [hj]; omega
      · exact a3 j j0 (by omega)
theorem xScn_is {n p lim : Int} {LO HI : Int → Int} {b fr to f : Int} (h : RG n p lim (fun k => LO (b + k)) (fun k => HI (b + k))) (hf : 0 ≤ f) : ∀ (m : Nat) (k la nl nh : Int), k + (m : Int) = n → f ≤ k → isG k fr to f la nl nh (fun k => LO (b + k)) (fun k => HI (b + k)) →
    isG n fr to f (xScn LO HI b to m k (la, nl, nh)).1 (xScn LO HI b to m k (la, nl, nh)).2.1 (xScn LO HI b to m k (la, nl, nh)).2.2 (fun k => LO (b + k)) (fun k => HI (b + k)) := by
  intro m
  induction m with
  | zero =>
    intro k la nl nh h1 h2 h3
    rw [show k = n by omega] at h3
    exact h3
  | succ m ih =>
    intro k la nl nh h1 h2 h3
    unfold xScn
    dsimp only
    obtain ⟨a1, a2, a3, a4⟩ := h3
    dsimp only at a2 a3 a4
    by_cases hc : LO (b + k) ≤ to
    · rw [if_pos hc]
      refine ih (k + 1) (k + 1) _ _ (by omega) (by omega) ?_
      have hla : la = k := by
        by_cases q : la = k
        · exact q
        · have q1 := a3 la (Int.le_refl _) (by omega)
          have q2 := h.lt (j := la) (k := k) (by omega) (by omega) (by omega)
          have q3 := h.2.1 la (by omega) (by omega)
          dsimp only at q2 q3
          omega
      subst hla
      refine ⟨by omega, fun j j0 j1 => ?_, fun j j0 j1 => by omega, Or.inr ⟨by omega, ?_⟩⟩
      · dsimp only
        by_cases hj : j = la
        · rw [hj]; exact hc
        · exact a2 j j0 (by omega)
      · dsimp only
        rw [show b + (la + 1 - 1) = b + la by omega]
        rcases a4 with ⟨e1, e2, e3⟩ | ⟨e1, e2, e3⟩
        · subst e1
          refine ⟨?_, ?_⟩
          · split <;> omega
          · split <;> omega
        · have q2 := h.lt (j := f) (k := la) (by omega) (by omega) (by omega)
          have q3 := h.2.1 f (by omega) (by omega)
          have q4 := h.lt (j := la - 1) (k := la) (by omega) (by omega) (by omega)
          have q5 := h.2.1 la (by omega) (by omega)
          dsimp only at q2 q3 q4 q5
          refine ⟨?_, ?_⟩
          · split <;> omega
          · split <;> omega
    · rw [if_neg hc]
      refine ih (k + 1) la nl nh (by omega) (by omega) ⟨by omega, a2, fun j j0 j1 => ?_, a4⟩
      dsimp only
      by_cases hj : j = k
      · rw [hj]; omega
      · exact a3 j j0 (by omega)
/-- the ranges behind the joining -/
theorem add_abs {n p lim fr to f g nl nh n' : Int} {L H L' H' : Int → Int} (h : RG n p lim L H) (hlim : lim ≤ p + 24) (h1 : p ≤ fr) (h2 : fr < to) (h3 : to ≤ lim) (hf : isF n fr f H) (hg : isG n fr to f g nl nh L H) (hn : n' = n - (g - f) + 1)
    (e1 : ∀ k : Int, 0 ≤ k → k < f → L' k = L k ∧ H' k = H k) (e2 : L' f = nl ∧ H' f = nh) (e3 : ∀ k : Int, f < k → k < n' → L' k = L (k + (g - f - 1)) ∧ H' k = H (k + (g - f - 1))) :
    RG n' p lim L' H' ∧ (∀ i : Int, cov n' L' H' i ↔ (cov n L H i ∨ (fr ≤ i ∧ i < to))) ∧ 0 < n' ∧ ((0 < n ∧ to ≤ H (n - 1) ∧ H' (n' - 1) = H (n - 1)) ∨ ((0 < n → H (n - 1) ≤ to) ∧ H' (n' - 1) = to)) := by
  obtain ⟨f1, f2, f3⟩ := hf
  obtain ⟨g1, g2, g3, g4⟩ := hg
  have hn0 := h.1
  -- what is known of nl, nh
  have hnl : p ≤ nl ∧ nl ≤ fr ∧ to ≤ nh ∧ nh ≤ lim ∧ (f < g → nl ≤ L f ∧ H (g - 1) ≤ nh) ∧ (nl < fr → f < g ∧ nl = L f) ∧ (to < nh → f < g ∧ nh = H (g - 1)) := by
    rcases g4 with ⟨q1, q2, q3⟩ | ⟨q1, q2, q3⟩
    · exact ⟨by omega, by omega, by omega, by omega, fun q => by omega, fun q => by omega, fun q => by omega⟩
    · have r1 := h.2.1 f (by omega) (by omega)
      have r2 := h.2.1 (g - 1) (by omega) (by omega)
      exact ⟨by omega, by omega, by omega, by omega, fun q => by omega, fun q => by omega, fun q => by omega⟩
  obtain ⟨c1, c2, c3, c4, c5, c6, c7⟩ := hnl
  have before : ∀ k : Int, 0 ≤ k → k < f → H k < nl := by
    intro k k0 k1
    have q := f2 k k0 k1
    by_cases hc : nl < fr
    · obtain ⟨d1, d2⟩ := c6 hc
      have := h.lt (j := k) (k := f) k0 k1 (by omega)
      omega
    · omega
  have behind : ∀ k : Int, g ≤ k → k < n → nh < L k := by
    intro k k0 k1
    have q := g3 k k0 k1
    by_cases hc : to < nh
    · obtain ⟨d1, d2⟩ := c7 hc
      have := h.lt (j := g - 1) (k := k) (by omega) (by omega) k1
      omega
    · omega
  have P1 : ∀ k : Int, 0 ≤ k → k < n' → p ≤ L' k ∧ L' k < H' k ∧ H' k ≤ lim := by
    intro k k0 k1
    rcases Int.lt_trichotomy k f with q | q | q
    · rw [(e1 k k0 q).1, (e1 k k0 q).2]
      exact h.2.1 k k0 (by omega)
    · rw [q, e2.1, e2.2]
      omega
    · rw [(e3 k q k1).1, (e3 k q k1).2]
      exact h.2.1 _ (by omega) (by omega)
  have P2 : ∀ k : Int, 0 ≤ k → k + 1 < n' → H' k < L' (k + 1) := by
    intro k k0 k1
    rcases Int.lt_trichotomy k f with q | q | q
    · by_cases hk : k + 1 = f
      · rw [hk, e2.1, (e1 k k0 q).2]
        exact before k k0 q
      · rw [(e1 k k0 q).2, (e1 (k + 1) (by omega) (by omega)).1]
        exact h.2.2 k k0 (by omega)
    · rw [(e3 (k + 1) (by omega) k1).1, q, e2.2]
      exact behind _ (by omega) (by omega)
    · rw [(e3 k q (by omega)).2, (e3 (k + 1) (by omega) k1).1, show k + 1 + (g - f - 1) = k + (g - f - 1) + 1 by omega]
      exact h.2.2 _ (by omega) (by omega)
  have hroom := RG.room P1 P2 (n' - 1).toNat (by omega)
  rw [show ((n' - 1).toNat : Int) = n' - 1 by omega] at hroom
  have hlast := P1 (n' - 1) (by omega) (by omega)
  refine ⟨⟨by omega, P1, P2⟩, fun i => ?_, by omega, ?_⟩
  · constructor
    · rintro ⟨k, k0, k1, k2, k3⟩
      rcases Int.lt_trichotomy k f with q | q | q
      · rw [(e1 k k0 q).1] at k2
        rw [(e1 k k0 q).2] at k3
        exact Or.inl ⟨k, k0, by omega, k2, k3⟩
      · subst q
        rw [e2.1] at k2
        rw [e2.2] at k3
        by_cases hc : i < fr
        · obtain ⟨d1, d2⟩ := c6 (by omega)
          have := f3 k (Int.le_refl _) (by omega)
          exact Or.inl ⟨k, k0, by omega, by omega, by omega⟩
        · by_cases hd : to ≤ i
          · obtain ⟨d1, d2⟩ := c7 (by omega)
            have := g2 (g - 1) (by omega) (by omega)
            exact Or.inl ⟨g - 1, by omega, by omega, by omega, by omega⟩
          · exact Or.inr ⟨by omega, by omega⟩
      · rw [(e3 k q k1).1] at k2
        rw [(e3 k q k1).2] at k3
        exact Or.inl ⟨k + (g - f - 1), by omega, by omega, k2, k3⟩
    · rintro (⟨k, k0, k1, k2, k3⟩ | ⟨i1, i2⟩)
      · by_cases q : k < f
        · exact ⟨k, k0, by omega, by rw [(e1 k k0 q).1]; exact k2, by rw [(e1 k k0 q).2]; exact k3⟩
        · by_cases r : k < g
          · refine ⟨f, by omega, by omega, ?_, ?_⟩
            · rw [e2.1]
              have := (c5 (by omega)).1
              by_cases hk : k = f
              · subst hk; omega
              · have := h.lt (j := f) (k := k) (by omega) (by omega) k1
                have := h.2.1 f (by omega) (by omega)
                omega
            · rw [e2.2]
              have := (c5 (by omega)).2
              by_cases hk : k = g - 1
              · subst hk; omega
              · have := h.lt (j := k) (k := g - 1) k0 (by omega) (by omega)
                have := h.2.1 (g - 1) (by omega) (by omega)
                omega
          · have e := e3 (k - (g - f - 1)) (by omega) (by omega)
            rw [show k - (g - f - 1) + (g - f - 1) = k by omega] at e
            exact ⟨k - (g - f - 1), by omega, by omega, by rw [e.1]; exact k2, by rw [e.2]; exact k3⟩
      · exact ⟨f, by omega, by omega, by rw [e2.1]; omega, by rw [e2.2]; omega⟩
  · by_cases hgn : g = n
    · rw [show n' - 1 = f by omega, e2.2]
      by_cases hc : to < nh
      · obtain ⟨d1, d2⟩ := c7 hc
        rw [hgn] at d2
        exact Or.inl ⟨by omega, by omega, d2⟩
      · refine Or.inr ⟨fun q => ?_, by omega⟩
        by_cases hfg : f < g
        · have := (c5 hfg).2
          rw [hgn] at this
          omega
        · have := f2 (n - 1) (by omega) (by omega)
          omega
    · have e := e3 (n' - 1) (by omega) (by omega)
      rw [show n' - 1 + (g - f - 1) = n - 1 by omega] at e
      have q1 := g3 (n - 1) (by omega) (by omega)
      have q2 := h.2.1 (n - 1) (by omega) (by omega)
      exact Or.inl ⟨by omega, by omega, e.2⟩
/-- the class's addRange: its answer is such a joining -/
theorem xAdd_is {RN LO HI : Int → Int} {s fr to p lim : Int} (h : RG (RN s) p lim (fun k => LO (13 * s + k)) (fun k => HI (13 * s + k))) (hlim : lim ≤ p + 24) (h1 : p ≤ fr) (h2 : fr < to) (h3 : to ≤ lim) :
    RG (xAddRN RN LO HI s fr to s) p lim (fun k => xAddLO RN LO HI s fr to (13 * s + k)) (fun k => xAddHI RN LO HI s fr to (13 * s + k)) ∧
    (∀ i : Int, cov (xAddRN RN LO HI s fr to s) (fun k => xAddLO RN LO HI s fr to (13 * s + k)) (fun k => xAddHI RN LO HI s fr to (13 * s + k)) i ↔ (cov (RN s) (fun k => LO (13 * s + k)) (fun k => HI (13 * s + k)) i ∨ (fr ≤ i ∧ i < to))) ∧
    0 < xAddRN RN LO HI s fr to s ∧
    ((0 < RN s ∧ to ≤ HI (13 * s + (RN s - 1)) ∧ xAddHI RN LO HI s fr to (13 * s + (xAddRN RN LO HI s fr to s - 1)) = HI (13 * s + (RN s - 1))) ∨ ((0 < RN s → HI (13 * s + (RN s - 1)) ≤ to) ∧ xAddHI RN LO HI s fr to (13 * s + (xAddRN RN LO HI s fr to s - 1)) = to)) ∧
    (∀ s' : Int, s' ≠ s → xAddRN RN LO HI s fr to s' = RN s') ∧
    (∀ s' : Int, s' ≠ s → ∀ k : Int, 0 ≤ k → k < 13 → xAddLO RN LO HI s fr to (13 * s' + k) = LO (13 * s' + k) ∧ xAddHI RN LO HI s fr to (13 * s' + k) = HI (13 * s' + k)) ∧
    (∀ lo hi : Int, lo ≤ 0 → 240 ≤ hi → (∀ j : Int, lo ≤ LO j ∧ LO j ≤ hi ∧ lo ≤ HI j ∧ HI j ≤ hi) → lo ≤ p → lim ≤ hi → ∀ j : Int, lo ≤ xAddLO RN LO HI s fr to j ∧ xAddLO RN LO HI s fr to j ≤ hi ∧ lo ≤ xAddHI RN LO HI s fr to j ∧ xAddHI RN LO HI s fr to j ≤ hi) := by
  have hn0 := h.1
  have hF : isF (RN s) fr (xF RN HI s fr) (fun k => HI (13 * s + k)) := by
    refine xFst_is h (RN s).toNat 0 0 (by omega) (Int.le_refl 0) ⟨by omega, fun k k0 k1 => by omega, fun k k0 k1 => by omega⟩
  have hf0 := hF.1
  have hG : isG (RN s) fr to (xF RN HI s fr) (xQ RN LO HI s fr to).1 (xQ RN LO HI s fr to).2.1 (xQ RN LO HI s fr to).2.2 (fun k => LO (13 * s + k)) (fun k => HI (13 * s + k)) := by
    refine xScn_is h hf0.1 (RN s - xF RN HI s fr).toNat (xF RN HI s fr) (xF RN HI s fr) fr to (by omega) (Int.le_refl _) ⟨by omega, fun k k0 k1 => by omega, fun k k0 k1 => by omega, Or.inl ⟨rfl, rfl, rfl⟩⟩
  have hg0 := hG.1
  generalize ef : xF RN HI s fr = f at hF hG hf0 hg0
  generalize eq : xQ RN LO HI s fr to = q at hG hg0
  obtain ⟨g, nl, nh⟩ := q
  dsimp only at hG hg0
  have vN : xAddRN RN LO HI s fr to s = RN s - (g - f) + 1 := by
    unfold xAddRN
    rw [sa_up_self, ef, eq]
    dsimp only
    by_cases hc : f = g
    · rw [if_pos hc]; omega
    · rw [if_neg hc]; omega
  have vL : ∀ j : Int, xAddLO RN LO HI s fr to j = if j = 13 * s + f then nl else if 13 * s + f < j ∧ j < 13 * s + (RN s - (g - f) + 1) then LO (j + (g - f - 1)) else LO j := by
    intro j
    unfold xAddLO
    rw [ef, eq]
    dsimp only
    unfold sa_up
    by_cases hj : j = 13 * s + f
    · rw [if_pos hj, if_pos hj]
    · rw [if_neg hj, if_neg hj]
      by_cases hc : f = g
      · rw [if_pos hc]
        unfold xOpen
        by_cases hd : 13 * s + f < j ∧ j < 13 * s + (RN s - (g - f) + 1)
        · rw [if_pos hd, if_pos (by omega), show j + (g - f - 1) = j - 1 by omega]
        · rw [if_neg hd, if_neg (by omega)]
      · rw [if_neg hc]
        unfold xDrop
        by_cases hd : 13 * s + f < j ∧ j < 13 * s + (RN s - (g - f) + 1)
        · rw [if_pos hd, if_pos (by omega), show j + (g - f - 1) = j + (g - (f + 1)) by omega]
        · rw [if_neg hd, if_neg (by omega)]
  have vH : ∀ j : Int, xAddHI RN LO HI s fr to j = if j = 13 * s + f then nh else if 13 * s + f < j ∧ j < 13 * s + (RN s - (g - f) + 1) then HI (j + (g - f - 1)) else HI j := by
    intro j
    unfold xAddHI
    rw [ef, eq]
    dsimp only
    unfold sa_up
    by_cases hj : j = 13 * s + f
    · rw [if_pos hj, if_pos hj]
    · rw [if_neg hj, if_neg hj]
      by_cases hc : f = g
      · rw [if_pos hc]
        unfold xOpen
        by_cases hd : 13 * s + f < j ∧ j < 13 * s + (RN s - (g - f) + 1)
        · rw [if_pos hd, if_pos (by omega), show j + (g - f - 1) = j - 1 by omega]
        · rw [if_neg hd, if_neg (by omega)]
      · rw [if_neg hc]
        unfold xDrop
        by_cases hd : 13 * s + f < j ∧ j < 13 * s + (RN s - (g - f) + 1)
        · rw [if_pos hd, if_pos (by omega), show j + (g - f - 1) = j + (g - (f + 1)) by omega]
        · rw [if_neg hd, if_neg (by omega)]
  have A := add_abs (n' := RN s - (g - f) + 1) (L' := fun k => xAddLO RN LO HI s fr to (13 * s + k)) (H' := fun k => xAddHI RN LO HI s fr to (13 * s + k)) h hlim h1 h2 h3 hF hG rfl
    (fun k k0 k1 => by
      rw [vL, vH, if_neg (by omega), if_neg (by omega), if_neg (by omega), if_neg (by omega)]
      exact ⟨rfl, rfl⟩)
    (by
      rw [vL, vH, if_pos rfl, if_pos rfl]
      exact ⟨rfl, rfl⟩)
    (fun k k0 k1 => by
      rw [vL, vH, if_neg (by omega), if_pos (by omega), if_neg (by omega), if_pos (by omega), show 13 * s + k + (g - f - 1) = 13 * s + (k + (g - f - 1)) by omega]
      exact ⟨rfl, rfl⟩)
  rw [← vN] at A
  obtain ⟨A1, A2, A3, A4⟩ := A
  refine ⟨A1, A2, A3, A4, fun s' q => ?_, fun s' q k k0 k1 => ?_, fun lo hi q1 q2 q3 q4 q5 j => ?_⟩
  · unfold xAddRN
    exact sa_up_ne _ _ q
  · have hm := A1.1
    rw [vN] at hm
    rw [vL, vH, if_neg (by omega), if_neg (by omega), if_neg (by omega), if_neg (by omega)]
    exact ⟨rfl, rfl⟩
  · have w := A1.2.1 f (by omega) (by omega)
    dsimp only at w
    have r1 := q3 j
    have r2 := q3 (j + (g - f - 1))
    rw [vL, vH, if_pos rfl, if_pos rfl] at w
    rw [vL, vH]
    by_cases hj : j = 13 * s + f
    · rw [if_pos hj, if_pos hj]
      omega
    · rw [if_neg hj, if_neg hj]
      split <;> omega
end
section
/-! ===== plain law, 6: piece keeps the relation; the start ===== -/
theorem rel_piece {G : Int → Int32} {RP EN RN LO HI : Int → Int} {K : Int → Bool} {B : Int → Int32} (h : Rel G RP EN RN LO HI K B) {st off len : Int} (bv : Int32) (hst : 0 ≤ st ∧ st ≤ 3) (hof : 0 ≤ off) (hln : 1 ≤ len ∧ len ≤ 4) (hend : ¬ (0 ≤ EN st ∧ EN st < off + len)) (hmay : xMay RP EN RN HI st (off + len) = true) :
    xPF (xKn RN LO HI st) (off + len - xFrom RP st off).toNat (xFrom RP st off) 0 = (mPiF K B st off len bv).2.2 ∧
    Rel (xPiU G RP RN LO HI st off len bv).1 RP EN (xPiU G RP RN LO HI st off len bv).2.1 (xPiU G RP RN LO HI st off len bv).2.2.1 (xPiU G RP RN LO HI st off len bv).2.2.2 (mPiF K B st off len bv).1 (mPiF K B st off len bv).2.1 := by
  obtain ⟨hok, hcr, hs⟩ := h
  have hs1 := hs st hst.1 hst.2
  obtain ⟨l1, l2, l3⟩ := hs1.la hok
  have b1 := hok st
  have b2 := xLim_in hok st
  have b3 : xLim RP st ≤ RP st + 24 := by unfold xLim; split <;> omega
  obtain ⟨y1, y2⟩ := xMay_iff.mp hmay
  have hfr : (RP st < off ∧ xFrom RP st off = off) ∨ (off ≤ RP st ∧ xFrom RP st off = RP st) := by
    unfold xFrom
    by_cases q : RP st < off
    · rw [if_pos q]; exact Or.inl ⟨q, rfl⟩
    · rw [if_neg q]; exact Or.inr ⟨by omega, rfl⟩
  obtain ⟨m1, m2, m3⟩ := mPc_is (s := st) (off := off) (bv := bv) (len - 0).toNat 0 K B 0
  have eP : mPc st off bv (len - 0).toNat 0 (K, B, 0) = mPiF K B st off len bv := rfl
  rw [eP] at m1 m2 m3
  generalize mPiF K B st off len bv = F at m1 m2 m3
  obtain ⟨K', B', q'⟩ := F
  dsimp only at m1 m2 m3
  have n1 : ∀ j : Int, K' j = true ↔ (K j = true ∨ (240 * st + off ≤ j ∧ j < 240 * st + (off + len))) := by
    intro j
    rw [m1 j, Bool.or_eq_true, decide_eq_true_iff]
    constructor
    · rintro (a | a)
      · exact Or.inl a
      · exact Or.inr (by omega)
    · rintro (a | a)
      · exact Or.inl a
      · exact Or.inr (by omega)
  have n2 : ∀ j : Int, (240 * st + off ≤ j ∧ j < 240 * st + (off + len)) → K j = false → B' j = xByte bv (j - (240 * st + off)) := by
    intro j a c
    rw [m2 j, if_pos ⟨by omega, c⟩]
  have n3 : ∀ j : Int, (¬ (240 * st + off ≤ j ∧ j < 240 * st + (off + len)) ∨ K j = true) → B' j = B j := by
    intro j a
    rw [m2 j, if_neg]
    rintro ⟨q1, q2⟩
    rcases a with a | a
    · omega
    · rw [q2] at a
      exact absurd a (by decide)
  have hknK : ∀ i : Int, RP st ≤ i → i < 240 → xKn RN LO HI st i = K (240 * st + i) := by
    intro i i0 i1
    rw [← hs1.kne hok i0]
    unfold mKn
    rw [decide_eq_true i1, Bool.true_and]
  dsimp only
  by_cases hlt : xFrom RP st off < off + len
  · -- something lies at or behind the read point
    refine ⟨?_, ?_⟩
    · rw [m3, xPF_is, show off + 0 = off by omega, show (len - 0).toNat = (xFrom RP st off - off).toNat + (off + len - xFrom RP st off).toNat by omega, cU_app,
        cU_zero (kn := fun i => K (240 * st + i)) (xFrom RP st off - off).toNat off (fun i i0 i1 => hs1.2.1 i (by omega) (by omega)),
        show off + ((xFrom RP st off - off).toNat : Int) = xFrom RP st off by omega,
        cU_congr (kn := xKn RN LO HI st) (kn' := fun i => K (240 * st + i)) (off + len - xFrom RP st off).toNat (xFrom RP st off) (fun i i0 i1 => hknK i (by omega) (by omega))]
      omega
    · unfold xPiU
      rw [if_pos hlt]
      dsimp only
      have A := xAdd_is (s := st) hs1.1 b3 (fr := xFrom RP st off) (to := off + len) (by omega) hlt y1
      have eN : ∀ (k : Nat), xPG (xKn RN LO HI st) st off bv k = xPG (xKn RN LO HI st) st off bv k := fun _ => rfl
      generalize hRN : xAddRN RN LO HI st (xFrom RP st off) (off + len) = RN' at A
      generalize hLO : xAddLO RN LO HI st (xFrom RP st off) (off + len) = LO' at A
      generalize hHI : xAddHI RN LO HI st (xFrom RP st off) (off + len) = HI' at A
      obtain ⟨A1, A2, A3, A4, A5, A6, A7⟩ := A
      have A8 := A7 0 240 (by omega) (by omega) (fun j => by have := hok j; omega) (by omega) (by omega)
      have hn' := A1.1
      have eLast : xLast RP RN' HI' st = HI' (13 * st + (RN' st - 1)) := by
        unfold xLast
        rw [if_pos A3, show 13 * st + RN' st - 1 = 13 * st + (RN' st - 1) by omega]
      have oldLast : (0 < RN st ∧ xLast RP RN HI st = HI (13 * st + (RN st - 1))) ∨ (RN st = 0 ∧ xLast RP RN HI st = RP st) := by
        have := hs1.1.1
        by_cases q : 0 < RN st
        · rw [if_pos q] at l3
          exact Or.inl ⟨q, l3⟩
        · rw [if_neg q] at l3
          exact Or.inr ⟨by omega, l3⟩
      have newLast : xLast RP RN' HI' st = xLast RP RN HI st ∨ (xLast RP RN' HI' st = off + len ∧ xLast RP RN HI st ≤ off + len) := by
        rw [eLast]
        rcases A4 with ⟨c1, c2, c3⟩ | ⟨c1, c2⟩
        · rcases oldLast with ⟨o1, o2⟩ | ⟨o1, o2⟩
          · exact Or.inl (by rw [c3, o2])
          · omega
        · rcases oldLast with ⟨o1, o2⟩ | ⟨o1, o2⟩
          · have := c1 o1
            exact Or.inr ⟨c2, by omega⟩
          · exact Or.inr ⟨c2, by omega⟩
      refine ⟨fun j => ?_, ?_, fun s s0 s3 => ?_⟩
      · have q1 := hok j
        have q2 := A8 j
        by_cases hj : j = st
        · subst hj
          omega
        · rw [A5 j hj]
          omega
      · have e := xCr_one (RP := RP) (EN := EN) (RN := RN) (HI := HI) (RP' := RP) (EN' := EN) (RN' := RN') (HI' := HI') hst (fun j j0 j3 hj => ⟨rfl, xHi_of rfl (xLast_other rfl (A5 j hj) (fun k k0 k1 => (A6 j hj k k0 k1).2) (by have := hok j; omega))⟩)
        rw [e]
        by_cases he : 0 ≤ EN st
        · have e1 : xHi RP EN RN' HI' st = xHi RP EN RN HI st := by
            unfold xHi
            rw [if_pos he, if_pos he]
          omega
        · have e1 := xHi_else (RP := RP) (RN := RN') (HI := HI') he
          have e2 := xHi_else (RP := RP) (RN := RN) (HI := HI) he
          omega
      · by_cases hj : s = st
        · subst hj
          obtain ⟨r1, r2, r3, r4, r5⟩ := hs1
          have kiff : ∀ i : Int, RP s ≤ i → i < 240 → (K' (240 * s + i) = true ↔ cov (RN' s) (fun k => LO' (13 * s + k)) (fun k => HI' (13 * s + k)) i) := by
            intro i i0 i1
            rw [n1, r3 i i0 i1, A2 i]
            constructor
            · rintro (a | a)
              · exact Or.inl a
              · exact Or.inr (by omega)
            · rintro (a | a)
              · exact Or.inl a
              · exact Or.inr (by omega)
          refine ⟨A1, fun i i0 i1 => (n1 _).mpr (Or.inl (r2 i i0 i1)), kiff, fun i i0 i1 hk => ?_, fun he => ?_⟩
          · obtain ⟨k, k0, k1, k2, k3⟩ := (kiff i i0 i1).mp hk
            have w := A1.2.1 k k0 k1
            rw [xPG_is _ _ _ (fun t t0 t1 t2 => by omega)]
            by_cases hK : K (240 * s + i) = true
            · rw [if_neg (fun q => by rw [hknK i i0 i1, hK] at q; exact absurd q.2.2 (by decide)), n3 _ (Or.inr hK)]
              exact r4 i i0 i1 hK
            · have hKf : K (240 * s + i) = false := by
                cases hq : K (240 * s + i) with
                | true => exact absurd hq hK
                | false => rfl
              rcases (n1 _).mp hk with a | a
              · exact absurd a hK
              · rw [if_pos ⟨by omega, by omega, by rw [hknK i i0 i1]; exact hKf⟩, n2 _ a hKf, show 240 * s + i - (240 * s + off) = i - off by omega]
          · have := r5 he
            rcases newLast with q | q <;> omega
        · exact (hs s s0 s3).other (by have := hok s; omega) rfl rfl (A5 s hj) (A6 s hj) (fun i i0 i1 => xPG_out (by omega) _ _ _) (fun i i0 i1 => by
            have hne : ¬ (240 * st + off ≤ 240 * s + i ∧ 240 * s + i < 240 * st + (off + len)) := by omega
            refine ⟨?_, n3 _ (Or.inl hne)⟩
            rw [Bool.eq_iff_iff, n1]
            constructor
            · rintro (a | a)
              · exact a
              · exact absurd a hne
            · exact fun a => Or.inl a)
  · -- nothing new
    have hold : ∀ j : Int, (240 * st + off ≤ j ∧ j < 240 * st + (off + len)) → K j = true := by
      intro j a
      have := hs1.2.1 (j - 240 * st) (by omega) (by omega)
      rw [show 240 * st + (j - 240 * st) = j by omega] at this
      exact this
    have eK : K' = K := by
      funext j
      rw [Bool.eq_iff_iff, n1]
      constructor
      · rintro (a | a)
        · exact a
        · exact hold j a
      · exact fun a => Or.inl a
    have eB : B' = B := by
      funext j
      refine n3 j ?_
      by_cases a : 240 * st + off ≤ j ∧ j < 240 * st + (off + len)
      · exact Or.inr (hold j a)
      · exact Or.inl a
    refine ⟨?_, ?_⟩
    · rw [m3, xPF_is, show (off + len - xFrom RP st off).toNat = 0 by omega, cU_zero (kn := fun i => K (240 * st + i)) (len - 0).toNat (off + 0) (fun i i0 i1 => hold _ (by omega))]
      rfl
    · unfold xPiU
      rw [if_neg hlt, show (off + len - xFrom RP st off).toNat = 0 by omega, eK, eB]
      exact ⟨hok, hcr, hs⟩
theorem sa_e0_is (j : Int) : sa_e0 j = if 0 ≤ j ∧ j ≤ 3 then -1 else 0 := by
  unfold sa_e0 sa_up
  by_cases h3 : j = 3
  · rw [if_pos h3, if_pos (by omega)]
  · rw [if_neg h3]
    by_cases h2 : j = 2
    · rw [if_pos h2, if_pos (by omega)]
    · rw [if_neg h2]
      by_cases h1 : j = 1
      · rw [if_pos h1, if_pos (by omega)]
      · rw [if_neg h1]
        by_cases h0 : j = 0
        · rw [if_pos h0, if_pos (by omega)]
        · rw [if_neg h0, if_neg (by omega)]
theorem rel_start : Rel (fun _ => 0) (fun _ => 0) sa_e0 (fun _ => 0) (fun _ => 0) (fun _ => 0) (fun _ => false) (fun _ => 0) := by
  have e1 : ∀ s : Int, 0 ≤ s → s ≤ 3 → sa_e0 s = -1 := fun s s0 s3 => by rw [sa_e0_is, if_pos ⟨s0, s3⟩]
  have eh : ∀ s : Int, 0 ≤ s → s ≤ 3 → xHi (fun _ => 0) sa_e0 (fun _ => 0) (fun _ => 0) s = 0 := by
    intro s s0 s3
    unfold xHi
    rw [e1 s s0 s3, if_neg (by decide)]
    rfl
  refine ⟨fun j => ?_, ?_, fun s s0 s3 => ?_⟩
  · have := sa_e0_is j
    have h2 : sa_e0 j = -1 ∨ sa_e0 j = 0 := by
      rw [this]
      split
      · exact Or.inl rfl
      · exact Or.inr rfl
    dsimp only
    omega
  · unfold xCr
    rw [eh 0 (by decide) (by decide), eh 1 (by decide) (by decide), eh 2 (by decide) (by decide), eh 3 (by decide) (by decide)]
    decide
  · refine ⟨⟨⟨Int.le_refl 0, (by decide : (0 : Int) ≤ 12)⟩, fun k k0 k1 => (by dsimp only at k1; omega), fun k k0 k1 => (by dsimp only at k1; omega)⟩, fun i i0 i1 => (by dsimp only at i1; omega), fun i i0 i1 => ?_, fun i i0 i1 hk => (by cases hk), fun he => ?_⟩
    · constructor
      · intro a
        cases a
      · rintro ⟨k, k0, k1, _⟩
        dsimp only at k1
        omega
    · rw [e1 s s0 s3] at he
      exact absurd he (by decide)
end
section
/-! ===== the law's calls, side by side (printed by gen/p1.py) ===== -/
theorem mOK_of {RP EN RN LO HI : Int → Int} (h : xOK RP EN RN LO HI) : mOK RP EN := fun j => ⟨(h j).1, (h j).2.1⟩
theorem two_readable (l : Launch) (D : va_G) (h h2 : Nat) (a a2 : Nat → Nat) (cI cZ : ClassId) {G : Int → Int32} {RP EN RN LO HI : Int → Int} {K : Int → Bool} {B : Int → Int32} (hR : Rel G RP EN RN LO HI K B) (v : Int) (hvr : -2147483648 ≤ v ∧ v < 2147483648) : ∃ r : Int32, sa_MetP l yX0_readable cX0_readable 3 (some .int) 1 [.ref h, .int (sa_i v)] D vwCl (xT cI) (wX h a cI G RP EN RN LO HI) r ∧ sa_MetP l yX1_readable cX1_readable 3 (some .int) 1 [.ref h2, .int (sa_i v)] D vwCl (mT cI cZ) (wM h2 a2 cI cZ K B RP EN) r := by
  by_cases hv : 0 ≤ v ∧ v ≤ 3
  · refine ⟨sa_i (xRb RP RN LO HI v), metX0_readable l D h a cI G RP EN RN LO HI v hv  hR.1, ?_⟩
    have e := rb_eq hR.1 (hR.2.2 v hv.1 hv.2)
    rw [← e]
    exact metX1_readable l D h2 a2 cI cZ K B RP EN v hv  (mOK_of hR.1)
  · exact ⟨sa_i (-1), metX0_readable_bad l D h a cI G RP EN RN LO HI v hvr hv, metX1_readable_bad l D h2 a2 cI cZ K B RP EN v hvr hv⟩
theorem two_highest (l : Launch) (D : va_G) (h h2 : Nat) (a a2 : Nat → Nat) (cI cZ : ClassId) {G : Int → Int32} {RP EN RN LO HI : Int → Int} {K : Int → Bool} {B : Int → Int32} (hR : Rel G RP EN RN LO HI K B) (v : Int) (hvr : -2147483648 ≤ v ∧ v < 2147483648) : ∃ r : Int32, sa_MetP l yX0_highest cX0_highest 3 (some .int) 1 [.ref h, .int (sa_i v)] D vwCl (xT cI) (wX h a cI G RP EN RN LO HI) r ∧ sa_MetP l yX1_highest cX1_highest 2 (some .int) 1 [.ref h2, .int (sa_i v)] D vwCl (mT cI cZ) (wM h2 a2 cI cZ K B RP EN) r := by
  by_cases hv : 0 ≤ v ∧ v ≤ 3
  · refine ⟨sa_i (xHi RP EN RN HI v), metX0_highest l D h a cI G RP EN RN LO HI v hv  hR.1, ?_⟩
    have e := (hR.2.2 v hv.1 hv.2).top hR.1
    rw [← e]
    exact metX1_highest l D h2 a2 cI cZ K B RP EN v hv  (mOK_of hR.1)
  · exact ⟨sa_i (-1), metX0_highest_bad l D h a cI G RP EN RN LO HI v hvr hv, metX1_highest_bad l D h2 a2 cI cZ K B RP EN v hvr hv⟩
theorem two_gaps (l : Launch) (D : va_G) (h h2 : Nat) (a a2 : Nat → Nat) (cI cZ : ClassId) {G : Int → Int32} {RP EN RN LO HI : Int → Int} {K : Int → Bool} {B : Int → Int32} (hR : Rel G RP EN RN LO HI K B) (v : Int) (hvr : -2147483648 ≤ v ∧ v < 2147483648) : ∃ r : Int32, sa_MetP l yX0_gaps cX0_gaps 3 (some .int) 2 [.ref h, .int (sa_i v)] D vwCl (xT cI) (wX h a cI G RP EN RN LO HI) r ∧ sa_MetP l yX1_gaps cX1_gaps 4 (some .int) 2 [.ref h2, .int (sa_i v)] D vwCl (mT cI cZ) (wM h2 a2 cI cZ K B RP EN) r := by
  by_cases hv : 0 ≤ v ∧ v ≤ 3
  · refine ⟨sa_i (xGaps RP EN RN LO HI v), metX0_gaps l D h a cI G RP EN RN LO HI v hv  hR.1, ?_⟩
    have e := gaps_eq hR.1 (hR.2.2 v hv.1 hv.2)
    rw [← e]
    exact metX1_gaps l D h2 a2 cI cZ K B RP EN v hv  (mOK_of hR.1)
  · exact ⟨sa_i (-1), metX0_gaps_bad l D h a cI G RP EN RN LO HI v hvr hv, metX1_gaps_bad l D h2 a2 cI cZ K B RP EN v hvr hv⟩
theorem two_gap (l : Launch) (D : va_G) (h h2 : Nat) (a a2 : Nat → Nat) (cI cZ : ClassId) {G : Int → Int32} {RP EN RN LO HI : Int → Int} {K : Int → Bool} {B : Int → Int32} (hR : Rel G RP EN RN LO HI K B) (v num : Int) (hvr : -2147483648 ≤ v ∧ v < 2147483648) (hn : -2147483648 ≤ num ∧ num < 2147483648) : ∃ r : Int32, sa_MetP l yX0_gap cX0_gap 4 (some .int) 3 [.ref h, .int (sa_i v), .int (sa_i num)] D vwCl (xT cI) (wX h a cI G RP EN RN LO HI) r ∧ sa_MetP l yX1_gap cX1_gap 5 (some .int) 2 [.ref h2, .int (sa_i v), .int (sa_i num)] D vwCl (mT cI cZ) (wM h2 a2 cI cZ K B RP EN) r := by
  by_cases hv : 0 ≤ v ∧ v ≤ 3
  · refine ⟨sa_i (xGap RP EN RN LO HI v num), metX0_gap l D h a cI G RP EN RN LO HI v num hv hn hR.1, ?_⟩
    have e := gap_eq hR.1 (hR.2.2 v hv.1 hv.2) num
    rw [← e]
    exact metX1_gap l D h2 a2 cI cZ K B RP EN v num hv hn (mOK_of hR.1)
  · exact ⟨sa_i (-1), metX0_gap_bad l D h a cI G RP EN RN LO HI v num hvr hv, metX1_gap_bad l D h2 a2 cI cZ K B RP EN v num hvr hv⟩
theorem two_allowed (l : Launch) (D : va_G) (h h2 : Nat) (a a2 : Nat → Nat) (cI cZ : ClassId) {G : Int → Int32} {RP EN RN LO HI : Int → Int} {K : Int → Bool} {B : Int → Int32} (hR : Rel G RP EN RN LO HI K B) (v : Int) (hvr : -2147483648 ≤ v ∧ v < 2147483648) : ∃ r : Int32, sa_MetP l yX0_allowed cX0_allowed 4 (some .int) 3 [.ref h, .int (sa_i v)] D vwCl (xT cI) (wX h a cI G RP EN RN LO HI) r ∧ sa_MetP l yX1_allowed cX1_allowed 4 (some .int) 2 [.ref h2, .int (sa_i v)] D vwCl (mT cI cZ) (wM h2 a2 cI cZ K B RP EN) r := by
  by_cases hv : 0 ≤ v ∧ v ≤ 3
  · refine ⟨sa_i (xAl RP EN RN HI v), metX0_allowed l D h a cI G RP EN RN LO HI v hv  hR.1, ?_⟩
    have e := al_eq hR hv
    rw [← e]
    exact metX1_allowed l D h2 a2 cI cZ K B RP EN v hv  (mOK_of hR.1)
  · exact ⟨sa_i (-1), metX0_allowed_bad l D h a cI G RP EN RN LO HI v hvr hv, metX1_allowed_bad l D h2 a2 cI cZ K B RP EN v hvr hv⟩
theorem two_complete (l : Launch) (D : va_G) (h h2 : Nat) (a a2 : Nat → Nat) (cI cZ : ClassId) {G : Int → Int32} {RP EN RN LO HI : Int → Int} {K : Int → Bool} {B : Int → Int32} (hR : Rel G RP EN RN LO HI K B) (v : Int) (hvr : -2147483648 ≤ v ∧ v < 2147483648) : ∃ r : Int32, sa_MetP l yX0_complete cX0_complete 2 (some .int) 1 [.ref h, .int (sa_i v)] D vwCl (xT cI) (wX h a cI G RP EN RN LO HI) r ∧ sa_MetP l yX1_complete cX1_complete 2 (some .int) 1 [.ref h2, .int (sa_i v)] D vwCl (mT cI cZ) (wM h2 a2 cI cZ K B RP EN) r := by
  by_cases hv : 0 ≤ v ∧ v ≤ 3
  · refine ⟨sa_i (xCo RP EN v), metX0_complete l D h a cI G RP EN RN LO HI v hv  hR.1, ?_⟩
    have e := co_eq hR.1 v
    rw [← e]
    exact metX1_complete l D h2 a2 cI cZ K B RP EN v hv  (mOK_of hR.1)
  · exact ⟨sa_i (-1), metX0_complete_bad l D h a cI G RP EN RN LO HI v hvr hv, metX1_complete_bad l D h2 a2 cI cZ K B RP EN v hvr hv⟩
theorem pair_finish {G : Int → Int32} {RP EN RN LO HI : Int → Int} {K : Int → Bool} {B : Int → Int32} (hR : Rel G RP EN RN LO HI K B) {st en : Int} (hst : 0 ≤ st ∧ st ≤ 3) (h0 : 0 ≤ en) {r r2 : Int32} {u u2 : Int → Int} (h1 : r = sa_i (xFi RP EN RN HI st en) ∧ u = if xFi RP EN RN HI st en = 0 then sa_up EN st en else EN) (h2 : r2 = sa_i (mFi K RP EN st en) ∧ u2 = if mFi K RP EN st en = 0 then sa_up EN st en else EN) : r = r2 ∧ u = u2 ∧ Rel G RP u RN LO HI K B := by
  rw [fi_eq hR hst en] at h2
  refine ⟨h1.1.trans h2.1.symm, h1.2.trans h2.2.symm, ?_⟩
  rw [h1.2]
  by_cases hc : xFi RP EN RN HI st en = 0
  · rw [if_pos hc]
    exact rel_finish hR hst h0 hc
  · rw [if_neg hc]
    exact hR
theorem pair_read {G : Int → Int32} {RP EN RN LO HI : Int → Int} {K : Int → Bool} {B : Int → Int32} (hR : Rel G RP EN RN LO HI K B) {st : Int} (hst : 0 ≤ st ∧ st ≤ 3) {r r2 : Int32} {u : (Int → Int) × (Int → Int) × (Int → Int) × (Int → Int)} {u2 : Int → Int} (h1 : xRdP G RP EN RN LO HI st r u) (h2 : mRdP K B RP EN st r2 u2) : r = r2 ∧ u.1 = u2 ∧ Rel G u.1 EN u.2.1 u.2.2.1 u.2.2.2 K B := by
  have hk := (hR.2.2 st hst.1 hst.2).kne hR.1 (Int.le_refl (RP st))
  rcases h1 with ⟨a1, a2, a3⟩ | ⟨a1, a2, a3, a4⟩ | ⟨a1, a2, a3, a4⟩ <;> rcases h2 with ⟨b1, b2, b3⟩ | ⟨b1, b2, b3, b4⟩ | ⟨b1, b2, b3, b4⟩
  · subst a3; exact ⟨a2.trans b2.symm, b3.symm, hR⟩
  · exact absurd a1 b1
  · exact absurd a1 b1
  · exact absurd b1 a1
  · subst a4; exact ⟨a3.trans b3.symm, b4.symm, hR⟩
  · rw [hk, a2] at b2; exact absurd b2 (by decide)
  · exact absurd b1 a1
  · rw [hk, a2] at b2; exact absurd b2 (by decide)
  · obtain ⟨c1, c2⟩ := rel_read hR hst a2
    subst a4
    refine ⟨by rw [a3, b3, c1], ?_, c2⟩
    rw [b4]
    unfold xRdU
    split <;> rfl
theorem pair_piece {G : Int → Int32} {RP EN RN LO HI : Int → Int} {K : Int → Bool} {B : Int → Int32} (hR : Rel G RP EN RN LO HI K B) {st off len : Int} {bv : Int32} (hst : 0 ≤ st ∧ st ≤ 3) (hof : 0 ≤ off ∧ off ≤ 1000) (hln : 1 ≤ len ∧ len ≤ 4) {r r2 : Int32} {u : (Int → Int32) × (Int → Int) × (Int → Int) × (Int → Int)} {u2 : (Int → Bool) × (Int → Int32)} (h1 : xPiP G RP EN RN LO HI st off len bv r u) (h2 : mPiP K B RP EN st off len bv r2 u2) : r = r2 ∧ Rel u.1 RP EN u.2.1 u.2.2.1 u.2.2.2 u2.1 u2.2 := by
  have hk := fit_eq hR hst (off + len)
  rcases h1 with ⟨a1, a2, a3⟩ | ⟨a1, a2, a3, a4⟩ | ⟨a1, a2, a3, a4⟩ <;> rcases h2 with ⟨b1, b2, b3⟩ | ⟨b1, b2, b3, b4⟩ | ⟨b1, b2, b3, b4⟩
  · subst a3; subst b3; exact ⟨a2.trans b2.symm, hR⟩
  · exact absurd a1 b1
  · exact absurd a1 b1
  · exact absurd b1 a1
  · subst a4; subst b4; exact ⟨a3.trans b3.symm, hR⟩
  · rw [hk, a2] at b2; exact absurd b2 (by decide)
  · exact absurd b1 a1
  · rw [hk, a2] at b2; exact absurd b2 (by decide)
  · obtain ⟨c1, c2⟩ := rel_piece hR bv hst hof.1 hln a1 a2
    subst a4; subst b4
    exact ⟨by rw [a3, b3, c1], c2⟩
end
section
set_option maxRecDepth 100000
/-! THE CLAIM OUT OF ONE WALK OF THE LAW'S BODY. Your part is whole_start (and what it stands on); all else here is the same for every law, but numbers. -/
def R_law : String := "StreamAssemblerLaw"
def lw_P (b : Addr) (xs : List Int32) (args : Array Value) (s : State) : Prop := args = #[.ref b] ∧ s.IntsAt b xs ∧ xs.length ≤ 320 ∧ (Jvm.Cond.and given_1 narrow_1).before args s = true
def lw_Q (_ : Array Value) (s : State) (o : Outcome) (t : State) : Prop := o = .returned (some (.int 1)) ∧ Framed s o t [] 600000 7290000
def lw_Z (below : List Frame) (a : Array Value) (s : State) : State → Prop := fun t => ∃ o, t.status = .running ∧ Ended t below o ∧ lw_Q a s o t
/-- the law's own end, with 1 on the stack, nothing written that was there before, its room as the claim has it -/
theorem lw_ret {p : Program} {l : Launch} {e : Env} {s : State} {m : MethodId} {below : List Frame} {meth : Method} {c : Code} {b : Nat} (hx : p.tables.exec = Jvm.exec) (hb : c.code = code) (hr : meth.sig.returnType = ret) (hlocks : meth.locks = false) {pc : Nat} {H : Heap} {ls : Array Slot} (hdg : decode code pc = .ok (.ireturn, 1)) : W p l e room_1 s m #[Value.ref b] below meth c H [] 600000 7290000 (lw_Z below #[Value.ref b] s) (F0 m pc ls [.int 1]) := by
  intro T hT X
  obtain ⟨fs, hret, hrun, hended, hW, hframe⟩ := X.leave (v := some (.int 1)) (hlocks := hlocks) (fun h => by rw [hr] at h; cases h)
  have hmeth' : T.vm.method? m = some meth := X.method'
  refine ⟨T.setFrames fs, ?_, .returned (some (.int 1)), hrun, hended, rfl, ⟨_, rfl⟩, hW, hframe⟩
  jvm_step X.here [X.here.top, hx, hb, hdg, hmeth', hr, ret, narrow_b1]
  (try refine ⟨rfl, ?_⟩); (try refine ⟨rfl, ?_⟩)
  first | (intro acts; rw [hret _ acts rfl rfl rfl]) | rw [hret _ _ rfl rfl rfl]
  exact Steps.refl _
/-- what holds at the law's entry: the machine, the code, the tables' words (any of lw_tbl by 'hts w (by decide +kernel)'), the script of L ints xs at the cell b, what the Statement gives of the start (any of its parts by flat_of_before) -/
def lw_At (p : Program) (s : State) (m : MethodId) (meth : Method) (c : Code) (b L : Nat) (xs : Nat → Int32) : Prop :=
  p.tables.exec = Jvm.exec ∧ c.code = code ∧ meth.sig.returnType = ret ∧ c.maxLocals = 4 ∧ s.vm.findClass R_law = some m.cls ∧ (∀ w ∈ lw_tbl, w.before #[Value.ref b] s = true) ∧ va_X b L xs s s.heap ∧ b < s.heap.size ∧ meth.locks = false ∧ (Jvm.Cond.and given_1 narrow_1).before #[Value.ref b] s = true
end
section
/-! ===== the law's loop (printed by gen/law.py) ===== -/
def scr (xs : Nat → Int32) (z : Int) : Int := (xs z.toNat).toInt
theorem scr_r (xs : Nat → Int32) (z : Int) : -2147483648 ≤ scr xs z ∧ scr xs z < 2147483648 := sa_range _
section LAWROWS
variable {p : Program} {l : Launch} {e : Env} {R : Room} {s : State} {m : MethodId} {args : Array Value} {below : List Frame} {meth : Method} {c : Code} {H : Heap} {locs : List Loc} {cells slots : Nat} {Q : State → Prop}
variable {cc : ByteArray} {pc : Nat} {ls : Array Slot} {rest : List Value} {A : Nat → Prop} {H0 : Heap}
theorem law_ld (hexec : p.tables.exec = Jvm.exec) (hb : c.code = cc) {b L : Nat} {xs : Nat → Int32} (hX : va_X b L xs s H0) (hbl : b < H0.size) (hbA : ¬ A b) (hS : va_S A H0 H locs) {z : Int} (hdg : decode cc pc = .ok (.iaload, 1))
    (kk : W p l e R s m args below meth c H locs cells slots Q (F0 m (pc + 1) ls (.int (sa_i (scr xs z)) :: rest))) (h0 : 0 ≤ z := by omega) (h1 : z < (L : Int) := by omega) (hL : L < 2147483648 := by omega) : W p l e R s m args below meth c H locs cells slots Q (F0 m pc ls (.int (sa_i z) :: .ref b :: rest)) := by
  refine va_sld hexec hb hX hbl hbA hS (sa_in h0 h1 hL) hdg ?_
  have e1 : xs (sa_i z).toNatClampNeg = sa_i (scr xs z) := by
    rw [sa_cl h0 (by omega)]
    exact (sa_of _).symm
  rw [e1]
  exact kk
theorem law_len (hexec : p.tables.exec = Jvm.exec) (hb : c.code = cc) {b L : Nat} {xs : Nat → Int32} (hX : va_X b L xs s H0) (hbl : b < H0.size) (hbA : ¬ A b) (hS : va_S A H0 H locs) (hdg : decode cc pc = .ok (.arraylength, 1))
    (kk : W p l e R s m args below meth c H locs cells slots Q (F0 m (pc + 1) ls (.int (sa_i (L : Int)) :: rest))) : W p l e R s m args below meth c H locs cells slots Q (F0 m pc ls (.ref b :: rest)) := by
  refine va_slen hexec hb hX hbl hbA hS hdg ?_
  have e1 : Int32.ofNat L = sa_i (L : Int) := (sa_nat L).symm
  rw [e1]
  exact kk
end LAWROWS
set_option maxHeartbeats 4000000 in
set_option maxRecDepth 100000 in
/-- at the loop's head: the class and its model hold the same streams -/
theorem law_loop {p : Program} {e : Env} {s : State} {m : MethodId} {below : List Frame} {meth : Method} {c : Code} (l : Launch) {D : va_G} {b L : Nat} {xs : Nat → Int32} (hL : L ≤ 320) (C0 : lw_At p s m meth c b L xs) {h h2 : Nat} {a a2 : Nat → Nat} {cI cZ : ClassId} (hK : va_K D vwCl (mT cI cZ) s) :
    ∀ (n : Nat) (i : Int), 0 ≤ i → i ≤ 330 → ((L : Int) - i < (n : Int) ∧ 0 < n) → ∀ (G : Int → Int32) (RP EN RN LO HI : Int → Int) (K : Int → Bool) (B : Int → Int32), Rel G RP EN RN LO HI K B → ∀ (H : Heap) (locs : List Loc), va_P D vwCl (wX h a cI G RP EN RN LO HI ++ wM h2 a2 cI cZ K B RP EN) H → va_D (fun q : Nat => s.heap.size ≤ q) (wX h a cI G RP EN RN LO HI ++ wM h2 a2 cI cZ K B RP EN) → va_S (fun q : Nat => s.heap.size ≤ q) s.heap H locs → ∀ ls : Array Slot, lv_has ls 4 [(0, .ref b), (1, .ref h), (2, .ref h2), (3, .int (sa_i i))] → W p l e room_1 s m #[Value.ref b] below meth c H locs 12 2182 (lw_Z below #[Value.ref b] s) (F0 m 18 ls []) := by
  obtain ⟨hx, hb, hr, hml, hown, hts0, hX, hbl, hlocks, hgv⟩ := C0
  have hts : ∀ w ∈ lw_all, w.before #[Value.ref b] s = true := fun w h => hts0 w (lw_all_tbl h)
  have hA : ∀ q : Nat, s.heap.size ≤ q → (fun q : Nat => s.heap.size ≤ q) q := fun _ h => h
  have hbA : ¬ (fun q : Nat => s.heap.size ≤ q) b := Nat.not_le.mpr hbl
  have S : CallFix p m c cL_law 4 s #[Value.ref b] lw_all R_law := ⟨hx, hb, hml, hown, hts⟩
  intro n
  induction n with
  | zero => intro i g1 g2 g3; exact absurd g3.2 (by omega)
  | succ n ih =>
    intro i g1 g2 g3 G RP EN RN LO HI K B hR H locs hP hD hS ls hl
    refine lv_iload_n hx hb dL_law_18 rfl (lv_at hl 3 rfl) ?_
    refine lv_aload_n hx hb dL_law_19 rfl (lv_at hl 0 rfl) ?_
    refine law_len hx hb hX hbl hbA hS dL_law_20 ?_
    refine sa_const hx hb dL_law_21 ?_
    refine sa_sub hx hb dL_law_22 ?_
    refine sa_icmp_gt (tgt := 347) hx hb dL_law_23 (by decide) (fun c_23 => ?_) (fun c_23 => ?_)
    · refine lv_iconst (v := 1) hx hb dL_law_347 (by decide) ?_
      refine va_forget (fun q hq => hS.2.2 q hq) ?_
      refine W.widen (k := 600000) (n := 7290000) (Nat.le_of_ble_eq_true rfl) (Nat.le_of_ble_eq_true rfl) ?_
      exact lw_ret hx hb hr hlocks dL_law_348
    · refine lv_aload_n hx hb dL_law_26 rfl (lv_at hl 0 rfl) ?_
      refine lv_iload_n hx hb dL_law_27 rfl (lv_at hl 3 rfl) ?_
      refine law_ld hx hb hX hbl hbA hS dL_law_28 ?_
      refine sa_bipush hx hb dL_law_29 (by decide +kernel) ?_
      refine lv_iand hx hb dL_law_31 ?_
      have r1 := scr_r xs (i + 1)
      have r2 := scr_r xs (i + 2)
      have r3 := scr_r xs (i + 3)
      obtain ⟨z, z0, z1, ez⟩ := sa_and15 (sa_i (scr xs i))
      rw [ez]
      rcases (show z = 0 ∨ z = 1 ∨ z = 2 ∨ z = 3 ∨ z = 4 ∨ z = 5 ∨ z = 6 ∨ z = 7 ∨ z = 8 ∨ 9 ≤ z by omega) with rfl | rfl | rfl | rfl | rfl | rfl | rfl | rfl | rfl | hz
      · refine lv_tableIn (off := 52) (tgt := 84) hx hb dL_law_32 (by decide +kernel) (by decide +kernel) (by decide +kernel) (by decide) ?_
        by_cases hv : (0 ≤ scr xs (i + 1) ∧ scr xs (i + 1) ≤ 3) ∧ (1 ≤ scr xs (i + 3) ∧ scr xs (i + 3) ≤ 4) ∧ (0 ≤ scr xs (i + 2) ∧ scr xs (i + 2) ≤ 1000)
        · obtain ⟨v1, v2, v3⟩ := hv
          refine lv_aload_n hx hb dL_law_84 rfl (lv_at hl 1 rfl) ?_
          refine lv_aload_n hx hb dL_law_85 rfl (lv_at hl 0 rfl) ?_
          refine lv_iload_n hx hb dL_law_86 rfl (lv_at hl 3 rfl) ?_
          refine sa_const hx hb dL_law_87 ?_
          refine sa_add hx hb dL_law_88 ?_
          refine law_ld hx hb hX hbl hbA hS dL_law_89 ?_
          refine lv_aload_n hx hb dL_law_90 rfl (lv_at hl 0 rfl) ?_
          refine lv_iload_n hx hb dL_law_91 rfl (lv_at hl 3 rfl) ?_
          refine sa_const hx hb dL_law_92 ?_
          refine sa_add hx hb dL_law_93 ?_
          refine law_ld hx hb hX hbl hbA hS dL_law_94 ?_
          refine lv_aload_n hx hb dL_law_95 rfl (lv_at hl 0 rfl) ?_
          refine lv_iload_n hx hb dL_law_96 rfl (lv_at hl 3 rfl) ?_
          refine sa_const hx hb dL_law_97 ?_
          refine sa_add hx hb dL_law_98 ?_
          refine law_ld hx hb hX hbl hbA hS dL_law_99 ?_
          refine lv_aload_n hx hb dL_law_100 rfl (lv_at hl 0 rfl) ?_
          refine lv_iload_n hx hb dL_law_101 rfl (lv_at hl 3 rfl) ?_
          refine sa_const hx hb dL_law_102 ?_
          refine sa_add hx hb dL_law_103 ?_
          refine law_ld hx hb hX hbl hbA hS dL_law_104 ?_
          refine sa_callI (nA := 4) (wc := (wX h a cI G RP EN RN LO HI)) (wr := (wM h2 a2 cI cZ K B RP EN)) S (metX0_piece l D h a cI G RP EN RN LO HI (scr xs (i + 1)) (scr xs (i + 2)) (scr xs (i + 3)) (sa_i (scr xs (i + 4))) H.size v1 v3 v2 hR.1) (lw_V q44 q45 q46 q14 q47) (by decide +kernel) rfl ⟨Nat.le_of_ble_eq_true rfl, Nat.le_of_ble_eq_true rfl⟩ (hK.sub [0] rfl) hP hD hS hA [0, 1, 2, 3, 4, 5, 6] [7, 8, 9, 10, 11] rfl rfl rfl rfl (by decide) 0 0 rfl rfl hl.1 rfl (Nat.le_of_ble_eq_true rfl) ⟨Nat.le_of_ble_eq_true rfl, Nat.le_of_ble_eq_true rfl⟩ dL_law_105 (fun r1 u1 H locs hp1 hP hD hS => ?_)
          refine lv_aload_n hx hb dL_law_108 rfl (lv_at hl 2 rfl) ?_
          refine lv_aload_n hx hb dL_law_109 rfl (lv_at hl 0 rfl) ?_
          refine lv_iload_n hx hb dL_law_110 rfl (lv_at hl 3 rfl) ?_
          refine sa_const hx hb dL_law_111 ?_
          refine sa_add hx hb dL_law_112 ?_
          refine law_ld hx hb hX hbl hbA hS dL_law_113 ?_
          refine lv_aload_n hx hb dL_law_114 rfl (lv_at hl 0 rfl) ?_
          refine lv_iload_n hx hb dL_law_115 rfl (lv_at hl 3 rfl) ?_
          refine sa_const hx hb dL_law_116 ?_
          refine sa_add hx hb dL_law_117 ?_
          refine law_ld hx hb hX hbl hbA hS dL_law_118 ?_
          refine lv_aload_n hx hb dL_law_119 rfl (lv_at hl 0 rfl) ?_
          refine lv_iload_n hx hb dL_law_120 rfl (lv_at hl 3 rfl) ?_
          refine sa_const hx hb dL_law_121 ?_
          refine sa_add hx hb dL_law_122 ?_
          refine law_ld hx hb hX hbl hbA hS dL_law_123 ?_
          refine lv_aload_n hx hb dL_law_124 rfl (lv_at hl 0 rfl) ?_
          refine lv_iload_n hx hb dL_law_125 rfl (lv_at hl 3 rfl) ?_
          refine sa_const hx hb dL_law_126 ?_
          refine sa_add hx hb dL_law_127 ?_
          refine law_ld hx hb hX hbl hbA hS dL_law_128 ?_
          refine sa_callI (nA := 4) (wc := (wM h2 a2 cI cZ K B RP EN)) (wr := (wX h a cI u1.1 RP EN u1.2.1 u1.2.2.1 u1.2.2.2)) S (metX1_piece l D h2 a2 cI cZ K B RP EN (scr xs (i + 1)) (scr xs (i + 2)) (scr xs (i + 3)) (sa_i (scr xs (i + 4))) H.size v1 v3 v2 (mOK_of hR.1)) (lw_V q137 q138 q139 q15 q140) (by decide +kernel) rfl ⟨Nat.le_of_ble_eq_true rfl, Nat.le_of_ble_eq_true rfl⟩ hK hP hD hS hA [0, 1, 2, 3, 4] [5, 6, 7, 8, 9, 10, 11] rfl rfl rfl rfl (by decide) 1 0 rfl rfl hl.1 rfl (Nat.le_of_ble_eq_true rfl) ⟨Nat.le_of_ble_eq_true rfl, Nat.le_of_ble_eq_true rfl⟩ dL_law_129 (fun r2 u2 H locs hp2 hP hD hS => ?_)
          obtain ⟨e1, hR2⟩ := pair_piece hR v1 v3 v2 hp1 hp2
          refine lv_icmp_eq (tgt := 341) hx hb dL_law_132 (by decide) (fun c_132 => ?_) (fun c_ => absurd e1 c_)
          refine sa_iinc (k := 3) (lv' := [(3, .int (sa_i (i + 5))), (0, .ref b), (1, .ref h), (2, .ref h2)]) hx hb dL_law_341 hl rfl (by decide) rfl (fun ls hl => ?_)
          refine lv_goto (tgt := 18) hx hb dL_law_344 (by decide) ?_
          exact ih (i + 5) (by omega) (by omega) (by omega) u1.1 RP EN u1.2.1 u1.2.2.1 u1.2.2.2 u2.1 u2.2 hR2 H locs hP hD hS ls (lv_sub hl [1, 2, 3, 0] rfl)
        · have M1 := metX0_piece_bad l D h a cI G RP EN RN LO HI (scr xs (i + 1)) (scr xs (i + 2)) (scr xs (i + 3)) (sa_i (scr xs (i + 4))) r1 r2 r3 (by omega)
          have M2 := metX1_piece_bad l D h2 a2 cI cZ K B RP EN (scr xs (i + 1)) (scr xs (i + 2)) (scr xs (i + 3)) (sa_i (scr xs (i + 4))) r1 r2 r3 (by omega)
          refine lv_aload_n hx hb dL_law_84 rfl (lv_at hl 1 rfl) ?_
          refine lv_aload_n hx hb dL_law_85 rfl (lv_at hl 0 rfl) ?_
          refine lv_iload_n hx hb dL_law_86 rfl (lv_at hl 3 rfl) ?_
          refine sa_const hx hb dL_law_87 ?_
          refine sa_add hx hb dL_law_88 ?_
          refine law_ld hx hb hX hbl hbA hS dL_law_89 ?_
          refine lv_aload_n hx hb dL_law_90 rfl (lv_at hl 0 rfl) ?_
          refine lv_iload_n hx hb dL_law_91 rfl (lv_at hl 3 rfl) ?_
          refine sa_const hx hb dL_law_92 ?_
          refine sa_add hx hb dL_law_93 ?_
          refine law_ld hx hb hX hbl hbA hS dL_law_94 ?_
          refine lv_aload_n hx hb dL_law_95 rfl (lv_at hl 0 rfl) ?_
          refine lv_iload_n hx hb dL_law_96 rfl (lv_at hl 3 rfl) ?_
          refine sa_const hx hb dL_law_97 ?_
          refine sa_add hx hb dL_law_98 ?_
          refine law_ld hx hb hX hbl hbA hS dL_law_99 ?_
          refine lv_aload_n hx hb dL_law_100 rfl (lv_at hl 0 rfl) ?_
          refine lv_iload_n hx hb dL_law_101 rfl (lv_at hl 3 rfl) ?_
          refine sa_const hx hb dL_law_102 ?_
          refine sa_add hx hb dL_law_103 ?_
          refine law_ld hx hb hX hbl hbA hS dL_law_104 ?_
          refine sa_callP (nA := 4) S M1 (lw_V q44 q45 q46 q14 q47) (by decide +kernel) rfl ⟨Nat.le_of_ble_eq_true rfl, Nat.le_of_ble_eq_true rfl⟩ (hK.sub [0] rfl) (hP.sub (ws' := (wX h a cI G RP EN RN LO HI)) [0, 1, 2, 3, 4, 5, 6] rfl) 0 0 rfl rfl hl.1 rfl (Nat.le_of_ble_eq_true rfl) ⟨Nat.le_of_ble_eq_true rfl, Nat.le_of_ble_eq_true rfl⟩ dL_law_105 ?_
          refine lv_aload_n hx hb dL_law_108 rfl (lv_at hl 2 rfl) ?_
          refine lv_aload_n hx hb dL_law_109 rfl (lv_at hl 0 rfl) ?_
          refine lv_iload_n hx hb dL_law_110 rfl (lv_at hl 3 rfl) ?_
          refine sa_const hx hb dL_law_111 ?_
          refine sa_add hx hb dL_law_112 ?_
          refine law_ld hx hb hX hbl hbA hS dL_law_113 ?_
          refine lv_aload_n hx hb dL_law_114 rfl (lv_at hl 0 rfl) ?_
          refine lv_iload_n hx hb dL_law_115 rfl (lv_at hl 3 rfl) ?_
          refine sa_const hx hb dL_law_116 ?_
          refine sa_add hx hb dL_law_117 ?_
          refine law_ld hx hb hX hbl hbA hS dL_law_118 ?_
          refine lv_aload_n hx hb dL_law_119 rfl (lv_at hl 0 rfl) ?_
          refine lv_iload_n hx hb dL_law_120 rfl (lv_at hl 3 rfl) ?_
          refine sa_const hx hb dL_law_121 ?_
          refine sa_add hx hb dL_law_122 ?_
          refine law_ld hx hb hX hbl hbA hS dL_law_123 ?_
          refine lv_aload_n hx hb dL_law_124 rfl (lv_at hl 0 rfl) ?_
          refine lv_iload_n hx hb dL_law_125 rfl (lv_at hl 3 rfl) ?_
          refine sa_const hx hb dL_law_126 ?_
          refine sa_add hx hb dL_law_127 ?_
          refine law_ld hx hb hX hbl hbA hS dL_law_128 ?_
          refine sa_callP (nA := 4) S M2 (lw_V q137 q138 q139 q15 q140) (by decide +kernel) rfl ⟨Nat.le_of_ble_eq_true rfl, Nat.le_of_ble_eq_true rfl⟩ hK (hP.sub (ws' := (wM h2 a2 cI cZ K B RP EN)) [7, 8, 9, 10, 11] rfl) 1 0 rfl rfl hl.1 rfl (Nat.le_of_ble_eq_true rfl) ⟨Nat.le_of_ble_eq_true rfl, Nat.le_of_ble_eq_true rfl⟩ dL_law_129 ?_
          refine lv_icmp_eq (tgt := 341) hx hb dL_law_132 (by decide) (fun c_132 => ?_) (fun c_ => absurd rfl c_)
          refine sa_iinc (k := 3) (lv' := [(3, .int (sa_i (i + 5))), (0, .ref b), (1, .ref h), (2, .ref h2)]) hx hb dL_law_341 hl rfl (by decide) rfl (fun ls hl => ?_)
          refine lv_goto (tgt := 18) hx hb dL_law_344 (by decide) ?_
          exact ih (i + 5) (by omega) (by omega) (by omega) G RP EN RN LO HI K B hR H locs hP hD hS ls (lv_sub hl [1, 2, 3, 0] rfl)
      · refine lv_tableIn (off := 105) (tgt := 137) hx hb dL_law_32 (by decide +kernel) (by decide +kernel) (by decide +kernel) (by decide) ?_
        by_cases hv : (0 ≤ scr xs (i + 1) ∧ scr xs (i + 1) ≤ 3) ∧ 0 ≤ scr xs (i + 2)
        · obtain ⟨v1, v2⟩ := hv
          refine lv_aload_n hx hb dL_law_137 rfl (lv_at hl 1 rfl) ?_
          refine lv_aload_n hx hb dL_law_138 rfl (lv_at hl 0 rfl) ?_
          refine lv_iload_n hx hb dL_law_139 rfl (lv_at hl 3 rfl) ?_
          refine sa_const hx hb dL_law_140 ?_
          refine sa_add hx hb dL_law_141 ?_
          refine law_ld hx hb hX hbl hbA hS dL_law_142 ?_
          refine lv_aload_n hx hb dL_law_143 rfl (lv_at hl 0 rfl) ?_
          refine lv_iload_n hx hb dL_law_144 rfl (lv_at hl 3 rfl) ?_
          refine sa_const hx hb dL_law_145 ?_
          refine sa_add hx hb dL_law_146 ?_
          refine law_ld hx hb hX hbl hbA hS dL_law_147 ?_
          refine sa_callI (nA := 2) (wc := (wX h a cI G RP EN RN LO HI)) (wr := (wM h2 a2 cI cZ K B RP EN)) S (metX0_finish l D h a cI G RP EN RN LO HI (scr xs (i + 1)) (scr xs (i + 2)) H.size v1 (by omega) hR.1) (lw_V q83 q84 q85 q14 q86) (by decide +kernel) rfl ⟨Nat.le_of_ble_eq_true rfl, Nat.le_of_ble_eq_true rfl⟩ (hK.sub [0] rfl) hP hD hS hA [0, 1, 2, 3, 4, 5, 6] [7, 8, 9, 10, 11] rfl rfl rfl rfl (by decide) 0 0 rfl rfl hl.1 rfl (Nat.le_of_ble_eq_true rfl) ⟨Nat.le_of_ble_eq_true rfl, Nat.le_of_ble_eq_true rfl⟩ dL_law_148 (fun r1 u1 H locs hp1 hP hD hS => ?_)
          refine lv_aload_n hx hb dL_law_151 rfl (lv_at hl 2 rfl) ?_
          refine lv_aload_n hx hb dL_law_152 rfl (lv_at hl 0 rfl) ?_
          refine lv_iload_n hx hb dL_law_153 rfl (lv_at hl 3 rfl) ?_
          refine sa_const hx hb dL_law_154 ?_
          refine sa_add hx hb dL_law_155 ?_
          refine law_ld hx hb hX hbl hbA hS dL_law_156 ?_
          refine lv_aload_n hx hb dL_law_157 rfl (lv_at hl 0 rfl) ?_
          refine lv_iload_n hx hb dL_law_158 rfl (lv_at hl 3 rfl) ?_
          refine sa_const hx hb dL_law_159 ?_
          refine sa_add hx hb dL_law_160 ?_
          refine law_ld hx hb hX hbl hbA hS dL_law_161 ?_
          refine sa_callI (nA := 2) (wc := (wM h2 a2 cI cZ K B RP EN)) (wr := (wX h a cI G RP u1 RN LO HI)) S (metX1_finish l D h2 a2 cI cZ K B RP EN (scr xs (i + 1)) (scr xs (i + 2)) H.size v1 (by omega) (mOK_of hR.1)) (lw_V q156 q157 q158 q15 q159) (by decide +kernel) rfl ⟨Nat.le_of_ble_eq_true rfl, Nat.le_of_ble_eq_true rfl⟩ hK hP hD hS hA [0, 1, 2, 3, 4] [5, 6, 7, 8, 9, 10, 11] rfl rfl rfl rfl (by decide) 1 0 rfl rfl hl.1 rfl (Nat.le_of_ble_eq_true rfl) ⟨Nat.le_of_ble_eq_true rfl, Nat.le_of_ble_eq_true rfl⟩ dL_law_162 (fun r2 u2 H locs hp2 hP hD hS => ?_)
          obtain ⟨e1, e2, hR2⟩ := pair_finish hR v1 v2 hp1 hp2
          subst e2
          refine lv_icmp_eq (tgt := 341) hx hb dL_law_165 (by decide) (fun c_165 => ?_) (fun c_ => absurd e1 c_)
          refine sa_iinc (k := 3) (lv' := [(3, .int (sa_i (i + 5))), (0, .ref b), (1, .ref h), (2, .ref h2)]) hx hb dL_law_341 hl rfl (by decide) rfl (fun ls hl => ?_)
          refine lv_goto (tgt := 18) hx hb dL_law_344 (by decide) ?_
          exact ih (i + 5) (by omega) (by omega) (by omega) G RP u1 RN LO HI K B hR2 H locs hP hD hS ls (lv_sub hl [1, 2, 3, 0] rfl)
        · have M1 := metX0_finish_bad l D h a cI G RP EN RN LO HI (scr xs (i + 1)) (scr xs (i + 2)) r1 r2 (by omega)
          have M2 := metX1_finish_bad l D h2 a2 cI cZ K B RP EN (scr xs (i + 1)) (scr xs (i + 2)) r1 r2 (by omega)
          refine lv_aload_n hx hb dL_law_137 rfl (lv_at hl 1 rfl) ?_
          refine lv_aload_n hx hb dL_law_138 rfl (lv_at hl 0 rfl) ?_
          refine lv_iload_n hx hb dL_law_139 rfl (lv_at hl 3 rfl) ?_
          refine sa_const hx hb dL_law_140 ?_
          refine sa_add hx hb dL_law_141 ?_
          refine law_ld hx hb hX hbl hbA hS dL_law_142 ?_
          refine lv_aload_n hx hb dL_law_143 rfl (lv_at hl 0 rfl) ?_
          refine lv_iload_n hx hb dL_law_144 rfl (lv_at hl 3 rfl) ?_
          refine sa_const hx hb dL_law_145 ?_
          refine sa_add hx hb dL_law_146 ?_
          refine law_ld hx hb hX hbl hbA hS dL_law_147 ?_
          refine sa_callP (nA := 2) S M1 (lw_V q83 q84 q85 q14 q86) (by decide +kernel) rfl ⟨Nat.le_of_ble_eq_true rfl, Nat.le_of_ble_eq_true rfl⟩ (hK.sub [0] rfl) (hP.sub (ws' := (wX h a cI G RP EN RN LO HI)) [0, 1, 2, 3, 4, 5, 6] rfl) 0 0 rfl rfl hl.1 rfl (Nat.le_of_ble_eq_true rfl) ⟨Nat.le_of_ble_eq_true rfl, Nat.le_of_ble_eq_true rfl⟩ dL_law_148 ?_
          refine lv_aload_n hx hb dL_law_151 rfl (lv_at hl 2 rfl) ?_
          refine lv_aload_n hx hb dL_law_152 rfl (lv_at hl 0 rfl) ?_
          refine lv_iload_n hx hb dL_law_153 rfl (lv_at hl 3 rfl) ?_
          refine sa_const hx hb dL_law_154 ?_
          refine sa_add hx hb dL_law_155 ?_
          refine law_ld hx hb hX hbl hbA hS dL_law_156 ?_
          refine lv_aload_n hx hb dL_law_157 rfl (lv_at hl 0 rfl) ?_
          refine lv_iload_n hx hb dL_law_158 rfl (lv_at hl 3 rfl) ?_
          refine sa_const hx hb dL_law_159 ?_
          refine sa_add hx hb dL_law_160 ?_
          refine law_ld hx hb hX hbl hbA hS dL_law_161 ?_
          refine sa_callP (nA := 2) S M2 (lw_V q156 q157 q158 q15 q159) (by decide +kernel) rfl ⟨Nat.le_of_ble_eq_true rfl, Nat.le_of_ble_eq_true rfl⟩ hK (hP.sub (ws' := (wM h2 a2 cI cZ K B RP EN)) [7, 8, 9, 10, 11] rfl) 1 0 rfl rfl hl.1 rfl (Nat.le_of_ble_eq_true rfl) ⟨Nat.le_of_ble_eq_true rfl, Nat.le_of_ble_eq_true rfl⟩ dL_law_162 ?_
          refine lv_icmp_eq (tgt := 341) hx hb dL_law_165 (by decide) (fun c_165 => ?_) (fun c_ => absurd rfl c_)
          refine sa_iinc (k := 3) (lv' := [(3, .int (sa_i (i + 5))), (0, .ref b), (1, .ref h), (2, .ref h2)]) hx hb dL_law_341 hl rfl (by decide) rfl (fun ls hl => ?_)
          refine lv_goto (tgt := 18) hx hb dL_law_344 (by decide) ?_
          exact ih (i + 5) (by omega) (by omega) (by omega) G RP EN RN LO HI K B hR H locs hP hD hS ls (lv_sub hl [1, 2, 3, 0] rfl)
      · refine lv_tableIn (off := 138) (tgt := 170) hx hb dL_law_32 (by decide +kernel) (by decide +kernel) (by decide +kernel) (by decide) ?_
        by_cases v1 : 0 ≤ scr xs (i + 1) ∧ scr xs (i + 1) ≤ 3
        · refine lv_aload_n hx hb dL_law_170 rfl (lv_at hl 1 rfl) ?_
          refine lv_aload_n hx hb dL_law_171 rfl (lv_at hl 0 rfl) ?_
          refine lv_iload_n hx hb dL_law_172 rfl (lv_at hl 3 rfl) ?_
          refine sa_const hx hb dL_law_173 ?_
          refine sa_add hx hb dL_law_174 ?_
          refine law_ld hx hb hX hbl hbA hS dL_law_175 ?_
          refine sa_callI (nA := 1) (wc := (wX h a cI G RP EN RN LO HI)) (wr := (wM h2 a2 cI cZ K B RP EN)) S (metX0_read l D h a cI G RP EN RN LO HI (scr xs (i + 1)) H.size v1 hR.1) (lw_V q87 q88 q89 q14 q90) (by decide +kernel) rfl ⟨Nat.le_of_ble_eq_true rfl, Nat.le_of_ble_eq_true rfl⟩ (hK.sub [0] rfl) hP hD hS hA [0, 1, 2, 3, 4, 5, 6] [7, 8, 9, 10, 11] rfl rfl rfl rfl (by decide) 0 0 rfl rfl hl.1 rfl (Nat.le_of_ble_eq_true rfl) ⟨Nat.le_of_ble_eq_true rfl, Nat.le_of_ble_eq_true rfl⟩ dL_law_176 (fun r1 u1 H locs hp1 hP hD hS => ?_)
          refine lv_aload_n hx hb dL_law_179 rfl (lv_at hl 2 rfl) ?_
          refine lv_aload_n hx hb dL_law_180 rfl (lv_at hl 0 rfl) ?_
          refine lv_iload_n hx hb dL_law_181 rfl (lv_at hl 3 rfl) ?_
          refine sa_const hx hb dL_law_182 ?_
          refine sa_add hx hb dL_law_183 ?_
          refine law_ld hx hb hX hbl hbA hS dL_law_184 ?_
          refine sa_callI (nA := 1) (wc := (wM h2 a2 cI cZ K B RP EN)) (wr := (wX h a cI G u1.1 EN u1.2.1 u1.2.2.1 u1.2.2.2)) S (metX1_read l D h2 a2 cI cZ K B RP EN (scr xs (i + 1)) H.size v1 (mOK_of hR.1)) (lw_V q160 q161 q162 q15 q163) (by decide +kernel) rfl ⟨Nat.le_of_ble_eq_true rfl, Nat.le_of_ble_eq_true rfl⟩ hK hP hD hS hA [0, 1, 2, 3, 4] [5, 6, 7, 8, 9, 10, 11] rfl rfl rfl rfl (by decide) 1 0 rfl rfl hl.1 rfl (Nat.le_of_ble_eq_true rfl) ⟨Nat.le_of_ble_eq_true rfl, Nat.le_of_ble_eq_true rfl⟩ dL_law_185 (fun r2 u2 H locs hp2 hP hD hS => ?_)
          obtain ⟨e1, e2, hR2⟩ := pair_read hR v1 hp1 hp2
          subst e2
          refine lv_icmp_eq (tgt := 341) hx hb dL_law_188 (by decide) (fun c_188 => ?_) (fun c_ => absurd e1 c_)
          refine sa_iinc (k := 3) (lv' := [(3, .int (sa_i (i + 5))), (0, .ref b), (1, .ref h), (2, .ref h2)]) hx hb dL_law_341 hl rfl (by decide) rfl (fun ls hl => ?_)
          refine lv_goto (tgt := 18) hx hb dL_law_344 (by decide) ?_
          exact ih (i + 5) (by omega) (by omega) (by omega) G u1.1 EN u1.2.1 u1.2.2.1 u1.2.2.2 K B hR2 H locs hP hD hS ls (lv_sub hl [1, 2, 3, 0] rfl)
        · have M1 := metX0_read_bad l D h a cI G RP EN RN LO HI (scr xs (i + 1)) r1 v1
          have M2 := metX1_read_bad l D h2 a2 cI cZ K B RP EN (scr xs (i + 1)) r1 v1
          refine lv_aload_n hx hb dL_law_170 rfl (lv_at hl 1 rfl) ?_
          refine lv_aload_n hx hb dL_law_171 rfl (lv_at hl 0 rfl) ?_
          refine lv_iload_n hx hb dL_law_172 rfl (lv_at hl 3 rfl) ?_
          refine sa_const hx hb dL_law_173 ?_
          refine sa_add hx hb dL_law_174 ?_
          refine law_ld hx hb hX hbl hbA hS dL_law_175 ?_
          refine sa_callP (nA := 1) S M1 (lw_V q87 q88 q89 q14 q90) (by decide +kernel) rfl ⟨Nat.le_of_ble_eq_true rfl, Nat.le_of_ble_eq_true rfl⟩ (hK.sub [0] rfl) (hP.sub (ws' := (wX h a cI G RP EN RN LO HI)) [0, 1, 2, 3, 4, 5, 6] rfl) 0 0 rfl rfl hl.1 rfl (Nat.le_of_ble_eq_true rfl) ⟨Nat.le_of_ble_eq_true rfl, Nat.le_of_ble_eq_true rfl⟩ dL_law_176 ?_
          refine lv_aload_n hx hb dL_law_179 rfl (lv_at hl 2 rfl) ?_
          refine lv_aload_n hx hb dL_law_180 rfl (lv_at hl 0 rfl) ?_
          refine lv_iload_n hx hb dL_law_181 rfl (lv_at hl 3 rfl) ?_
          refine sa_const hx hb dL_law_182 ?_
          refine sa_add hx hb dL_law_183 ?_
          refine law_ld hx hb hX hbl hbA hS dL_law_184 ?_
          refine sa_callP (nA := 1) S M2 (lw_V q160 q161 q162 q15 q163) (by decide +kernel) rfl ⟨Nat.le_of_ble_eq_true rfl, Nat.le_of_ble_eq_true rfl⟩ hK (hP.sub (ws' := (wM h2 a2 cI cZ K B RP EN)) [7, 8, 9, 10, 11] rfl) 1 0 rfl rfl hl.1 rfl (Nat.le_of_ble_eq_true rfl) ⟨Nat.le_of_ble_eq_true rfl, Nat.le_of_ble_eq_true rfl⟩ dL_law_185 ?_
          refine lv_icmp_eq (tgt := 341) hx hb dL_law_188 (by decide) (fun c_188 => ?_) (fun c_ => absurd rfl c_)
          refine sa_iinc (k := 3) (lv' := [(3, .int (sa_i (i + 5))), (0, .ref b), (1, .ref h), (2, .ref h2)]) hx hb dL_law_341 hl rfl (by decide) rfl (fun ls hl => ?_)
          refine lv_goto (tgt := 18) hx hb dL_law_344 (by decide) ?_
          exact ih (i + 5) (by omega) (by omega) (by omega) G RP EN RN LO HI K B hR H locs hP hD hS ls (lv_sub hl [1, 2, 3, 0] rfl)
      · refine lv_tableIn (off := 161) (tgt := 193) hx hb dL_law_32 (by decide +kernel) (by decide +kernel) (by decide +kernel) (by decide) ?_
        obtain ⟨rr, M1, M2⟩ := two_readable l D h h2 a a2 cI cZ hR (scr xs (i + 1)) r1
        refine lv_aload_n hx hb dL_law_193 rfl (lv_at hl 1 rfl) ?_
        refine lv_aload_n hx hb dL_law_194 rfl (lv_at hl 0 rfl) ?_
        refine lv_iload_n hx hb dL_law_195 rfl (lv_at hl 3 rfl) ?_
        refine sa_const hx hb dL_law_196 ?_
        refine sa_add hx hb dL_law_197 ?_
        refine law_ld hx hb hX hbl hbA hS dL_law_198 ?_
        refine sa_callP (nA := 1) S M1 (lw_V q91 q92 q93 q14 q94) (by decide +kernel) rfl ⟨Nat.le_of_ble_eq_true rfl, Nat.le_of_ble_eq_true rfl⟩ (hK.sub [0] rfl) (hP.sub (ws' := (wX h a cI G RP EN RN LO HI)) [0, 1, 2, 3, 4, 5, 6] rfl) 0 0 rfl rfl hl.1 rfl (Nat.le_of_ble_eq_true rfl) ⟨Nat.le_of_ble_eq_true rfl, Nat.le_of_ble_eq_true rfl⟩ dL_law_199 ?_
        refine lv_aload_n hx hb dL_law_202 rfl (lv_at hl 2 rfl) ?_
        refine lv_aload_n hx hb dL_law_203 rfl (lv_at hl 0 rfl) ?_
        refine lv_iload_n hx hb dL_law_204 rfl (lv_at hl 3 rfl) ?_
        refine sa_const hx hb dL_law_205 ?_
        refine sa_add hx hb dL_law_206 ?_
        refine law_ld hx hb hX hbl hbA hS dL_law_207 ?_
        refine sa_callP (nA := 1) S M2 (lw_V q168 q169 q170 q15 q171) (by decide +kernel) rfl ⟨Nat.le_of_ble_eq_true rfl, Nat.le_of_ble_eq_true rfl⟩ hK (hP.sub (ws' := (wM h2 a2 cI cZ K B RP EN)) [7, 8, 9, 10, 11] rfl) 1 0 rfl rfl hl.1 rfl (Nat.le_of_ble_eq_true rfl) ⟨Nat.le_of_ble_eq_true rfl, Nat.le_of_ble_eq_true rfl⟩ dL_law_208 ?_
        refine lv_icmp_eq (tgt := 341) hx hb dL_law_211 (by decide) (fun c_211 => ?_) (fun c_ => absurd rfl c_)
        refine sa_iinc (k := 3) (lv' := [(3, .int (sa_i (i + 5))), (0, .ref b), (1, .ref h), (2, .ref h2)]) hx hb dL_law_341 hl rfl (by decide) rfl (fun ls hl => ?_)
        refine lv_goto (tgt := 18) hx hb dL_law_344 (by decide) ?_
        exact ih (i + 5) (by omega) (by omega) (by omega) G RP EN RN LO HI K B hR H locs hP hD hS ls (lv_sub hl [1, 2, 3, 0] rfl)
      · refine lv_tableIn (off := 184) (tgt := 216) hx hb dL_law_32 (by decide +kernel) (by decide +kernel) (by decide +kernel) (by decide) ?_
        obtain ⟨rr, M1, M2⟩ := two_highest l D h h2 a a2 cI cZ hR (scr xs (i + 1)) r1
        refine lv_aload_n hx hb dL_law_216 rfl (lv_at hl 1 rfl) ?_
        refine lv_aload_n hx hb dL_law_217 rfl (lv_at hl 0 rfl) ?_
        refine lv_iload_n hx hb dL_law_218 rfl (lv_at hl 3 rfl) ?_
        refine sa_const hx hb dL_law_219 ?_
        refine sa_add hx hb dL_law_220 ?_
        refine law_ld hx hb hX hbl hbA hS dL_law_221 ?_
        refine sa_callP (nA := 1) S M1 (lw_V q95 q60 q61 q14 q62) (by decide +kernel) rfl ⟨Nat.le_of_ble_eq_true rfl, Nat.le_of_ble_eq_true rfl⟩ (hK.sub [0] rfl) (hP.sub (ws' := (wX h a cI G RP EN RN LO HI)) [0, 1, 2, 3, 4, 5, 6] rfl) 0 0 rfl rfl hl.1 rfl (Nat.le_of_ble_eq_true rfl) ⟨Nat.le_of_ble_eq_true rfl, Nat.le_of_ble_eq_true rfl⟩ dL_law_222 ?_
        refine lv_aload_n hx hb dL_law_225 rfl (lv_at hl 2 rfl) ?_
        refine lv_aload_n hx hb dL_law_226 rfl (lv_at hl 0 rfl) ?_
        refine lv_iload_n hx hb dL_law_227 rfl (lv_at hl 3 rfl) ?_
        refine sa_const hx hb dL_law_228 ?_
        refine sa_add hx hb dL_law_229 ?_
        refine law_ld hx hb hX hbl hbA hS dL_law_230 ?_
        refine sa_callP (nA := 1) S M2 (lw_V q172 q173 q174 q15 q175) (by decide +kernel) rfl ⟨Nat.le_of_ble_eq_true rfl, Nat.le_of_ble_eq_true rfl⟩ hK (hP.sub (ws' := (wM h2 a2 cI cZ K B RP EN)) [7, 8, 9, 10, 11] rfl) 1 0 rfl rfl hl.1 rfl (Nat.le_of_ble_eq_true rfl) ⟨Nat.le_of_ble_eq_true rfl, Nat.le_of_ble_eq_true rfl⟩ dL_law_231 ?_
        refine lv_icmp_eq (tgt := 341) hx hb dL_law_234 (by decide) (fun c_234 => ?_) (fun c_ => absurd rfl c_)
        refine sa_iinc (k := 3) (lv' := [(3, .int (sa_i (i + 5))), (0, .ref b), (1, .ref h), (2, .ref h2)]) hx hb dL_law_341 hl rfl (by decide) rfl (fun ls hl => ?_)
        refine lv_goto (tgt := 18) hx hb dL_law_344 (by decide) ?_
        exact ih (i + 5) (by omega) (by omega) (by omega) G RP EN RN LO HI K B hR H locs hP hD hS ls (lv_sub hl [1, 2, 3, 0] rfl)
      · refine lv_tableIn (off := 207) (tgt := 239) hx hb dL_law_32 (by decide +kernel) (by decide +kernel) (by decide +kernel) (by decide) ?_
        obtain ⟨rr, M1, M2⟩ := two_gaps l D h h2 a a2 cI cZ hR (scr xs (i + 1)) r1
        refine lv_aload_n hx hb dL_law_239 rfl (lv_at hl 1 rfl) ?_
        refine lv_aload_n hx hb dL_law_240 rfl (lv_at hl 0 rfl) ?_
        refine lv_iload_n hx hb dL_law_241 rfl (lv_at hl 3 rfl) ?_
        refine sa_const hx hb dL_law_242 ?_
        refine sa_add hx hb dL_law_243 ?_
        refine law_ld hx hb hX hbl hbA hS dL_law_244 ?_
        refine sa_callP (nA := 1) S M1 (lw_V q96 q97 q98 q14 q99) (by decide +kernel) rfl ⟨Nat.le_of_ble_eq_true rfl, Nat.le_of_ble_eq_true rfl⟩ (hK.sub [0] rfl) (hP.sub (ws' := (wX h a cI G RP EN RN LO HI)) [0, 1, 2, 3, 4, 5, 6] rfl) 0 0 rfl rfl hl.1 rfl (Nat.le_of_ble_eq_true rfl) ⟨Nat.le_of_ble_eq_true rfl, Nat.le_of_ble_eq_true rfl⟩ dL_law_245 ?_
        refine lv_aload_n hx hb dL_law_248 rfl (lv_at hl 2 rfl) ?_
        refine lv_aload_n hx hb dL_law_249 rfl (lv_at hl 0 rfl) ?_
        refine lv_iload_n hx hb dL_law_250 rfl (lv_at hl 3 rfl) ?_
        refine sa_const hx hb dL_law_251 ?_
        refine sa_add hx hb dL_law_252 ?_
        refine law_ld hx hb hX hbl hbA hS dL_law_253 ?_
        refine sa_callP (nA := 1) S M2 (lw_V q176 q177 q178 q15 q179) (by decide +kernel) rfl ⟨Nat.le_of_ble_eq_true rfl, Nat.le_of_ble_eq_true rfl⟩ hK (hP.sub (ws' := (wM h2 a2 cI cZ K B RP EN)) [7, 8, 9, 10, 11] rfl) 1 0 rfl rfl hl.1 rfl (Nat.le_of_ble_eq_true rfl) ⟨Nat.le_of_ble_eq_true rfl, Nat.le_of_ble_eq_true rfl⟩ dL_law_254 ?_
        refine lv_icmp_eq (tgt := 341) hx hb dL_law_257 (by decide) (fun c_257 => ?_) (fun c_ => absurd rfl c_)
        refine sa_iinc (k := 3) (lv' := [(3, .int (sa_i (i + 5))), (0, .ref b), (1, .ref h), (2, .ref h2)]) hx hb dL_law_341 hl rfl (by decide) rfl (fun ls hl => ?_)
        refine lv_goto (tgt := 18) hx hb dL_law_344 (by decide) ?_
        exact ih (i + 5) (by omega) (by omega) (by omega) G RP EN RN LO HI K B hR H locs hP hD hS ls (lv_sub hl [1, 2, 3, 0] rfl)
      · refine lv_tableIn (off := 230) (tgt := 262) hx hb dL_law_32 (by decide +kernel) (by decide +kernel) (by decide +kernel) (by decide) ?_
        obtain ⟨rr, M1, M2⟩ := two_gap l D h h2 a a2 cI cZ hR (scr xs (i + 1)) (scr xs (i + 2)) r1 r2
        refine lv_aload_n hx hb dL_law_262 rfl (lv_at hl 1 rfl) ?_
        refine lv_aload_n hx hb dL_law_263 rfl (lv_at hl 0 rfl) ?_
        refine lv_iload_n hx hb dL_law_264 rfl (lv_at hl 3 rfl) ?_
        refine sa_const hx hb dL_law_265 ?_
        refine sa_add hx hb dL_law_266 ?_
        refine law_ld hx hb hX hbl hbA hS dL_law_267 ?_
        refine lv_aload_n hx hb dL_law_268 rfl (lv_at hl 0 rfl) ?_
        refine lv_iload_n hx hb dL_law_269 rfl (lv_at hl 3 rfl) ?_
        refine sa_const hx hb dL_law_270 ?_
        refine sa_add hx hb dL_law_271 ?_
        refine law_ld hx hb hX hbl hbA hS dL_law_272 ?_
        refine sa_callP (nA := 2) S M1 (lw_V q104 q105 q106 q14 q107) (by decide +kernel) rfl ⟨Nat.le_of_ble_eq_true rfl, Nat.le_of_ble_eq_true rfl⟩ (hK.sub [0] rfl) (hP.sub (ws' := (wX h a cI G RP EN RN LO HI)) [0, 1, 2, 3, 4, 5, 6] rfl) 0 0 rfl rfl hl.1 rfl (Nat.le_of_ble_eq_true rfl) ⟨Nat.le_of_ble_eq_true rfl, Nat.le_of_ble_eq_true rfl⟩ dL_law_273 ?_
        refine lv_aload_n hx hb dL_law_276 rfl (lv_at hl 2 rfl) ?_
        refine lv_aload_n hx hb dL_law_277 rfl (lv_at hl 0 rfl) ?_
        refine lv_iload_n hx hb dL_law_278 rfl (lv_at hl 3 rfl) ?_
        refine sa_const hx hb dL_law_279 ?_
        refine sa_add hx hb dL_law_280 ?_
        refine law_ld hx hb hX hbl hbA hS dL_law_281 ?_
        refine lv_aload_n hx hb dL_law_282 rfl (lv_at hl 0 rfl) ?_
        refine lv_iload_n hx hb dL_law_283 rfl (lv_at hl 3 rfl) ?_
        refine sa_const hx hb dL_law_284 ?_
        refine sa_add hx hb dL_law_285 ?_
        refine law_ld hx hb hX hbl hbA hS dL_law_286 ?_
        refine sa_callP (nA := 2) S M2 (lw_V q184 q185 q186 q15 q187) (by decide +kernel) rfl ⟨Nat.le_of_ble_eq_true rfl, Nat.le_of_ble_eq_true rfl⟩ hK (hP.sub (ws' := (wM h2 a2 cI cZ K B RP EN)) [7, 8, 9, 10, 11] rfl) 1 0 rfl rfl hl.1 rfl (Nat.le_of_ble_eq_true rfl) ⟨Nat.le_of_ble_eq_true rfl, Nat.le_of_ble_eq_true rfl⟩ dL_law_287 ?_
        refine lv_icmp_eq (tgt := 341) hx hb dL_law_290 (by decide) (fun c_290 => ?_) (fun c_ => absurd rfl c_)
        refine sa_iinc (k := 3) (lv' := [(3, .int (sa_i (i + 5))), (0, .ref b), (1, .ref h), (2, .ref h2)]) hx hb dL_law_341 hl rfl (by decide) rfl (fun ls hl => ?_)
        refine lv_goto (tgt := 18) hx hb dL_law_344 (by decide) ?_
        exact ih (i + 5) (by omega) (by omega) (by omega) G RP EN RN LO HI K B hR H locs hP hD hS ls (lv_sub hl [1, 2, 3, 0] rfl)
      · refine lv_tableIn (off := 263) (tgt := 295) hx hb dL_law_32 (by decide +kernel) (by decide +kernel) (by decide +kernel) (by decide) ?_
        obtain ⟨rr, M1, M2⟩ := two_allowed l D h h2 a a2 cI cZ hR (scr xs (i + 1)) r1
        refine lv_aload_n hx hb dL_law_295 rfl (lv_at hl 1 rfl) ?_
        refine lv_aload_n hx hb dL_law_296 rfl (lv_at hl 0 rfl) ?_
        refine lv_iload_n hx hb dL_law_297 rfl (lv_at hl 3 rfl) ?_
        refine sa_const hx hb dL_law_298 ?_
        refine sa_add hx hb dL_law_299 ?_
        refine law_ld hx hb hX hbl hbA hS dL_law_300 ?_
        refine sa_callP (nA := 1) S M1 (lw_V q109 q110 q111 q14 q112) (by decide +kernel) rfl ⟨Nat.le_of_ble_eq_true rfl, Nat.le_of_ble_eq_true rfl⟩ (hK.sub [0] rfl) (hP.sub (ws' := (wX h a cI G RP EN RN LO HI)) [0, 1, 2, 3, 4, 5, 6] rfl) 0 0 rfl rfl hl.1 rfl (Nat.le_of_ble_eq_true rfl) ⟨Nat.le_of_ble_eq_true rfl, Nat.le_of_ble_eq_true rfl⟩ dL_law_301 ?_
        refine lv_aload_n hx hb dL_law_304 rfl (lv_at hl 2 rfl) ?_
        refine lv_aload_n hx hb dL_law_305 rfl (lv_at hl 0 rfl) ?_
        refine lv_iload_n hx hb dL_law_306 rfl (lv_at hl 3 rfl) ?_
        refine sa_const hx hb dL_law_307 ?_
        refine sa_add hx hb dL_law_308 ?_
        refine law_ld hx hb hX hbl hbA hS dL_law_309 ?_
        refine sa_callP (nA := 1) S M2 (lw_V q188 q189 q190 q15 q191) (by decide +kernel) rfl ⟨Nat.le_of_ble_eq_true rfl, Nat.le_of_ble_eq_true rfl⟩ hK (hP.sub (ws' := (wM h2 a2 cI cZ K B RP EN)) [7, 8, 9, 10, 11] rfl) 1 0 rfl rfl hl.1 rfl (Nat.le_of_ble_eq_true rfl) ⟨Nat.le_of_ble_eq_true rfl, Nat.le_of_ble_eq_true rfl⟩ dL_law_310 ?_
        refine lv_icmp_eq (tgt := 341) hx hb dL_law_313 (by decide) (fun c_313 => ?_) (fun c_ => absurd rfl c_)
        refine sa_iinc (k := 3) (lv' := [(3, .int (sa_i (i + 5))), (0, .ref b), (1, .ref h), (2, .ref h2)]) hx hb dL_law_341 hl rfl (by decide) rfl (fun ls hl => ?_)
        refine lv_goto (tgt := 18) hx hb dL_law_344 (by decide) ?_
        exact ih (i + 5) (by omega) (by omega) (by omega) G RP EN RN LO HI K B hR H locs hP hD hS ls (lv_sub hl [1, 2, 3, 0] rfl)
      · refine lv_tableIn (off := 286) (tgt := 318) hx hb dL_law_32 (by decide +kernel) (by decide +kernel) (by decide +kernel) (by decide) ?_
        obtain ⟨rr, M1, M2⟩ := two_complete l D h h2 a a2 cI cZ hR (scr xs (i + 1)) r1
        refine lv_aload_n hx hb dL_law_318 rfl (lv_at hl 1 rfl) ?_
        refine lv_aload_n hx hb dL_law_319 rfl (lv_at hl 0 rfl) ?_
        refine lv_iload_n hx hb dL_law_320 rfl (lv_at hl 3 rfl) ?_
        refine sa_const hx hb dL_law_321 ?_
        refine sa_add hx hb dL_law_322 ?_
        refine law_ld hx hb hX hbl hbA hS dL_law_323 ?_
        refine sa_callP (nA := 1) S M1 (lw_V q113 q114 q115 q14 q116) (by decide +kernel) rfl ⟨Nat.le_of_ble_eq_true rfl, Nat.le_of_ble_eq_true rfl⟩ (hK.sub [0] rfl) (hP.sub (ws' := (wX h a cI G RP EN RN LO HI)) [0, 1, 2, 3, 4, 5, 6] rfl) 0 0 rfl rfl hl.1 rfl (Nat.le_of_ble_eq_true rfl) ⟨Nat.le_of_ble_eq_true rfl, Nat.le_of_ble_eq_true rfl⟩ dL_law_324 ?_
        refine lv_aload_n hx hb dL_law_327 rfl (lv_at hl 2 rfl) ?_
        refine lv_aload_n hx hb dL_law_328 rfl (lv_at hl 0 rfl) ?_
        refine lv_iload_n hx hb dL_law_329 rfl (lv_at hl 3 rfl) ?_
        refine sa_const hx hb dL_law_330 ?_
        refine sa_add hx hb dL_law_331 ?_
        refine law_ld hx hb hX hbl hbA hS dL_law_332 ?_
        refine sa_callP (nA := 1) S M2 (lw_V q192 q193 q194 q15 q195) (by decide +kernel) rfl ⟨Nat.le_of_ble_eq_true rfl, Nat.le_of_ble_eq_true rfl⟩ hK (hP.sub (ws' := (wM h2 a2 cI cZ K B RP EN)) [7, 8, 9, 10, 11] rfl) 1 0 rfl rfl hl.1 rfl (Nat.le_of_ble_eq_true rfl) ⟨Nat.le_of_ble_eq_true rfl, Nat.le_of_ble_eq_true rfl⟩ dL_law_333 ?_
        refine lv_icmp_eq (tgt := 341) hx hb dL_law_336 (by decide) (fun c_336 => ?_) (fun c_ => absurd rfl c_)
        refine sa_iinc (k := 3) (lv' := [(3, .int (sa_i (i + 5))), (0, .ref b), (1, .ref h), (2, .ref h2)]) hx hb dL_law_341 hl rfl (by decide) rfl (fun ls hl => ?_)
        refine lv_goto (tgt := 18) hx hb dL_law_344 (by decide) ?_
        exact ih (i + 5) (by omega) (by omega) (by omega) G RP EN RN LO HI K B hR H locs hP hD hS ls (lv_sub hl [1, 2, 3, 0] rfl)
      · refine lv_tableOut (tgt := 341) hx hb dL_law_32 (Or.inr (by rw [sa_toInt (by omega)]; omega)) (by decide) ?_
        refine sa_iinc (k := 3) (lv' := [(3, .int (sa_i (i + 5))), (0, .ref b), (1, .ref h), (2, .ref h2)]) hx hb dL_law_341 hl rfl (by decide) rfl (fun ls hl => ?_)
        refine lv_goto (tgt := 18) hx hb dL_law_344 (by decide) ?_
        exact ih (i + 5) (by omega) (by omega) (by omega) G RP EN RN LO HI K B hR H locs hP hD hS ls (lv_sub hl [1, 2, 3, 0] rfl)
end
section
set_option maxHeartbeats 4000000 in
set_option maxRecDepth 100000 in
/-- the law, from its entry -/
theorem whole_start {p : Program} {e : Env} {s : State} {m : MethodId} {below : List Frame} {meth : Method} {c : Code} (l : Launch) {b L : Nat} {xs : Nat → Int32} (hL : L ≤ 320) (C0 : lw_At p s m meth c b L xs) : W p l e room_1 s m #[Value.ref b] below meth c s.heap [] 0 0 (lw_Z below #[Value.ref b] s) (entryFrame m ([Value.ref b] : List Value).toArray 4) := by
  obtain ⟨hx, hb, hr, hml, hown, hts0, hX, hbl, hlocks, hgv⟩ := id C0
  have hts : ∀ w ∈ lw_all, w.before #[Value.ref b] s = true := fun w h => hts0 w (lw_all_tbl h)
  have hA : ∀ q : Nat, s.heap.size ≤ q → (fun q : Nat => s.heap.size ≤ q) q := fun _ h => h
  have S : CallFix p m c cL_law 4 s #[Value.ref b] lw_all R_law := ⟨hx, hb, hml, hown, hts⟩
  obtain ⟨c0, iS0, hKn0⟩ := u_known (C := RX0) (T := TX0) (N := 6) (n := 6) hts0 (fun w h => lw_all_tbl (in_X0 w h)) (hts0 _ (lw_all_tbl q17))
  obtain ⟨c1, iS1, hKn1⟩ := u_known (C := RX1) (T := TX1) (N := 4) (n := 4) hts0 (fun w h => lw_all_tbl (in_X1 w h)) (hts0 _ (lw_all_tbl q118))
  obtain ⟨D, hKc⟩ : ∃ D : va_G, ∀ (k : Nat) (q : vw_C), vwCl[k]? = some q → u_Kn s q.1 q.2.1 q.2.2 (D.1 k) (D.2 k) := by
    refine ⟨(fun k => if k = 0 then c0 else c1, fun k => if k = 0 then iS0 else iS1), ?_⟩
    intro k q hq
    match k, hq with
    | 0, hq => cases hq; exact hKn0
    | 1, hq => cases hq; exact hKn1
    | k + 2, hq => simp [vwCl] at hq
  have hS : va_S (fun q : Nat => s.heap.size ≤ q) s.heap s.heap [] := va_S.rf
  have hK : va_K D vwCl [] s := ⟨hKc, fun k q h => by simp at h⟩
  have hP : va_P D vwCl [] s.heap := fun k q h => by simp at h
  have hD : va_D (fun q : Nat => s.heap.size ≤ q) [] := ⟨fun i j p q h => by simp at h, fun k q h => by simp at h⟩
  have hl := lv_entry ([.ref b]) (n := 4) (Nat.le_of_ble_eq_true rfl)
  rw [lg_entry_eq]
  generalize (lg_sl ([.ref b]) ++ List.replicate (4 - (lg_sl ([.ref b])).length) Slot.unset).toArray = ls at hl ⊢
  have hl : lv_has ls 4 [(0, .ref b)] := hl
  refine va_new (cc := cL_law) (ci := 0) (fs := [.null, .null, .null, .null, .null, .null]) (C := RX0) (T := TX0) (N := 6) hx hb hts in_X0 tyX0 tyX0_ok hown (hts _ q16) (hts _ q17) (hts _ q14) hK hP hD hS hA rfl (fun j hj => by rcases (show j = 0 ∨ j = 1 ∨ j = 2 ∨ j = 3 ∨ j = 4 ∨ j = 5 by omega) with rfl | rfl | rfl | rfl | rfl | rfl <;> rfl) (Nat.le_of_ble_eq_true rfl) (Nat.le_of_ble_eq_true rfl) dL_law_0 (fun h H hP hD hS => ?_)
  have hP : va_P D vwCl [(h, .inr (0, [.null, .null, .null, .null, .null, .null]))] H := hP
  have hD : va_D (fun q : Nat => s.heap.size ≤ q) [(h, .inr (0, [.null, .null, .null, .null, .null, .null]))] := hD
  refine W.widen (k := 1) (n := 6) (Nat.le_of_ble_eq_true rfl) (Nat.le_of_ble_eq_true rfl) ?_
  refine lv_dup hx hb dL_law_3 rfl ?_
  have hFc := va_free (wc := [(h, .inr (0, [.null, .null, .null, .null, .null, .null]))]) hD hS hA [0] rfl
  refine va_callv (va_runI (As := []) (rest := [.ref h]) S (metX0_init l D h H.size) (cwI 0 hts (lw_meth q20) rfl rfl rfl (hts _ q14) (hts _ q18) (hts _ q19) rfl (by decide +kernel) ⟨Nat.le_of_ble_eq_true rfl, Nat.le_of_ble_eq_true rfl⟩) ⟨fun a U g mk q => by obtain ⟨q0, q1, qP, qK, qD⟩ := q; exact ⟨q0, q1, qP, va_K.moved (u := U) (U := U.calling g mk a) (Vm.Alike.refl U.vm) qK, qD⟩, fun U hU hW => ⟨rfl, by rw [hU], by rw [hU]; exact hP, va_K.moved hW.alike hK, hD.weaken (fun _ _ _ _ => trivial)⟩⟩ rfl rfl hl.1 rfl (lv_room (Nat.le_of_ble_eq_true rfl)) dL_law_4 ⟨Nat.le_of_ble_eq_true rfl, Nat.le_of_ble_eq_true rfl⟩) hS (fun q _ h => hFc q h) hFc (fun u t H1 locs ht hvm hw hB hz1 hk1 hS => ?_)
  obtain ⟨a, cI, hP1, hK1, hD1⟩ := hB
  rw [ht] at hP1
  have hKx : va_K D vwCl (xT cI) s := va_K.moved hvm.symm hK1
  obtain ⟨hP, hD⟩ := va_join (wr := []) (w1 := wX h a cI (fun _ => 0) (fun _ => 0) sa_e0 (fun _ => 0) (fun _ => 0) (fun _ => 0)) hP hD [0] [] rfl rfl (by decide) (by decide) hk1 hFc hP1 hD1
  generalize H1 = H at hP hS ⊢
  have hP : va_P D vwCl (wX h a cI (fun _ => 0) (fun _ => 0) sa_e0 (fun _ => 0) (fun _ => 0) (fun _ => 0)) H := hP
  have hD : va_D (fun q : Nat => s.heap.size ≤ q) (wX h a cI (fun _ => 0) (fun _ => 0) sa_e0 (fun _ => 0) (fun _ => 0) (fun _ => 0)) := hD
  refine W.widen (k := 7) (n := 250) (Nat.le_of_ble_eq_true rfl) (Nat.le_of_ble_eq_true rfl) ?_
  refine lv_astore_n (lv' := [(1, .ref h), (0, .ref b)]) hx hb dL_law_7 rfl hl (by decide) rfl (fun ls hl => ?_)
  refine va_new (cc := cL_law) (ci := 1) (fs := [.null, .null, .null, .null]) (C := RX1) (T := TX1) (N := 4) hx hb hts in_X1 tyX1 tyX1_ok hown (hts _ q117) (hts _ q118) (hts _ q15) hKx hP hD hS hA rfl (fun j hj => by rcases (show j = 0 ∨ j = 1 ∨ j = 2 ∨ j = 3 by omega) with rfl | rfl | rfl | rfl <;> rfl) (Nat.le_of_ble_eq_true rfl) (Nat.le_of_ble_eq_true rfl) dL_law_8 (fun h2 H hP hD hS => ?_)
  refine W.widen (k := 8) (n := 254) (Nat.le_of_ble_eq_true rfl) (Nat.le_of_ble_eq_true rfl) ?_
  refine lv_dup hx hb dL_law_11 rfl ?_
  have hPc := hP.sub (ws' := [(h2, .inr (1, [.null, .null, .null, .null]))]) [7] rfl
  have hDc := hD.sub (ws' := [(h2, .inr (1, [.null, .null, .null, .null]))]) [7] (by decide) rfl
  have hFc := va_free (wc := [(h2, .inr (1, [.null, .null, .null, .null]))]) hD hS hA [7] rfl
  refine va_callv (va_runI (As := []) (rest := [.ref h2]) S (metX1_init l D h2 H.size) (cwI 0 hts (lw_meth q121) rfl rfl rfl (hts _ q15) (hts _ q119) (hts _ q120) rfl (by decide +kernel) ⟨Nat.le_of_ble_eq_true rfl, Nat.le_of_ble_eq_true rfl⟩) ⟨fun a U g mk q => by obtain ⟨q0, q1, qP, qK, qD⟩ := q; exact ⟨q0, q1, qP, va_K.moved (u := U) (U := U.calling g mk a) (Vm.Alike.refl U.vm) qK, qD⟩, fun U hU hW => ⟨rfl, by rw [hU], by rw [hU]; exact hPc, va_K.moved hW.alike hK, hDc.weaken (fun _ _ _ _ => trivial)⟩⟩ rfl rfl hl.1 rfl (lv_room (Nat.le_of_ble_eq_true rfl)) dL_law_12 ⟨Nat.le_of_ble_eq_true rfl, Nat.le_of_ble_eq_true rfl⟩) hS (fun q _ h => hFc q h) hFc (fun u t H1 locs ht hvm hw hB hz1 hk1 hS => ?_)
  obtain ⟨a2, cI2, cZ, hP1, hK1, hD1⟩ := hB
  rw [ht] at hP1
  have hKm : va_K D vwCl (mT cI2 cZ) s := va_K.moved hvm.symm hK1
  have ec : cI = cI2 := sa_same (hKx.app hKm) 0 1 rfl rfl
  subst ec
  obtain ⟨hP, hD⟩ := va_join (wr := wX h a cI (fun _ => 0) (fun _ => 0) sa_e0 (fun _ => 0) (fun _ => 0) (fun _ => 0)) (w1 := wM h2 a2 cI cZ (fun _ => false) (fun _ => 0) (fun _ => 0) sa_e0) hP hD [7] [0, 1, 2, 3, 4, 5, 6] rfl rfl (by decide) (by decide) hk1 hFc hP1 hD1
  generalize H1 = H at hP hS ⊢
  refine W.widen (k := 12) (n := 2182) (Nat.le_of_ble_eq_true rfl) (Nat.le_of_ble_eq_true rfl) ?_
  refine lv_astore_n (lv' := [(2, .ref h2), (1, .ref h), (0, .ref b)]) hx hb dL_law_15 rfl hl (by decide) rfl (fun ls hl => ?_)
  refine sa_const hx hb dL_law_16 ?_
  refine lv_istore_n (lv' := [(3, .int (sa_i 0)), (2, .ref h2), (1, .ref h), (0, .ref b)]) hx hb dL_law_17 rfl hl (by decide) rfl (fun ls hl => ?_)
  exact law_loop l hL C0 hKm (L + 1) 0 (by omega) (by omega) (by omega) _ _ _ _ _ _ _ _ rel_start H locs hP hD hS ls (lv_sub hl [3, 2, 1, 0] rfl)
end
section
set_option maxRecDepth 100000
set_option maxHeartbeats 4000000 in
theorem lw_walk (l : Launch) (b : Addr) (xs : List Int32) : MetFree l x (headSpec (Jvm.Cond.code x code maxLocals ret :: tables_1) room_1) (lw_P b xs) (fun _ _ _ _ _ => True) lw_Q := by
  refine MetFree.of_bodyS (code := code) (maxLocals := maxLocals) (ret := ret) (by decide) ?_ ?_
  · intro args s m h hn
    obtain ⟨meth, c, h1, h2, h3, h4, h5, h6, -, -⟩ := Cond.code_spec hn (atoms_spec (ws := Jvm.Cond.code x code maxLocals ret :: tables_1) h _ List.mem_cons_self)
    exact ⟨meth, c, h1, h2, h3, h4, h5, h6⟩
  · intro p e s m args below meth c s₁ B hml0 hP _
    obtain ⟨rfl, hx, hbd, hgv⟩ := hP
    obtain ⟨scr, harrAt, hlist, hof, hsmall⟩ := hx
    obtain ⟨hcb, hkn, -, -⟩ := State.arrayAt?_spec harrAt
    have hown : s.vm.findClass R_law = some m.cls := findClass_of_methodNamed B.named
    have hts0 : ∀ c ∈ (Jvm.Cond.code x code maxLocals ret :: tables_1), c.before #[Value.ref b] s = true := atoms_spec (ws := Jvm.Cond.code x code maxLocals ret :: tables_1) B.pre
    have hts : ∀ w ∈ lw_tbl, w.before #[Value.ref b] s = true := k2_hts_sels lw_privs (fun w hw => hts0 w (List.mem_cons_of_mem _ hw)) lw_privs_ok
    have hml : c.maxLocals = 4 := B.maxLocals_eq (hts0 _ List.mem_cons_self)
    have X₀ : Stand p l e room_1 s m #[Value.ref b] below meth c s₁ [] 0 0 := Stand.of_body B
    have hh0 : s₁.heap = s.heap := by rw [B.state]; rfl
    have hsz : scr.slots.size = xs.length := by rw [← Array.length_toList, hlist, List.length_map]
    have hval : ∀ j : Nat, j < xs.length → scr.slots[j]? = some (.int (xs.getD j 0)) := fun j hj => by
      rw [← Array.getElem?_toList, hlist]
      simp [hj]
    have hbl : b < s.heap.size := (Array.getElem?_eq_some_iff.mp hcb).1
    have hX : va_X b xs.length (fun j => xs.getD j 0) s s.heap := ⟨scr, hcb, hof, hkn, hsz, hval⟩
    have K : W p l e room_1 s m #[Value.ref b] below meth c s₁.heap [] 0 0 (lw_Z below #[Value.ref b] s) (entryFrame m ([Value.ref b] : List Value).toArray 4) := by
      rw [hh0]
      exact whole_start l hbd ⟨B.exec, B.bytes, B.returns, hml, hown, hts, hX, hbl, B.notSynchronized, hgv⟩
    obtain ⟨t, a1, o, b1, b2, b3⟩ := K s₁ rfl X₀
    exact ⟨t, o, a1, b1, b2, b3⟩
theorem lw_pre_spec {args : Array Value} {s : State} (h : (Jvm.Cond.and given_1 narrow_1).before args s = true) (hr : rest_1_c.before args s = true) : ∃ (b : Addr) (xs : List Int32), lw_P b xs args s := by
  have hs := flat_of_before _ h
  have hq := flat_of_before _ hr
  have hc : (Cond.count 1).before args s = true := hs _ (by decide +kernel)
  have harr : (Cond.arrayOf (.arg 0) .int).before args s = true := hs _ (by decide +kernel)
  have hle : (Cond.le (.length (.arg 0)) (.int 320)).before args s = true := hs _ (by decide +kernel)
  have hlen : (Cond.isInt (.length (.arg 0))).before args s = true := hq _ (by decide +kernel)
  have hall : (Cond.all (.arg 0) (.isInt (.elem (.arg 0) (.index 0)))).before args s = true := hq _ (by decide +kernel)
  obtain ⟨b, xs, hb, hx⟩ := State.ints_of_pre rfl harr hlen hall
  have hsm : xs.length < 2 ^ 31 := hx.choose_spec.2.2.2
  have hev : (Term.length (.arg 0)).eval args s none [] s = some (.int xs.length.toInt32) := hx.length_eval hb
  have hv := Cond.le_ints hev (show (Term.int 320).eval args s none [] s = some (.int 320) from rfl)
  have hd : xs.length.toInt32 ≤ 320 := by
    simpa [Cond.before, Cond.holds, hv] using hle
  have hN : xs.length ≤ 320 := (Int32.ofNat_le_ofNat hsm (by decide)).mp (show Int32.ofNat xs.length ≤ Int32.ofNat 320 from hd)
  exact ⟨b, xs, Cond.one_arg hc (show args[0]? = some (.ref b) from hb), hx, hN, h⟩
theorem lw_comes (l : Launch) : Comes l x (Jvm.Cond.code x code maxLocals ret :: tables_1) room_1 (fun tb e args s => Calls_1 tb e args s ∧ rest_1 tb e args s ∧ Pre_1 tb e args s)
    (fun _ _ args s o t => lw_Q args s o t) := by
  intro p e ha hc hk s m args below hf hfit hheap happ hpre
  obtain ⟨b, xs, hP⟩ := lw_pre_spec hpre.2.2 hpre.2.1
  obtain ⟨k, o, h1, h2, h3, hQ⟩ := lw_walk l b xs p e ha hc hk s m args below hf ((Spec.applies_iff_loose hf).mp happ).1 hP trivial
  exact ⟨k, o, h1, h2, h3, hQ⟩
theorem lw_frame {s t : State} {o : Outcome} {args : Array Value} (h : Framed s o t [] 600000 7290000) :
    Framed s o t (fieldLocs frame_1_writes args s ++ arrayLocs frame_1_arrays args s ++ staticLocs frame_1_statics s) 600000 7290000 := h
theorem lw_limb (L : Cond) (hL : ∀ (args : Array Value) (s t : State), L.after args s (.returned (some (.int 1))) t = true) :
    ArmFor flags0 classFile x code maxLocals ret World_1 tables_1 room_1 Calls_1 rest_1 Pre_1
      (fun tb e a s o t => postC L tb e a s o t ∧ Framed s o t (fieldLocs frame_1_writes a s ++ arrayLocs frame_1_arrays a s ++ staticLocs frame_1_statics s) 600000 7290000) := by
  intro l _ _ _ p e ha hc hk s m args below hf hfit hheap happ hpre
  obtain ⟨k, o, h1, h2, h3, rfl, hF⟩ := lw_comes l p e ha hc hk s m args below hf hfit hheap happ hpre
  exact ⟨k, _, h1, h2, h3, hL args s _, lw_frame hF⟩
theorem i_vc : Claimed_1_1 ∧ Claimed_1_2 := ⟨lw_limb limb_1_1 (fun args s t => by simp [limb_1_1, Cond.after, Cond.holds, Cond.value]), lw_limb limb_1_2 (fun args s t => Cond.after_iff.mpr (by
  first | (rw [show limb_1_2 = Cond.eq .result (.int 1) from rfl, Cond.eq_ints (x := 1) (y := 1) rfl rfl]; simp; done) | (simp [limb_1_2, Cond.value, Term.eval]; done)))⟩
end
