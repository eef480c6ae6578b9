/-! THE G-LAYER 2: what holds at every method's entry; the uniform contract; start, ends, calls -/
set_option maxRecDepth 100000
def gNw : List Cond := lw_tbl.filter gNk
theorem gNw_in {w : Cond} (h : w ∈ lw_tbl) (g : gNk w = true) : w ∈ gNw := List.mem_filter.mpr ⟨h, g⟩
/-- statics that nobody writes here -/
def gSt (D : gD) : List (String × String × String × Value) := [
  ("java/util/ArrayList", "DEFAULTCAPACITY_EMPTY_ELEMENTDATA", "[Ljava/lang/Object;", .ref (gk D 0)),
  ("java/lang/Integer", "DigitOnes", "[B", .ref (gk D 1)),
  ("java/lang/Integer", "DigitTens", "[B", .ref (gk D 2)),
  ("java/lang/Integer$IntegerCache", "cache", "[Ljava/lang/Integer;", .ref (gk D 3)),
  ("WhelkFleet$Bait", "CRAB", "LWhelkFleet$Bait;", .ref (gk D 4)),
  ("WhelkFleet$Bait", "FISH", "LWhelkFleet$Bait;", .ref (gk D 5)),
  ("WhelkFleet$Bait", "MIXED", "LWhelkFleet$Bait;", .ref (gk D 6)),
  ("java/lang/String", "COMPACT_STRINGS", "Z", .int 1),
  ("java/lang/StringUTF16", "HI_BYTE_SHIFT", "I", .int 0),
  ("java/lang/StringUTF16", "LO_BYTE_SHIFT", "I", .int 8),
  ("java/lang/StringUTF16", "$assertionsDisabled", "Z", .int 1),
  ("java/lang/Integer$IntegerCache", "high", "I", .int 127),
  ("java/lang/Throwable", "UNASSIGNED_STACK", Bundle.steD, gv D 0),
  ("java/lang/Throwable", "SUPPRESSED_SENTINEL", Bundle.listD, gv D 1),
  ("jdk/internal/util/Preconditions", "SIOOBE_FORMATTER", "Ljava/util/function/BiFunction;", gv D 2)]
/-- String constants: class, entry, text, address (one for each text) -/
def gSr (D : gD) : List (String × Nat × String × Nat) := [
  ("WhelkFleet", 52, "", gk D 100),
  ("WhelkFleet", 161, "stock", gk D 101),
  ("WhelkFleet$Deed", 31, "out", gk D 102),
  ("WhelkFleet$Deed", 37, "home", gk D 103),
  ("WhelkFleet$Deed", 41, "shoot", gk D 104),
  ("WhelkFleet$Deed", 43, "haul", gk D 105),
  ("WhelkFleet$Deed", 39, "land", gk D 106),
  ("WhelkFleet$Deed", 71, "swell", gk D 107),
  ("WhelkFleet$Deed", 45, "riddle", gk D 108),
  ("WhelkFleet$Deed", 47, "days", gk D 109),
  ("WhelkFleet$Deed", 104, "boat", gk D 110),
  ("WhelkFleet$Deed", 106, "string", gk D 111),
  ("WhelkFleet$Deed", 108, "box", gk D 112),
  ("WhelkFleet", 170, "box", gk D 112),
  ("WhelkFleet", 183, "boat", gk D 110),
  ("WhelkFleet", 184, "string", gk D 111),
  ("WhelkFleet", 241, "out", gk D 102),
  ("WhelkFleet", 243, "home", gk D 103),
  ("WhelkFleet", 245, "shoot", gk D 104),
  ("WhelkFleet", 247, "haul", gk D 105),
  ("WhelkFleet", 249, "land", gk D 106),
  ("WhelkFleet", 276, "swell", gk D 107),
  ("WhelkFleet", 278, "riddle", gk D 108),
  ("WhelkFleet", 280, "days", gk D 109),
  ("WhelkFleet$Reader", 96, " out home shoot haul land swell riddle days ", gk D 113),
  ("WhelkFleet$Reader", 57, " ", gk D 114),
  ("WhelkFleet$Reader", 105, "out", gk D 102),
  ("WhelkFleet$Reader", 107, "shoot", gk D 104),
  ("WhelkFleet$Reader", 109, "haul", gk D 105),
  ("WhelkFleet$Reader", 111, "days", gk D 109),
  ("WhelkFleet$Reader", 113, " to ", gk D 115),
  ("WhelkFleet$Reader", 120, " by ", gk D 116),
  ("WhelkFleet$Reader", 122, " with ", gk D 117),
  ("WhelkFleet$Reader", 78, " crab fish mixed ", gk D 118),
  ("WhelkFleet$Bait$1", 13, "crab", gk D 119),
  ("WhelkFleet$Bait$2", 13, "fish", gk D 120),
  ("WhelkFleet$Bait$3", 13, "mixed", gk D 121),
  ("WhelkFleet$Reader", 142, ";", gk D 122),
  ("WhelkFleet", 345, "boat ", gk D 123),
  ("WhelkFleet$Boat", 46, "at ", gk D 124),
  ("WhelkFleet$Boat", 61, "home", gk D 103),
  ("WhelkFleetModel", 157, "out ", gk D 125),
  ("WhelkFleetModel", 159, "home ", gk D 126),
  ("WhelkFleetModel", 161, "shoot ", gk D 127),
  ("WhelkFleetModel", 163, "haul ", gk D 128),
  ("WhelkFleetModel", 165, "land ", gk D 129),
  ("WhelkFleetModel", 167, "swell ", gk D 130),
  ("WhelkFleetModel", 169, "riddle ", gk D 131),
  ("WhelkFleetModel", 171, "days ", gk D 132),
  ("WhelkFleetModel", 220, " to ", gk D 115),
  ("WhelkFleetModel", 222, " by ", gk D 116),
  ("WhelkFleetModel", 224, " with ", gk D 117),
  ("WhelkFleetModel", 208, "fish", gk D 120),
  ("WhelkFleetModel", 210, "mixed", gk D 121),
  ("WhelkFleetModel", 212, "crab", gk D 119),
  ("WhelkFleetModel", 247, "boat ", gk D 123),
  ("WhelkFleetModel", 255, " home", gk D 133),
  ("WhelkFleetModel", 257, " at ", gk D 134)]
/-- interface calls: receiver's class, the interface's method, the method that runs -/
def gFw : List (String × MethodName × MethodName) := [
  ("java/util/ArrayList", ⟨"java/util/List", "get", "(I)Ljava/lang/Object;"⟩, ⟨"java/util/ArrayList", "get", "(I)Ljava/lang/Object;"⟩),
  ("java/util/ArrayList", ⟨"java/util/List", "size", "()I"⟩, ⟨"java/util/ArrayList", "size", "()I"⟩),
  ("java/util/LinkedList", ⟨"java/util/List", "get", "(I)Ljava/lang/Object;"⟩, ⟨"java/util/LinkedList", "get", "(I)Ljava/lang/Object;"⟩),
  ("java/util/LinkedList", ⟨"java/util/List", "size", "()I"⟩, ⟨"java/util/LinkedList", "size", "()I"⟩),
  ("java/util/ArrayList", ⟨"java/util/List", "add", "(Ljava/lang/Object;)Z"⟩, ⟨"java/util/ArrayList", "add", "(Ljava/lang/Object;)Z"⟩),
  ("java/util/ArrayList", ⟨"java/util/List", "iterator", "()Ljava/util/Iterator;"⟩, ⟨"java/util/ArrayList", "iterator", "()Ljava/util/Iterator;"⟩),
  ("java/util/ArrayList$Itr", ⟨"java/util/Iterator", "hasNext", "()Z"⟩, ⟨"java/util/ArrayList$Itr", "hasNext", "()Z"⟩),
  ("java/util/ArrayList$Itr", ⟨"java/util/Iterator", "next", "()Ljava/lang/Object;"⟩, ⟨"java/util/ArrayList$Itr", "next", "()Ljava/lang/Object;"⟩),
  ("java/util/LinkedList$ListItr", ⟨"java/util/Iterator", "hasNext", "()Z"⟩, ⟨"java/util/LinkedList$ListItr", "hasNext", "()Z"⟩),
  ("java/util/LinkedList$ListItr", ⟨"java/util/Iterator", "next", "()Ljava/lang/Object;"⟩, ⟨"java/util/LinkedList$ListItr", "next", "()Ljava/lang/Object;"⟩),
  ("java/lang/StringBuilder", ⟨"java/lang/CharSequence", "length", "()I"⟩, ⟨"java/lang/StringBuilder", "length", "()I"⟩),
  ("java/lang/StringBuilder", ⟨"java/lang/CharSequence", "charAt", "(I)C"⟩, ⟨"java/lang/StringBuilder", "charAt", "(I)C"⟩),
  ("java/lang/String", ⟨"java/lang/CharSequence", "toString", "()Ljava/lang/String;"⟩, ⟨"java/lang/String", "toString", "()Ljava/lang/String;"⟩),
  ("WhelkFleet$Ashore", ⟨"WhelkFleet$Place", "number", "()I"⟩, ⟨"WhelkFleet$Place", "number", "()I"⟩),
  ("WhelkFleet$Ashore", ⟨"WhelkFleet$Place", "isAshore", "()Z"⟩, ⟨"WhelkFleet$Place", "isAshore", "()Z"⟩),
  ("WhelkFleet$Ashore", ⟨"WhelkFleet$Place", "isSameAs", "(LWhelkFleet$Place;)Z"⟩, ⟨"WhelkFleet$Place", "isSameAs", "(LWhelkFleet$Place;)Z"⟩),
  ("WhelkFleet$OnGround", ⟨"WhelkFleet$Place", "number", "()I"⟩, ⟨"WhelkFleet$Place", "number", "()I"⟩),
  ("WhelkFleet$OnGround", ⟨"WhelkFleet$Place", "isAshore", "()Z"⟩, ⟨"WhelkFleet$Place", "isAshore", "()Z"⟩),
  ("WhelkFleet$OnGround", ⟨"WhelkFleet$Place", "isSameAs", "(LWhelkFleet$Place;)Z"⟩, ⟨"WhelkFleet$Place", "isSameAs", "(LWhelkFleet$Place;)Z"⟩)]
/-- interface calls that land in a default method -/
def gLd : List (String × MethodName × MethodName) := [
  ("WhelkFleet$Ashore", ⟨"WhelkFleet$Place", "number", "()I"⟩, ⟨"WhelkFleet$Place", "number", "()I"⟩),
  ("WhelkFleet$Ashore", ⟨"WhelkFleet$Place", "isAshore", "()Z"⟩, ⟨"WhelkFleet$Place", "isAshore", "()Z"⟩),
  ("WhelkFleet$Ashore", ⟨"WhelkFleet$Place", "isSameAs", "(LWhelkFleet$Place;)Z"⟩, ⟨"WhelkFleet$Place", "isSameAs", "(LWhelkFleet$Place;)Z"⟩),
  ("WhelkFleet$OnGround", ⟨"WhelkFleet$Place", "number", "()I"⟩, ⟨"WhelkFleet$Place", "number", "()I"⟩),
  ("WhelkFleet$OnGround", ⟨"WhelkFleet$Place", "isAshore", "()Z"⟩, ⟨"WhelkFleet$Place", "isAshore", "()Z"⟩),
  ("WhelkFleet$OnGround", ⟨"WhelkFleet$Place", "isSameAs", "(LWhelkFleet$Place;)Z"⟩, ⟨"WhelkFleet$Place", "isSameAs", "(LWhelkFleet$Place;)Z"⟩)]
/-- casts that fail -/
def gNc : List (String × String) := [
  ("WhelkFleet$Ashore", "WhelkFleet$OnGround"),
  ("WhelkFleet$OnGround", "WhelkFleet$Ashore"),
  ("WhelkFleet$Refusal", "WhelkFleet$TextError"),
  ("java/lang/IllegalArgumentException", "java/lang/IndexOutOfBoundsException"),
  ("java/lang/UnsupportedOperationException", "java/lang/IndexOutOfBoundsException"),
  ("java/lang/UnsupportedOperationException", "java/lang/IllegalArgumentException")]
def gW (D : gD) (U : State) : Prop :=
  (∀ (c : Nat) (q : vw_C), gC[c]? = some q → U.vm.findClass q.1 = some (gcid D c) ∧ (0 < q.2.2 → u_Kn U q.1 q.2.1 q.2.2 (gcid D c) (gslo D c))) ∧
  (∀ (t : Nat) (c : ClassId), gisA D t c → ∃ (k : Class) (comp : ClassId), U.vm.classes[c]? = some k ∧ k.kind = .array comp (gTy t)) ∧
  (∀ t : Nat, t < 6 → U.vm.findClass ("[" ++ (gTy t).toString) = some (garr D t) ∧ gisA D t (garr D t)) ∧
  va_RA U (garr D 5) (gTy 5) ∧
  (∀ x ∈ gSt D, va_Z x.1 x.2.1 x.2.2.1 x.2.2.2 (gA D) U U.heap) ∧
  (vx_L "java/lang/Throwable" "UNASSIGNED_STACK" Bundle.steD (gA D) U U.heap ∧ vx_L "java/lang/Throwable" "SUPPRESSED_SENTINEL" Bundle.listD (gA D) U U.heap) ∧
  (∀ x ∈ gSr D, vk_R x.1 x.2.1 x.2.2.1 x.2.2.2 U) ∧
  (∀ w ∈ gNw, va_Nw w U) ∧ (∀ x ∈ gFw, va_Fw x.1 x.2.1 x.2.2 U) ∧ (∀ x ∈ gLd, (Cond.landsInDefault x.1 x.2.1 x.2.2).before #[] U = true) ∧ (∀ x ∈ gNc, va_Nc x.1 x.2 U) ∧ va_AO "java/lang/Object" U ∧
  gz D ≤ U.heap.size
theorem gFw_ok : ∀ x ∈ gFw, x.2.1.cls ≠ "java/lang/invoke/MethodHandle" ∧ x.2.1.cls ≠ "java/lang/invoke/VarHandle" := by decide +kernel
theorem gW.go {D : gD} {s U : State} (h : gW D s) (hW : s.WarmedH U.vm) (hz : s.heap.size ≤ U.heap.size) (hq : ∀ q : Nat, q < s.heap.size → ¬ gA D q → U.heap[q]? = s.heap[q]?) : gW D U := by
  obtain ⟨h1, h2, h3, h4, h5, h6, h7, h8, h9, h10, h11, h12, h13⟩ := h
  have hvm := hW.alike
  refine ⟨fun c q hc => ⟨by rw [hvm.findClass]; exact (h1 c q hc).1, fun hn => u_Kn_moved hvm ((h1 c q hc).2 hn)⟩, fun t c ha => ?_, fun t ht => ⟨by rw [hvm.findClass]; exact (h3 t ht).1, (h3 t ht).2⟩, h4.moved hvm, fun x hx => (va_Z.moved hvm (h5 x hx)).kept hq, ⟨(vx_L.moved hvm h6.1).kept hq, (vx_L.moved hvm h6.2).kept hq⟩, fun x hx => vk_R.warm hW (h7 x hx), fun w hw => gNk_moved (List.mem_filter.mp hw).2 hW (h8 w hw), fun x hx => va_Fw.moved (gFw_ok x hx) hvm (h9 x hx), fun x hx => ?_, fun x hx => va_Nc.moved hvm (h11 x hx), va_AO.moved hvm h12, Nat.le_trans h13 hz⟩
  · obtain ⟨k, comp, e1, e2⟩ := h2 t c ha
    obtain ⟨k', hk', he⟩ := hvm.2.2 _ _ e1
    exact ⟨k', comp, hk', by rw [he]; exact e2⟩
  · have e1 : (Cond.landsInDefault x.1 x.2.1 x.2.2).before #[] (s.setVm U.vm) = true := (Cond.landsInDefault_setVm hvm (State.methodFound?_setVm hvm _ _ _)).trans (h10 x hx)
    exact e1
theorem gW.same {D : gD} {u U : State} (hv : U.vm = u.vm) (hh : U.heap = u.heap) (h : gW D u) : gW D U := by
  have hW : u.WarmedH U.vm := by rw [hv]; exact State.WarmedH.refl u
  exact h.go hW (by rw [hh]; exact Nat.le_refl _) (fun q _ _ => by rw [hh])
theorem gW.cls {D : gD} {U : State} (h : gW D U) {c : Nat} {q : vw_C} (hc : gC[c]? = some q) : U.vm.findClass q.1 = some (gcid D c) := (h.1 c q hc).1
theorem gW.kn {D : gD} {U : State} (h : gW D U) {c : Nat} {q : vw_C} (hc : gC[c]? = some q) (hn : 0 < q.2.2) : u_Kn U q.1 q.2.1 q.2.2 (gcid D c) (gslo D c) := (h.1 c q hc).2 hn
theorem gW.nw {D : gD} {U : State} (h : gW D U) {w : Cond} (hw : w ∈ gNw) : va_Nw w U := h.2.2.2.2.2.2.2.1 w hw
theorem gW.fw {D : gD} {U : State} (h : gW D U) {C : String} {x y : MethodName} (hw : (C, x, y) ∈ gFw) : va_Fw C x y U := h.2.2.2.2.2.2.2.2.1 _ hw
theorem gW.ld {D : gD} {U : State} (h : gW D U) {C : String} {x y : MethodName} (hw : (C, x, y) ∈ gLd) : (Cond.landsInDefault C x y).before #[] U = true := h.2.2.2.2.2.2.2.2.2.1 _ hw
theorem gW.nc {D : gD} {U : State} (h : gW D U) {C T : String} (hw : (C, T) ∈ gNc) : va_Nc C T U := h.2.2.2.2.2.2.2.2.2.2.1 _ hw
theorem gW.st {D : gD} {U : State} (h : gW D U) {C n d : String} {v : Value} (hw : (C, n, d, v) ∈ gSt D) : va_Z C n d v (gA D) U U.heap := h.2.2.2.2.1 _ hw
theorem gW.sr {D : gD} {U : State} (h : gW D U) {own : String} {k : Nat} {tx : String} {a : Nat} (hw : (own, k, tx, a) ∈ gSr D) : vk_R own k tx a U := h.2.2.2.2.2.2.1 _ hw
theorem gW.arr {D : gD} {U : State} (h : gW D U) {t : Nat} {cell : Cell} (hs : cell.vm.isStatics = false) (ha : gisA D t cell.cls) : U.isArrayOf cell (gTy t) := by
  obtain ⟨k, comp, e1, e2⟩ := h.2.1 t _ ha
  exact ⟨fun q e => (by rw [e] at hs; cases hs), k, e1, comp, e2⟩
theorem gW.recv {D : gD} {G : gH} {n : Nat} {H : Heap} {U : State} (h : gW D U) (hI : gI D G n H) {a c : Nat} {fs : List Value} {q : vw_C} (ha : G a = some (.inl (c, fs))) (hc : gC[c]? = some q) : ∃ cell : Cell, H[a]? = some cell ∧ cell.vm.isStatics = false ∧ U.vm.findClass q.1 = some cell.cls := by
  obtain ⟨r, cell, e1, e2, e3, e4, -⟩ := hI.2.2.2 _ _ ha
  cases e1.symm.trans hc
  exact ⟨cell, e2, e4, by rw [e3]; exact h.cls hc⟩
-- the contract
def gPc (D : gD) (G : gH) (n : Nat) (args : List Value) : Array Value → State → Prop := fun v U => v = args.toArray ∧ gI D G n U.heap ∧ gW D U
def gQ (D : gD) (post : Option Value → gH → Nat → Prop) : Array Value → State → Outcome → State → Prop := fun _ st oc t => (∃ (v : Option Value) (G : gH) (n : Nat), oc = .returned v ∧ post v G n ∧ gI D G n t.heap) ∧ va_F (gA D) st t
def gX (D : gD) (xp : String → Nat → gH → Nat → Prop) : String → Addr → State → State → Prop := fun E q st t => (∃ (G : gH) (n : Nat), xp E q G n ∧ gI D G n t.heap) ∧ va_F (gA D) st t
def gR (k B : Nat) : Room := { frames := k, cells := B, slots := 200 * B, locals := 60 * k }
def gMet (l : Launch) (D : gD) (y : MethodName) (ws : List Cond) (k B : Nat) (G : gH) (n : Nat) (args : List Value) (post : Option Value → gH → Nat → Prop) (xp : String → Nat → gH → Nat → Prop) : Prop :=
  vx_Met l y ws (gR k B) (gPc D G n args) (gQ D post) (gX D xp) B (200 * B) (gA D)
abbrev gM (below : List Frame) (D : gD) (post : Option Value → gH → Nat → Prop) (xp : String → Nat → gH → Nat → Prop) (args : Array Value) (s : State) (B : Nat) : State → Prop := vx_MQ below (gQ D post) (gX D xp) args s B (200 * B) (gA D)
def gNox : String → Nat → gH → Nat → Prop := fun _ _ _ _ => False
theorem gPc.blind (D : gD) (G : gH) (n : Nat) (args : List Value) : FrameBlind (gPc D G n args) := fun a U g mk q => ⟨q.1, q.2.1, gW.same (u := U) rfl rfl q.2.2⟩
/-- what a body may lean on -/
def gB (p : Program) (l : Launch) (s : State) (m : MethodId) (args : Array Value) (meth : Method) (c : Code) (D : gD) (cc : ByteArray) (own : String) (nL : Nat) (rt : Option FieldType) : Prop :=
  p.tables.exec = Jvm.exec ∧ c.code = cc ∧ meth.sig.returnType = rt ∧ (∀ w ∈ lw_all, w.before args s = true) ∧ s.vm.findClass own = some m.cls ∧ meth.locks = false ∧ c.maxLocals = nL ∧ gW D s
section GB
variable {p : Program} {l : Launch} {e : Env} {R : Room} {s : State} {m : MethodId} {args : Array Value} {below : List Frame} {meth : Method} {c : Code} {D : gD} {cc : ByteArray} {own : String} {nL : Nat} {rt : Option FieldType}
theorem gB.x (h : gB p l s m args meth c D cc own nL rt) : p.tables.exec = Jvm.exec := h.1
theorem gB.b (h : gB p l s m args meth c D cc own nL rt) : c.code = cc := h.2.1
theorem gB.r (h : gB p l s m args meth c D cc own nL rt) : meth.sig.returnType = rt := h.2.2.1
theorem gB.ts (h : gB p l s m args meth c D cc own nL rt) : ∀ w ∈ lw_all, w.before args s = true := h.2.2.2.1
theorem gB.ow (h : gB p l s m args meth c D cc own nL rt) : s.vm.findClass own = some m.cls := h.2.2.2.2.1
theorem gB.lk (h : gB p l s m args meth c D cc own nL rt) : meth.locks = false := h.2.2.2.2.2.1
theorem gB.ml (h : gB p l s m args meth c D cc own nL rt) : c.maxLocals = nL := h.2.2.2.2.2.2.1
theorem gB.w (h : gB p l s m args meth c D cc own nL rt) : gW D s := h.2.2.2.2.2.2.2
theorem gB.fix (h : gB p l s m args meth c D cc own nL rt) : CallFix p m c cc nL s args lw_all own := ⟨h.x, h.b, h.ml, h.ow, h.ts⟩
end GB
theorem gS.rf (A : Nat → Prop) (H : Heap) : va_S A H H [] := va_S.rf
set_option maxHeartbeats 1000000 in
/-- a method without handlers: from its entry -/
theorem g_start {l : Launch} {D : gD} {y : MethodName} {b : ByteArray} {L k B n : Nat} {r : Option FieldType} {G : gH} {args : List Value} {post : Option Value → gH → Nat → Prop} {xp : String → Nat → gH → Nat → Prop} (hy : plainName y.cls = true) (hL : (lg_sl args).length ≤ L)
    (body : ∀ (p : Program) (e : Env) (s : State) (m : MethodId) (below : List Frame) (meth : Method) (c : Code) (ls : Array Slot), gB p l s m args.toArray meth c D b y.cls L r → meth.name = y.name → (∀ x ∈ c.exceptionTable.toList, False) → gI D G n s.heap → lv_has ls L (lv_args 0 args) →
      W p l e (gR k B) s m args.toArray below meth c s.heap [] 0 (200 * 0) (gM below D post xp args.toArray s B) (F0 m 0 ls [])) : gMet l D y (ws_ y b L r) k B G n args post xp := by
  refine vx_ofW (cc := b) (maxL := L) (ret := r) hy rfl ?_
  intro p e s m args' below meth c s₁ Bd hml hxt hv
  obtain ⟨rfl, hI, hW⟩ := hv
  have hts0 := atoms_spec (ws := ws_ y b L r) Bd.pre
  have hts : ∀ w ∈ lw_all, w.before _ s = true := fun w h => hts0 w (List.mem_cons_of_mem _ h)
  have hl := lv_entry args (n := L) hL
  rw [lg_entry_eq]
  exact body p e s m below meth c _ ⟨Bd.exec, Bd.bytes, Bd.returns, hts, findClass_of_methodNamed Bd.named, Bd.notSynchronized, hml, hW⟩ (name_of_methodNamed Bd.named Bd.method).1 hxt hI hl
set_option maxHeartbeats 1000000 in
/-- a method with handlers: from its entry -/
theorem g_startW {l : Launch} {D : gD} {y : MethodName} {b : ByteArray} {L k B n : Nat} {r : Option FieldType} {hh : List (Nat × Nat × Nat × Nat)} {G : gH} {args : List Value} {post : Option Value → gH → Nat → Prop} {xp : String → Nat → gH → Nat → Prop} (hy : plainName y.cls = true) (hL : (lg_sl args).length ≤ L)
    (body : ∀ (p : Program) (e : Env) (s : State) (m : MethodId) (below : List Frame) (meth : Method) (c : Code) (ls : Array Slot), gB p l s m args.toArray meth c D b y.cls L r → meth.name = y.name → c.exceptionTable.toList = tableOf hh → gI D G n s.heap → lv_has ls L (lv_args 0 args) →
      W p l e (gR k B) s m args.toArray below meth c s.heap [] 0 (200 * 0) (gM below D post xp args.toArray s B) (F0 m 0 ls [])) : gMet l D y (wsW_ y b L r hh) k B G n args post xp := by
  refine vx_ofWH (cc := b) (maxL := L) (ret := r) (hh := hh) hy rfl ?_
  intro p e s m args' below meth c s₁ Bd hml hv
  obtain ⟨rfl, hI, hW⟩ := hv
  have hts0 := atoms_spec (ws := wsW_ y b L r hh) Bd.pre
  have hts : ∀ w ∈ lw_all, w.before _ s = true := fun w h => hts0 w (List.mem_cons_of_mem _ h)
  have hl := lv_entry args (n := L) hL
  rw [lg_entry_eq]
  exact body p e s m below meth c _ ⟨Bd.exec, Bd.bytes, Bd.returns, hts, findClass_of_methodNamed Bd.named, Bd.notSynchronized, hml, hW⟩ (name_of_methodNamed Bd.named Bd.method).1 (vx_table (x := y) Bd (hts0 _ List.mem_cons_self)) hI hl
