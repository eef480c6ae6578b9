/-! initCause: synchronized, writes -/
set_option maxRecDepth 100000
def icB : ByteArray := prog_46_method_9_code
theorem ic0 : decode icB 0 = .ok (.aload_n 0, 1) := by decide +kernel
theorem ic1 : decode icB 1 = .ok (.getfield 7, 3) := by decide +kernel
theorem ic4 : decode icB 4 = .ok (.aload_n 0, 1) := by decide +kernel
theorem ic5 : decode icB 5 = .ok (.if_acmp .eq 36, 3) := by decide +kernel
theorem ic41 : decode icB 41 = .ok (.aload_n 1, 1) := by decide +kernel
theorem ic42 : decode icB 42 = .ok (.aload_n 0, 1) := by decide +kernel
theorem ic43 : decode icB 43 = .ok (.if_acmp .ne 14, 3) := by decide +kernel
theorem ic57 : decode icB 57 = .ok (.aload_n 0, 1) := by decide +kernel
theorem ic58 : decode icB 58 = .ok (.aload_n 1, 1) := by decide +kernel
theorem ic59 : decode icB 59 = .ok (.putfield 7, 3) := by decide +kernel
theorem ic62 : decode icB 62 = .ok (.aload_n 0, 1) := by decide +kernel
theorem ic63 : decode icB 63 = .ok (.areturn, 1) := by decide +kernel
section ICAUSE
variable {p : Program} {l : Launch} {e : Env} {below : List Frame} {s₀ V : State} {g : JFrame} {c : Code} {mG : MethodId} {methG : Method} {cG : Code} {self ca : Addr} {cell : Cell}
abbrev fi2 (V : State) (g : JFrame) (m : MethodId) (self ca : Addr) (cell : Cell) : State := ((V.setCell self (cell.withEntry V.cur)).setTop g).pushFrame (.java (entryFrameSync m #[.ref self, .ref ca] 2 self))
abbrev fJ2 (m : MethodId) (self ca : Addr) (pc : Nat) (stack : List Value) : JFrame := { method := m, pc := pc, locals := #[.val (.ref self), .val (.ref ca)], stack := stack, locked := some self, monitorRoom := 1 }
set_option maxHeartbeats 2000000 in
theorem g_leave2 (h : At V g.method c below) (hexec : p.tables.exec = Jvm.exec) (howns : e.platform.frameOwnsMonitors = true) (hm : V.vm.method? mG = some methG) (hA : At (fi2 V g mG self ca cell) mG cG below) (hb : cG.code = icB) (hlocks : methG.locks = true) (hret : methG.sig.returnType = some (.object "java/lang/Throwable"))
    (hcell : V.heap[self]? = some cell) (hfree : cell.monitor.owner = none) (hcount : cell.monitor.count = 0) {k : Nat} {v : Value} {ig : Instr} {len : Nat} (hdg : decode c.code g.pc = .ok (ig, len)) {target : State}
    (hrest : Steps p.tables e below ((V.setCell self (cell.setSlot k v)).setTop { g with pc := g.pc + len, stack := .ref self :: g.stack }) target) :
    Steps p.tables e below (((fi2 V g mG self ca cell).setCell self ((cell.withEntry V.cur).setSlot k v)).setTop (fJ2 mG self ca 62 [])) target := by
  have hlt : self < V.heap.size := (Array.getElem?_eq_some_iff.mp hcell).1
  have hC : At ((fi2 V g mG self ca cell).setCell self ((cell.withEntry V.cur).setSlot k v)) mG cG below := (At.setCell_iff _ _).mpr hA
  have hcellU : ((fi2 V g mG self ca cell).setCell self ((cell.withEntry V.cur).setSlot k v)).heap[self]? = some ((cell.withEntry V.cur).setSlot k v) := by
    show ((V.heap.setIfInBounds self (cell.withEntry V.cur)).setIfInBounds self ((cell.withEntry V.cur).setSlot k v))[self]? = _
    simp [hlt]
  have hfr : ((fi2 V g mG self ca cell).setCell self ((cell.withEntry V.cur).setSlot k v)).frames = .java (entryFrameSync mG #[.ref self, .ref ca] 2 self) :: .java g :: V.frames.tail := frames_entered (g := g) (show (V.setCell self (cell.withEntry V.cur)).topJava?.isSome from h.top) _
  have hcode : ((fi2 V g mG self ca cell).setCell self ((cell.withEntry V.cur).setSlot k v)).code? g.method = some c := by
    have := h.code
    rw [State.code?_eq] at this ⊢
    exact this
  have hmine : ((cell.withEntry V.cur).setSlot k v).monitor.owner = some ((fi2 V g mG self ca cell).setCell self ((cell.withEntry V.cur).setSlot k v)).cur := rfl
  have key : ∀ acts', Steps p.tables e below (doReturn e (((fi2 V g mG self ca cell).setCell self ((cell.withEntry V.cur).setSlot k v)).setTop (fJ2 mG self ca 63 [])) acts' (some (.ref self))).1 target := by
    intro acts'
    rw [doReturn_leave_sync (u := (fi2 V g mG self ca cell).setCell self ((cell.withEntry V.cur).setSlot k v)) (g := g) (meth := methG) (cg := c) (ig := ig) (len := len) (a := self) (cell := (cell.withEntry V.cur).setSlot k v) (f := fJ2 mG self ca 63 []) (f₀ := entryFrameSync mG #[.ref self, .ref ca] 2 self) (r := V.frames.tail) acts' howns hfr hm hlocks rfl rfl hcellU hmine hcode hdg, Cell.left_setSlot_withEntry _ _ _ hfree hcount, setCell_twice]
    have e1 : ((fi2 V g mG self ca cell).setCell self (cell.setSlot k v)).setFrames (.java g :: V.frames.tail) = (V.setCell self (cell.setSlot k v)).setTop g := by
      show (((fi2 V g mG self ca cell).setFrames (.java g :: (V.setCell self (cell.withEntry V.cur)).frames.tail))).setCell self (cell.setSlot k v) = _
      rw [setFrames_entered (s := V.setCell self (cell.withEntry V.cur)) h.top]
      show ((V.setCell self (cell.withEntry V.cur)).setCell self (cell.setSlot k v)).setTop g = _
      rw [setCell_twice]
    rw [e1, heapOnly_id.setTop_setTop (s := V.setCell self (cell.setSlot k v)) h.top]
    exact hrest
  jvm_step hC [hA.top, hexec, hb, ic62, Value.isRef]
  jvm_step hC [hA.top, hexec, hb, ic63, Op.areturn.wp_sem, Value.isRef, FieldType.isReference]
  exact ⟨methG, hm, ⟨_, hret, rfl⟩, key⟩
set_option maxHeartbeats 2000000 in
theorem g_icSteps (h : At V g.method c below) (hexec : p.tables.exec = Jvm.exec) (howns : e.platform.frameOwnsMonitors = true) (hW : s₀.WarmedH V.vm) (hm0 : s₀.vm.method? mG = some methG) (hcG : methG.code = some cG) (hb : cG.code = icB) (hml : cG.maxLocals = 2) (hlocks : methG.locks = true) (hstat : methG.isStatic = false) (hret : methG.sig.returnType = some (.object "java/lang/Throwable"))
    (hplain : ∀ k, s₀.vm.classes[mG.cls]? = some k → plainName k.name = true) (hcell : V.heap[self]? = some cell) (hknown : cell.vm ≠ .unknown) (hfree : cell.monitor.owner = none) (hcount : cell.monitor.count = 0)
    {ci owner i : Nat} {kT : Class} {fC : Field} (hl : s₀.vm.FieldLinks e.platform mG.cls 7 ci owner i) (hright : s₀.rightAt mG.cls 7 (.field owner i) = true) (hk : s₀.vm.classes[owner]? = some kT) (hf : kT.fields[i]? = some fC) (hst : fC.isStatic = false) (hfin : hasFlag fC.accessFlags Acc.final = false) (hv : cell.slots[fC.slot]? = some (.ref self)) (hne : ¬ ca = self)
    (hfit : s₀.fitsSlot cell.cls cell.vm fC.slot (.ref ca) = true)
    {ig : Instr} {len : Nat} (hdg : decode c.code g.pc = .ok (ig, len)) (acts : List Action) (hroom : e.platform.stackFull (((V.setTop g).threads[(V.setTop g).cur]?).getD { frames := [] }) (V.setTop g).frames (2 + 2) = false) :
    ∃ vm', s₀.WarmedH vm' ∧ ∀ target, Steps p.tables e below (((V.setVm vm').setCell self (cell.setSlot fC.slot (.ref ca))).setTop { g with pc := g.pc + len, stack := .ref self :: g.stack }) target → Steps p.tables e below (doInvoke e (V.setTop g) acts mG #[.ref self, .ref ca]).1 target := by
  have hlt : self < V.heap.size := (Array.getElem?_eq_some_iff.mp hcell).1
  have hAof : ∀ vm, s₀.WarmedH vm → At (fi2 (V.setVm vm) g mG self ca cell) mG cG below := fun vm hWv => by
    have := At.enter_sync (g := g) (h.setVm (hW.alike.symm.trans hWv.alike)) #[.ref self, .ref ca] self (cell.withEntry V.cur) (hWv.methodAt hm0) hcG (hWv.plainAt (m := mG) hplain)
    rw [hml] at this
    exact this
  have hA : At (fi2 V g mG self ca cell) mG cG below := hAof V.vm hW
  have hcellU : ∀ vm, (fi2 (V.setVm vm) g mG self ca cell).heap[self]? = some (cell.withEntry V.cur) := fun vm => by
    show (V.heap.setIfInBounds self (cell.withEntry V.cur))[self]? = _
    simp [hlt]
  obtain ⟨vm1, hW1, st1⟩ := Steps.getfieldCold (tb := p.tables) (s₀ := s₀) (U := fi2 V g mG self ca cell) (f := fJ2 mG self ca 1 [.ref self]) (a := self) (rest := []) (cell := cell.withEntry V.cur) (v := .ref self) hA hexec (by rw [hb]; exact ic1) hW hl hright hk hf hst rfl (hcellU V.vm) hknown hv
  obtain ⟨vm2, hW2, st2⟩ := Steps.putfieldCold (tb := p.tables) (s₀ := s₀) (U := fi2 (V.setVm vm1) g mG self ca cell) (f := fJ2 mG self ca 59 [.ref ca, .ref self]) (a := self) (rest := []) (cell := cell.withEntry V.cur) (x := .ref ca) (hAof vm1 hW1) hexec (by rw [hb]; exact ic59) hW1 hl hright hk hf hst hfin rfl (hcellU vm1) hknown (Array.getElem?_eq_some_iff.mp hv).1 (by rw [narrow_isRef _ (v := .ref ca) rfl]; exact hfit)
  rw [narrow_isRef _ (v := .ref ca) rfl] at st2
  refine ⟨vm2, hW2, fun target hrest => ?_⟩
  rw [doInvoke_enter_sync h.top acts (hW.methodAt hm0) hcG hlocks hstat rfl hcell (Or.inl hfree) (by rw [hml]; exact hroom), hml]
  show Steps p.tables e below ((fi2 V g mG self ca cell).setTop (fJ2 mG self ca 0 [])) target
  jvm_step hA [hexec, hb, ic0, Value.isRef]
  refine st1 target ?_
  show Steps p.tables e below ((fi2 (V.setVm vm1) g mG self ca cell).setTop (fJ2 mG self ca 4 [.ref self])) target
  jvm_step (hAof vm1 hW1) [hexec, hb, ic4, Value.isRef]
  jvm_step (hAof vm1 hW1) [hexec, hb, ic5, Value.asRef?, Op.if_acmp.holds]
  jvm_step (hAof vm1 hW1) [hexec, hb, ic41, Value.isRef]
  jvm_step (hAof vm1 hW1) [hexec, hb, ic42, Value.isRef]
  jvm_step (hAof vm1 hW1) [hexec, hb, ic43, Value.asRef?, Op.if_acmp.holds, hne]
  jvm_step (hAof vm1 hW1) [hexec, hb, ic57, Value.isRef]
  jvm_step (hAof vm1 hW1) [hexec, hb, ic58, Value.isRef]
  refine st2 target ?_
  show Steps p.tables e below (((fi2 (V.setVm vm2) g mG self ca cell).setCell self ((cell.withEntry V.cur).setSlot fC.slot (.ref ca))).setTop (fJ2 mG self ca 62 [])) target
  exact g_leave2 (V := V.setVm vm2) (g := g) (h.setVm (hW.alike.symm.trans hW2.alike)) hexec howns (hW2.methodAt hm0) (hAof vm2 hW2) hb hlocks hret hcell hfree hcount hdg hrest
end ICAUSE
section ICAUSE2
variable {p : Program} {l : Launch} {e : Env} {k B : Nat} {s : State} {m : MethodId} {args : Array Value} {below : List Frame} {meth : Method} {c : Code} {D : gD} {cc : ByteArray} {own : String} {nL : Nat} {rt : Option FieldType} {H : Heap} {locs : List Loc} {b : Nat} {Q : State → Prop} {G : gH} {n pc : Nat} {ls : Array Slot} {rest : List Value} {lv : List (Nat × Value)}
def icN : MethodName := ⟨"java/lang/Throwable", "initCause", "(Ljava/lang/Throwable;)Ljava/lang/Throwable;"⟩
def icR : MethodName := ⟨"WhelkFleet$Refusal", "initCause", "(Ljava/lang/Throwable;)Ljava/lang/Throwable;"⟩
theorem g_room4 {V : State} {g : JFrame} (htop : V.topJava?.isSome) (hframes : V.frames.length + 2 < (e.platform.stackLimits V.me).1) (hwords : (stackUse (.java g :: V.frames.tail)).2 + 41 ≤ (e.platform.stackLimits V.me).2) :
    e.platform.stackFull (((V.setTop g).threads[(V.setTop g).cur]?).getD { frames := [] }) (V.setTop g).frames (2 + 2) = false := by
  obtain ⟨g₀, hg⟩ := Option.isSome_iff_exists.mp htop
  obtain ⟨tl, htl⟩ := State.topJava?_eq_some.mp hg
  have hlen : V.frames.length = (Frame.java g :: V.frames.tail).length := by rw [htl]; rfl
  have hfg : (V.setTop g).frames = .java g :: V.frames.tail := by rw [State.frames_setTop _ htl, htl]; rfl
  exact roomAbove (pushed := []) (base := .java g :: V.frames.tail) (free := 41) hfg (State.stackLimits_setTop _ htop _) (by rw [← hlen]; simp only [List.length_nil]; omega) hwords (by simp only [stackUse_nil]; omega)
set_option maxHeartbeats 2000000 in
theorem g_initCause (C : gB p l s m args meth c D cc own nL rt) (hI : gI D G n H) (hS : va_S (gA D) s.heap H locs) {a ca : Nat} {fs : List Value} (hq : G a = some (.inl (8, fs))) (ha : gz D ≤ a) (hl : lv_has ls nL lv) (hf0 : fs[0]? = some (.ref a)) (hne : ¬ ca = a)
    {index : Nat} (hlink : Cond.methodLink own index icR ∈ lw_all) (hdg : decode cc pc = .ok (.invokevirtual index, 3)) (hk : 12 ≤ k) (hr : rest.length ≤ 8) {fs2 : List Value} (hfs : fs.set 0 (.ref ca) = fs2)
    (kk : ∀ (G1 : gH) (H1 : Heap) (locs1 : List Loc), G1 = gu G a (.inl (8, fs2)) → gI D G1 n H1 → va_S (gA D) s.heap H1 locs1 → W p l e (gR k B) s m args below meth c H1 locs1 b (200 * b) Q (F0 m (pc + 3) ls (.ref a :: rest))) :
    W p l e (gR k B) s m args below meth c H locs b (200 * b) Q (F0 m pc ls (.ref ca :: .ref a :: rest)) := by
  intro W0 hW0 X
  have howns : e.platform.frameOwnsMonitors = true := by rw [X.admits.platform]
  have hpl : e.platform.magicAccessors = ({} : Platform).magicAccessors := by rw [X.admits.platform]
  obtain ⟨r', cell, g1, g2, g3, g4, g5, g6, g7, g8⟩ := hI.2.2.2 _ _ hq
  have hr8 : gC[8]? = some (RX10, TX10, 8) := rfl
  cases g1.symm.trans hr8
  obtain ⟨g6a, g6b, g6c⟩ := g6 ha
  dsimp only at g3 g7 g8
  have hfound : s.vm.findClass RX10 = some cell.cls := by rw [g3]; exact C.w.cls hr8
  obtain ⟨r0, r, hn, hrm, hstR, hsigR⟩ := g_decl C (gNw_in q1453 rfl)
  have hsame := C.ts (Cond.sameMethod "WhelkFleet$Refusal" "java/lang/Throwable" "initCause" "(Ljava/lang/Throwable;)Ljava/lang/Throwable;") q1452
  obtain ⟨cn, ck, r1, hcn, hck, hni, hf, hn1⟩ := Cond.sameMethod_found hsame
  cases hn.symm.trans hn1
  obtain ⟨mk, methM, hnamed, hmethM, hstM, habM⟩ := Cond.instanceMethod_spec (C.ts (Cond.instanceMethod icN) q1455)
  obtain ⟨methM', cG, hm9, hcG, hbG, hmlG, hretG, hlkG, -, hsg⟩ := Cond.codeSync_spec hnamed (C.ts (Cond.codeSync icN icB 2 (some (.object "java/lang/Throwable"))) q1456)
  cases hm9.symm.trans hmethM
  obtain ⟨c2, r2, m2, q1, q2, q3, q4, kP, hkP, hkPi⟩ := Cond.selects_spec (C.ts (Cond.selects RX10 icR icN) q1454)
  cases hfound.symm.trans q1
  cases hf.symm.trans q2
  cases hnamed.symm.trans q3
  have hsel : selectMethod e.platform s.vm cell.cls r0 = .method mk := by rw [Launch.admits_selectMethod X.admits]; exact q4
  have hlen : ([.ref ca] : List Value).length = r.sig.parameters.length := by
    have h11 : parseMethodDescriptor icR.desc = some { parameters := [.object "java/lang/Throwable"], returnType := some (.object "java/lang/Throwable") } := by decide +kernel
    rw [← Option.some.inj (h11.symm.trans hsigR)]
    rfl
  obtain ⟨kT, hkT, hkTn⟩ := className_of_methodNamed hnamed
  have hfT : s.vm.findClass Bundle.tN = some mk.cls := findClass_of_methodNamed hnamed
  obtain ⟨ci7, i7, fC, hk7, hg7, ha7, hs7, hfin7, hn7, ht7, hff7⟩ := Cond.ownField (t := .object "java/lang/Throwable") hfT hkT (by decide +kernel) (C.ts _ q489) (C.ts _ q515) e.platform hpl
  have kn := C.w.kn hr8 (by decide)
  have s0 : fC.slot = gslo D 8 0 := by
    have := kn.1 0 (by decide)
    exact g_slot this hff7
  have hv : cell.slots[fC.slot]? = some (.ref a) := by rw [s0]; exact g8 0 _ hf0
  obtain ⟨-, kX, hkX, hord⟩ := kn.2
  have hkX' : s.vm.classes[cell.cls]? = some kX := by rw [g3]; exact hkX
  obtain ⟨tyC, dC, hdC, hdnC⟩ := Cond.laysAt hfound hkX' hff7 (C.ts (Cond.lays RX10 Bundle.tN "cause" "Ljava/lang/Throwable;") q1330)
  have hfit : s.fitsSlot cell.cls cell.vm fC.slot (.ref ca) = true := by
    rw [State.fitsSlot]
    simp [State.slotType?, hkX', hord, tyC, g6a]
    rw [ht7]
    rfl
  have hcell : W0.heap[a]? = some cell := by rw [hW0]; exact g2
  obtain ⟨vm₁, X₁, hstep₁⟩ := X.invokevirtualUp C.x (own := own) (index := index) C.ow (C.ts _ hlink) hsame (by decide) hn hrm hstR (a := a) (cell := cell) hcell
    (fun z h => by rw [h] at g4; cases g4) hsel hmethM habM hkP hkPi (g := F0 m pc ls (.ref ca :: .ref a :: rest)) rfl (argsL := [.ref ca]) (rest := rest) hlen rfl (by rw [C.b]; exact hdg)
  have hroomF := g_room4 (e := e) X₁.here.top (g := F0 m pc ls rest) (X₁.framesAbove (n := 2) (by show 2 < k; omega)) (X₁.stackAbove (g := F0 m pc ls rest) (K := 41) (by rw [C.ml]; exact hl.1) (by
    have := g_cat rest
    show 2 * 0 + (rest.map fun v => v.category).sum + 41 ≤ 60 * k
    omega))
  obtain ⟨vm₂, hW2, st2⟩ := g_icSteps (p := p) (e := e) (s₀ := s) (V := W0.setVm vm₁) (g := F0 m pc ls rest) (c := c) (mG := mk) (self := a) (ca := ca) (cell := cell) X₁.here C.x howns X₁.warmed hmethM hcG hbG hmlG hlkG hstM hretG
    (fun k9 hk9 => by cases hk9.symm.trans hkT; rw [hkTn]; decide) hcell (by rw [g6a]; simp) g6b g6c hk7 hg7 hkT ha7 hs7 hfin7 hv hne hfit (ig := .invokevirtual index) (len := 3) (by rw [C.b]; exact hdg) [] hroomF
  have hlt : a < H.size := (Array.getElem?_eq_some_iff.mp g2).1
  have hheap : (((W0.setVm vm₁).setVm vm₂).setCell a (cell.setSlot fC.slot (.ref ca))).heap = H.setIfInBounds a (cell.setSlot fC.slot (.ref ca)) := by
    show W0.heap.setIfInBounds a _ = _
    rw [hW0]
  have hlen0 : 0 < fs.length := (List.getElem?_eq_some_iff.mp hf0).1
  have hapart : ∀ x y, x < 8 → y < 8 → x ≠ y → gslo D 8 x ≠ gslo D 8 y := g_apart C.ts C.w kc8
  have hat : g_at D a (.inl (8, fs.set 0 (.ref ca))) (H.setIfInBounds a (cell.setSlot fC.slot (.ref ca))) :=
    g_stored (H := H) hr8 g3 g4 g5 g6 g7 g8 hapart hlen0 (by rw [s0]; simp [Array.getElem?_setIfInBounds, hlt])
  have oq : ∀ q : Nat, q ≠ a → (H.setIfInBounds a (cell.setSlot fC.slot (.ref ca)))[q]? = H[q]? := fun q hq => by simp [Array.getElem?_setIfInBounds, Ne.symm hq]
  have hsz : (H.setIfInBounds a (cell.setSlot fC.slot (.ref ca))).size = H.size := by simp
  obtain ⟨t, a1, b1⟩ := kk _ _ (locs ++ [⟨a, fC.slot⟩]) rfl (hfs ▸ hI.put ha hat hsz oq) (gS.put hS hsz oq ha) (((W0.setVm vm₁).setVm vm₂).setCell a (cell.setSlot fC.slot (.ref ca))) hheap ((X₁.noted hW2).stored (a := a) hcell fC.slot (.ref ca))
  exact ⟨t, hstep₁ _ (fun acts => by rw [doInvoke_state]; exact st2 _ a1), b1⟩
end ICAUSE2
