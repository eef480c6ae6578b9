/-! initCause: synchronized, writes -/
set_option maxRecDepth 100000
def icB : ByteArray := prog_46_method_9_code
theorem ic0 : decode icB 0 = .ok (.aload_n 0, 1) := by decide +kernel
theorem ic1 : decode icB 1 = .ok (.getfield 7, 3) := by decide +kernel
theorem ic4 : decode icB 4 = .ok (.aload_n 0, 1) := by decide +kernel
theorem ic5 : decode icB 5 = .ok (.if_acmp .eq 36, 3) := by decide +kernel
theorem ic41 : decode icB 41 = .ok (.aload_n 1, 1) := by decide +kernel
theorem ic42 : decode icB 42 = .ok (.aload_n 0, 1) := by decide +kernel
theorem ic43 : decode icB 43 = .ok (.if_acmp .ne 14, 3) := by decide +kernel
theorem ic57 : decode icB 57 = .ok (.aload_n 0, 1) := by decide +kernel
theorem ic58 : decode icB 58 = .ok (.aload_n 1, 1) := by decide +kernel
theorem ic59 : decode icB 59 = .ok (.putfield 7, 3) := by decide +kernel
theorem ic62 : decode icB 62 = .ok (.aload_n 0, 1) := by decide +kernel
theorem ic63 : decode icB 63 = .ok (.areturn, 1) := by decide +kernel
section ICAUSE
variable {p : Program} {l : Launch} {e : Env} {below : List Frame} {s₀ V : State} {g : JFrame} {c : Code} {mG : MethodId} {methG : Method} {cG : Code} {self ca : Addr} {cell : Cell}
abbrev fi2 (V : State) (g : JFrame) (m : MethodId) (self ca : Addr) (cell : Cell) : State := ((V.setCell self (cell.withEntry V.cur)).setTop g).pushFrame (.java (entryFrameSync m #[.ref self, .ref ca] 2 self))
abbrev fJ2 (m : MethodId) (self ca : Addr) (pc : Nat) (stack : List Value) : JFrame := { method := m, pc := pc, locals := #[.val (.ref self), .val (.ref ca)], stack := stack, locked := some self, monitorRoom := 1 }
set_option maxHeartbeats 2000000 in
theorem g_leave2 (h : At V g.method c below) (hexec : p.tables.exec = Jvm.exec) (howns : e.platform.frameOwnsMonitors = true) (hm : V.vm.method? mG = some methG) (hA : At (fi2 V g mG self ca cell) mG cG below) (hb : cG.code = icB) (hlocks : methG.locks = true) (hret : methG.sig.returnType = some (.object "java/lang/Throwable"))
    (hcell : V.heap[self]? = some cell) (hfree : cell.monitor.owner = none) (hcount : cell.monitor.count = 0) {k : Nat} {v : Value} {ig : Instr} {len : Nat} (hdg : decode c.code g.pc = .ok (ig, len)) {target : State}
    (hrest : Steps p.tables e below ((V.setCell self (cell.setSlot k v)).setTop { g with pc := g.pc + len, stack := .ref self :: g.stack }) target) :
    Steps p.tables e below (((fi2 V g mG self ca cell).setCell self ((cell.withEntry V.cur).setSlot k v)).setTop (fJ2 mG self ca 62 [])) target := by
  have hlt : self < V.heap.size := (Array.getElem?_eq_some_iff.mp hcell).1
  have hC : At ((fi2 V g mG self ca cell).setCell self ((cell.withEntry V.cur).setSlot k v)) mG cG below := (At.setCell_iff _ _).mpr hA
  have hcellU : ((fi2 V g mG self ca cell).setCell self ((cell.withEntry V.cur).setSlot k v)).heap[self]? = some ((cell.withEntry V.cur).setSlot k v) := by
    show ((V.heap.setIfInBounds self (cell.withEntry V.cur)).setIfInBounds self ((cell.withEntry V.cur).setSlot k v))[self]? = _
    simp [hlt]
  have hfr : ((fi2 V g mG self ca cell).setCell self ((cell.withEntry V.cur).setSlot k v)).frames = .java (entryFrameSync mG #[.ref self, .ref ca] 2 self) :: .java g :: V.frames.tail := frames_entered (g := g) (show (V.setCell self (cell.withEntry V.cur)).topJava?.isSome from h.top) _
  have hcode : ((fi2 V g mG self ca cell).setCell self ((cell.withEntry V.cur).setSlot k v)).code? g.method = some c := by
    have := h.code
    rw [State.code?_eq] at this ⊢
    exact this
  have hmine : ((cell.withEntry V.cur).setSlot k v).monitor.owner = some ((fi2 V g mG self ca cell).setCell self ((cell.withEntry V.cur).setSlot k v)).cur := rfl
  have key : ∀ acts', Steps p.tables e below (doReturn e (((fi2 V g mG self ca cell).setCell self ((cell.withEntry V.cur).setSlot k v)).setTop (fJ2 mG self ca 63 [])) acts' (some (.ref self))).1 target := by
    intro acts'
    rw [doReturn_leave_sync (u := (fi2 V g mG self ca cell).setCell self ((cell.withEntry V.cur).setSlot k v)) (g := g) (meth := methG) (cg := c) (ig := ig) (len := len) (a := self) (cell := (cell.withEntry V.cur).setSlot k v) (f := fJ2 mG self ca 63 []) (f₀ := entryFrameSync mG #[.ref self, .ref ca] 2 self) (r := V.frames.tail) acts' howns hfr hm hlocks rfl rfl hcellU hmine hcode hdg, Cell.left_setSlot_withEntry _ _ _ hfree hcount, setCell_twice]
    have e1 : ((fi2 V g mG self ca cell).setCell self (cell.setSlot k v)).setFrames (.java g :: V.frames.tail) = (V.setCell self (cell.setSlot k v)).setTop g := by
      show (((fi2 V g mG self ca cell).setFrames (.java g :: (V.setCell self (cell.withEntry V.cur)).frames.tail))).setCell self (cell.setSlot k v) = _
      rw [setFrames_entered (s := V.setCell self (cell.withEntry V.cur)) h.top]
      show ((V.setCell self (cell.withEntry V.cur)).setCell self (cell.setSlot k v)).setTop g = _
      rw [setCell_twice]
    rw [e1, heapOnly_id.setTop_setTop (s := V.setCell self (cell.setSlot k v)) h.top]
    exact hrest
  jvm_step hC [hA.top, hexec, hb, ic62, Value.isRef]
  jvm_step hC [hA.top, hexec, hb, ic63, Op.areturn.wp_sem, Value.isRef, FieldType.isReference]
  exact ⟨methG, hm, ⟨_, hret, rfl⟩, key⟩
set_option maxHeartbeats 2000000 in
theorem g_icSteps (h : At V g.method c below) (hexec : p.tables.exec = Jvm.exec) (howns : e.platform.frameOwnsMonitors = true) (hW : s₀.WarmedH V.vm) (hm0 : s₀.vm.method? mG = some methG) (hcG : methG.code = some cG) (hb : cG.code = icB) (hml : cG.maxLocals = 2) (hlocks : methG.locks = true) (hstat : methG.isStatic = false) (hret : methG.sig.returnType = some (.object "java/lang/Throwable"))
    (hplain : ∀ k, s₀.vm.classes[mG.cls]? = some k → plainName k.name = true) (hcell : V.heap[self]? = some cell) (hknown : cell.vm ≠ .unknown) (hfree : cell.monitor.owner = none) (hcount : cell.monitor.count = 0)
    {ci owner i : Nat} {kT : Class} {fC : Field} (hl : s₀.vm.FieldLinks e.platform mG.cls 7 ci owner i) (hright : s₀.rightAt mG.cls 7 (.field owner i) = true) (hk : s₀.vm.classes[owner]? = some kT) (hf : kT.fields[i]? = some fC) (hst : fC.isStatic = false) (hfin : hasFlag fC.accessFlags Acc.final = false) (hv : cell.slots[fC.slot]? = some (.ref self)) (hne : ¬ ca = self)
    (hfit : s₀.fitsSlot cell.cls cell.vm fC.slot (.ref ca) = true)
    {ig : Instr} {len : Nat} (hdg : decode c.code g.pc = .ok (ig, len)) (acts : List Action) (hroom : e.platform.stackFull (((V.setTop g).threads[(V.setTop g).cur]?).getD { frames := [] }) (V.setTop g).frames (2 + 2) = false) :
    ∃ vm', s₀.WarmedH vm' ∧ ∀ target, Steps p.tables e below (((V.setVm vm').setCell self (cell.setSlot fC.slot (.ref ca))).setTop { g with pc := g.pc + len, stack := .ref self :: g.stack }) target → Steps p.tables e below (doInvoke e (V.setTop g) acts mG #[.ref self, .ref ca]).1 target := by
  have hlt : self < V.heap.size := (Array.getElem?_eq_some_iff.mp hcell).1
  have hAof : ∀ vm, s₀.WarmedH vm → At (fi2 (V.setVm vm) g mG self ca cell) mG cG below := fun vm hWv => by
    have := At.enter_sync (g := g) (h.setVm (hW.alike.symm.trans hWv.alike)) #[.ref self, .ref ca] self (cell.withEntry V.cur) (hWv.methodAt hm0) hcG (hWv.plainAt (m := mG) hplain)
    rw [hml] at this
    exact this
  have hA : At (fi2 V g mG self ca cell) mG cG below := hAof V.vm hW
  have hcellU : ∀ vm, (fi2 (V.setVm vm) g mG self ca cell).heap[self]? = some (cell.withEntry V.cur) := fun vm => by
    show (V.heap.setIfInBounds self (cell.withEntry V.cur))[self]? = _
    simp [hlt]
  obtain ⟨vm1, hW1, st1⟩ := Steps.getfieldCold (tb := p.tables) (s₀ := s₀) (U := fi2 V g mG self ca cell) (f := fJ2 mG self ca 1 [.ref self]) (a := self) (rest := []) (cell := cell.withEntry V.cur) (v := .ref self) hA hexec (by rw [hb]; exact ic1) hW hl hright hk hf hst rfl (hcellU V.vm) hknown hv
  obtain ⟨vm2, hW2, st2⟩ := Steps.putfieldCold (tb := p.tables) (s₀ := s₀) (U := fi2 (V.setVm vm1) g mG self ca cell) (f := fJ2 mG self ca 59 [.ref ca, .ref self]) (a := self) (rest := []) (cell := cell.withEntry V.cur) (x := .ref ca) (hAof vm1 hW1) hexec (by rw [hb]; exact ic59) hW1 hl hright hk hf hst hfin rfl (hcellU vm1) hknown (Array.getElem?_eq_some_iff.mp hv).1 (by rw [narrow_isRef _ (v := .ref ca) rfl]; exact hfit)
  rw [narrow_isRef _ (v := .ref ca) rfl] at st2
  refine ⟨vm2, hW2, fun target hrest => ?_⟩
  rw [doInvoke_enter_sync h.top acts (hW.methodAt hm0) hcG hlocks hstat rfl hcell (Or.inl hfree) (by rw [hml]; exact hroom), hml]
  show Steps p.tables e below ((fi2 V g mG self ca cell).setTop (fJ2 mG self ca 0 [])) target
  jvm_step hA [hexec, hb, ic0, Value.isRef]
  refine st1 target ?_
  show Steps p.tables e below ((fi2 (V.setVm vm1) g mG self ca cell).setTop (fJ2 mG self ca 4 [.ref self])) target
  jvm_step (hAof vm1 hW1) [hexec, hb, ic4, Value.isRef]
  jvm_step (hAof vm1 hW1) [hexec, hb, ic5, Value.asRef?, Op.if_acmp.holds]
  jvm_step (hAof vm1 hW1) [hexec, hb, ic41, Value.isRef]
  jvm_step (hAof vm1 hW1) [hexec, hb, ic42, Value.isRef]
  jvm_step (hAof vm1 hW1) [hexec, hb, ic43, Value.asRef?, Op.if_acmp.holds, hne]
  jvm_step (hAof vm1 hW1) [hexec, hb, ic57, Value.isRef]
  jvm_step (hAof vm1 hW1) [hexec, hb, ic58, Value.isRef]
  refine st2 target ?_
  show Steps p.tables e below (((fi2 (V.setVm vm2) g mG self ca cell).setCell self ((cell.withEntry V.cur).setSlot fC.slot (.ref ca))).setTop (fJ2 mG self ca 62 [])) target
  exact g_leave2 (V := V.setVm vm2) (g := g) (h.setVm (hW.alike.symm.trans hW2.alike)) hexec howns (hW2.methodAt hm0) (hAof vm2 hW2) hb hlocks hret hcell hfree hcount hdg hrest
end ICAUSE
