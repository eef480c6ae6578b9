/-! THE G-LAYER 4: calls, throws, handlers -/
set_option maxRecDepth 100000
section G4
variable {p : Program} {l : Launch} {e : Env} {k B : Nat} {s : State} {m : MethodId} {args : Array Value} {below : List Frame} {meth : Method} {c : Code} {D : gD} {cc : ByteArray} {own : String} {nL : Nat} {rt : Option FieldType} {H : Heap} {locs : List Loc} {b : Nat} {Q : State → Prop} {G : gH} {n pc : Nat} {ls : Array Slot} {rest st0 : List Value} {R : Room}
variable {y : MethodName} {bytes : ByteArray} {maxL k2 B2 index N : Nat} {ret : Option FieldType} {As : List Value} {post : Option Value → gH → Nat → Prop} {xp : String → Nat → gH → Nat → Prop} {a ci : Nat} {fs : List Value} {r : vw_C} {hh : List (Nat × Nat × Nat × Nat)} {lv : List (Nat × Value)}
/-- where a call goes on -/
def gKk (p : Program) (l : Launch) (e : Env) (R : Room) (s : State) (m : MethodId) (args : Array Value) (below : List Frame) (meth : Method) (c : Code) (D : gD) (b : Nat) (Q : State → Prop) (post : Option Value → gH → Nat → Prop) (pc : Nat) (ls : Array Slot) (rest : List Value) : Prop :=
  ∀ (v : Option Value) (G1 : gH) (n1 : Nat) (H1 : Heap) (locs1 : List Loc), post v G1 n1 → gI D G1 n1 H1 → va_S (gA D) s.heap H1 locs1 → W p l e R s m args below meth c H1 locs1 b (200 * b) Q (F0 m pc ls (v.toList ++ rest))
/-- an exception q of the class E over the frame at pc -/
def gWx (p : Program) (l : Launch) (e : Env) (R : Room) (s : State) (m : MethodId) (args : Array Value) (below : List Frame) (meth : Method) (c : Code) (H : Heap) (locs : List Loc) (b : Nat) (Q : State → Prop) (pc : Nat) (ls : Array Slot) (rest : List Value) (E : String) (q : Nat) : Prop :=
  ∀ ce : Cell, H[q]? = some ce → ce.vm = .none → s.vm.findClass E = some ce.cls → vx_W p l e R s m args below meth c H locs b (200 * b) Q (F0 m pc ls rest) q
def gKx (p : Program) (l : Launch) (e : Env) (R : Room) (s : State) (m : MethodId) (args : Array Value) (below : List Frame) (meth : Method) (c : Code) (D : gD) (b : Nat) (Q : State → Prop) (xp : String → Nat → gH → Nat → Prop) (pc : Nat) (ls : Array Slot) (rest : List Value) : Prop :=
  ∀ (E : String) (q : Nat) (G1 : gH) (n1 : Nat) (H1 : Heap) (locs1 : List Loc), xp E q G1 n1 → gI D G1 n1 H1 → va_S (gA D) s.heap H1 locs1 → gWx p l e R s m args below meth c H1 locs1 b Q pc ls rest E q
theorem gKx.no : gKx p l e R s m args below meth c D b Q gNox pc ls rest := fun _ _ _ _ _ _ h => h.elim
theorem g_call {av : Array Value} (hr : vx_Run p l e R s m args below meth c H locs b (200 * b) B2 (200 * B2) (F0 m pc ls st0) rest (gQ D post av) (gX D xp) (gA D)) (hS : va_S (gA D) s.heap H locs) (kk : gKk p l e R s m args below meth c D (b + B2) Q post (pc + 3) ls rest) (kx : gKx p l e R s m args below meth c D (b + B2) Q xp pc ls rest) : W p l e R s m args below meth c H locs b (200 * b) Q (F0 m pc ls st0) := by
  intro T hT X
  have e200 : 200 * (b + B2) = 200 * b + 200 * B2 := Nat.mul_add _ _ _
  rcases hr T hT X with ⟨v, st₀, t, T', L, h0, X', hL, e1, e2, ⟨⟨v', G1, n1, hv, hp, hI⟩, hF⟩, st⟩ | ⟨q, st₀, t, T', L, E, ce, h0, X', hL, e1, e2, ⟨⟨G1, n1, hp, hI⟩, hF⟩, hce, hcv, hcl, st⟩
  · cases hv
    obtain ⟨-, -, k3⟩ := vx_keep h0 e1 hS (fun _ _ h => h) (fun _ h => h) hL hF
    have k9 := kk v G1 n1 T'.heap (locs ++ L) hp (by rw [e1]; exact hI) k3
    rw [e200] at k9
    obtain ⟨t2, a1, b1⟩ := k9 T' rfl X'
    exact ⟨t2, st t2 a1, b1⟩
  · obtain ⟨-, -, k3⟩ := vx_keep h0 e1 hS (fun _ _ h => h) (fun _ h => h) hL hF
    have k9 := kx E q G1 n1 T'.heap (locs ++ L) hp (by rw [e1]; exact hI) k3 ce (by rw [e1]; exact hce) hcv hcl
    rw [e200] at k9
    obtain ⟨t2, a1, b1⟩ := k9 T' rfl X'
    exact ⟨t2, st.trans a1, b1⟩
theorem g_call5 {av : Array Value} (hr : vx_Run5 p l e R s m args below meth c H locs b (200 * b) B2 (200 * B2) (F0 m pc ls st0) rest (gQ D post av) (gX D xp) (gA D)) (hS : va_S (gA D) s.heap H locs) (kk : gKk p l e R s m args below meth c D (b + B2) Q post (pc + 5) ls rest) (kx : gKx p l e R s m args below meth c D (b + B2) Q xp pc ls rest) : W p l e R s m args below meth c H locs b (200 * b) Q (F0 m pc ls st0) := by
  intro T hT X
  have e200 : 200 * (b + B2) = 200 * b + 200 * B2 := Nat.mul_add _ _ _
  rcases hr T hT X with ⟨v, st₀, t, T', L, h0, X', hL, e1, e2, ⟨⟨v', G1, n1, hv, hp, hI⟩, hF⟩, st⟩ | ⟨q, st₀, t, T', L, E, ce, h0, X', hL, e1, e2, ⟨⟨G1, n1, hp, hI⟩, hF⟩, hce, hcv, hcl, st⟩
  · cases hv
    obtain ⟨-, -, k3⟩ := vx_keep h0 e1 hS (fun _ _ h => h) (fun _ h => h) hL hF
    have k9 := kk v G1 n1 T'.heap (locs ++ L) hp (by rw [e1]; exact hI) k3
    rw [e200] at k9
    obtain ⟨t2, a1, b1⟩ := k9 T' rfl X'
    exact ⟨t2, st t2 a1, b1⟩
  · obtain ⟨-, -, k3⟩ := vx_keep h0 e1 hS (fun _ _ h => h) (fun _ h => h) hL hF
    have k9 := kx E q G1 n1 T'.heap (locs ++ L) hp (by rw [e1]; exact hI) k3 ce (by rw [e1]; exact hce) hcv hcl
    rw [e200] at k9
    obtain ⟨t2, a1, b1⟩ := k9 T' rfl X'
    exact ⟨t2, st.trans a1, b1⟩
theorem g_preV {av : List Value} (C : gB p l s m args meth c D cc own nL rt) (hI : gI D G n H) (hS : va_S (gA D) s.heap H locs) (hq : G a = some (.inl (ci, fs))) (hc : gC[ci]? = some r) (ha : av = .ref a :: As) : PreV s H r.1 a (gPc D G n av) As := by
  subst ha
  exact ⟨gPc.blind D G n _, C.w.recv hI hq hc, fun U hU hW => ⟨rfl, by rw [hU]; exact hI, C.w.go hW (by rw [hU]; exact hS.1) (fun q h1 h2 => by rw [hU]; exact hS.2.1 q h1 h2)⟩⟩
theorem g_preS {av : List Value} (C : gB p l s m args meth c D cc own nL rt) (hI : gI D G n H) (hS : va_S (gA D) s.heap H locs) : PreS s H (gPc D G n av) av :=
  ⟨gPc.blind D G n _, fun U hU hW => ⟨rfl, by rw [hU]; exact hI, C.w.go hW (by rw [hU]; exact hS.1) (fun q h1 h2 => by rw [hU]; exact hS.2.1 q h1 h2)⟩⟩
theorem g_rm {k k2 B B2 maxL : Nat} (hk : k2 + 1 ≤ k) (hm : maxL ≤ 40) : (gR k2 B2).frames + 1 ≤ (gR k B).frames ∧ 8 + (maxL + 11) + (gR k2 B2).locals ≤ (gR k B).locals := ⟨hk, by show 8 + (maxL + 11) + 60 * k2 ≤ 60 * k; omega⟩
theorem g_bu {b B B2 k : Nat} (h : b + B2 ≤ B) : b + B2 ≤ (gR k B).cells ∧ 200 * b + 200 * B2 ≤ (gR k B).slots := ⟨h, by show 200 * b + 200 * B2 ≤ 200 * B; omega⟩
abbrev gArg (y : MethodName) (N : Nat) : Prop := y.cls ≠ "java/lang/invoke/MethodHandle" ∧ y.cls ≠ "java/lang/invoke/VarHandle" ∧ (parseMethodDescriptor y.desc).map (fun d => d.parameters.length) = some N
theorem g_V (C : gB p l s m args meth c D cc own nL rt) (hI : gI D G n H) (hS : va_S (gA D) s.heap H locs) (hM : gMet l D y (ws_ y bytes maxL ret) k2 B2 G n (.ref a :: As) post xp) (hq : G a = some (.inl (ci, fs))) (hc : gC[ci]? = some r) (hy : y.cls = r.1) (w1 : Cond.methodLink own index y ∈ lw_all) (w2 : Cond.instanceMethod y ∈ lw_all) (w3 : Cond.selects r.1 y y ∈ lw_all) (w4 : Cond.initialized r.1 ∈ lw_all) (w5 : Cond.code y bytes maxL ret ∈ lw_all) (hA : gArg y N) (hN : As.length = N) (hk : k2 + 1 ≤ k ∧ maxL ≤ 40) (hb : b + B2 ≤ B) (hl : lv_has ls nL lv) (hst : st0 = As.reverse ++ .ref a :: rest) (hW : (rest.map fun v => v.category).sum ≤ 8) (hdg : decode cc pc = .ok (.invokevirtual index, 3))
    (kk : gKk p l e (gR k B) s m args below meth c D (b + B2) Q post (pc + 3) ls rest) (kx : gKx p l e (gR k B) s m args below meth c D (b + B2) Q xp pc ls rest) : W p l e (gR k B) s m args below meth c H locs b (200 * b) Q (F0 m pc ls st0) :=
  g_call (vx_runV C.fix hM (cwV N C.ts (lw_V w1 w2 w3 w4 w5) rfl rfl rfl ⟨hy, hA⟩ (g_rm hk.1 hk.2)) (g_preV C hI hS hq hc rfl) rfl hN hl.1 hst (lv_room hW) hdg (g_bu hb)) hS kk kx
theorem g_VX (C : gB p l s m args meth c D cc own nL rt) (hI : gI D G n H) (hS : va_S (gA D) s.heap H locs) (hM : gMet l D y (wsW_ y bytes maxL ret hh) k2 B2 G n (.ref a :: As) post xp) (hq : G a = some (.inl (ci, fs))) (hc : gC[ci]? = some r) (hy : y.cls = r.1) (w1 : Cond.methodLink own index y ∈ lw_all) (w2 : Cond.instanceMethod y ∈ lw_all) (w3 : Cond.selects r.1 y y ∈ lw_all) (w4 : Cond.initialized r.1 ∈ lw_all) (w5 : Cond.codeWith y bytes maxL ret hh ∈ lw_all) (hA : gArg y N) (hN : As.length = N) (hk : k2 + 1 ≤ k ∧ maxL ≤ 40) (hb : b + B2 ≤ B) (hl : lv_has ls nL lv) (hst : st0 = As.reverse ++ .ref a :: rest) (hW : (rest.map fun v => v.category).sum ≤ 8) (hdg : decode cc pc = .ok (.invokevirtual index, 3))
    (kk : gKk p l e (gR k B) s m args below meth c D (b + B2) Q post (pc + 3) ls rest) (kx : gKx p l e (gR k B) s m args below meth c D (b + B2) Q xp pc ls rest) : W p l e (gR k B) s m args below meth c H locs b (200 * b) Q (F0 m pc ls st0) :=
  g_call (vx_runVX C.fix hM (vx_cwVW N C.ts (lw_VW w1 w2 w3 w4 w5) rfl rfl rfl ⟨hy, hA⟩ (g_rm hk.1 hk.2)) (g_preV C hI hS hq hc rfl) rfl hN hl.1 hst (lv_room hW) hdg (g_bu hb)) hS kk kx
theorem g_S (C : gB p l s m args meth c D cc own nL rt) (hI : gI D G n H) (hS : va_S (gA D) s.heap H locs) (hM : gMet l D y (ws_ y bytes maxL ret) k2 B2 G n As post xp) (w1 : Cond.methodLink own index y ∈ lw_all) (w2 : Cond.static y ∈ lw_all) (w3 : Cond.initialized y.cls ∈ lw_all) (w5 : Cond.code y bytes maxL ret ∈ lw_all) (hA : gArg y N) (hN : As.length = N) (hk : k2 + 1 ≤ k ∧ maxL ≤ 40) (hb : b + B2 ≤ B) (hl : lv_has ls nL lv) (hst : st0 = As.reverse ++ rest) (hW : (rest.map fun v => v.category).sum ≤ 8) (hdg : decode cc pc = .ok (.invokestatic index, 3))
    (kk : gKk p l e (gR k B) s m args below meth c D (b + B2) Q post (pc + 3) ls rest) (kx : gKx p l e (gR k B) s m args below meth c D (b + B2) Q xp pc ls rest) : W p l e (gR k B) s m args below meth c H locs b (200 * b) Q (F0 m pc ls st0) :=
  g_call (vx_runS C.fix hM (va_cwS N C.ts (lw_S w1 w2 w3 w5) rfl rfl rfl hA (g_rm hk.1 hk.2)) (g_preS C hI hS) rfl hN hl.1 hst (lv_room hW) hdg (g_bu hb)) hS kk kx
theorem g_SX (C : gB p l s m args meth c D cc own nL rt) (hI : gI D G n H) (hS : va_S (gA D) s.heap H locs) (hM : gMet l D y (wsW_ y bytes maxL ret hh) k2 B2 G n As post xp) (w1 : Cond.methodLink own index y ∈ lw_all) (w2 : Cond.static y ∈ lw_all) (w3 : Cond.initialized y.cls ∈ lw_all) (w5 : Cond.codeWith y bytes maxL ret hh ∈ lw_all) (hA : gArg y N) (hN : As.length = N) (hk : k2 + 1 ≤ k ∧ maxL ≤ 40) (hb : b + B2 ≤ B) (hl : lv_has ls nL lv) (hst : st0 = As.reverse ++ rest) (hW : (rest.map fun v => v.category).sum ≤ 8) (hdg : decode cc pc = .ok (.invokestatic index, 3))
    (kk : gKk p l e (gR k B) s m args below meth c D (b + B2) Q post (pc + 3) ls rest) (kx : gKx p l e (gR k B) s m args below meth c D (b + B2) Q xp pc ls rest) : W p l e (gR k B) s m args below meth c H locs b (200 * b) Q (F0 m pc ls st0) :=
  g_call (vx_runSX C.fix hM (vx_cwSW N C.ts (lw_SW w1 w2 w3 w5) rfl rfl rfl hA (g_rm hk.1 hk.2)) (g_preS C hI hS) rfl hN hl.1 hst (lv_room hW) hdg (g_bu hb)) hS kk kx
theorem g_I (C : gB p l s m args meth c D cc own nL rt) (hI : gI D G n H) (hS : va_S (gA D) s.heap H locs) (hM : gMet l D y (ws_ y bytes maxL none) k2 B2 G n (.ref a :: As) post xp) (hy : y.name = "<init>") (w1 : Cond.methodLink own index y ∈ lw_all) (w2 : Cond.instanceMethod y ∈ lw_all) (w4 : Cond.initialized y.cls ∈ lw_all) (w5 : Cond.code y bytes maxL none ∈ lw_all) (hA : gArg y N) (hN : As.length = N) (hk : k2 + 1 ≤ k ∧ maxL ≤ 40) (hb : b + B2 ≤ B) (hl : lv_has ls nL lv) (hst : st0 = As.reverse ++ .ref a :: rest) (hW : (rest.map fun v => v.category).sum ≤ 8) (hdg : decode cc pc = .ok (.invokespecial index, 3))
    (kk : gKk p l e (gR k B) s m args below meth c D (b + B2) Q post (pc + 3) ls rest) (kx : gKx p l e (gR k B) s m args below meth c D (b + B2) Q xp pc ls rest) : W p l e (gR k B) s m args below meth c H locs b (200 * b) Q (F0 m pc ls st0) :=
  g_call (vx_runI C.fix hM (cwI N C.ts (lw_meth w5) rfl rfl rfl (C.ts _ w4) (C.ts _ w1) (C.ts _ w2) hy hA (g_rm hk.1 hk.2)) (g_preS C hI hS) rfl hN hl.1 hst (lv_room hW) hdg (g_bu hb)) hS kk kx
theorem g_IN {host : String} (C : gB p l s m args meth c D cc own nL rt) (hI : gI D G n H) (hS : va_S (gA D) s.heap H locs) (hM : gMet l D y (ws_ y bytes maxL none) k2 B2 G n (.ref a :: As) post xp) (hy : y.name = "<init>") (w1 : Cond.methodLinkNest own index y host ∈ gNw) (w2 : Cond.instanceMethod y ∈ lw_all) (w4 : Cond.initialized y.cls ∈ lw_all) (w5 : Cond.code y bytes maxL none ∈ lw_all) (hA : gArg y N) (hN : As.length = N) (hk : k2 + 1 ≤ k ∧ maxL ≤ 40) (hb : b + B2 ≤ B) (hl : lv_has ls nL lv) (hst : st0 = As.reverse ++ .ref a :: rest) (hW : (rest.map fun v => v.category).sum ≤ 8) (hdg : decode cc pc = .ok (.invokespecial index, 3))
    (kk : gKk p l e (gR k B) s m args below meth c D (b + B2) Q post (pc + 3) ls rest) (kx : gKx p l e (gR k B) s m args below meth c D (b + B2) Q xp pc ls rest) : W p l e (gR k B) s m args below meth c H locs b (200 * b) Q (F0 m pc ls st0) :=
  g_call (vx_runIN (host := host) C.fix hM ⟨va_cnB N C.ts (lw_meth w5) rfl rfl rfl (C.w.nw w1) (C.ts _ w4) hA (g_rm hk.1 hk.2), hy, C.ts _ w2⟩ (g_preS C hI hS) rfl hN hl.1 hst (lv_room hW) hdg (g_bu hb)) hS kk kx
theorem g_SN {host : String} (C : gB p l s m args meth c D cc own nL rt) (hI : gI D G n H) (hS : va_S (gA D) s.heap H locs) (hM : gMet l D y (ws_ y bytes maxL ret) k2 B2 G n As post xp) (w1 : Cond.methodLinkNest own index y host ∈ gNw) (w2 : Cond.static y ∈ lw_all) (w4 : Cond.initialized y.cls ∈ lw_all) (w5 : Cond.code y bytes maxL ret ∈ lw_all) (hA : gArg y N) (hN : As.length = N) (hk : k2 + 1 ≤ k ∧ maxL ≤ 40) (hb : b + B2 ≤ B) (hl : lv_has ls nL lv) (hst : st0 = As.reverse ++ rest) (hW : (rest.map fun v => v.category).sum ≤ 8) (hdg : decode cc pc = .ok (.invokestatic index, 3))
    (kk : gKk p l e (gR k B) s m args below meth c D (b + B2) Q post (pc + 3) ls rest) (kx : gKx p l e (gR k B) s m args below meth c D (b + B2) Q xp pc ls rest) : W p l e (gR k B) s m args below meth c H locs b (200 * b) Q (F0 m pc ls st0) :=
  g_call (vx_runSN (host := host) C.fix hM ⟨va_cnB N C.ts (lw_meth w5) rfl rfl rfl (C.w.nw w1) (C.ts _ w4) hA (g_rm hk.1 hk.2), C.ts _ w2, trivial⟩ (g_preS C hI hS) rfl hN hl.1 hst (lv_room hW) hdg (g_bu hb)) hS kk kx
theorem g_sig {x : MethodName} {N : Nat} (h : (parseMethodDescriptor x.desc).map (fun d => d.parameters.length) = some N) : ∀ sig, parseMethodDescriptor x.desc = some sig → N = sig.parameters.length := fun sig e => by
  rw [e] at h
  exact (Option.some.inj h).symm
theorem g_decl (C : gB p l s m args meth c D cc own nL rt) {x : MethodName} (h : Cond.declares x ∈ gNw) : va_Decl s x := by
  obtain ⟨r0, r1, h1, h2, h3, h4⟩ := Cond.declares_spec (va_Nw.use (A := args) rfl (C.w.nw h))
  exact ⟨r0, r1, h1, h2, h3, h4⟩
theorem g_declC (C : gB p l s m args meth c D cc own nL rt) {x : MethodName} {b0 : ByteArray} {m0 : Nat} {r0 : Option FieldType} (h1 : Cond.instanceMethod x ∈ lw_all) (h2 : Cond.code x b0 m0 r0 ∈ lw_all) : va_Decl s x := va_Decl.of (C.ts _ h1) (C.ts _ h2)
theorem g_U {x : MethodName} {owner : String} (C : gB p l s m args meth c D cc own nL rt) (hI : gI D G n H) (hS : va_S (gA D) s.heap H locs) (hM : gMet l D y (ws_ y bytes maxL ret) k2 B2 G n (.ref a :: As) post xp) (hq : G a = some (.inl (ci, fs))) (hc : gC[ci]? = some r) (hd0 : va_Decl s ⟨owner, x.name, x.desc⟩) (ho : owner ≠ "java/lang/invoke/MethodHandle" ∧ owner ≠ "java/lang/invoke/VarHandle") (w1 : Cond.methodLink own index x ∈ lw_all) (w6 : Cond.sameMethod x.cls owner x.name x.desc ∈ lw_all) (w2 : Cond.instanceMethod y ∈ lw_all) (w3 : Cond.selects r.1 x y ∈ lw_all) (w4 : Cond.initialized y.cls ∈ lw_all) (w5 : Cond.code y bytes maxL ret ∈ lw_all) (hA : gArg x N) (hN : As.length = N) (hk : k2 + 1 ≤ k ∧ maxL ≤ 40) (hb : b + B2 ≤ B) (hl : lv_has ls nL lv) (hst : st0 = As.reverse ++ .ref a :: rest) (hW : (rest.map fun v => v.category).sum ≤ 8) (hdg : decode cc pc = .ok (.invokevirtual index, 3))
    (kk : gKk p l e (gR k B) s m args below meth c D (b + B2) Q post (pc + 3) ls rest) (kx : gKx p l e (gR k B) s m args below meth c D (b + B2) Q xp pc ls rest) : W p l e (gR k B) s m args below meth c H locs b (200 * b) Q (F0 m pc ls st0) :=
  g_call (vx_runU C.fix hM ⟨⟨rfl, rfl, (g_rm (B := B) (B2 := B2) hk.1 hk.2).1, (g_rm (B := B) (B2 := B2) hk.1 hk.2).2, pay_in C.ts (lw_meth w5), List.mem_cons_self⟩, C.ts _ w5, C.ts _ w4, ho, g_sig hA.2.2, C.ts _ w1, C.ts _ w6, hd0, C.ts _ w3, C.ts _ w2⟩ (g_preV C hI hS hq hc rfl) rfl hN hl.1 hst (lv_room hW) hdg (g_bu hb)) hS kk kx
theorem gW.cat {D : gD} {U : State} (h : gW D U) {c : Nat} {q : vw_C} (hc : gC[c]? = some q) (hn : 0 < q.2.2) : ClassAt U q.1 (gcid D c) := (h.kn hc hn).2
theorem g_SU (C : gB p l s m args meth c D cc own nL rt) (hI : gI D G n H) (hS : va_S (gA D) s.heap H locs) (hM : gMet l D y (ws_ y bytes maxL ret) k2 B2 G n (.ref a :: As) post xp) (hq : G a = some (.inl (ci, fs))) (hc : gC[ci]? = some r) (hn0 : 0 < r.2.2) (hy : y.name ≠ "<init>") (w1 : Cond.methodLink own index y ∈ lw_all) (w6 : Cond.sameMethod y.cls y.cls y.name y.desc ∈ lw_all) (w7 : Cond.superclass own y.cls ∈ lw_all) (w2 : Cond.instanceMethod y ∈ lw_all) (w4 : Cond.initialized y.cls ∈ lw_all) (w5 : Cond.code y bytes maxL ret ∈ lw_all) (hA : gArg y N) (hN : As.length = N) (hk : k2 + 1 ≤ k ∧ maxL ≤ 40) (hb : b + B2 ≤ B) (hl : lv_has ls nL lv) (hst : st0 = As.reverse ++ .ref a :: rest) (hW : (rest.map fun v => v.category).sum ≤ 8) (hdg : decode cc pc = .ok (.invokespecial index, 3))
    (kk : gKk p l e (gR k B) s m args below meth c D (b + B2) Q post (pc + 3) ls rest) (kx : gKx p l e (gR k B) s m args below meth c D (b + B2) Q xp pc ls rest) : W p l e (gR k B) s m args below meth c H locs b (200 * b) Q (F0 m pc ls st0) :=
  g_call (vx_runSU (C.w.cat hc hn0) C.fix hM ⟨⟨rfl, rfl, (g_rm (B := B) (B2 := B2) hk.1 hk.2).1, (g_rm (B := B) (B2 := B2) hk.1 hk.2).2, pay_in C.ts (lw_meth w5), List.mem_cons_self⟩, C.ts _ w1, C.ts _ w6, C.ts _ w7, C.ts _ w2, C.ts _ w4, C.ts _ w5, hy, g_sig hA.2.2⟩ (g_preV C hI hS hq hc rfl) rfl hN hl.1 hst (lv_room hW) hdg (g_bu hb)) hS kk kx
theorem g_Fi {x : MethodName} {count : Nat} (C : gB p l s m args meth c D cc own nL rt) (hI : gI D G n H) (hS : va_S (gA D) s.heap H locs) (hM : gMet l D y (ws_ y bytes maxL ret) k2 B2 G n (.ref a :: As) post xp) (hq : G a = some (.inl (ci, fs))) (hc : gC[ci]? = some r) (hn0 : 0 < r.2.2) (hF : (r.1, x, y) ∈ gFw) (w1 : Cond.methodLink own index x ∈ lw_all) (w2 : Cond.instanceMethod y ∈ lw_all) (w3 : Cond.selects r.1 x y ∈ lw_all) (w4 : Cond.initialized y.cls ∈ lw_all) (w5 : Cond.code y bytes maxL ret ∈ lw_all) (hA : gArg x N) (hN : As.length = N) (hk : k2 + 1 ≤ k ∧ maxL ≤ 40) (hb : b + B2 ≤ B) (hl : lv_has ls nL lv) (hst : st0 = As.reverse ++ .ref a :: rest) (hW : (rest.map fun v => v.category).sum ≤ 8) (hdg : decode cc pc = .ok (.invokeinterface index count, 5))
    (kk : gKk p l e (gR k B) s m args below meth c D (b + B2) Q post (pc + 5) ls rest) (kx : gKx p l e (gR k B) s m args below meth c D (b + B2) Q xp pc ls rest) : W p l e (gR k B) s m args below meth c H locs b (200 * b) Q (F0 m pc ls st0) :=
  g_call5 (vx_runF (C.w.cat hc hn0) C.fix hM (va_cwF N C.ts (lw_app (fun w hw => by
    simp only [List.mem_cons, List.not_mem_nil, or_false] at hw
    rcases hw with rfl | rfl | rfl | rfl
    · exact w1
    · exact w3
    · exact w2
    · exact w4) (lw_meth w5)) rfl rfl rfl (C.w.fw hF) hA (g_rm hk.1 hk.2)) (g_preV C hI hS hq hc rfl) rfl hN hl.1 hst (lv_room hW) hdg (g_bu hb)) hS kk kx
theorem g_noX (hM : gMet l D y (ws_ y bytes maxL ret) k2 B2 G n As post gNox) : Met l y (ws_ y bytes maxL ret) (gR k2 B2) (gPc D G n As) (gQ D post) B2 (200 * B2) (gA D) :=
  MetFree.mono hM (fun _ _ h => h) (fun _ _ _ _ _ _ => trivial) (fun a st o t _ h => by
    rcases h with h | ⟨q, -, E, ce, L, ⟨⟨G1, n1, h, -⟩, -⟩, -⟩
    · exact h
    · exact h.elim)
theorem g_FD {x : MethodName} {count : Nat} (C : gB p l s m args meth c D cc own nL rt) (hI : gI D G n H) (hS : va_S (gA D) s.heap H locs) (hM : gMet l D y (ws_ y bytes maxL ret) k2 B2 G n (.ref a :: As) post gNox) (hq : G a = some (.inl (ci, fs))) (hc : gC[ci]? = some r) (hF : (r.1, x, y) ∈ gFw) (hL : (r.1, x, y) ∈ gLd) (w1 : Cond.methodLink own index x ∈ lw_all) (w2 : Cond.instanceMethod y ∈ lw_all) (w4 : Cond.initialized y.cls ∈ lw_all) (w5 : Cond.code y bytes maxL ret ∈ lw_all) (hA : gArg x N) (hN : As.length = N) (hk : k2 + 1 ≤ k ∧ maxL ≤ 38) (hb : b + B2 ≤ B) (hl : lv_has ls nL lv) (hst : st0 = As.reverse ++ .ref a :: rest) (hW : (rest.map fun v => v.category).sum ≤ 8) (hdg : decode cc pc = .ok (.invokeinterface index count, 5))
    (kk : gKk p l e (gR k B) s m args below meth c D (b + B2) Q post (pc + 5) ls rest) : W p l e (gR k B) s m args below meth c H locs b (200 * b) Q (F0 m pc ls st0) := by
  have hF1 := C.w.fw hF
  have hLd : (Cond.landsInDefault r.1 x y).before args s = true := by
    have h9 : (Cond.landsInDefault r.1 x y).before args (s.setVm s.vm) = true := (Cond.landsInDefault_setVm (Vm.Alike.refl _) rfl).trans (C.w.ld hL)
    exact h9
  have hP : PreV s H r.1 a (gPc D G n (.ref a :: As)) As := g_preV C hI hS hq hc rfl
  have hrm := g_rm (B := B) (B2 := B2) (maxL := maxL + 2) hk.1 (by omega)
  have hK : Back l (gR k B) p e below s args y 5 10 (PreOf (gR k B) B2 (200 * B2) (gPc D G n (.ref a :: As))) (PostOf (gQ D post) B2 (200 * B2) (gA D)) := back_of (bytes := bytes) (maxL := maxL) (ret := ret) (g_noX hM) hP.1 rfl rfl hrm.1 (by have := hrm.2; omega) (pay_in C.ts (lw_meth w5)) List.mem_cons_self (fun a' U hW => word_at hW (Or.inl (by first | rfl | simp [Cond.onTables, Cond.keeps, Cond.steady])) (C.ts _ w4))
  refine g_call5 (xp := gNox) (av := (Value.ref a :: As).toArray) ?_ hS kk gKx.no
  intro T hT X
  obtain ⟨cellB, hcB, hoB, hclB⟩ := C.w.recv hI hq hc
  obtain ⟨kB, hkB, -⟩ := Vm.findClass_spec hclB
  obtain ⟨v, vm₁, ⟨U', l2, c2, s2⟩, hW₁, X', ⟨g', mk, t, L, e1, e2, hq2, h1, hL2, h2, h3⟩, st⟩ := Stand.interfaceBackD X C.x (own := own) (C := r.1) (index := index) (count := count) (xi := x) (y := y) C.ow (C.ts _ w1) (va_any rfl hF1.1) (va_any rfl hF1.2.1) hLd (C.ts _ w2) (va_any rfl hF1.2.2.1) (va_any rfl hF1.2.2.2.2) ⟨hA.1, hA.2.1⟩ hK hclB hkB ⟨cellB, by rw [hT]; exact hcB, rfl, hoB⟩ (g := F0 m pc ls st0) rfl (hl.1.trans C.ml.symm) (Steps.refl _) (argsL := As) (rest := rest) (fun sig h => hN.trans (g_sig hA.2.2 sig h)) hst (by show 2 * 0 + _ ≤ 10; omega) (by rw [C.b]; exact hdg) (fun vm₁ hW₁ => ⟨(g_bu (k := k) hb).1, (g_bu (k := k) hb).2, hP.2.2 (T.setVm vm₁) hT hW₁⟩)
  dsimp only [Pt.U, Pt.locs, Pt.cells, Pt.slots] at X' e1 e2 h1 h2 h3 st
  subst h1; subst h2; subst h3
  exact Or.inl ⟨v, (T.setVm vm₁).calling g' mk (Value.ref a :: As).toArray, t, U', L, hT, X', hL2, e1, e2, hq2, fun target h => st.trans h⟩
-- exceptions
theorem g_out (C : gB p l s m args meth c D cc own nL rt) {E : String} {q : Nat} (hxt : ∀ x ∈ c.exceptionTable.toList, covers x pc = false) (hI : gI D G n H) (hS : va_S (gA D) s.heap H locs) (hb : b ≤ B) (hx : xp E q G n) : gWx p l e R s m args below meth c H locs b (gM below D post xp args s B) pc ls rest E q := fun ce h1 h2 h3 =>
  vx_widen (k := B) (n := 200 * B) hb (by omega) (vx_out hxt C.lk h1 h2 h3 (fun t ht hal => ⟨⟨G, n, hx, by rw [ht]; exact hI⟩, hS.F ht⟩) hS.2.2 (Nat.le_refl _) (Nat.le_refl _))
theorem g_out0 (C : gB p l s m args meth c D cc own nL rt) {E : String} {q : Nat} (hxt : ∀ x ∈ c.exceptionTable.toList, False) (hI : gI D G n H) (hS : va_S (gA D) s.heap H locs) (hb : b ≤ B) (hx : xp E q G n) : gWx p l e R s m args below meth c H locs b (gM below D post xp args s B) pc ls rest E q := g_out C (fun x h => (hxt x h).elim) hI hS hb hx
theorem g_catch (C : gB p l s m args meth c D cc own nL rt) {name E : String} {q : Nat} (pre : List ExceptionTableEntry) (x : ExceptionTableEntry) (suf : List ExceptionTableEntry) (hsplit : c.exceptionTable.toList = pre ++ x :: suf)
    (hpass : ∀ z ∈ pre, covers z pc = false ∨ (z.catchType ≠ 0 ∧ ∃ nm : String, Cond.classLink own z.catchType nm ∈ lw_all ∧ (E, nm) ∈ gNc)) (hx : covers x pc = true) (h0 : x.catchType ≠ 0)
    (hlink : Cond.classLink own x.catchType name ∈ lw_all) (hcast : Cond.castable E name ∈ gNw) {hpc : Nat} (hp : x.handlerPc = hpc)
    (kk : W p l e R s m args below meth c H locs b (200 * b) Q (F0 m hpc ls [.ref q])) : gWx p l e R s m args below meth c H locs b Q pc ls rest E q := fun ce h1 h2 h3 => by
  subst hp
  refine vx_catch C.ow pre x suf hsplit (fun z hz => ?_) hx h0 (C.ts _ hlink) (va_Nw.use rfl (C.w.nw hcast)) h1 h2 h3 kk
  rcases hpass z hz with h | ⟨h9, nm, h8, h7⟩
  · exact Or.inl h
  · exact Or.inr ⟨h9, nm, C.ts _ h8, C.w.nc h7⟩
/-- a finally's handler, that takes any -/
theorem g_athrow (C : gB p l s m args meth c D cc own nL rt) {q ci : Nat} {fs : List Value} {r : vw_C} (hI : gI D G n H) (hq : G q = some (.inl (ci, fs))) (hc : gC[ci]? = some r) (hz : gz D ≤ q) (hdg : decode cc pc = .ok (.athrow, 1))
    (k : gWx p l e R s m args below meth c H locs b Q pc ls rest r.1 q) : W p l e R s m args below meth c H locs b (200 * b) Q (F0 m pc ls (.ref q :: rest)) := by
  obtain ⟨r1, cell, e1, e2, e3, e4, e5, e6, -⟩ := hI.2.2.2 _ _ hq
  cases e1.symm.trans hc
  exact vx_athrow C.x C.b hdg (k cell e2 (e6 hz).1 (by rw [e3]; exact C.w.cls hc))
theorem g_zq {i : Nat} {Cn nm d : String} {v : Value} (hW : gW D s) (hZ : (Cn, nm, d, v) ∈ gSt D) (hr : v = .null ∨ ∃ t, v = .ref t) : va_Zq Cn nm d (gA D) s s.heap := by
  rcases hr with e | ⟨t, e⟩
  · rw [e] at hZ; exact Or.inl (hW.st hZ)
  · rw [e] at hZ; exact Or.inr ⟨t, hW.st hZ⟩
/-- throw new X(): X a class of the JDK with the plain chain of constructors -/
theorem g_throw0 (C : gB p l s m args meth c D cc own nL rt) (hxt : ∀ x ∈ c.exceptionTable.toList, False) (hl : l.stackTraces = false) (hv0 : gv D 0 = .null ∨ ∃ t, gv D 0 = .ref t) (hv1 : gv D 1 = .null ∨ ∃ t, gv D 1 = .ref t) (hI : gI D G n H) (hS : va_S (gA D) s.heap H locs) {cls : String} {names : List String} {ik ic : Nat} (hcls : Bundle.fit cls = true) (hnames : ∀ n ∈ names, Bundle.fit n = true)
    (w1 : Cond.classLink own ik cls ∈ lw_all) (w2 : Cond.initialized cls ∈ lw_all) (hg1 : ∀ w ∈ (vx_at0 own ic cls names).filter goodWord, w ∈ lw_all) (hg2 : ∀ w ∈ (vx_at0 own ic cls names).filter (fun w => !goodWord w), w ∈ gNw) (hgood : ∀ w ∈ Cond.classLink own ik cls :: Cond.initialized cls :: vx_at0 own ic cls names, vx_ot w = true) (hlv : lv_has ls nL lv)
    (d0 : decode cc pc = .ok (.new ik, 3)) (d3 : decode cc (pc + 3) = .ok (.dup, 1)) (d4 : decode cc (pc + 4) = .ok (.invokespecial ic, 3)) (d7 : decode cc (pc + 7) = .ok (.athrow, 1))
    (hk : names.length + 12 ≤ k) (hrest : (rest.map fun v => v.category).sum ≤ 8) (hb : b + 1 ≤ B) (hx : ∀ n1 : Nat, n ≤ n1 → xp cls n G n1) :
    W p l e (gR k B) s m args below meth c H locs b (200 * b) (gM below D post xp args s B) (F0 m pc ls rest) := by
  have hz := hI.1
  refine vx_throw0 C.x C.b hl C.ow hcls hnames (C.ts _ w1) (C.ts _ w2) (vx_hat (B := gNw) (fun w h => C.ts _ (hg1 w h)) hg2 (fun w h => va_Nw.use (by
      have h9 := (List.mem_filter.mp h).2
      cases w <;> first | rfl | (simp [gNk] at h9)) (C.w.nw h))) hgood ⟨g_zq (i := 0) C.w (List.mem_of_getElem? (i := 12) rfl) hv0, C.w.2.2.2.2.2.1.1⟩ ⟨g_zq (i := 0) C.w (List.mem_of_getElem? (i := 13) rfl) hv1, C.w.2.2.2.2.2.1.2⟩ hS (hlv.1.trans C.ml.symm) d0 d3 d4 d7 (fun x h => (hxt x h).elim) (show names.length + 3 < k by omega) (show _ ≤ 60 * k by omega) (show b + 1 ≤ B from hb) (show 200 * b + 6 ≤ 200 * B by omega) C.lk (fun t hal h1 h2 => ?_) hS.2.2 hb (by omega)
  refine ⟨⟨G, t.heap.size, ?_, hI.grow h1 h2⟩, ⟨Nat.le_trans hS.1 h1, fun q h3 h4 => ?_⟩⟩
  · rw [hz]
    exact hx _ (by omega)
  · have := hS.1
    rw [h2 q (by omega)]
    exact hS.2.1 q h3 h4
end G4
