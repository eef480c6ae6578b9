/-! THE G-LAYER 3: rows that read and write cells -/
set_option maxRecDepth 100000
def gCl (ci : Nat) (Cn : String) (T : u_T) (N : Nat) (ty : Nat → FieldType) : Prop :=
  gC[ci]? = some (Cn, T, N) ∧ 0 < N ∧ (∀ w ∈ u_ws Cn T N, w ∈ lw_all) ∧ (∀ k, k < N → parseFieldDescriptor (T k).2.2.1 = some (ty k)) ∧ ∀ a, a < N → ∀ b, b < N → a ≠ b → (T a).2.1 ≠ (T b).2.1
theorem g_nar {i : Int32} {n : Nat} (h : vp_in i n) : ¬ i < 0 ∧ i.toNatClampNeg < n := ⟨fun q => h (Or.inl q), Nat.not_le.mp fun q => h (Or.inr q)⟩
theorem g_in {i : Int32} {n m : Nat} (h : vp_in i n) (e : m = n) : ¬ (i < 0 ∨ m ≤ i.toNatClampNeg) := by rw [e]; exact h
theorem g_fsn {α : Type} {l : List α} {k j : Nat} {v w : α} (h : (l.set k v)[j]? = some w) : (j = k ∧ w = v) ∨ (j ≠ k ∧ l[j]? = some w) := by
  by_cases c : j = k
  · subst c
    by_cases d : j < l.length
    · rw [List.getElem?_set_self d] at h
      exact Or.inl ⟨rfl, (Option.some.inj h).symm⟩
    · rw [List.getElem?_eq_none (by rw [List.length_set]; omega)] at h
      cases h
  · rw [List.getElem?_set_ne (Ne.symm c)] at h
    exact Or.inr ⟨c, h⟩
theorem g_setslot {cell : Cell} {i j : Nat} {v : Value} (hi : i < cell.slots.size) : (cell.setSlot i v).slots[j]? = if j = i then some v else cell.slots[j]? := by
  unfold Cell.setSlot
  by_cases c : j = i
  · subst c
    rw [if_pos rfl]
    simp [hi]
  · rw [if_neg c]
    exact Array.getElem?_setIfInBounds_ne (Ne.symm c)
theorem gS.put {D : gD} {H0 H H1 : Heap} {locs : List Loc} {a k : Nat} (h : va_S (gA D) H0 H locs) (z : H1.size = H.size) (oq : ∀ q : Nat, q ≠ a → H1[q]? = H[q]?) (ha : gz D ≤ a) : va_S (gA D) H0 H1 (locs ++ [⟨a, k⟩]) := va_S.put h z oq ha
theorem gS.push {D : gD} {G : gH} {n : Nat} {H0 H H1 : Heap} {locs : List Loc} (hI : gI D G n H) (h : va_S (gA D) H0 H locs) (z : H1.size = n + 1) (oq : ∀ q : Nat, q < n → H1[q]? = H[q]?) : va_S (gA D) H0 H1 locs := by
  have hz := hI.1
  have h1 := h.1
  refine ⟨by omega, fun q h2 h3 => ?_, h.2.2⟩
  rw [oq q (by omega)]
  exact h.2.1 q h2 h3
section G3
variable {p : Program} {l : Launch} {e : Env} {k B : Nat} {s : State} {m : MethodId} {args : Array Value} {below : List Frame} {meth : Method} {c : Code} {D : gD} {cc : ByteArray} {own : String} {nL : Nat} {rt : Option FieldType} {H : Heap} {locs : List Loc} {b : Nat} {Q : State → Prop} {G : gH} {n pc : Nat} {ls : Array Slot} {rest : List Value} {R : Room} {cells slots : Nat}
theorem g_get (C : gB p l s m args meth c D cc own nL rt) (hI : gI D G n H) {a ci : Nat} {fs : List Value} (hq : G a = some (.inl (ci, fs))) {Cn ref : String} {T : u_T} {N index : Nat} {ty : Nat → FieldType} (K : gCl ci Cn T N ty) (k : Nat) {v : Value} (hv : fs[k]? = some v) (hlink : Cond.fieldLink own index ref (T k).2.1 (T k).2.2.1 ∈ lw_all) (hsame : ∀ x, s.fieldFound? (T k).1 (T k).2.1 (T k).2.2.1 = some x → s.fieldFound? ref (T k).2.1 (T k).2.2.1 = some x) (hdg : decode cc pc = .ok (.getfield index, 3))
    (kk : W p l e R s m args below meth c H locs cells slots Q (F0 m (pc + 3) ls (v :: rest))) : W p l e R s m args below meth c H locs cells slots Q (F0 m pc ls (.ref a :: rest)) := by
  obtain ⟨r, cell, h1, q1, q2, q3, q4, q5, q6, q7⟩ := hI.2.2.2 _ _ hq
  have hr : r = (Cn, T, N) := Option.some.inj (h1.symm.trans K.1)
  subst hr
  have hk : k < N := Nat.lt_of_lt_of_le (List.getElem?_eq_some_iff.mp hv).1 q6
  obtain ⟨hS, hfc, kC, hkC, hkind⟩ := C.w.kn K.1 K.2.1
  obtain ⟨cf, kf, fi, f, hi, hsl⟩ := hS k hk
  refine W.getf C.x C.b C.ow (C.ts _ hlink) (hsame _ hi) (u_facts hfc hkC (u_lays C.ts K.2.2.1 hk) hi).1 q1 q4 (v := v) ?_ rfl rfl hdg kk
  rw [hsl]
  exact q7 k v hv
theorem g_getN (C : gB p l s m args meth c D cc own nL rt) (hI : gI D G n H) {a ci : Nat} {fs : List Value} (hq : G a = some (.inl (ci, fs))) {Cn ref host : String} {T : u_T} {N index : Nat} {ty : Nat → FieldType} (K : gCl ci Cn T N ty) (k : Nat) {v : Value} (hv : fs[k]? = some v) (hlink : Cond.fieldLinkNest own index ref (T k).2.1 (T k).2.2.1 host ∈ gNw) (hsame : ∀ x, s.fieldFound? (T k).1 (T k).2.1 (T k).2.2.1 = some x → s.fieldFound? ref (T k).2.1 (T k).2.2.1 = some x) (hdg : decode cc pc = .ok (.getfield index, 3))
    (kk : W p l e R s m args below meth c H locs cells slots Q (F0 m (pc + 3) ls (v :: rest))) : W p l e R s m args below meth c H locs cells slots Q (F0 m pc ls (.ref a :: rest)) := by
  obtain ⟨r, cell, h1, q1, q2, q3, q4, q5, q6, q7⟩ := hI.2.2.2 _ _ hq
  have hr : r = (Cn, T, N) := Option.some.inj (h1.symm.trans K.1)
  subst hr
  have hk : k < N := Nat.lt_of_lt_of_le (List.getElem?_eq_some_iff.mp hv).1 q6
  obtain ⟨hS, hfc, kC, hkC, hkind⟩ := C.w.kn K.1 K.2.1
  obtain ⟨cf, kf, fi, f, hi, hsl⟩ := hS k hk
  refine va_Wgetf C.x C.b C.ow (va_Nw.use rfl (C.w.nw hlink)) (hsame _ hi) (u_facts hfc hkC (u_lays C.ts K.2.2.1 hk) hi).1 q1 q4 (v := v) ?_ rfl rfl hdg kk
  rw [hsl]
  exact q7 k v hv
theorem g_apart (hts : ∀ w ∈ lw_all, w.before args s = true) (hW : gW D s) {ci : Nat} {Cn : String} {T : u_T} {N : Nat} {ty : Nat → FieldType} (K : gCl ci Cn T N ty) : ∀ x y, x < N → y < N → x ≠ y → gslo D ci x ≠ gslo D ci y := by
  intro x y hx hy hne
  obtain ⟨hS, -⟩ := hW.kn K.1 K.2.1
  obtain ⟨_, _, _, fa, hia, ea⟩ := hS x hx
  obtain ⟨_, _, _, fb, hib, eb⟩ := hS y hy
  rw [← ea, ← eb]
  refine u_apart (u_lays hts K.2.2.1 hx) (u_lays hts K.2.2.1 hy) hia hib ?_
  rw [(State.fieldFound?_type hia (K.2.2.2.1 x hx)).1, (State.fieldFound?_type hib (K.2.2.2.1 y hy)).1]
  exact K.2.2.2.2 x hx y hy hne
/-- what a store into a field leaves -/
theorem g_stored {D : gD} {a ci : Nat} {fs : List Value} {k : Nat} {v : Value} {H H1 : Heap} {r : vw_C} {cell : Cell} (h1 : gC[ci]? = some r) (q2 : cell.cls = gcid D ci) (q3 : cell.vm.isStatics = false) (q4 : cell.vm ≠ .unknown) (q5 : gz D ≤ a → cell.vm = .none ∧ cell.monitor.owner = none ∧ cell.monitor.count = 0) (q6 : fs.length ≤ r.2.2) (q7 : ∀ (k : Nat) (v : Value), fs[k]? = some v → cell.slots[gslo D ci k]? = some v) (hap : ∀ x y, x < r.2.2 → y < r.2.2 → x ≠ y → gslo D ci x ≠ gslo D ci y) (hk : k < fs.length) (hH : H1[a]? = some (cell.setSlot (gslo D ci k) v)) : g_at D a (.inl (ci, fs.set k v)) H1 := by
  have hlt : gslo D ci k < cell.slots.size := by
    cases hv : fs[k]? with
    | none => rw [List.getElem?_eq_none_iff] at hv; omega
    | some w => exact (Array.getElem?_eq_some_iff.mp (q7 k w hv)).1
  refine ⟨r, _, h1, hH, q2, q3, q4, q5, by rw [List.length_set]; exact q6, fun j w hw => ?_⟩
  rw [g_setslot hlt]
  rcases g_fsn hw with ⟨e1, e2⟩ | ⟨e1, e2⟩
  · subst e1 e2
    exact if_pos rfl
  · have hj : j < fs.length := (List.getElem?_eq_some_iff.mp e2).1
    rw [if_neg (hap j k (by omega) (by omega) e1)]
    exact q7 j w e2
theorem g_put (C : gB p l s m args meth c D cc own nL rt) (hI : gI D G n H) (hS0 : va_S (gA D) s.heap H locs) {a ci : Nat} {fs : List Value} (hq : G a = some (.inl (ci, fs))) (ha : gz D ≤ a) {Cn ref : String} {T : u_T} {N index : Nat} {ty0 : Nat → FieldType} (K : gCl ci Cn T N ty0) (k : Nat) (hk0 : k < fs.length) (hlink : Cond.fieldLink own index ref (T k).2.1 (T k).2.2.1 ∈ lw_all) (hsame : ∀ x, s.fieldFound? (T k).1 (T k).2.1 (T k).2.2.1 = some x → s.fieldFound? ref (T k).2.1 (T k).2.2.1 = some x) (hfin : (T k).2.2.2 = false) {v : Value} (hn : narrow (ty0 k) v = v) (hfit : fits (ty0 k) v = true) {fs2 : List Value} (hfs : fs.set k v = fs2) (hdg : decode cc pc = .ok (.putfield index, 3))
    (kk : ∀ (G1 : gH) (H1 : Heap) (locs1 : List Loc), G1 = gu G a (.inl (ci, fs2)) → gI D G1 n H1 → va_S (gA D) s.heap H1 locs1 → W p l e R s m args below meth c H1 locs1 cells slots Q (F0 m (pc + 3) ls rest)) : W p l e R s m args below meth c H locs cells slots Q (F0 m pc ls (v :: .ref a :: rest)) := by
  have hap := g_apart C.ts C.w K
  obtain ⟨r, cell, h1, q1, q2, q3, q4, q5, q6, q7⟩ := hI.2.2.2 _ _ hq
  have hr : r = (Cn, T, N) := Option.some.inj (h1.symm.trans K.1)
  subst hr
  have hk : k < N := Nat.lt_of_lt_of_le hk0 q6
  obtain ⟨hS, hfc, kC, hkC, hkind⟩ := C.w.kn K.1 K.2.1
  obtain ⟨cf, kf, fi, f, hi, hsl⟩ := hS k hk
  have hlay := C.ts _ (K.2.2.1 _ (u_in_lay hk))
  unfold u_lay at hlay
  rw [if_neg (by rw [hfin]; decide)] at hlay
  have hst := (u_facts hfc hkC (u_lays C.ts K.2.2.1 hk) hi).1
  have h6 := u_store hfc hkC hkind hlay hi (K.2.2.2.1 k hk) hn hfit
  have hv0 : ∃ w, fs[k]? = some w := ⟨fs[k], List.getElem?_eq_getElem hk0⟩
  obtain ⟨w0, hw0⟩ := hv0
  refine W.putK C.x C.b (f := f) ⟨C.ow, C.ts _ hlink, ⟨_, _, _, hsame _ hi⟩, hst⟩ (by rw [q2]; exact h6) q1 (q5 ha).1 (by rw [hsl]; exact k2_hasslot (q7 k _ hw0)) rfl rfl hdg fun H' e1 e2 e3 => ?_
  rw [hsl] at e1 ⊢
  exact kk _ H' _ rfl (hfs ▸ hI.put ha (g_stored (H := H) h1 q2 q3 q4 q5 q6 q7 hap hk0 e1) e2 e3) (gS.put hS0 e2 e3 ha)
theorem g_putF (C : gB p l s m args meth c D cc own nL rt) (hin2 : meth.name = "<init>") (hI : gI D G n H) (hS0 : va_S (gA D) s.heap H locs) {a ci : Nat} {fs : List Value} (hq : G a = some (.inl (ci, fs))) (ha : gz D ≤ a) {Cn ref : String} {T : u_T} {N index : Nat} {ty0 : Nat → FieldType} (K : gCl ci Cn T N ty0) (k : Nat) (hk0 : k < fs.length) (hlink : Cond.fieldLink own index ref (T k).2.1 (T k).2.2.1 ∈ lw_all) (hsame : ∀ x, s.fieldFound? (T k).1 (T k).2.1 (T k).2.2.1 = some x → s.fieldFound? ref (T k).2.1 (T k).2.2.1 = some x) (hfin : (T k).2.2.2 = true) (hdecl : (T k).1 = own) {v : Value} (hn : narrow (ty0 k) v = v) (hfit : fits (ty0 k) v = true) {fs2 : List Value} (hfs : fs.set k v = fs2) (hdg : decode cc pc = .ok (.putfield index, 3))
    (kk : ∀ (G1 : gH) (H1 : Heap) (locs1 : List Loc), G1 = gu G a (.inl (ci, fs2)) → gI D G1 n H1 → va_S (gA D) s.heap H1 locs1 → W p l e R s m args below meth c H1 locs1 cells slots Q (F0 m (pc + 3) ls rest)) : W p l e R s m args below meth c H locs cells slots Q (F0 m pc ls (v :: .ref a :: rest)) := by
  have hap := g_apart C.ts C.w K
  obtain ⟨r, cell, h1, q1, q2, q3, q4, q5, q6, q7⟩ := hI.2.2.2 _ _ hq
  have hr : r = (Cn, T, N) := Option.some.inj (h1.symm.trans K.1)
  subst hr
  have hk : k < N := Nat.lt_of_lt_of_le hk0 q6
  obtain ⟨hS, hfc, kC, hkC, hkind⟩ := C.w.kn K.1 K.2.1
  obtain ⟨cf, kf, fi, f, hi, hsl⟩ := hS k hk
  have hlay := C.ts _ (K.2.2.1 _ (u_in_lay hk))
  unfold u_lay at hlay
  rw [if_pos hfin] at hlay
  have hst := (u_facts hfc hkC (u_lays C.ts K.2.2.1 hk) hi).1
  have hcf : m.cls = cf := by
    obtain ⟨_, _, c', _, _, _, -, -, hf', -, -, -, hown2, -⟩ := Cond.laysFinal_spec hlay
    have e1 : c' = cf := by have := hi.symm.trans hf'; simp at this; exact this.1.symm
    rw [hdecl] at hown2
    rw [← e1]; exact Option.some.inj (C.ow.symm.trans hown2)
  have h6 := u_fits hfc hkC hkind (Or.inr hlay) hi (K.2.2.2.1 k hk) hn hfit
  have hv0 : ∃ w, fs[k]? = some w := ⟨fs[k], List.getElem?_eq_getElem hk0⟩
  obtain ⟨w0, hw0⟩ := hv0
  refine W.putFinK C.x C.b C.ow (C.ts _ hlink) (hsame _ hi) hst hcf hin2 (by rw [q2]; exact h6) q1 (q5 ha).1 (by rw [hsl]; exact k2_hasslot (q7 k _ hw0)) rfl rfl hdg fun H' e1 e2 e3 => ?_
  rw [hsl] at e1 ⊢
  exact kk _ H' _ rfl (hfs ▸ hI.put ha (g_stored (H := H) h1 q2 q3 q4 q5 q6 q7 hap hk0 e1) e2 e3) (gS.put hS0 e2 e3 ha)
/-- new: an object with its fields at their defaults -/
theorem g_new (C : gB p l s m args meth c D cc own nL rt) (hI : gI D G n H) (hS : va_S (gA D) s.heap H locs) {ci : Nat} {Cn : String} {T : u_T} {N index w : Nat} {ty : Nat → FieldType} (K : gCl ci Cn T N ty) {fs : List Value} (hfs : fs = (List.range N).map fun k => defaultValue (ty k)) (hlink : Cond.classLink own index Cn ∈ lw_all) (hins : Cond.instantiable Cn w ∈ lw_all) (hini : Cond.initialized Cn ∈ lw_all) (hw : w ≤ 200) (hb : b + 1 ≤ B) (hdg : decode cc pc = .ok (.new index, 3))
    (kk : ∀ (G1 : gH) (H1 : Heap), G1 = gu G n (.inl (ci, fs)) → gI D G1 (n + 1) H1 → va_S (gA D) s.heap H1 locs → W p l e (gR k B) s m args below meth c H1 locs (b + 1) (200 * (b + 1)) Q (F0 m (pc + 3) ls (.ref n :: rest))) : W p l e (gR k B) s m args below meth c H locs b (200 * b) Q (F0 m pc ls rest) := by
  have hKn := C.w.kn K.1 K.2.1
  refine W.newcK C.x C.b C.ow (C.ts _ hlink) (C.ts _ hins) (C.ts _ hini) rfl hdg (show b + 1 ≤ B from hb) (show 200 * b + w ≤ 200 * B by omega) (C.w.cls K.1) hI.1 fun H' kC h1 h2 h3 h4 => ?_
  obtain ⟨cell, e1, e2, e3, e4⟩ := u_born ty C.ts K.2.2.1 hKn h1 h2 K.2.2.2.1
  cases h2.symm.trans e1
  refine W.widen (k := b + 1) (n := 200 * (b + 1)) (Nat.le_refl _) (by omega) (kk _ H' rfl (hI.push ⟨(Cn, T, N), _, K.1, h2, rfl, rfl, (fun h => by cases h), fun _ => ⟨rfl, rfl, rfl⟩, by rw [hfs]; simp, fun j v hv => ?_⟩ h3 h4) (gS.push hI hS h3 h4))
  have hj : j < N := by
    have := (List.getElem?_eq_some_iff.mp hv).1
    rw [hfs] at this
    simpa using this
  rw [hfs, List.getElem?_map, List.getElem?_range hj] at hv
  cases hv
  exact e4 j hj
/-- new: an object without fields -/
theorem g_new0 (C : gB p l s m args meth c D cc own nL rt) (hI : gI D G n H) (hS : va_S (gA D) s.heap H locs) {ci : Nat} {Cn : String} {T : u_T} {index w : Nat} (K : gC[ci]? = some (Cn, T, 0)) (hlink : Cond.classLink own index Cn ∈ lw_all) (hins : Cond.instantiable Cn w ∈ lw_all) (hini : Cond.initialized Cn ∈ lw_all) (hw : w ≤ 200) (hb : b + 1 ≤ B) (hdg : decode cc pc = .ok (.new index, 3))
    (kk : ∀ (G1 : gH) (H1 : Heap), G1 = gu G n (.inl (ci, [])) → gI D G1 (n + 1) H1 → va_S (gA D) s.heap H1 locs → W p l e (gR k B) s m args below meth c H1 locs (b + 1) (200 * (b + 1)) Q (F0 m (pc + 3) ls (.ref n :: rest))) : W p l e (gR k B) s m args below meth c H locs b (200 * b) Q (F0 m pc ls rest) := by
  refine W.newcK C.x C.b C.ow (C.ts _ hlink) (C.ts _ hins) (C.ts _ hini) rfl hdg (show b + 1 ≤ B from hb) (show 200 * b + w ≤ 200 * B by omega) (C.w.cls K) hI.1 fun H' kC h1 h2 h3 h4 => ?_
  exact W.widen (k := b + 1) (n := 200 * (b + 1)) (Nat.le_refl _) (by omega) (kk _ H' rfl (hI.push ⟨(Cn, T, 0), _, K, h2, rfl, rfl, (fun h => by cases h), fun _ => ⟨rfl, rfl, rfl⟩, Nat.le_refl _, fun j v hv => by simp at hv⟩ h3 h4) (gS.push hI hS h3 h4))
theorem g_cb (atype : ArrayType) : componentBytes (newarray.typeOf atype) ≤ 8 := by cases atype <;> decide
/-- a new array of numbers -/
theorem g_newa (C : gB p l s m args meth c D cc own nL rt) (hI : gI D G n H) (hS : va_S (gA D) s.heap H locs) {atype : ArrayType} {t : Nat} (ht : t < 6) (hty : newarray.typeOf atype = gTy t) (harr : Cond.arrayClass (newarray.typeOf atype) ∈ lw_all) {x : Int32} {N u : Nat} (hn : ¬ x < 0) (hN : x.toNatClampNeg = N) (hN2 : N ≤ 1000000) (hu : 1 ≤ u) (hNu : N ≤ 200 * u) (hb : b + u ≤ B) {dv : Value} (hd : defaultValue (gTy t) = dv) (hdg : decode cc pc = .ok (.newarray atype, 2))
    (kk : ∀ (G1 : gH) (H1 : Heap), G1 = gu G n (.inr (t, N, fun _ => dv)) → gI D G1 (n + 1) H1 → va_S (gA D) s.heap H1 locs → W p l e (gR k B) s m args below meth c H1 locs (b + u) (200 * (b + u)) Q (F0 m (pc + 2) ls (.ref n :: rest))) : W p l e (gR k B) s m args below meth c H locs b (200 * b) Q (F0 m pc ls (.int x :: rest)) := by
  have hcb := g_cb atype
  have hby : x.toNatClampNeg * componentBytes (newarray.typeOf atype) ≤ 536870912 := by
    rw [hN]
    exact Nat.le_trans (Nat.mul_le_mul hN2 hcb) (by decide)
  refine W.newa C.x C.b (C.ts _ harr) rfl hdg rfl hn hby (show b + 1 ≤ B by omega) (show 200 * b + x.toNatClampNeg ≤ 200 * B by omega) fun cA kA comp h1 h2 h3 => ?_
  subst hN
  have hz := hI.1
  have hcl : cA = garr D t := by
    have h9 := (C.w.2.2.1 t ht).1
    rw [← hty, h1] at h9
    exact Option.some.inj h9
  refine W.widen (k := b + u) (n := 200 * (b + u)) (by omega) (by omega) ?_
  have hnew : g_at D n (.inr (t, x.toNatClampNeg, fun _ => dv)) (H.push { cls := cA, slots := Array.replicate x.toNatClampNeg (defaultValue (newarray.typeOf atype)), vm := .none }) := by
    refine ⟨_, by rw [← hz]; exact Array.getElem?_push_size, by rw [hcl]; exact (C.w.2.2.1 t ht).2, rfl, (fun h => by cases h), fun _ => ⟨rfl, hcl⟩, by simp, by show x.toNatClampNeg < 2 ^ 31; omega, fun j hj => ?_⟩
    have hj : j < x.toNatClampNeg := hj
    show (Array.replicate x.toNatClampNeg (defaultValue (newarray.typeOf atype)))[j]? = some dv
    rw [← hd, hty]
    simp [hj]
  have h4 : (H.push { cls := cA, slots := Array.replicate x.toNatClampNeg (defaultValue (newarray.typeOf atype)), vm := .none }).size = n + 1 := by simp [hz]
  have h5 : ∀ q, q < n → (H.push { cls := cA, slots := Array.replicate x.toNatClampNeg (defaultValue (newarray.typeOf atype)), vm := .none })[q]? = H[q]? := fun q hq => by rw [Array.getElem?_push, if_neg (by omega)]
  have h6 := kk _ _ rfl (hI.push hnew h4 h5) (gS.push hI hS h4 h5)
  rw [← hz] at h6
  exact h6
/-- new Object[x] -/
theorem g_newq (C : gB p l s m args meth c D cc own nL rt) (hI : gI D G n H) (hS : va_S (gA D) s.heap H locs) {index : Nat} (hlink : Cond.classLink own index "java/lang/Object" ∈ lw_all) {x : Int32} {N u : Nat} (hn : ¬ x < 0) (hN : x.toNatClampNeg = N) (hN2 : N ≤ 1000000) (hu : 1 ≤ u) (hNu : N ≤ 200 * u) (hb : b + u ≤ B) (hdg : decode cc pc = .ok (.anewarray index, 3))
    (kk : ∀ (G1 : gH) (H1 : Heap), G1 = gu G n (aR N fun _ => .null) → gI D G1 (n + 1) H1 → va_S (gA D) s.heap H1 locs → W p l e (gR k B) s m args below meth c H1 locs (b + u) (200 * (b + u)) Q (F0 m (pc + 3) ls (.ref n :: rest))) : W p l e (gR k B) s m args below meth c H locs b (200 * b) Q (F0 m pc ls (.int x :: rest)) := by
  refine W.anew C.x C.b C.ow (C.ts _ hlink) (va_AO.use C.w.2.2.2.2.2.2.2.2.2.2.2.1) rfl hdg rfl hn (by rw [hN]; omega) (show b + 1 ≤ B by omega) (show 200 * b + x.toNatClampNeg ≤ 200 * B by omega) fun cA kA comp h1 h2 h3 _ => ?_
  subst hN
  have hz := hI.1
  have hcl : cA = garr D 5 := by
    have h9 := (C.w.2.2.1 5 (by decide)).1
    exact Option.some.inj (h1.symm.trans h9)
  refine W.widen (k := b + u) (n := 200 * (b + u)) (by omega) (by omega) ?_
  have hnew : g_at D n (aR x.toNatClampNeg fun _ => .null) (H.push { cls := cA, slots := Array.replicate x.toNatClampNeg .null, vm := .none }) := by
    refine ⟨_, by rw [← hz]; exact Array.getElem?_push_size, by rw [hcl]; exact (C.w.2.2.1 5 (by decide)).2, rfl, (fun h => by cases h), fun _ => ⟨rfl, hcl⟩, by simp, by show x.toNatClampNeg < 2 ^ 31; omega, fun j hj => ?_⟩
    have hj : j < x.toNatClampNeg := hj
    show (Array.replicate x.toNatClampNeg Value.null)[j]? = some .null
    simp [hj]
  have h4 : (H.push { cls := cA, slots := Array.replicate x.toNatClampNeg .null, vm := .none }).size = n + 1 := by simp [hz]
  have h5 : ∀ q, q < n → (H.push { cls := cA, slots := Array.replicate x.toNatClampNeg .null, vm := .none })[q]? = H[q]? := fun q hq => by rw [Array.getElem?_push, if_neg (by omega)]
  have h6 := kk _ _ rfl (hI.push hnew h4 h5) (gS.push hI hS h4 h5)
  rw [← hz] at h6
  exact h6
theorem g_alen (C : gB p l s m args meth c D cc own nL rt) (hI : gI D G n H) {a t N : Nat} {f : Nat → Value} (hq : G a = some (.inr (t, N, f))) {v : Int32} (hv : nI N = v) (hdg : decode cc pc = .ok (.arraylength, 1))
    (kk : W p l e R s m args below meth c H locs cells slots Q (F0 m (pc + 1) ls (.int v :: rest))) : W p l e R s m args below meth c H locs cells slots Q (F0 m pc ls (.ref a :: rest)) := by
  obtain ⟨cell, q1, q2, q3, q4, q5, q6, q7, q8⟩ := hI.2.2.2 _ _ hq
  exact W.alen C.x C.b q1 (C.w.arr q3 q2) (by rw [q6, ← hv]; rfl) rfl rfl hdg kk
theorem g_iald (C : gB p l s m args meth c D cc own nL rt) (hI : gI D G n H) {a N : Nat} {f : Nat → Value} (hq : G a = some (.inr (0, N, f))) {i : Int32} (hin : vp_in i N) {v : Value} (hv : f i.toNatClampNeg = v) (hdg : decode cc pc = .ok (.iaload, 1))
    (kk : W p l e R s m args below meth c H locs cells slots Q (F0 m (pc + 1) ls (v :: rest))) : W p l e R s m args below meth c H locs cells slots Q (F0 m pc ls (.int i :: .ref a :: rest)) := by
  obtain ⟨cell, q1, q2, q3, q4, q5, q6, q7, q8⟩ := hI.2.2.2 _ _ hq
  exact W.iald (v := v) C.x C.b q1 (C.w.arr q3 q2) q4 (g_in hin q6) (by rw [q8 _ (g_nar hin).2]; exact congrArg some hv) rfl rfl hdg kk
theorem g_bald (C : gB p l s m args meth c D cc own nL rt) (hI : gI D G n H) {a N : Nat} {f : Nat → Value} (hq : G a = some (.inr (1, N, f))) {i : Int32} (hin : vp_in i N) {v : Value} (hv : f i.toNatClampNeg = v) (hdg : decode cc pc = .ok (.baload, 1))
    (kk : W p l e R s m args below meth c H locs cells slots Q (F0 m (pc + 1) ls (v :: rest))) : W p l e R s m args below meth c H locs cells slots Q (F0 m pc ls (.int i :: .ref a :: rest)) := by
  obtain ⟨cell, q1, q2, q3, q4, q5, q6, q7, q8⟩ := hI.2.2.2 _ _ hq
  exact W.bald (v := v) C.x C.b q1 (C.w.arr q3 q2) q4 (g_in hin q6) (by rw [q8 _ (g_nar hin).2]; exact congrArg some hv) rfl rfl hdg kk
theorem g_cald (C : gB p l s m args meth c D cc own nL rt) (hI : gI D G n H) {a N : Nat} {f : Nat → Value} (hq : G a = some (.inr (2, N, f))) {i : Int32} (hin : vp_in i N) {v : Value} (hv : f i.toNatClampNeg = v) (hdg : decode cc pc = .ok (.caload, 1))
    (kk : W p l e R s m args below meth c H locs cells slots Q (F0 m (pc + 1) ls (v :: rest))) : W p l e R s m args below meth c H locs cells slots Q (F0 m pc ls (.int i :: .ref a :: rest)) := by
  obtain ⟨cell, q1, q2, q3, q4, q5, q6, q7, q8⟩ := hI.2.2.2 _ _ hq
  exact W.cald (v := v) C.x C.b q1 (C.w.arr q3 q2) q4 (g_in hin q6) (by rw [q8 _ (g_nar hin).2]; exact congrArg some hv) rfl rfl hdg kk
theorem g_lald (C : gB p l s m args meth c D cc own nL rt) (hI : gI D G n H) {a N : Nat} {f : Nat → Value} (hq : G a = some (.inr (3, N, f))) {i : Int32} (hin : vp_in i N) {v : Value} (hv : f i.toNatClampNeg = v) (hdg : decode cc pc = .ok (.laload, 1))
    (kk : W p l e R s m args below meth c H locs cells slots Q (F0 m (pc + 1) ls (v :: rest))) : W p l e R s m args below meth c H locs cells slots Q (F0 m pc ls (.int i :: .ref a :: rest)) := by
  obtain ⟨cell, q1, q2, q3, q4, q5, q6, q7, q8⟩ := hI.2.2.2 _ _ hq
  exact W.lald (v := v) C.x C.b q1 (C.w.arr q3 q2) q4 (g_in hin q6) (by rw [q8 _ (g_nar hin).2]; exact congrArg some hv) rfl rfl hdg kk
theorem g_dald (C : gB p l s m args meth c D cc own nL rt) (hI : gI D G n H) {a N : Nat} {f : Nat → Value} (hq : G a = some (.inr (4, N, f))) {i : Int32} (hin : vp_in i N) {v : Value} (hv : f i.toNatClampNeg = v) (hdg : decode cc pc = .ok (.daload, 1))
    (kk : W p l e R s m args below meth c H locs cells slots Q (F0 m (pc + 1) ls (v :: rest))) : W p l e R s m args below meth c H locs cells slots Q (F0 m pc ls (.int i :: .ref a :: rest)) := by
  obtain ⟨cell, q1, q2, q3, q4, q5, q6, q7, q8⟩ := hI.2.2.2 _ _ hq
  exact W.dald (v := v) C.x C.b q1 (C.w.arr q3 q2) q4 (g_in hin q6) (by rw [q8 _ (g_nar hin).2]; exact congrArg some hv) rfl rfl hdg kk
theorem g_aald (C : gB p l s m args meth c D cc own nL rt) (hI : gI D G n H) {a N : Nat} {f : Nat → Value} (hq : G a = some (.inr (5, N, f))) {i : Int32} (hin : vp_in i N) {v : Value} (hv : f i.toNatClampNeg = v) (hdg : decode cc pc = .ok (.aaload, 1))
    (kk : W p l e R s m args below meth c H locs cells slots Q (F0 m (pc + 1) ls (v :: rest))) : W p l e R s m args below meth c H locs cells slots Q (F0 m pc ls (.int i :: .ref a :: rest)) := by
  obtain ⟨cell, q1, q2, q3, q4, q5, q6, q7, q8⟩ := hI.2.2.2 _ _ hq
  exact W.aald (v := v) C.x C.b q1 (C.w.arr q3 q2) rfl q4 (g_in hin q6) (by rw [q8 _ (g_nar hin).2]; exact congrArg some hv) rfl rfl hdg kk
/-- what a store into an array leaves -/
theorem g_astored {D : gD} {a t N i : Nat} {f g : Nat → Value} {H1 : Heap} {cell : Cell} {v : Value} (q2 : gisA D t cell.cls) (q3 : cell.vm.isStatics = false) (q4 : cell.vm ≠ .unknown) (q5 : gz D ≤ a → cell.vm = .none ∧ cell.cls = garr D t) (q6 : cell.slots.size = N) (q7 : N < 2 ^ 31) (q8 : ∀ j : Nat, j < N → cell.slots[j]? = some (f j)) (hi : i < N) (hg : g = gup f i v) (hH : H1[a]? = some (cell.setSlot i v)) : g_at D a (.inr (t, N, g)) H1 := by
  refine ⟨_, hH, q2, q3, q4, q5, by rw [k2_slotsz]; exact q6, q7, fun j hj => ?_⟩
  rw [g_setslot (by rw [q6]; exact hi), hg]
  by_cases c : j = i
  · rw [if_pos c]
    show some v = some (gup f i v j)
    rw [c, gup_s]
  · rw [if_neg c]
    show _ = some (gup f i v j)
    rw [gup_n c]
    exact q8 j hj
theorem g_mapup {α : Type} (mk : α → Value) (x : Nat → α) (i : Nat) (v : α) : (fun j => mk (gup x i v j)) = gup (fun j => mk (x j)) i (mk v) := by
  funext j
  by_cases c : j = i
  · rw [c, gup_s, gup_s]
  · rw [gup_n c, gup_n c]
theorem g_iast (C : gB p l s m args meth c D cc own nL rt) (hI : gI D G n H) (hS : va_S (gA D) s.heap H locs) {a N : Nat} {f : Nat → Int32} (hq : G a = some (aI N f)) (ha : gz D ≤ a) {i : Int32} {x : Int32} (hin : vp_in i N) (hdg : decode cc pc = .ok (.iastore, 1))
    (kk : ∀ (G1 : gH) (H1 : Heap) (locs1 : List Loc), G1 = gu G a (aI N (gup f i.toNatClampNeg x)) → gI D G1 n H1 → va_S (gA D) s.heap H1 locs1 → W p l e R s m args below meth c H1 locs1 cells slots Q (F0 m (pc + 1) ls rest)) : W p l e R s m args below meth c H locs cells slots Q (F0 m pc ls (.int x :: .int i :: .ref a :: rest)) := by
  obtain ⟨cell, q1, q2, q3, q4, q5, q6, q7, q8⟩ := hI.2.2.2 _ _ hq
  exact W.iast C.x C.b q1 (C.w.arr q3 q2) q4 (g_in hin q6) rfl rfl hdg fun H1 e z oq => kk _ H1 _ rfl (hI.put ha (g_astored q2 q3 q4 q5 q6 q7 q8 (g_nar hin).2 (g_mapup Value.int f _ _) e) z oq) (gS.put hS z oq ha)
theorem g_bast (C : gB p l s m args meth c D cc own nL rt) (hI : gI D G n H) (hS : va_S (gA D) s.heap H locs) {a N : Nat} {f : Nat → Int32} (hq : G a = some (aB N f)) (ha : gz D ≤ a) {i : Int32} {x : Int32} (hin : vp_in i N) (hdg : decode cc pc = .ok (.bastore, 1))
    (kk : ∀ (G1 : gH) (H1 : Heap) (locs1 : List Loc), G1 = gu G a (aB N (gup f i.toNatClampNeg (vp_nar .byte x))) → gI D G1 n H1 → va_S (gA D) s.heap H1 locs1 → W p l e R s m args below meth c H1 locs1 cells slots Q (F0 m (pc + 1) ls rest)) : W p l e R s m args below meth c H locs cells slots Q (F0 m pc ls (.int x :: .int i :: .ref a :: rest)) := by
  obtain ⟨cell, q1, q2, q3, q4, q5, q6, q7, q8⟩ := hI.2.2.2 _ _ hq
  exact W.bast C.x C.b q1 (C.w.arr q3 q2) q4 (g_in hin q6) rfl rfl hdg fun H1 e z oq => kk _ H1 _ rfl (hI.put ha (g_astored q2 q3 q4 q5 q6 q7 q8 (g_nar hin).2 (g_mapup Value.int f _ _) e) z oq) (gS.put hS z oq ha)
theorem g_cast (C : gB p l s m args meth c D cc own nL rt) (hI : gI D G n H) (hS : va_S (gA D) s.heap H locs) {a N : Nat} {f : Nat → Int32} (hq : G a = some (aC N f)) (ha : gz D ≤ a) {i : Int32} {x : Int32} (hin : vp_in i N) (hdg : decode cc pc = .ok (.castore, 1))
    (kk : ∀ (G1 : gH) (H1 : Heap) (locs1 : List Loc), G1 = gu G a (aC N (gup f i.toNatClampNeg (vp_nar .char x))) → gI D G1 n H1 → va_S (gA D) s.heap H1 locs1 → W p l e R s m args below meth c H1 locs1 cells slots Q (F0 m (pc + 1) ls rest)) : W p l e R s m args below meth c H locs cells slots Q (F0 m pc ls (.int x :: .int i :: .ref a :: rest)) := by
  obtain ⟨cell, q1, q2, q3, q4, q5, q6, q7, q8⟩ := hI.2.2.2 _ _ hq
  exact W.cast C.x C.b q1 (C.w.arr q3 q2) q4 (g_in hin q6) rfl rfl hdg fun H1 e z oq => kk _ H1 _ rfl (hI.put ha (g_astored q2 q3 q4 q5 q6 q7 q8 (g_nar hin).2 (g_mapup Value.int f _ _) e) z oq) (gS.put hS z oq ha)
theorem g_last (C : gB p l s m args meth c D cc own nL rt) (hI : gI D G n H) (hS : va_S (gA D) s.heap H locs) {a N : Nat} {f : Nat → Int64} (hq : G a = some (aL N f)) (ha : gz D ≤ a) {i : Int32} {x : Int64} (hin : vp_in i N) (hdg : decode cc pc = .ok (.lastore, 1))
    (kk : ∀ (G1 : gH) (H1 : Heap) (locs1 : List Loc), G1 = gu G a (aL N (gup f i.toNatClampNeg x)) → gI D G1 n H1 → va_S (gA D) s.heap H1 locs1 → W p l e R s m args below meth c H1 locs1 cells slots Q (F0 m (pc + 1) ls rest)) : W p l e R s m args below meth c H locs cells slots Q (F0 m pc ls (.long x :: .int i :: .ref a :: rest)) := by
  obtain ⟨cell, q1, q2, q3, q4, q5, q6, q7, q8⟩ := hI.2.2.2 _ _ hq
  exact W.last C.x C.b q1 (C.w.arr q3 q2) q4 (g_in hin q6) rfl rfl hdg fun H1 e z oq => kk _ H1 _ rfl (hI.put ha (g_astored q2 q3 q4 q5 q6 q7 q8 (g_nar hin).2 (g_mapup Value.long f _ _) e) z oq) (gS.put hS z oq ha)
theorem g_dast (C : gB p l s m args meth c D cc own nL rt) (hI : gI D G n H) (hS : va_S (gA D) s.heap H locs) {a N : Nat} {f : Nat → UInt64} (hq : G a = some (aD N f)) (ha : gz D ≤ a) {i : Int32} {x : UInt64} (hin : vp_in i N) (hdg : decode cc pc = .ok (.dastore, 1))
    (kk : ∀ (G1 : gH) (H1 : Heap) (locs1 : List Loc), G1 = gu G a (aD N (gup f i.toNatClampNeg x)) → gI D G1 n H1 → va_S (gA D) s.heap H1 locs1 → W p l e R s m args below meth c H1 locs1 cells slots Q (F0 m (pc + 1) ls rest)) : W p l e R s m args below meth c H locs cells slots Q (F0 m pc ls (.double x :: .int i :: .ref a :: rest)) := by
  obtain ⟨cell, q1, q2, q3, q4, q5, q6, q7, q8⟩ := hI.2.2.2 _ _ hq
  exact W.dast C.x C.b q1 (C.w.arr q3 q2) q4 (g_in hin q6) rfl rfl hdg fun H1 e z oq => kk _ H1 _ rfl (hI.put ha (g_astored q2 q3 q4 q5 q6 q7 q8 (g_nar hin).2 (g_mapup Value.double f _ _) e) z oq) (gS.put hS z oq ha)
/-- a reference to an object goes into an Object[] of ours -/
theorem g_aast (C : gB p l s m args meth c D cc own nL rt) (hI : gI D G n H) (hS : va_S (gA D) s.heap H locs) {a N v ci : Nat} {f : Nat → Value} {fs : List Value} {r : vw_C} (hq : G a = some (aR N f)) (ha : gz D ≤ a) (hv : G v = some (.inl (ci, fs))) (hc : gC[ci]? = some r) (hca : Cond.castable r.1 "java/lang/Object" ∈ gNw) {i : Int32} (hin : vp_in i N) (hdg : decode cc pc = .ok (.aastore, 1))
    (kk : ∀ (G1 : gH) (H1 : Heap) (locs1 : List Loc), G1 = gu G a (aR N (gup f i.toNatClampNeg (.ref v))) → gI D G1 n H1 → va_S (gA D) s.heap H1 locs1 → W p l e R s m args below meth c H1 locs1 cells slots Q (F0 m (pc + 1) ls rest)) : W p l e R s m args below meth c H locs cells slots Q (F0 m pc ls (.ref v :: .int i :: .ref a :: rest)) := by
  obtain ⟨cell, q1, q2, q3, q4, q5, q6, q7, q8⟩ := hI.2.2.2 _ _ hq
  obtain ⟨r', cv, g1, g2, g3, g4, -⟩ := hI.2.2.2 _ _ hv
  cases g1.symm.trans hc
  obtain ⟨kA, comp, k1, k2, k3, -⟩ := C.w.2.2.2.1
  obtain ⟨kE, hkE, -⟩ := Vm.findClass_spec k3
  obtain ⟨c0, t1, f1, f2, f3⟩ := Cond.castable_spec (va_Nw.use (A := args) rfl (C.w.nw hca))
  cases (C.w.cls hc).symm.trans f1
  cases k3.symm.trans f2
  obtain ⟨kC, hkC, -⟩ := Vm.findClass_spec (C.w.cls hc)
  have hcl : cell.cls = garr D 5 := (q5 ha).2
  refine W.aast C.x C.b q1 (fun q h => by rw [h] at q3; cases q3) q4 (by rw [hcl]; exact k1) k2 rfl hkE ⟨(g_nar hin).1, by rw [q6]; exact (g_nar hin).2⟩ g2 (fun q h => by rw [h] at g4; cases g4) (by rw [g3]; exact hkC) (by rw [g3]; exact f3) rfl rfl hdg fun H1 e z oq => ?_
  exact kk _ H1 _ rfl (hI.put ha (g_astored q2 q3 q4 q5 q6 q7 q8 (g_nar hin).2 rfl e) z oq) (gS.put hS z oq ha)
theorem g_gets (C : gB p l s m args meth c D cc own nL rt) (hS : va_S (gA D) s.heap H locs) {Cn nm d ref : String} {v : Value} {index : Nat} (hZ : (Cn, nm, d, v) ∈ gSt D) (hlink : Cond.fieldLink own index ref nm d ∈ lw_all) (hsame : ∀ x, s.fieldFound? Cn nm d = some x → s.fieldFound? ref nm d = some x) (hdg : decode cc pc = .ok (.getstatic index, 3))
    (kk : W p l e R s m args below meth c H locs cells slots Q (F0 m (pc + 3) ls (v :: rest))) : W p l e R s m args below meth c H locs cells slots Q (F0 m pc ls rest) :=
  va_gets C.x C.b (C.w.st hZ) hS C.ow (C.ts _ hlink) hsame hdg kk
theorem g_ldcS (C : gB p l s m args meth c D cc own nL rt) {tx : String} {index q : Nat} (hZ : (own, index, tx, q) ∈ gSr D) (hdg : decode cc pc = .ok (.ldc index, 2))
    (kk : W p l e R s m args below meth c H locs cells slots Q (F0 m (pc + 2) ls (.ref q :: rest))) : W p l e R s m args below meth c H locs cells slots Q (F0 m pc ls rest) :=
  va_ldcS C.x C.b C.ow (C.w.sr hZ) hdg kk
/-- a cast to the object's own class -/
theorem g_chk (C : gB p l s m args meth c D cc own nL rt) (hI : gI D G n H) {a ci : Nat} {fs : List Value} {r : vw_C} (hq : G a = some (.inl (ci, fs))) (hc : gC[ci]? = some r) {index : Nat} (hlink : Cond.classLink own index r.1 ∈ lw_all) (hdg : decode cc pc = .ok (.checkcast index, 3))
    (kk : W p l e R s m args below meth c H locs cells slots Q (F0 m (pc + 3) ls (.ref a :: rest))) : W p l e R s m args below meth c H locs cells slots Q (F0 m pc ls (.ref a :: rest)) :=
  va_castE C.x C.b C.ow (C.ts _ hlink) (C.w.recv hI hq hc) hdg kk
theorem g_inst (C : gB p l s m args meth c D cc own nL rt) (hI : gI D G n H) {a ci : Nat} {fs : List Value} {r : vw_C} (hq : G a = some (.inl (ci, fs))) (hc : gC[ci]? = some r) {index : Nat} (hlink : Cond.classLink own index r.1 ∈ lw_all) (hdg : decode cc pc = .ok (.instanceof index, 3))
    (kk : W p l e R s m args below meth c H locs cells slots Q (F0 m (pc + 3) ls (.int 1 :: rest))) : W p l e R s m args below meth c H locs cells slots Q (F0 m pc ls (.ref a :: rest)) :=
  va_instE C.x C.b C.ow (C.ts _ hlink) (C.w.recv hI hq hc) hdg kk
theorem g_instNo (C : gB p l s m args meth c D cc own nL rt) (hI : gI D G n H) {a ci : Nat} {fs : List Value} {r : vw_C} (hq : G a = some (.inl (ci, fs))) (hc : gC[ci]? = some r) {index : Nat} {nm : String} (hlink : Cond.classLink own index nm ∈ lw_all) (hno : (r.1, nm) ∈ gNc) (hdg : decode cc pc = .ok (.instanceof index, 3))
    (kk : W p l e R s m args below meth c H locs cells slots Q (F0 m (pc + 3) ls (.int 0 :: rest))) : W p l e R s m args below meth c H locs cells slots Q (F0 m pc ls (.ref a :: rest)) :=
  va_instNo C.x C.b C.ow (C.ts _ hlink) (C.w.nc hno) (C.w.recv hI hq hc) hdg kk
-- ends
theorem g_F {t : State} (hS : va_S (gA D) s.heap H locs) (ht : t.heap = H) : va_F (gA D) s t := hS.F ht
theorem g_iret {post : Option Value → gH → Nat → Prop} {xp : String → Nat → gH → Nat → Prop} (C : gB p l s m args meth c D cc own nL (some .int)) (hI : gI D G n H) (hS : va_S (gA D) s.heap H locs) (hb : b ≤ B) {v : Int32} (hq : post (some (.int v)) G n) (hdg : decode cc pc = .ok (.ireturn, 1)) : W p l e R s m args below meth c H locs b (200 * b) (gM below D post xp args s B) (F0 m pc ls [.int v]) := by
  refine W.widen (k := B) (n := 200 * B) hb (by omega) (vx_ret ?_)
  exact W.iret C.x C.b C.r (fun t ht hW => ⟨⟨_, G, n, rfl, hq, by rw [ht]; exact hI⟩, g_F hS ht⟩) hS.2.2 hdg C.lk
theorem g_lret {post : Option Value → gH → Nat → Prop} {xp : String → Nat → gH → Nat → Prop} (C : gB p l s m args meth c D cc own nL (some .long)) (hI : gI D G n H) (hS : va_S (gA D) s.heap H locs) (hb : b ≤ B) {v : Int64} (hq : post (some (.long v)) G n) (hdg : decode cc pc = .ok (.lreturn, 1)) : W p l e R s m args below meth c H locs b (200 * b) (gM below D post xp args s B) (F0 m pc ls [.long v]) := by
  refine W.widen (k := B) (n := 200 * B) hb (by omega) (vx_ret ?_)
  exact W.lret C.x C.b C.r (fun t ht hW => ⟨⟨_, G, n, rfl, hq, by rw [ht]; exact hI⟩, g_F hS ht⟩) hS.2.2 hdg C.lk
theorem g_fret {post : Option Value → gH → Nat → Prop} {xp : String → Nat → gH → Nat → Prop} (C : gB p l s m args meth c D cc own nL (some .float)) (hI : gI D G n H) (hS : va_S (gA D) s.heap H locs) (hb : b ≤ B) {v : UInt32} (hq : post (some (.float v)) G n) (hdg : decode cc pc = .ok (.freturn, 1)) : W p l e R s m args below meth c H locs b (200 * b) (gM below D post xp args s B) (F0 m pc ls [.float v]) := by
  refine W.widen (k := B) (n := 200 * B) hb (by omega) (vx_ret ?_)
  exact W.fret C.x C.b C.r (fun t ht hW => ⟨⟨_, G, n, rfl, hq, by rw [ht]; exact hI⟩, g_F hS ht⟩) hS.2.2 hdg C.lk
theorem g_dret {post : Option Value → gH → Nat → Prop} {xp : String → Nat → gH → Nat → Prop} (C : gB p l s m args meth c D cc own nL (some .double)) (hI : gI D G n H) (hS : va_S (gA D) s.heap H locs) (hb : b ≤ B) {v : UInt64} (hq : post (some (.double v)) G n) (hdg : decode cc pc = .ok (.dreturn, 1)) : W p l e R s m args below meth c H locs b (200 * b) (gM below D post xp args s B) (F0 m pc ls [.double v]) := by
  refine W.widen (k := B) (n := 200 * B) hb (by omega) (vx_ret ?_)
  exact W.dret C.x C.b C.r (fun t ht hW => ⟨⟨_, G, n, rfl, hq, by rw [ht]; exact hI⟩, g_F hS ht⟩) hS.2.2 hdg C.lk
theorem g_zret {post : Option Value → gH → Nat → Prop} {xp : String → Nat → gH → Nat → Prop} {ty : FieldType} (C : gB p l s m args meth c D cc own nL (some ty)) (hI : gI D G n H) (hS : va_S (gA D) s.heap H locs) (hb : b ≤ B) {v : Int32} (hn : narrow ty (.int v) = .int v) (hq : post (some (.int v)) G n) (hdg : decode cc pc = .ok (.ireturn, 1)) : W p l e R s m args below meth c H locs b (200 * b) (gM below D post xp args s B) (F0 m pc ls [.int v]) := by
  refine W.widen (k := B) (n := 200 * B) hb (by omega) (vx_ret ?_)
  exact W.zret C.x C.b C.r hn (fun t ht hW => ⟨⟨_, G, n, rfl, hq, by rw [ht]; exact hI⟩, g_F hS ht⟩) hS.2.2 hdg C.lk
theorem g_vret {post : Option Value → gH → Nat → Prop} {xp : String → Nat → gH → Nat → Prop} (C : gB p l s m args meth c D cc own nL none) (hI : gI D G n H) (hS : va_S (gA D) s.heap H locs) (hb : b ≤ B) (hq : post none G n) (hdg : decode cc pc = .ok (.return_, 1)) : W p l e R s m args below meth c H locs b (200 * b) (gM below D post xp args s B) (F0 m pc ls []) := by
  refine W.widen (k := B) (n := 200 * B) hb (by omega) (vx_ret ?_)
  exact W.vret C.x C.b C.r (fun t ht hW => ⟨⟨_, G, n, rfl, hq, by rw [ht]; exact hI⟩, g_F hS ht⟩) hS.2.2 hdg C.lk
theorem g_aret {post : Option Value → gH → Nat → Prop} {xp : String → Nat → gH → Nat → Prop} {ty : FieldType} (C : gB p l s m args meth c D cc own nL (some ty)) (hI : gI D G n H) (hS : va_S (gA D) s.heap H locs) (hb : b ≤ B) {v : Value} (hrt : (∃ n, ty = .object n) ∨ ∃ t, ty = .array t) (hv : v = .null ∨ ∃ a, v = .ref a) (hq : post (some v) G n) (hdg : decode cc pc = .ok (.areturn, 1)) : W p l e R s m args below meth c H locs b (200 * b) (gM below D post xp args s B) (F0 m pc ls [v]) := by
  refine W.widen (k := B) (n := 200 * B) hb (by omega) (vx_ret ?_)
  exact W.aret C.x C.b C.r hrt hv (fun t ht hW => ⟨⟨_, G, n, rfl, hq, by rw [ht]; exact hI⟩, g_F hS ht⟩) hS.2.2 hdg C.lk
end G3
