/-! WHAT A ROW KEEPS -/
set_option maxRecDepth 100000
def rG (f : Nat → Int32) (k n : Nat) : Prop := ∀ s, s < n → f (k + s) = -1 ∨ ∃ p, p ≤ 5 ∧ f (k + s) = nI p
abbrev rOk (nb ns : Nat) (f : Nat → Int32) : Prop := rZ f ∧ f 24 = nI nb ∧ nb ≤ 3 ∧ f 46 = nI ns ∧ ns ≤ 10 ∧ rG f 57 ns ∧ rG f 28 nb
theorem rOk.z {nb ns : Nat} {f : Nat → Int32} (h : rOk nb ns f) : rZ f := h.1
theorem rOk.b {nb ns : Nat} {f : Nat → Int32} (h : rOk nb ns f) : f 24 = nI nb := h.2.1
theorem rOk.b3 {nb ns : Nat} {f : Nat → Int32} (h : rOk nb ns f) : nb ≤ 3 := h.2.2.1
theorem rOk.s {nb ns : Nat} {f : Nat → Int32} (h : rOk nb ns f) : f 46 = nI ns := h.2.2.2.1
theorem rOk.s10 {nb ns : Nat} {f : Nat → Int32} (h : rOk nb ns f) : ns ≤ 10 := h.2.2.2.2.1
theorem rOk.a {nb ns : Nat} {f : Nat → Int32} (h : rOk nb ns f) : rG f 57 ns := h.2.2.2.2.2.1
theorem rOk.g {nb ns : Nat} {f : Nat → Int32} (h : rOk nb ns f) : rG f 28 nb := h.2.2.2.2.2.2
/-- what is not a place: 28 .. 30, 57 .. 66, 24, 46 -/
def rNo (i : Nat) : Prop := i < 112 ∧ i ≠ 24 ∧ i ≠ 46 ∧ ¬ (28 ≤ i ∧ i < 31) ∧ ¬ (57 ≤ i ∧ i < 67)
theorem rOk.up {nb ns : Nat} {f : Nat → Int32} (h : rOk nb ns f) {i : Nat} {v : Int32} (hi : rNo i) : rOk nb ns (gup f i v) := by
  obtain ⟨h1, h2, h3, h4, h5⟩ := hi
  exact ⟨rZ_gup h.z h1, by rw [gup_n (Ne.symm h2)]; exact h.b, h.b3, by rw [gup_n (Ne.symm h3)]; exact h.s, h.s10,
    fun s hs => by have := h.s10; rw [gup_n (by omega)]; exact h.a s hs, fun s hs => by have := h.b3; rw [gup_n (by omega)]; exact h.g s hs⟩
theorem rOk.upP {nb ns : Nat} {f : Nat → Int32} (h : rOk nb ns f) {j : Nat} {v : Int32} (hj : j < 3) (hv : v = -1 ∨ ∃ p, p ≤ 5 ∧ v = nI p) : rOk nb ns (gup f (28 + j) v) := by
  refine ⟨rZ_gup h.z (by omega), by rw [gup_n (by omega)]; exact h.b, h.b3, by rw [gup_n (by omega)]; exact h.s, h.s10,
    fun s hs => by have := h.s10; rw [gup_n (by omega)]; exact h.a s hs, fun s hs => ?_⟩
  by_cases c : s = j
  · rw [c, gup_s]; exact hv
  · rw [gup_n (by omega)]; exact h.g s hs
theorem rOk.upA {nb ns : Nat} {f : Nat → Int32} (h : rOk nb ns f) {j : Nat} {v : Int32} (hj : j < 10) (hv : v = -1 ∨ ∃ p, p ≤ 5 ∧ v = nI p) : rOk nb ns (gup f (57 + j) v) := by
  refine ⟨rZ_gup h.z (by omega), by rw [gup_n (by omega)]; exact h.b, h.b3, by rw [gup_n (by omega)]; exact h.s, h.s10,
    fun s hs => ?_, fun s hs => by have := h.b3; rw [gup_n (by omega)]; exact h.g s hs⟩
  by_cases c : s = j
  · rw [c, gup_s]; exact hv
  · rw [gup_n (by omega)]; exact h.a s hs
theorem rNo_of {i : Nat} (h1 : i < 112) (h : i < 24 ∨ (25 ≤ i ∧ i < 28) ∨ (31 ≤ i ∧ i < 46) ∨ (47 ≤ i ∧ i < 57) ∨ 67 ≤ i) : rNo i := ⟨h1, by omega, by omega, by omega, by omega⟩
theorem gin_p {p : Int32} (h : ¬ gin p 0 5 = 0) : p = -1 ∨ ∃ q, q ≤ 5 ∧ p = nI q := by
  obtain ⟨j, hj, e⟩ := gin_ok (k := 5) h (by decide)
  exact Or.inr ⟨j, hj, e⟩
theorem dOut_ok {nb ns : Nat} {f : Nat → Int32} (h : rOk nb ns f) (b p : Int32) : rOk nb ns (oF (dOut f b p)) := by
  unfold dOut
  split; exact h
  split; exact h
  rename_i h1 h2
  have := gin_cl h1 h.b (by have := h.b3; omega)
  have := h.b3
  repeat' split
  all_goals first | exact h | exact (h.up (rNo_of (by omega) (by omega))).upP (by omega) (gin_p h2)
theorem dHome_ok {nb ns : Nat} {f : Nat → Int32} (h : rOk nb ns f) (b : Int32) : rOk nb ns (oF (dHome f b)) := by
  unfold dHome
  split; exact h
  rename_i h1
  have := gin_cl h1 h.b (by have := h.b3; omega)
  have := h.b3
  repeat' split
  all_goals first | exact h | exact (h.up (rNo_of (by omega) (by omega))).upP (by omega) (Or.inl rfl)
theorem dShoot_ok {nb ns : Nat} {f : Nat → Int32} (h : rOk nb ns f) (b s k : Int32) : rOk nb ns (oF (dShoot f b s k)) := by
  unfold dShoot
  split; exact h
  split; exact h
  split; exact h
  rename_i h1 h2 h3
  have hb := gin_cl h1 h.b (by have := h.b3; omega)
  have hs := gin_cl h2 h.s (by have := h.s10; omega)
  have hk := gin_clk h3 (a := 0) (k := 2) (by decide) (by decide) (by decide)
  have := h.b3
  have := h.s10
  have r2 := ((h.up (i := 31 + b.toNatClampNeg) (v := f (31 + b.toNatClampNeg) - 1) (rNo_of (by omega) (by omega))).up (i := 21 + k.toNatClampNeg) (v := gup f (31 + b.toNatClampNeg) (f (31 + b.toNatClampNeg) - 1) (21 + k.toNatClampNeg) - ((f (47 + s.toNatClampNeg) + 4) / 5)) (rNo_of (by omega) (by omega)))
  repeat' split
  all_goals first | exact h | exact ((r2.upA (j := s.toNatClampNeg) (by omega) (r2.g b.toNatClampNeg hb)).up (rNo_of (by omega) (by omega))).up (rNo_of (by omega) (by omega))
theorem dLand_ok {nb ns : Nat} {f : Nat → Int32} (h : rOk nb ns f) (b : Int32) : rOk nb ns (oF (dLand f b)) := by
  unfold dLand
  split; exact h
  rename_i h1
  have := gin_cl h1 h.b (by have := h.b3; omega)
  have := h.b3
  repeat' split
  all_goals first | exact h | exact ((((h.up (rNo_of (by omega) (by omega))).up (rNo_of (by omega) (by omega))).up (rNo_of (by omega) (by omega))).up (rNo_of (by omega) (by omega))).up (rNo_of (by omega) (by omega))
theorem dSwell_ok {nb ns : Nat} {f : Nat → Int32} (h : rOk nb ns f) (v : Int32) : rOk nb ns (oF (dSwell f v)) := by
  unfold dSwell
  split
  · exact h
  · exact h.up (rNo_of (by omega) (by omega))
theorem dRiddle_ok {nb ns : Nat} {f : Nat → Int32} (h : rOk nb ns f) (v : Int32) : rOk nb ns (oF (dRiddle f v)) := by
  unfold dRiddle
  split
  · exact h
  · exact h.up (rNo_of (by omega) (by omega))
theorem hStep_ok {nb ns b s p i : Nat} {x : (Nat → Int32) × Int32} (h : rOk nb ns x.1) (hb : b ≤ 2) (hs : s ≤ 9) (hp : p ≤ 5) (hi : i ≤ 2) : rOk nb ns (hStep b s p i x).1 := by
  unfold hStep
  exact (((((h.up (rNo_of (by omega) (by omega))).up (rNo_of (by omega) (by omega))).up (rNo_of (by omega) (by omega))).up (rNo_of (by omega) (by omega))).up (rNo_of (by omega) (by omega))).up (rNo_of (by omega) (by omega))
theorem hIt_ok {nb ns b s p : Nat} {f : Nat → Int32} (h : rOk nb ns f) (hb : b ≤ 2) (hs : s ≤ 9) (hp : p ≤ 5) : ∀ i, i ≤ 3 → rOk nb ns (hIt f b s p i).1
  | 0, _ => h
  | i + 1, hi => hStep_ok (hIt_ok h hb hs hp i (by omega)) hb hs hp (by omega)
theorem dHaul_ok {nb ns : Nat} {f : Nat → Int32} (h : rOk nb ns f) (b s : Int32) : rOk nb ns (oF (dHaul f b s)) := by
  unfold dHaul
  split; exact h
  split; exact h
  rename_i h1 h2
  have hb := gin_cl h1 h.b (by have := h.b3; omega)
  have hs := gin_cl h2 h.s (by have := h.s10; omega)
  have := h.b3
  have := h.s10
  split
  · rename_i h3
    obtain ⟨p, hp, e⟩ := (h.a _ hs).resolve_left h3
    have hp2 : (f (57 + s.toNatClampNeg)).toNatClampNeg ≤ 5 := by rw [e, nI_clamp (by omega)]; exact hp
    repeat' split
    all_goals first | exact h | exact ((((hIt_ok h (by omega) (by omega) hp2 3 (by omega)).up (rNo_of (by omega) (by omega))).up (rNo_of (by omega) (by omega))).upA (j := s.toNatClampNeg) (by omega) (Or.inl rfl)).up (rNo_of (by omega) (by omega))
  · exact h
theorem dyB_ok {nb ns : Nat} {f : Nat → Int32} (h : rOk nb ns f) : ∀ i, i ≤ 3 → rOk nb ns (dyB f i)
  | 0, _ => h
  | i + 1, hi => ((dyB_ok h i (by omega)).upP (j := i) (by omega) (Or.inl rfl)).up (rNo_of (by omega) (by omega))
theorem dyL_ok {nb ns : Nat} {f : Nat → Int32} (h : rOk nb ns f) : ∀ i, i ≤ 10 → rOk nb ns (dyL f i).1
  | 0, _ => h
  | i + 1, hi => ((dyL_ok h i (by omega)).up (rNo_of (by omega) (by omega))).up (rNo_of (by omega) (by omega))
theorem dyG_ok {nb ns : Nat} {f : Nat → Int32} (h : rOk nb ns f) : ∀ i, i ≤ 6 → rOk nb ns (dyG f i)
  | 0, _ => h
  | i + 1, hi => (((dyG_ok h i (by omega)).up (rNo_of (by omega) (by omega))).up (rNo_of (by omega) (by omega))).up (rNo_of (by omega) (by omega))
theorem dDay_ok {nb ns : Nat} {f : Nat → Int32} (h : rOk nb ns f) : rOk nb ns (dDay f).1 := by
  unfold dDay
  have e1 : (f 24).toNatClampNeg ≤ 3 := by rw [h.b, nI_clamp (by have := h.b3; omega)]; exact h.b3
  have e2 : (if f 1 < 7 then 0 else (f 46).toNatClampNeg) ≤ 10 := by split; omega; rw [h.s, nI_clamp (by have := h.s10; omega)]; exact h.s10
  exact ((dyG_ok (dyL_ok (dyB_ok h _ e1) _ e2) 6 (by omega)).up (rNo_of (by omega) (by omega))).up (rNo_of (by omega) (by omega))
theorem dDays_ok {nb ns : Nat} {f : Nat → Int32} (h : rOk nb ns f) : ∀ k, rOk nb ns (dDays f k).1
  | 0 => h
  | k + 1 => dDay_ok (dDays_ok h k)
theorem dPass_ok {nb ns : Nat} {f : Nat → Int32} (h : rOk nb ns f) (v : Int32) : rOk nb ns (oF (dPass f v)) := by
  unfold dPass
  split
  · exact h
  · exact dDays_ok h _
theorem sDo_ok {nb ns : Nat} {f : Nat → Int32} (h : rOk nb ns f) (tv : Nat → Int32) (k : Nat) : rOk nb ns (oF (sDo f tv k)) := by
  unfold sDo
  split; exact dOut_ok h _ _
  split; exact dHome_ok h _
  split; exact dShoot_ok h _ _ _
  split; exact dHaul_ok h _ _
  split; exact dLand_ok h _
  split; exact dSwell_ok h _
  split; exact dRiddle_ok h _
  exact dPass_ok h _
theorem dStock_ok {nb ns : Nat} {f : Nat → Int32} (h : rOk nb ns f) (p s m : Int32) : rOk nb ns (oF (dStock f p s m)) := by
  unfold dStock
  split; exact h
  split; exact h
  split; exact h
  rename_i h1 h2 h3
  have := gin_clk h1 (a := 0) (k := 5) (by decide) (by decide) (by decide)
  have := gin_clk h2 (a := 0) (k := 2) (by decide) (by decide) (by decide)
  exact h.up (rNo_of (by omega) (by omega))
theorem dBox_ok {nb ns : Nat} {f : Nat → Int32} (h : rOk nb ns f) (b u : Int32) : rOk nb ns (oF (dBox f b u)) := by
  unfold dBox
  split; exact h
  split; exact h
  rename_i h1 h2
  have := gin_clk h1 (a := 0) (k := 2) (by decide) (by decide) (by decide)
  split
  · exact h.up (rNo_of (by omega) (by omega))
  · exact h.up (rNo_of (by omega) (by omega))
def sRO (ir : Int32) (y : Nat → Int32) (kv : Int32) : Nat → Int32 :=
  if ir = 0 then gup (gup (gup (gup (gup (gup (gup y 5 0) 4 0) 3 0) 2 0) 2 12) 0 11) 1 kv else
  let y1 := gup y 5 (y 3)
  let y2 := gup y1 4 (y1 2)
  let y3 := gup y2 3 (y2 1)
  let y4 := gup y3 2 (y3 0)
  gup (gup y4 0 11) 1 kv
/-- orders told, done on a row: how far it came, the last outcome -/
def sGo (tv : Nat → Int32) : Nat → Nat → (Nat → Int32) → Nat × sO
  | 0, i, g => (i, sOk 0 g)
  | m + 1, i, g => if (sDo g tv (4 * i)).1 = 0 then sGo tv m (i + 1) (oF (sDo g tv (4 * i))) else (i, sDo g tv (4 * i))
def mIR (o : sO) : Int32 := if o.1 = 1 then 0 else if o.1 = 3 then 0 else 1
def mY (y : Nat → Int32) (o : sO) : Nat → Int32 := if o.1 = 1 then y else if o.1 = 3 then y else sWhy y o.2.1 o.2.2.1 o.2.2.2.1 o.2.2.2.2.1
theorem mR_0 {code ir th2 ir2 r : Int32} {y y2 f f2 : Nat → Int32} {o : sO} (hc : ¬ code = 0) (h1 : mR code ir y f o = (th2, ir2, y2, r, f2)) (h : th2 = 0) : o.1 = 0 ∧ ir2 = ir ∧ y2 = y ∧ f2 = oF o := by
  unfold mR at h1
  by_cases k0 : o.1 = 0
  · rw [if_pos k0] at h1
    obtain ⟨rfl, rfl, rfl, rfl, rfl⟩ := (by simpa using h1)
    exact ⟨k0, rfl, rfl, rfl⟩
  · rw [if_neg k0] at h1
    split at h1
    · obtain ⟨rfl, -⟩ := (by simpa using h1)
      exact absurd h (by decide)
    · split at h1
      · obtain ⟨rfl, -⟩ := (by simpa using h1)
        exact absurd h (by decide)
      · obtain ⟨rfl, -⟩ := (by simpa using h1)
        exact absurd h hc
theorem mR_n {code ir th2 ir2 r : Int32} {y y2 f f2 : Nat → Int32} {o : sO} (h1 : mR code ir y f o = (th2, ir2, y2, r, f2)) (h : ¬ th2 = 0) : ¬ o.1 = 0 ∧ ir2 = mIR o ∧ y2 = mY y o ∧ f2 = f := by
  unfold mR at h1
  by_cases k0 : o.1 = 0
  · rw [if_pos k0] at h1
    obtain ⟨rfl, -⟩ := (by simpa using h1)
    exact absurd rfl h
  · rw [if_neg k0] at h1
    refine ⟨k0, ?_⟩
    unfold mIR mY
    split at h1
    · next c => rw [if_pos c, if_pos c]; obtain ⟨rfl, rfl, rfl, rfl, rfl⟩ := (by simpa using h1); exact ⟨rfl, rfl, rfl⟩
    · next c =>
      rw [if_neg c, if_neg c]
      split at h1
      · next d => rw [if_pos d, if_pos d]; obtain ⟨rfl, rfl, rfl, rfl, rfl⟩ := (by simpa using h1); exact ⟨rfl, rfl, rfl⟩
      · next d => rw [if_neg d, if_neg d]; obtain ⟨rfl, rfl, rfl, rfl, rfl⟩ := (by simpa using h1); exact ⟨rfl, rfl, rfl⟩
/-- what the reference holds behind a text: thrown, isRefusal, why, changes, its answer, its row, errorAt -/
def mRead (ir er : Int32) (y : Nat → Int32) (c : Nat) (h f : Nat → Int32) (t : Nat × sSt × (Nat → Int32)) : Int32 × Int32 × (Nat → Int32) × Nat × (Nat → Int32) × Int32 × (Nat → Int32) × Int32 :=
  if t.2.1.2 = 0 then
    let x := sGo t.2.2 t.1 0 f
    if x.2.1 = 0 then (0, ir, y, sC c, sPush f h c, nI t.1, oF x.2, er) else (2, mIR x.2, sRO (mIR x.2) (mY y x.2) (nI x.1), c, h, 0, f, er)
  else (1, 0, y, c, h, 0, f, nI t.2.1.1)
theorem mRead_w {ir er : Int32} {y h f tv : Nat → Int32} {c n p : Nat} {w : Int32} (hw : ¬ w = 0) : mRead ir er y c h f (n, (p, w), tv) = (1, 0, y, c, h, 0, f, nI p) := if_neg hw
theorem mRead_n {ir er : Int32} {y h f tv : Nat → Int32} {c n p : Nat} {w : Int32} {x : Nat × sO} (hw : w = 0) (hx : sGo tv n 0 f = x) (h1 : ¬ x.2.1 = 0) : mRead ir er y c h f (n, (p, w), tv) = (2, mIR x.2, sRO (mIR x.2) (mY y x.2) (nI x.1), c, h, 0, f, er) := by
  unfold mRead
  dsimp only
  rw [if_pos hw, hx, if_neg h1]
theorem mRead_y {ir er : Int32} {y h f tv : Nat → Int32} {c n p : Nat} {w : Int32} {x : Nat × sO} (hw : w = 0) (hx : sGo tv n 0 f = x) (h1 : x.2.1 = 0) : mRead ir er y c h f (n, (p, w), tv) = (0, ir, y, sC c, sPush f h c, nI n, oF x.2, er) := by
  unfold mRead
  dsimp only
  rw [if_pos hw, hx, if_pos h1]
