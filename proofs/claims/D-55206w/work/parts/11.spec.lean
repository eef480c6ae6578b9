/-! WHAT IS COMPUTED, in plain terms: rows of 112 numbers, deeds, their outcomes -/
set_option maxRecDepth 100000
/-- low ≤ v ≤ high, as a number -/
def gin (v lo hi : Int32) : Int32 := if lo ≤ v ∧ v ≤ hi then 1 else 0
theorem gin_t {v lo hi : Int32} (h1 : ¬ v < lo) (h2 : ¬ hi < v) : gin v lo hi = 1 := if_pos ⟨Int32.not_lt.mp h1, Int32.not_lt.mp h2⟩
theorem gin_f1 {v lo hi : Int32} (h1 : v < lo) : gin v lo hi = 0 := if_neg (fun h => absurd h1 (Int32.not_lt.mpr h.1))
theorem gin_f2 {v lo hi : Int32} (h2 : hi < v) : gin v lo hi = 0 := if_neg (fun h => absurd h2 (Int32.not_lt.mpr h.2))
theorem gin_01 (v lo hi : Int32) : gin v lo hi = 0 ∨ gin v lo hi = 1 := by unfold gin; split <;> simp
theorem gin_ok {v hi : Int32} {k : Nat} (h : ¬ gin v 0 hi = 0) (hk : hi.toInt = k) : ∃ j : Nat, j ≤ k ∧ v = nI j := by
  unfold gin at h
  split at h
  · next c => exact nI_of2 hk (Int32.not_lt.mpr c.1) c.2
  · exact absurd rfl h
/-- from 0 to n - 1 -/
theorem gin_lt {v z : Int32} {n : Nat} (h : ¬ gin v 0 (z - 1) = 0) (hz : z = nI n) (hn : n < 1000000) : ∃ j : Nat, j < n ∧ v = nI j := by
  subst hz
  cases n with
  | zero =>
    unfold gin at h
    split at h
    · next c =>
      have h1 := Int32.le_iff_toInt_le.mp c.1
      have h2 := Int32.le_iff_toInt_le.mp c.2
      rw [show (nI 0 - 1 : Int32) = -1 by decide +kernel] at h2
      have : ((-1 : Int32)).toInt = -1 := by decide
      rw [Int32.toInt_zero] at h1
      omega
    · exact absurd rfl h
  | succ n =>
    rw [nI_pred] at h
    obtain ⟨j, hj, e⟩ := gin_ok h (nI_toInt (n := n) (by omega))
    exact ⟨j, by omega, e⟩
theorem gin_nar (v lo hi : Int32) : narrow .boolean (.int (gin v lo hi)) = .int (gin v lo hi) := by
  rcases gin_01 v lo hi with h | h <;> rw [h] <;> rfl
theorem gin_nI {j n : Nat} (h : j < n) (hn : n < 1000000) : gin (nI j) 0 (nI n - 1) = 1 := by
  cases n with
  | zero => omega
  | succ n =>
    rw [nI_pred]
    exact gin_t (nI_pos (by omega)) (nI_nlt (by omega) (by omega))
/-- an outcome of a deed: 0 done, 1 no such call, 2 refused; reason, detail, the cause's, its detail; the answer; the row behind it -/
abbrev sO : Type := Nat × Int32 × Int32 × Int32 × Int32 × Int32 × (Nat → Int32)
def sCall (f : Nat → Int32) : sO := (1, 0, 0, 0, 0, 0, f)
def sArg (f : Nat → Int32) : sO := (3, 0, 0, 0, 0, 0, f)
def sRef (r d c cd : Int32) (f : Nat → Int32) : sO := (2, r, d, c, cd, 0, f)
def sOk (v : Int32) (f : Nat → Int32) : sO := (0, 0, 0, 0, 0, v, f)
def sWhy (y : Nat → Int32) (r d c cd : Int32) : Nat → Int32 := gup (gup (gup (gup (gup (gup y 0 r) 1 d) 2 c) 3 cd) 4 0) 5 0
/-- what the reference holds behind a deed: thrown, isRefusal, why, its answer, its row -/
def mR (code ir : Int32) (y f : Nat → Int32) (o : sO) : Int32 × Int32 × (Nat → Int32) × Int32 × (Nat → Int32) :=
  if o.1 = 0 then (0, ir, y, o.2.2.2.2.2.1, o.2.2.2.2.2.2) else if o.1 = 1 then (1, 0, y, 0, f) else if o.1 = 3 then (2, 0, y, 0, f) else (code, 1, sWhy y o.2.1 o.2.2.1 o.2.2.2.1 o.2.2.2.2.1, 0, f)
def dOut (f : Nat → Int32) (b p : Int32) : sO :=
  if gin b 0 (f 24 - 1) = 0 then sCall f else if gin p 0 5 = 0 then sCall f else
  if ¬ f (28 + b.toNatClampNeg) = -1 then sRef 2 (f (28 + b.toNatClampNeg)) 0 0 f else
  if f 1 ≤ f (25 + b.toNatClampNeg) then
    if p + 1 ≤ f (31 + b.toNatClampNeg) then sOk (f (31 + b.toNatClampNeg) - (p + 1)) (gup (gup f (31 + b.toNatClampNeg) (f (31 + b.toNatClampNeg) - (p + 1))) (28 + b.toNatClampNeg) p)
    else sRef 4 (p + 1 - f (31 + b.toNatClampNeg)) 0 0 f
  else sRef 3 (f 1) 0 0 f
def dHome (f : Nat → Int32) (b : Int32) : sO :=
  if gin b 0 (f 24 - 1) = 0 then sCall f else
  if f (28 + b.toNatClampNeg) = -1 then sRef 5 b 0 0 f else
  if f (28 + b.toNatClampNeg) + 1 ≤ f (31 + b.toNatClampNeg) then sOk (f (31 + b.toNatClampNeg) - (f (28 + b.toNatClampNeg) + 1)) (gup (gup f (31 + b.toNatClampNeg) (f (31 + b.toNatClampNeg) - (f (28 + b.toNatClampNeg) + 1))) (28 + b.toNatClampNeg) (-1))
  else sRef 4 (f (28 + b.toNatClampNeg) + 1 - f (31 + b.toNatClampNeg)) 0 0 f
/-- how many a pot draws by its bait -/
def sDv (bait days : Int32) : Int32 := if bait = 0 then 2 * days else if bait = 1 then 5 - days else days + 1
def sDm (bait : Int32) : Int32 := if bait = 0 then 6 else 5
def sDraws (bait days : Int32) : Int32 := if 0 ≤ sDv bait days then (if sDv bait days ≤ sDm bait then sDv bait days else sDm bait) else 0
def sDays (f : Nat → Int32) (s : Nat) : Int32 := if f (57 + s) = -1 then 0 else f 0 - f (77 + s)
theorem cpy_0 {α : Type} (x y : Nat → α) (a t : Nat) : va_cpy x y a t 0 = y := by
  funext k
  unfold va_cpy
  rw [if_neg (by omega)]
theorem cpy_s {α : Type} (x y : Nat → α) (a t i : Nat) : gup (va_cpy x y a t i) (t + i) (x (a + i)) = va_cpy x y a t (i + 1) := by
  funext k
  unfold gup va_cpy
  by_cases c : k = t + i
  · subst c
    rw [if_pos rfl, if_pos (by omega)]
    congr 1
    omega
  · rw [if_neg c]
    by_cases d : t ≤ k ∧ k < t + i
    · rw [if_pos d, if_pos (by omega)]
    · rw [if_neg d, if_neg (by omega)]
def sSum (f : Nat → Int32) (a : Nat) : Nat → Int32
  | 0 => 0
  | n + 1 => sSum f a n + f (a + n)
def qWhelks (f : Nat → Int32) (a b : Int32) : Int32 × Int32 := if gin a 0 5 = 0 then (1, 0) else if gin b 0 2 = 0 then (2, 0) else (0, f (3 + 3 * a.toNatClampNeg + b.toNatClampNeg))
def qBait (f : Nat → Int32) (a : Int32) : Int32 × Int32 := if gin a 0 2 = 0 then (1, 0) else (0, f (21 + a.toNatClampNeg))
def qDraws (a b : Int32) : Int32 × Int32 := if gin a 0 2 = 0 then (1, 0) else if gin b 0 60 = 0 then (1, 0) else (0, sDraws a b)
def qBest (a : Int32) : Int32 × Int32 := if gin a 0 60 = 0 then (1, 0) else
  (0, if sDraws 2 a ≤ sDraws (if sDraws 1 a ≤ sDraws 0 a then 0 else 1) a then (if sDraws 1 a ≤ sDraws 0 a then 0 else 1) else 2)
def qBoat (f : Nat → Int32) (a b : Int32) : Int32 × Int32 := if gin a 0 (f 24 - 1) = 0 then (1, 0) else if gin b 0 6 = 0 then (2, 0) else (0, f (25 + 3 * b.toNatClampNeg + a.toNatClampNeg))
def qString (f : Nat → Int32) (a b : Int32) : Int32 × Int32 := if gin a 0 (f 46 - 1) = 0 then (1, 0) else if b = 3 then (0, sDays f a.toNatClampNeg) else if gin b 0 5 = 0 then (2, 0) else (0, f (47 + 10 * b.toNatClampNeg + a.toNatClampNeg))
def sBack (size rid : Int32) : Int32 := if size = 0 then 1 else if size = 1 then (if rid = 2 then 1 else 0) else 0
/-- how many shells of a size a string would draw -/
def sDrawn (f : Nat → Int32) (s size : Nat) (sh : Int32) : Int32 := if f (3 + 3 * (f (57 + s)).toNatClampNeg + size) ≤ sh then f (3 + 3 * (f (57 + s)).toNatClampNeg + size) else sh
def sAll (f : Nat → Int32) (s : Nat) : Int32 := f (47 + s) * sDraws (f (67 + s)) (sDays f s)
def sShare (f : Nat → Int32) (s : Nat) (size : Int32) : Int32 := if size = 0 then sAll f s / 2 else if size = 1 then sAll f s / 3 else sAll f s / 6
def sDrawsOf (f : Nat → Int32) (s size : Nat) : Int32 := sDrawn f s size (sShare f s (nI size))

theorem nI_eqE {x y : Int32} {a b : Nat} (hx : x = nI a) (hy : y = nI b) (ha : a < 2 ^ 31) (hb : b < 2 ^ 31) : x = y ↔ a = b := by subst hx; subst hy; exact nI_eq ha hb
theorem nI_ltE {x y : Int32} {a b : Nat} (hx : x = nI a) (hy : y = nI b) (ha : a < 2 ^ 31) (hb : b < 2 ^ 31) : x < y ↔ a < b := by subst hx; subst hy; exact nI_ltI ha hb
theorem nI_leE {x y : Int32} {a b : Nat} (hx : x = nI a) (hy : y = nI b) (ha : a < 2 ^ 31) (hb : b < 2 ^ 31) : x ≤ y ↔ a ≤ b := by subst hx; subst hy; exact nI_leI ha hb
/-- a row holds nothing beyond its numbers -/
def rZ (f : Nat → Int32) : Prop := ∀ k, 112 ≤ k → f k = 0
theorem rZ_gup {f : Nat → Int32} {i : Nat} {v : Int32} (h : rZ f) (hi : i < 112) : rZ (gup f i v) := fun k hk => by rw [gup_n (by omega)]; exact h k hk
theorem rZ_cp {f g : Nat → Int32} (hf : rZ f) (hg : rZ g) : va_cpy f g 0 0 112 = f := by
  funext k
  unfold va_cpy
  by_cases c : 0 ≤ k ∧ k < 0 + 112
  · rw [if_pos c]; congr 1; omega
  · rw [if_neg c, hg k (by omega), hf k (by omega)]
/-- eight changes are kept: all go one place on -/
def sShift (h : Nat → Int32) (i : Nat) : Nat → Int32 := fun k => if k < i then h (k + 112) else h k
theorem sShift_0 (h : Nat → Int32) : sShift h 0 = h := by funext k; unfold sShift; rw [if_neg (by omega)]
theorem sShift_s (h : Nat → Int32) (i : Nat) : gup (sShift h i) i (sShift h i (i + 112)) = sShift h (i + 1) := by
  funext k
  unfold gup
  by_cases c : k = i
  · subst c; rw [if_pos rfl]; unfold sShift; rw [if_neg (by omega), if_pos (by omega)]
  · rw [if_neg c]; unfold sShift
    by_cases d : k < i
    · rw [if_pos d, if_pos (by omega)]
    · rw [if_neg d, if_neg (by omega)]
def sPush (f0 h : Nat → Int32) (c : Nat) : Nat → Int32 := if c = 8 then va_cpy f0 (sShift h 784) 0 784 112 else va_cpy f0 h 0 (c * 112) 112
def sC (c : Nat) : Nat := if c = 8 then 8 else c + 1
/-- what is kept of a change: how many, the changes, the answer, the row -/
def kK (th v : Int32) (c : Nat) (h f0 f : Nat → Int32) : Nat × (Nat → Int32) × Int32 × (Nat → Int32) := if th = 0 then (sC c, sPush f0 h c, v, f) else (c, h, 0, f0)

/-- the row behind a shot -/
def wShoot (f : Nat → Int32) (b s k : Nat) (bt u : Int32) : Nat → Int32 :=
  let f1 := gup f (31 + b) (f (31 + b) - 1)
  let f2 := gup f1 (21 + k) (f1 (21 + k) - u)
  let f3 := gup f2 (57 + s) (f2 (28 + b))
  let f4 := gup f3 (67 + s) bt
  gup f4 (77 + s) (f4 0)
def dShoot (f : Nat → Int32) (b s bt : Int32) : sO :=
  if gin b 0 (f 24 - 1) = 0 then sCall f else if gin s 0 (f 46 - 1) = 0 then sCall f else if gin bt 0 2 = 0 then sArg f else
  if ¬ f (28 + b.toNatClampNeg) = -1 then
    if f (57 + s.toNatClampNeg) = -1 then
      if 1 ≤ f (31 + b.toNatClampNeg) then
        if (f (47 + s.toNatClampNeg) + 4) / 5 ≤ f (21 + bt.toNatClampNeg) then
          sOk (wShoot f b.toNatClampNeg s.toNatClampNeg bt.toNatClampNeg bt ((f (47 + s.toNatClampNeg) + 4) / 5) (31 + b.toNatClampNeg)) (wShoot f b.toNatClampNeg s.toNatClampNeg bt.toNatClampNeg bt ((f (47 + s.toNatClampNeg) + 4) / 5))
        else sRef 7 ((f (47 + s.toNatClampNeg) + 4) / 5 - f (21 + bt.toNatClampNeg)) 0 0 f
      else sRef 4 1 0 0 f
    else sRef 6 (f (57 + s.toNatClampNeg)) 0 0 f
  else sRef 5 b 0 0 f
def wLand (f : Nat → Int32) (b : Nat) (m g : Int32) : Nat → Int32 :=
  let f1 := gup f (34 + b) (f (34 + b) - 25 * m)
  let f2 := gup f1 (37 + b) (f1 (37 + b) - 25 * g)
  let f3 := gup f2 (40 + b) (f2 (40 + b) + (m + g))
  let f4 := gup f3 110 (f3 110 + 25 * (m + g))
  gup f4 111 (f4 111 + (8 * m + 12 * g))
def dLand (f : Nat → Int32) (b : Int32) : sO :=
  if gin b 0 (f 24 - 1) = 0 then sCall f else
  if f (28 + b.toNatClampNeg) = -1 then
    if f (34 + b.toNatClampNeg) / 25 + f (37 + b.toNatClampNeg) / 25 = 0 then sRef 10 (f (34 + b.toNatClampNeg) + f (37 + b.toNatClampNeg)) 0 0 f
    else sOk (8 * (f (34 + b.toNatClampNeg) / 25) + 12 * (f (37 + b.toNatClampNeg) / 25)) (wLand f b.toNatClampNeg (f (34 + b.toNatClampNeg) / 25) (f (37 + b.toNatClampNeg) / 25))
  else sRef 2 (f (28 + b.toNatClampNeg)) 0 0 f
def dSwell (f : Nat → Int32) (v : Int32) : sO := if gin v 0 9 = 0 then sCall f else sOk (f 1) (gup f 1 v)
def dRiddle (f : Nat → Int32) (v : Int32) : sO := if gin v 1 2 = 0 then sCall f else sOk (f 2) (gup f 2 v)
/-- a haul, size by size: the row, what came -/
def hStep (b s p : Nat) (i : Nat) (x : (Nat → Int32) × Int32) : (Nat → Int32) × Int32 :=
  let dr := sDrawsOf x.1 s i
  let hd := if sBack (nI i) (x.1 2) = 0 then dr else 0
  let f1 := gup x.1 (97 + s) (x.1 (97 + s) + dr)
  let f2 := gup f1 108 (f1 108 + dr)
  let f3 := gup f2 109 (f2 109 + (dr - hd))
  let f4 := gup f3 (34 + b) (f3 (34 + b) + if nI i = 1 then hd else 0)
  let f5 := gup f4 (37 + b) (f4 (37 + b) + if nI i = 2 then hd else 0)
  (gup f5 (3 + 3 * p + i) (f5 (3 + 3 * p + i) - hd), x.2 + hd)
def hIt (f : Nat → Int32) (b s p : Nat) : Nat → (Nat → Int32) × Int32
  | 0 => (f, 0)
  | i + 1 => hStep b s p i (hIt f b s p i)
theorem hStep_at {b s p i k : Nat} {x : (Nat → Int32) × Int32} (hi : i ≤ 2) (hp : p ≤ 5) (hb : b ≤ 2) (hs : s ≤ 9) (h1 : k < 3 ∨ (21 ≤ k ∧ k < 34) ∨ (40 ≤ k ∧ k < 97)) : (hStep b s p i x).1 k = x.1 k := by
  unfold hStep
  simp (disch := omega) only [gup_n]
theorem hIt_at {f : Nat → Int32} {b s p k : Nat} (hp : p ≤ 5) (hb : b ≤ 2) (hs : s ≤ 9) (h1 : k < 3 ∨ (21 ≤ k ∧ k < 34) ∨ (40 ≤ k ∧ k < 97)) : ∀ i : Nat, i ≤ 3 → (hIt f b s p i).1 k = f k
  | 0, _ => rfl
  | i + 1, h => by
    show (hStep b s p i (hIt f b s p i)).1 k = f k
    rw [hStep_at (by omega) hp hb hs h1]
    exact hIt_at hp hb hs h1 i (by omega)
def wHaul (f : Nat → Int32) (b s p : Nat) (hr : Int32) : Nat → Int32 :=
  let x := (hIt f b s p 3).1
  let f1 := gup x (31 + b) (x (31 + b) - hr)
  let f2 := gup f1 (43 + b) (f1 (43 + b) + 1)
  let f3 := gup f2 (57 + s) (-1)
  gup f3 (67 + s) (-1)
def dHaul (f : Nat → Int32) (b s : Int32) : sO :=
  if gin b 0 (f 24 - 1) = 0 then sCall f else if gin s 0 (f 46 - 1) = 0 then sCall f else
  if ¬ f (57 + s.toNatClampNeg) = -1 then
    if f (28 + b.toNatClampNeg) = f (57 + s.toNatClampNeg) then
      if 1 + f (47 + s.toNatClampNeg) / 10 ≤ f (31 + b.toNatClampNeg) then
        sOk (hIt f b.toNatClampNeg s.toNatClampNeg (f (57 + s.toNatClampNeg)).toNatClampNeg 3).2 (wHaul f b.toNatClampNeg s.toNatClampNeg (f (57 + s.toNatClampNeg)).toNatClampNeg (1 + f (47 + s.toNatClampNeg) / 10))
      else sRef 4 (1 + f (47 + s.toNatClampNeg) / 10 - f (31 + b.toNatClampNeg)) 0 0 f
    else sRef 9 (f (57 + s.toNatClampNeg)) (if ¬ f (28 + b.toNatClampNeg) = -1 then 2 else 5) (if ¬ f (28 + b.toNatClampNeg) = -1 then f (28 + b.toNatClampNeg) else b) f
  else sRef 8 s 0 0 f

theorem gin_okL {v lo hi : Int32} {a k : Nat} (h : ¬ gin v lo hi = 0) (ha : lo.toInt = a) (hk : hi.toInt = k) : ∃ j : Nat, a ≤ j ∧ j ≤ k ∧ v = nI j := by
  unfold gin at h
  split at h
  · next c =>
    have h1 := Int32.le_iff_toInt_le.mp c.1
    have h2 := Int32.le_iff_toInt_le.mp c.2
    obtain ⟨j, hj, e⟩ := nI_of2 (x := v) hk (by rw [Int32.lt_iff_toInt_lt, Int32.toInt_zero]; omega) c.2
    have := nI_toInt (n := j) (by have := Int32.toInt_lt hi; omega)
    rw [← e] at this
    exact ⟨j, by omega, hj, e⟩
  · exact absurd rfl h
theorem gin_cl {v z : Int32} {n : Nat} (h : ¬ gin v 0 (z - 1) = 0) (hz : z = nI n) (hn : n < 1000000) : v.toNatClampNeg < n := by
  obtain ⟨j, hj, e⟩ := gin_lt h hz hn
  rw [e, nI_clamp (by omega)]; exact hj
theorem gin_clk {v lo hi : Int32} {a k : Nat} (h : ¬ gin v lo hi = 0) (ha : lo.toInt = a) (hk : hi.toInt = k) (hk2 : k < 1000000) : v.toNatClampNeg ≤ k := by
  obtain ⟨j, _, hj, e⟩ := gin_okL h ha hk
  rw [e, nI_clamp (by omega)]; exact hj
def oV (o : sO) : Int32 := o.2.2.2.2.2.1
def oF (o : sO) : Nat → Int32 := o.2.2.2.2.2.2
/-- grounds grow -/
def sMost (v : Int32) : Int32 := if v ≤ 999 then v else 999
def wGrow (f : Nat → Int32) (p : Nat) : Nat → Int32 :=
  let f1 := gup f (3 + 3 * p) (sMost (f (3 + 3 * p) - f (3 + 3 * p) / 20 + (f (3 + 3 * p + 1) + f (3 + 3 * p + 2)) / 25))
  let f2 := gup f1 (3 + 3 * p + 1) (sMost (f (3 + 3 * p + 1) + f (3 + 3 * p) / 20 - f (3 + 3 * p + 1) / 20))
  gup f2 (3 + 3 * p + 2) (sMost (f (3 + 3 * p + 2) + f (3 + 3 * p + 1) / 20))
def dyG (f : Nat → Int32) : Nat → (Nat → Int32)
  | 0 => f
  | p + 1 => wGrow (dyG f p) p
def dyB (f : Nat → Int32) : Nat → (Nat → Int32)
  | 0 => f
  | b + 1 => gup (gup (dyB f b) (28 + b) (-1)) (31 + b) 10
def sLess (f : Nat → Int32) (s : Nat) : Int32 := if ¬ f (57 + s) = -1 then f (47 + s) / 8 else 0
def dyL (f : Nat → Int32) : Nat → (Nat → Int32) × Int32
  | 0 => (f, 0)
  | s + 1 =>
    let x := dyL f s
    let f1 := gup x.1 (47 + s) (x.1 (47 + s) - sLess x.1 s)
    (gup f1 (87 + s) (f1 (87 + s) + sLess x.1 s), x.2 + sLess x.1 s)
def dDay (f : Nat → Int32) : (Nat → Int32) × Int32 :=
  let f1 := dyB f (f 24).toNatClampNeg
  let x := dyL f1 (if f 1 < 7 then 0 else (f 46).toNatClampNeg)
  let f3 := dyG x.1 6
  let f4 := gup f3 107 (f3 107 + x.2)
  (gup f4 0 (f4 0 + 1), x.2)
def dDays (f : Nat → Int32) : Nat → (Nat → Int32) × Int32
  | 0 => (f, 0)
  | k + 1 => ((dDay (dDays f k).1).1, (dDays f k).2 + (dDay (dDays f k).1).2)
theorem dyB_at {f : Nat → Int32} {k : Nat} (hk : k < 28 ∨ 34 ≤ k) : ∀ i : Nat, i ≤ 3 → dyB f i k = f k
  | 0, _ => rfl
  | i + 1, h => by
    show gup (gup (dyB f i) (28 + i) (-1)) (31 + i) 10 k = f k
    rw [gup_n (by omega), gup_n (by omega)]
    exact dyB_at hk i (by omega)
theorem dyL_at {f : Nat → Int32} {k : Nat} (hk : k < 47 ∨ (57 ≤ k ∧ k < 87) ∨ 97 ≤ k) : ∀ i : Nat, i ≤ 10 → (dyL f i).1 k = f k
  | 0, _ => rfl
  | i + 1, h => by
    simp (disch := omega) only [dyL, gup_n]
    exact dyL_at hk i (by omega)
theorem dyG_at {f : Nat → Int32} {k : Nat} (hk : k < 3 ∨ 21 ≤ k) : ∀ i : Nat, i ≤ 6 → dyG f i k = f k
  | 0, _ => rfl
  | i + 1, h => by
    simp (disch := omega) only [dyG, wGrow, gup_n]
    exact dyG_at hk i (by omega)
theorem dDay_at {f : Nat → Int32} {k nb ns : Nat} (hnb : f 24 = nI nb) (hb3 : nb ≤ 3) (hns : f 46 = nI ns) (hs10 : ns ≤ 10)
    (hk : (1 ≤ k ∧ k < 3) ∨ (21 ≤ k ∧ k < 28) ∨ (34 ≤ k ∧ k < 47) ∨ (57 ≤ k ∧ k < 87) ∨ (97 ≤ k ∧ k < 107) ∨ 108 ≤ k) : (dDay f).1 k = f k := by
  unfold dDay
  have e1 : (f 24).toNatClampNeg ≤ 3 := by rw [hnb, nI_clamp (by omega)]; exact hb3
  have e2 : (if f 1 < 7 then 0 else (f 46).toNatClampNeg) ≤ 10 := by split; omega; rw [hns, nI_clamp (by omega)]; exact hs10
  simp (disch := omega) only [gup_n]
  rw [dyG_at (by omega) 6 (by omega), dyL_at (by omega) _ e2, dyB_at (by omega) _ e1]
theorem dDays_at {f : Nat → Int32} {k nb ns : Nat} (hnb : f 24 = nI nb) (hb3 : nb ≤ 3) (hns : f 46 = nI ns) (hs10 : ns ≤ 10)
    (hk : (1 ≤ k ∧ k < 3) ∨ (21 ≤ k ∧ k < 28) ∨ (34 ≤ k ∧ k < 47) ∨ (57 ≤ k ∧ k < 87) ∨ (97 ≤ k ∧ k < 107) ∨ 108 ≤ k) : ∀ i : Nat, (dDays f i).1 k = f k
  | 0 => rfl
  | i + 1 => by
    show (dDay (dDays f i).1).1 k = f k
    rw [dDay_at (by rw [dDays_at hnb hb3 hns hs10 (by omega) i]; exact hnb) hb3 (by rw [dDays_at hnb hb3 hns hs10 (by omega) i]; exact hns) hs10 hk]
    exact dDays_at hnb hb3 hns hs10 hk i
theorem dDays_Z {f : Nat → Int32} {nb ns : Nat} (hf : rZ f) (hnb : f 24 = nI nb) (hb3 : nb ≤ 3) (hns : f 46 = nI ns) (hs10 : ns ≤ 10) (i : Nat) : rZ (dDays f i).1 :=
  fun k hk => by rw [dDays_at hnb hb3 hns hs10 (by omega)]; exact hf k hk
/-- what a string brings -/
def sBr (f : Nat → Int32) (s : Nat) : Nat → Int32
  | 0 => 0
  | i + 1 => sBr f s i + (if sBack (nI i) (f 2) = 0 then sDrawsOf f s i else 0)
def sBrings (f : Nat → Int32) (s : Nat) : Int32 := if f (57 + s) = -1 then 0 else sBr f s 3
def qWould (f : Nat → Int32) (a b : Int32) : Int32 × Int32 := if gin a 0 (f 46 - 1) = 0 then (1, 0) else if gin b 0 30 = 0 then (2, 0) else (0, sBrings (dDays f b.toNatClampNeg).1 a.toNatClampNeg)
def bdN (f : Nat → Int32) (s : Nat) : Nat → Nat
  | 0 => 0
  | k + 1 => if sBrings (dDays f (k + 1)).1 s ≤ sBrings (dDays f (bdN f s k)).1 s then bdN f s k else k + 1
theorem bdN_le (f : Nat → Int32) (s : Nat) : ∀ k, bdN f s k ≤ k
  | 0 => Nat.le_refl _
  | k + 1 => by
    unfold bdN
    split
    · exact Nat.le_succ_of_le (bdN_le f s k)
    · exact Nat.le_refl _
def qBestDay (f : Nat → Int32) (a : Int32) : Int32 × Int32 := if gin a 0 (f 46 - 1) = 0 then (1, 0) else if ¬ f (57 + a.toNatClampNeg) = -1 then (0, nI (bdN f a.toNatClampNeg 30)) else (2, 0)
/-- how many of the first o boats are ahead of boat b -/
def sMore (f : Nat → Int32) (o b : Nat) : Int32 := f (34 + o) + f (37 + o) - (f (34 + b) + f (37 + b))
def sAhead (f : Nat → Int32) (b : Nat) : Nat → Int32
  | 0 => 0
  | o + 1 => sAhead f b o + (if 0 < sMore f o b then 1 else if ¬ sMore f o b = 0 then 0 else if nI b ≤ nI o then 0 else 1)
def rkF (f : Nat → Int32) (nb : Nat) (r : Int32) : Nat → Nat → Int32 × Int32
  | 0, _ => (1, 0)
  | n + 1, b => if ¬ sAhead f b nb = r then rkF f nb r n (b + 1) else (0, nI b)
theorem rkF_s (f : Nat → Int32) (nb : Nat) (r : Int32) (n b : Nat) : rkF f nb r (n + 1) b = if ¬ sAhead f b nb = r then rkF f nb r n (b + 1) else (0, nI b) := rfl
def qRanked (f : Nat → Int32) (r : Int32) : Int32 × Int32 := rkF f (f 24).toNatClampNeg r (f 24).toNatClampNeg 0
def sOf (f : Nat → Int32) (z : Nat) : Nat → Int32
  | 0 => 0
  | p + 1 => sOf f z p + f (3 + 3 * p + z)
def qWhelksIn (f : Nat → Int32) (a b : Int32) : Int32 × Int32 := if gin a 0 2 = 0 then (1, 0) else if gin b 0 60 = 0 then (1, 0) else (0, sOf (dDays f b.toNatClampNeg).1 a.toNatClampNeg 6)
def dPass (f : Nat → Int32) (v : Int32) : sO := if gin v 1 60 = 0 then sCall f else sOk (dDays f v.toNatClampNeg).2 (dDays f v.toNatClampNeg).1
def dStock (f : Nat → Int32) (p s m : Int32) : sO :=
  if gin p 0 5 = 0 then sCall f else if gin s 0 2 = 0 then sArg f else if gin m 0 999 = 0 then sArg f else
  sOk (f (3 + 3 * p.toNatClampNeg + s.toNatClampNeg)) (gup f (3 + 3 * p.toNatClampNeg + s.toNatClampNeg) m)
def dBox (f : Nat → Int32) (b u : Int32) : sO :=
  if gin b 0 2 = 0 then sCall f else if gin u 1 50 = 0 then sCall f else
  if f (21 + b.toNatClampNeg) + u ≤ 99 then sOk (f (21 + b.toNatClampNeg) + u) (gup f (21 + b.toNatClampNeg) (f (21 + b.toNatClampNeg) + u))
  else sOk 99 (gup f (21 + b.toNatClampNeg) 99)
def wBoat (f : Nat → Int32) (n : Nat) (v : Int32) : Nat → Int32 :=
  let f1 := gup f (25 + n) v
  let f2 := gup f1 (28 + n) (-1)
  let f3 := gup f2 (31 + n) 10
  gup f3 24 (f3 24 + 1)
def dBoat (f : Nat → Int32) (v : Int32) : sO :=
  if gin v 1 9 = 0 then sCall f else if ¬ f 24 = 3 then sOk (f 24) (wBoat f (f 24).toNatClampNeg v) else sRef 1 3 0 0 f
def wString (f : Nat → Int32) (n : Nat) (v : Int32) : Nat → Int32 :=
  let f1 := gup f (47 + n) v
  let f2 := gup f1 (57 + n) (-1)
  let f3 := gup f2 (67 + n) (-1)
  gup f3 46 (f3 46 + 1)
def dString (f : Nat → Int32) (v : Int32) : sO :=
  if gin v 4 40 = 0 then sCall f else if ¬ f 46 = 10 then sOk (f 46) (wString f (f 46).toNatClampNeg v) else sRef 1 10 0 0 f
/-- what the reference holds behind a public deed: thrown, isRefusal, why, how many changes, the changes, its answer, its row -/
def mK (code ir : Int32) (y : Nat → Int32) (c : Nat) (h f : Nat → Int32) (o : sO) : Int32 × Int32 × (Nat → Int32) × Nat × (Nat → Int32) × Int32 × (Nat → Int32) :=
  if o.1 = 0 then (0, ir, y, sC c, sPush f h c, oV o, oF o) else if o.1 = 1 then (1, 0, y, c, h, 0, f) else if o.1 = 3 then (2, 0, y, c, h, 0, f) else (code, 1, sWhy y o.2.1 o.2.2.1 o.2.2.2.1 o.2.2.2.2.1, c, h, 0, f)
theorem mK_of {code ir th2 ir2 r r3 : Int32} {y y2 f f2 f3 h h2 : Nat → Int32} {o : sO} {c c2 : Nat} (hc : ¬ code = 0) (h1 : mR code ir y f o = (th2, ir2, y2, r, f2)) (h2' : kK th2 r c h f f2 = (c2, h2, r3, f3)) : mK code ir y c h f o = (th2, ir2, y2, c2, h2, r3, f3) := by
  unfold mR at h1
  unfold mK
  by_cases k0 : o.1 = 0
  · rw [if_pos k0] at h1 ⊢
    obtain ⟨rfl, rfl, rfl, rfl, rfl⟩ := (by simpa using h1)
    unfold kK at h2'
    rw [if_pos rfl] at h2'
    obtain ⟨rfl, rfl, rfl, rfl⟩ := (by simpa using h2')
    rfl
  · rw [if_neg k0] at h1 ⊢
    by_cases k1 : o.1 = 1
    · rw [if_pos k1] at h1 ⊢
      obtain ⟨rfl, rfl, rfl, rfl, rfl⟩ := (by simpa using h1)
      unfold kK at h2'
      rw [if_neg (by decide)] at h2'
      obtain ⟨rfl, rfl, rfl, rfl⟩ := (by simpa using h2')
      rfl
    · rw [if_neg k1] at h1 ⊢
      by_cases k3 : o.1 = 3
      · rw [if_pos k3] at h1 ⊢
        obtain ⟨rfl, rfl, rfl, rfl, rfl⟩ := (by simpa using h1)
        unfold kK at h2'
        rw [if_neg (by decide)] at h2'
        obtain ⟨rfl, rfl, rfl, rfl⟩ := (by simpa using h2')
        rfl
      · rw [if_neg k3] at h1 ⊢
        obtain ⟨rfl, rfl, rfl, rfl, rfl⟩ := (by simpa using h1)
        unfold kK at h2'
        rw [if_neg hc] at h2'
        obtain ⟨rfl, rfl, rfl, rfl⟩ := (by simpa using h2')
        rfl
theorem mR_Z {code ir th2 ir2 r : Int32} {y y2 f f2 : Nat → Int32} {o : sO} (h1 : mR code ir y f o = (th2, ir2, y2, r, f2)) (hf : rZ f) (ho : rZ (oF o)) : rZ f2 := by
  have : f2 = (mR code ir y f o).2.2.2.2 := by rw [h1]
  rw [this]
  unfold mR
  split
  · exact ho
  · split
    · exact hf
    · split
      · exact hf
      · exact hf
theorem hIt_Z {f : Nat → Int32} {b s p : Nat} (hf : rZ f) (hp : p ≤ 5) (hb : b ≤ 2) (hs : s ≤ 9) : ∀ i : Nat, i ≤ 3 → rZ (hIt f b s p i).1
  | 0, _ => hf
  | i + 1, h => by
    intro k hk
    simp (disch := omega) only [hIt, hStep, gup_n]
    exact hIt_Z hf hp hb hs i (by omega) k hk
