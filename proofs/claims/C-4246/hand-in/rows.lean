section
/-! Part 01: ints, the triangle, keys, the least group; no program in sight -/
/-- the long z is the int v, and v is at most N in size -/
def mg_iv (z : Int64) (v : Int) (N : Nat) : Prop := z.toInt = v ∧ v.natAbs ≤ N
/-- the int z is v, and v is at most N in size -/
def mg_jv (z : Int32) (v : Int) (N : Nat) : Prop := z.toInt = v ∧ v.natAbs ≤ N
theorem mg_bm {a b : Int} {A B : Nat} (ha : a.natAbs ≤ A) (hb : b.natAbs ≤ B) : (a * b).natAbs ≤ A * B := by
  rw [Int.natAbs_mul]; exact Nat.mul_le_mul ha hb
theorem mg_rg6 {c : Int} {C : Nat} (q : c.natAbs ≤ C) (h : C < 2 ^ 63) : -2 ^ 63 ≤ c ∧ c < 2 ^ 63 := by omega
theorem mg_rg3 {c : Int} {C : Nat} (q : c.natAbs ≤ C) (h : C < 2 ^ 31) : -2 ^ 31 ≤ c ∧ c < 2 ^ 31 := by omega
theorem mg_ivm {x y : Int64} {a b : Int} {A B : Nat} (hx : mg_iv x a A) (hy : mg_iv y b B) (h : A * B < 2 ^ 63) : mg_iv (x * y) (a * b) (A * B) := by
  obtain ⟨rfl, ha⟩ := hx
  obtain ⟨rfl, hb⟩ := hy
  have q : (x.toInt * y.toInt).natAbs ≤ A * B := mg_bm ha hb
  have r := mg_rg6 q h
  exact ⟨Jvm.Kit.i64_mul r.1 r.2, q⟩
theorem mg_iva {x y : Int64} {a b : Int} {A B : Nat} (hx : mg_iv x a A) (hy : mg_iv y b B) (h : A + B < 2 ^ 63) : mg_iv (x + y) (a + b) (A + B) := by
  obtain ⟨rfl, ha⟩ := hx
  obtain ⟨rfl, hb⟩ := hy
  have q : (x.toInt + y.toInt).natAbs ≤ A + B := by omega
  have r := mg_rg6 q h
  exact ⟨Jvm.Kit.i64_add r.1 r.2, q⟩
theorem mg_ivs {x y : Int64} {a b : Int} {A B : Nat} (hx : mg_iv x a A) (hy : mg_iv y b B) (h : A + B < 2 ^ 63) : mg_iv (x - y) (a - b) (A + B) := by
  obtain ⟨rfl, ha⟩ := hx
  obtain ⟨rfl, hb⟩ := hy
  have q : (x.toInt - y.toInt).natAbs ≤ A + B := by omega
  have r := mg_rg6 q h
  exact ⟨Jvm.Kit.i64_sub r.1 r.2, q⟩
theorem mg_jvm {x y : Int32} {a b : Int} {A B : Nat} (hx : mg_jv x a A) (hy : mg_jv y b B) (h : A * B < 2 ^ 31) : mg_jv (x * y) (a * b) (A * B) := by
  obtain ⟨rfl, ha⟩ := hx
  obtain ⟨rfl, hb⟩ := hy
  have q : (x.toInt * y.toInt).natAbs ≤ A * B := mg_bm ha hb
  have r := mg_rg3 q h
  exact ⟨Jvm.Kit.i32_mul r.1 r.2, q⟩
theorem mg_jva {x y : Int32} {a b : Int} {A B : Nat} (hx : mg_jv x a A) (hy : mg_jv y b B) (h : A + B < 2 ^ 31) : mg_jv (x + y) (a + b) (A + B) := by
  obtain ⟨rfl, ha⟩ := hx
  obtain ⟨rfl, hb⟩ := hy
  have q : (x.toInt + y.toInt).natAbs ≤ A + B := by omega
  have r := mg_rg3 q h
  exact ⟨Jvm.Kit.i32_add r.1 r.2, q⟩
theorem mg_jvs {x y : Int32} {a b : Int} {A B : Nat} (hx : mg_jv x a A) (hy : mg_jv y b B) (h : A + B < 2 ^ 31) : mg_jv (x - y) (a - b) (A + B) := by
  obtain ⟨rfl, ha⟩ := hx
  obtain ⟨rfl, hb⟩ := hy
  have q : (x.toInt - y.toInt).natAbs ≤ A + B := by omega
  have r := mg_rg3 q h
  exact ⟨Jvm.Kit.i32_sub r.1 r.2, q⟩
theorem mg_ivo {x : Int32} {a : Int} {A : Nat} (h : mg_jv x a A) : mg_iv x.toInt64 a A := ⟨by rw [Jvm.Kit.i64_of_i32]; exact h.1, h.2⟩
theorem mg_ivw {x : Int64} {a b : Int} {A B : Nat} (h : mg_iv x a A) (e : a = b) (l : A ≤ B) : mg_iv x b B := ⟨h.1.trans e, e ▸ Nat.le_trans h.2 l⟩
theorem mg_jvr {x : Int32} {A : Nat} (h : x.toInt.natAbs ≤ A) : mg_jv x x.toInt A := ⟨rfl, h⟩
theorem mg_ivlt {x y : Int64} {a b : Int} {A B : Nat} (hx : mg_iv x a A) (hy : mg_iv y b B) : x < y ↔ a < b := by
  rw [Int64.lt_iff_toInt_lt, hx.1, hy.1]
theorem mg_ivle {x y : Int64} {a b : Int} {A B : Nat} (hx : mg_iv x a A) (hy : mg_iv y b B) : x ≤ y ↔ a ≤ b := by
  rw [Int64.le_iff_toInt_le, hx.1, hy.1]
theorem mg_iveq {x y : Int64} {a b : Int} {A B : Nat} (hx : mg_iv x a A) (hy : mg_iv y b B) : x = y ↔ a = b := by
  rw [← Int64.toInt_inj, hx.1, hy.1]
theorem mg_jveq {x y : Int32} {a b : Int} {A B : Nat} (hx : mg_jv x a A) (hy : mg_jv y b B) : x = y ↔ a = b := by
  rw [← Int32.toInt_inj, hx.1, hy.1]
theorem mg_iv4 : mg_iv 4 4 4 := ⟨by decide, by decide⟩

/-- the squared distance of (x, y) from the middle (a, b) over c, times c squared -/
def mg_far (x y c a b : Int) : Int := (c * x - a) * (c * x - a) + (c * y - b) * (c * y - b)
def mg_F (x y mX mY mC : Nat → Int32) (p g : Nat) : Int := mg_far (x p).toInt (y p).toInt (mC g).toInt (mX g).toInt (mY g).toInt
def mg_L (mC : Nat → Int32) (g : Nat) : Int := (mC g).toInt * (mC g).toInt
def mg_P (x : Nat → Int32) : Prop := ∀ j, (x j).toInt.natAbs ≤ 50
def mg_M (mX mY mC : Nat → Int32) : Prop := ∀ g, g < 4 → 1 ≤ (mC g).toInt ∧ (mC g).toInt ≤ 24 ∧ (mX g).toInt.natAbs ≤ 1200 ∧ (mY g).toInt.natAbs ≤ 1200

theorem mg_sq (a : Int) : 0 ≤ a * a := by
  rcases Int.le_total 0 a with h | h
  · exact Int.mul_nonneg h h
  · have := Int.mul_nonneg (a := -a) (b := -a) (by omega) (by omega)
    rw [Int.neg_mul_neg] at this; exact this
theorem mg_sqd (U V : Int) : (V - U) * (V - U) + (V + U) * (V + U) = 2 * (V * V) + 2 * (U * U) := by grind
theorem mg_tri1 {U V W Z : Int} (h : 4 * (U * U + W * W) < (V - U) * (V - U) + (Z - W) * (Z - W)) : U * U + W * W < V * V + Z * Z := by
  have h1 := mg_sq (V + U)
  have h2 := mg_sq (Z + W)
  have e1 := mg_sqd U V
  have e2 := mg_sqd W Z
  generalize (V - U) * (V - U) = q1 at *
  generalize (Z - W) * (Z - W) = q2 at *
  generalize (V + U) * (V + U) = q3 at *
  generalize (Z + W) * (Z + W) = q4 at *
  generalize V * V = q5 at *
  generalize U * U = q6 at *
  generalize Z * Z = q7 at *
  generalize W * W = q8 at *
  omega
/-- a point less than half as far from the one middle as the other one is, is nearer to it -/
theorem mg_tri {x y c a b c' a' b' : Int} (hc : 0 < c)
    (h : 4 * mg_far x y c a b * ((c * c') * (c * c')) < ((a * c' - a' * c) * (a * c' - a' * c) + (b * c' - b' * c) * (b * c' - b' * c)) * (c * c)) :
    mg_far x y c a b * (c' * c') < mg_far x y c' a' b' * (c * c) := by
  have hcc : 0 < c * c := Int.mul_pos hc hc
  have e0 : 4 * mg_far x y c a b * ((c * c') * (c * c')) = (4 * (mg_far x y c a b * (c' * c'))) * (c * c) := by
    generalize mg_far x y c a b = f; grind
  rw [e0, Int.mul_lt_mul_right hcc] at h
  have e1 : mg_far x y c a b * (c' * c') = (c' * (c * x - a)) * (c' * (c * x - a)) + (c' * (c * y - b)) * (c' * (c * y - b)) := by
    unfold mg_far; generalize c * x - a = u; generalize c * y - b = w; grind
  have e2 : mg_far x y c' a' b' * (c * c) = (c * (c' * x - a')) * (c * (c' * x - a')) + (c * (c' * y - b')) * (c * (c' * y - b')) := by
    unfold mg_far; generalize c' * x - a' = u; generalize c' * y - b' = w; grind
  have e3 : a * c' - a' * c = c * (c' * x - a') - c' * (c * x - a) := by grind
  have e4 : b * c' - b' * c = c * (c' * y - b') - c' * (c * y - b) := by grind
  rw [e1, e3, e4] at h
  rw [e1, e2]
  exact mg_tri1 h
/-- one middle under two names: equal distances -/
theorem mg_same {x y c a b c' a' b' : Int} (h1 : a' * c = a * c') (h2 : b' * c = b * c') : mg_far x y c' a' b' * (c * c) = mg_far x y c a b * (c' * c') := by
  have e1 : c * (c' * x - a') = c' * (c * x - a) := by
    rw [Int.mul_sub, Int.mul_sub, Int.mul_comm c a', Int.mul_comm c' a, h1]; grind
  have e2 : c * (c' * y - b') = c' * (c * y - b) := by
    rw [Int.mul_sub, Int.mul_sub, Int.mul_comm c b', Int.mul_comm c' b, h2]; grind
  have d1 : mg_far x y c' a' b' * (c * c) = (c * (c' * x - a')) * (c * (c' * x - a')) + (c * (c' * y - b')) * (c * (c' * y - b')) := by
    unfold mg_far; generalize c' * x - a' = u; generalize c' * y - b' = w; grind
  have d2 : mg_far x y c a b * (c' * c') = (c' * (c * x - a)) * (c' * (c * x - a)) + (c' * (c * y - b)) * (c' * (c * y - b)) := by
    unfold mg_far; generalize c * x - a = u; generalize c * y - b = w; grind
  rw [d1, d2, e1, e2]
/-- two fractions under other names compare alike -/
theorem mg_repr {a b c d a' b' c' d' : Int} (h1 : a' * b = a * b') (h2 : c' * d = c * d') (hb : 0 < b) (hd : 0 < d) (hb' : 0 < b') (hd' : 0 < d') :
    (a * d < c * b → a' * d' < c' * b') ∧ (a * d = c * b → a' * d' = c' * b') := by
  have e1 : (a' * d') * (b * d) = (a * d) * (b' * d') := by
    have : (a' * d') * (b * d) = (a' * b) * (d' * d) := by ac_rfl
    rw [this, h1]; ac_rfl
  have e2 : (c' * b') * (b * d) = (c * b) * (b' * d') := by
    have : (c' * b') * (b * d) = (c' * d) * (b' * b) := by ac_rfl
    rw [this, h2]; ac_rfl
  have p1 : 0 < b * d := Int.mul_pos hb hd
  have p2 : 0 < b' * d' := Int.mul_pos hb' hd'
  constructor
  · intro h
    rw [← Int.mul_lt_mul_right p1, e1, e2, Int.mul_lt_mul_right p2]; exact h
  · intro h
    have : (a' * d') * (b * d) = (c' * b') * (b * d) := by rw [e1, e2, h]
    exact Int.eq_of_mul_eq_mul_right (by omega) this

/-- the point is nearer to g than to h, or as near and g isn't behind h -/
def mg_lx (F L : Nat → Int) (g h : Nat) : Prop := F g * L h < F h * L g ∨ (F g * L h = F h * L g ∧ g ≤ h)
/-- the others' denominators -/
def mg_co (L : Nat → Int) (g : Nat) : Int := if g = 0 then L 1 * L 2 * L 3 else if g = 1 then L 0 * L 2 * L 3 else if g = 2 then L 0 * L 1 * L 3 else L 0 * L 1 * L 2
/-- the distance over the common denominator -/
def mg_kf (F L : Nat → Int) (g : Nat) : Int := F g * mg_co L g
theorem mg_four {g : Nat} (h : g < 4) : g = 0 ∨ g = 1 ∨ g = 2 ∨ g = 3 := by omega
theorem mg_co1 {L : Nat → Int} (hL : ∀ g, g < 4 → 0 < L g) {g : Nat} (h : g < 4) : 0 < mg_co L g ∧ mg_co L g * L g = L 0 * L 1 * L 2 * L 3 := by
  have h0 := hL 0 (by omega)
  have h1 := hL 1 (by omega)
  have h2 := hL 2 (by omega)
  have h3 := hL 3 (by omega)
  rcases mg_four h with rfl | rfl | rfl | rfl
  · exact ⟨Int.mul_pos (Int.mul_pos h1 h2) h3, by show L 1 * L 2 * L 3 * L 0 = _; ac_rfl⟩
  · exact ⟨Int.mul_pos (Int.mul_pos h0 h2) h3, by show L 0 * L 2 * L 3 * L 1 = _; ac_rfl⟩
  · exact ⟨Int.mul_pos (Int.mul_pos h0 h1) h3, by show L 0 * L 1 * L 3 * L 2 = _; ac_rfl⟩
  · exact ⟨Int.mul_pos (Int.mul_pos h0 h1) h2, by show L 0 * L 1 * L 2 * L 3 = _; ac_rfl⟩
theorem mg_klt {F L : Nat → Int} (hL : ∀ g, g < 4 → 0 < L g) {g h : Nat} (hg : g < 4) (hh : h < 4) : F g * L h < F h * L g ↔ mg_kf F L g < mg_kf F L h := by
  obtain ⟨p1, q1⟩ := mg_co1 hL hg
  obtain ⟨p2, q2⟩ := mg_co1 hL hh
  have pP : 0 < L 0 * L 1 * L 2 * L 3 := by rw [← q1]; exact Int.mul_pos p1 (hL g hg)
  have pm : 0 < mg_co L g * mg_co L h := Int.mul_pos p1 p2
  unfold mg_kf
  generalize mg_co L g = m at *
  generalize mg_co L h = m' at *
  have e1 : (F g * L h) * (m * m') = (F g * m) * (L 0 * L 1 * L 2 * L 3) := by rw [← q2]; ac_rfl
  have e2 : (F h * L g) * (m * m') = (F h * m') * (L 0 * L 1 * L 2 * L 3) := by rw [← q1]; ac_rfl
  rw [← Int.mul_lt_mul_right pm, e1, e2, Int.mul_lt_mul_right pP]
theorem mg_keq {F L : Nat → Int} (hL : ∀ g, g < 4 → 0 < L g) {g h : Nat} (hg : g < 4) (hh : h < 4) : F g * L h = F h * L g ↔ mg_kf F L g = mg_kf F L h := by
  have a := mg_klt (F := F) hL hg hh
  have b := mg_klt (F := F) hL hh hg
  generalize F g * L h = q1 at *
  generalize F h * L g = q2 at *
  omega
theorem mg_klx {F L : Nat → Int} (hL : ∀ g, g < 4 → 0 < L g) {g h : Nat} (hg : g < 4) (hh : h < 4) :
    mg_lx F L g h ↔ mg_kf F L g < mg_kf F L h ∨ (mg_kf F L g = mg_kf F L h ∧ g ≤ h) := by
  unfold mg_lx
  rw [mg_klt hL hg hh, mg_keq hL hg hh]
/-- b is the first of the least -/
def mg_N (q : Nat → Int) (k b : Nat) : Prop := b < k ∧ ∀ g, g < k → q b < q g ∨ (q b = q g ∧ b ≤ g)
theorem mg_Nu {q : Nat → Int} {k b c : Nat} (hb : mg_N q k b) (hc : mg_N q k c) : b = c := by
  have h1 := hb.2 c hc.1
  have h2 := hc.2 b hb.1
  omega
/-- the first of the least, reckoned -/
def mg_am (q : Nat → Int) : Nat → Nat
  | 0 => 0
  | k + 1 => if q k < q (mg_am q k) then k else mg_am q k
theorem mg_amN (q : Nat → Int) : ∀ k, mg_N q (k + 1) (mg_am q (k + 1)) := by
  intro k
  induction k with
  | zero =>
    have e : mg_am q 1 = 0 := by
      show (if q 0 < q 0 then 0 else 0) = 0
      exact ite_self 0
    rw [e]
    refine ⟨by omega, fun g hg => ?_⟩
    have : g = 0 := by omega
    subst this
    exact Or.inr ⟨rfl, Nat.le_refl 0⟩
  | succ k ih =>
    have e : mg_am q (k + 1 + 1) = if q (k + 1) < q (mg_am q (k + 1)) then k + 1 else mg_am q (k + 1) := rfl
    rw [e]
    generalize mg_am q (k + 1) = b at *
    obtain ⟨h1, h2⟩ := ih
    by_cases hq : q (k + 1) < q b
    · rw [if_pos hq]
      refine ⟨by omega, fun g hg => ?_⟩
      by_cases hk : g = k + 1
      · subst hk; exact Or.inr ⟨rfl, Nat.le_refl _⟩
      · have := h2 g (by omega)
        omega
    · rw [if_neg hq]
      refine ⟨by omega, fun g hg => ?_⟩
      by_cases hk : g = k + 1
      · subst hk; omega
      · exact h2 g (by omega)
theorem mg_amK {q : Nat → Int} {k : Nat} (hk : 1 ≤ k) : mg_N q k (mg_am q k) := by
  obtain ⟨j, rfl⟩ : ∃ j, k = j + 1 := ⟨k - 1, by omega⟩
  exact mg_amN q j
theorem mg_Lpos {mX mY mC : Nat → Int32} (hM : mg_M mX mY mC) : ∀ g, g < 4 → 0 < mg_L mC g := by
  intro g hg
  have := (hM g hg).1
  exact Int.mul_pos (by omega) (by omega)
/-- an array of which the first i are those of another -/
def mg_fill (a b : Nat → Int32) (i : Nat) : Nat → Int32 := fun j => if j < i then a j else b j
theorem mg_fill0 (a b : Nat → Int32) : mg_fill a b 0 = b := by
  funext j; exact if_neg (Nat.not_lt_zero j)
theorem mg_fillS {a b : Nat → Int32} {i : Nat} {v : Int32} (h : v = a i) : upd (mg_fill a b i) i v = mg_fill a b (i + 1) := by
  funext j
  show (if j = i then v else if j < i then a j else b j) = if j < i + 1 then a j else b j
  by_cases h1 : j = i
  · subst h1; rw [if_pos rfl, if_pos (Nat.lt_succ_self j)]; exact h
  · by_cases h2 : j < i
    · rw [if_neg h1, if_pos h2, if_pos (by omega)]
    · rw [if_neg h1, if_neg h2, if_neg (by omega)]
theorem mg_fillK {a b : Nat → Int32} {i : Nat} (h : a i = b i) : mg_fill a b i = mg_fill a b (i + 1) := by
  funext j
  show (if j < i then a j else b j) = if j < i + 1 then a j else b j
  by_cases h1 : j = i
  · subst h1; rw [if_neg (Nat.lt_irrefl j), if_pos (Nat.lt_succ_self j)]; exact h.symm
  · by_cases h2 : j < i
    · rw [if_pos h2, if_pos (by omega)]
    · rw [if_neg h2, if_neg (by omega)]
theorem mg_fillI (a b : Nat → Int32) (i : Nat) : mg_fill a b i i = b i := if_neg (Nat.lt_irrefl i)
theorem mg_fillL {a b : Nat → Int32} {i j : Nat} (h : j < i) : mg_fill a b i j = a j := if_pos h
theorem mg_fillG {a b : Nat → Int32} {i j : Nat} (h : i ≤ j) : mg_fill a b i j = b j := if_neg (by omega)
end
section
/-! Part 02: the distances, on both sides -/
section
variable {n k : Nat} {fu fl : Int64} {x y sX sY mX mY mC mv mem tX tY cn : Nat → Int32}
theorem mg_meas {post : SX → Prop} {p g : Nat} (hp : p < 24) (hg : g < 4) (hx : mg_P x) (hy : mg_P y) (hM : mg_M mX mY mC)
    (h : ∀ fu' fl' : Int64, mg_iv fu' (mg_F x y mX mY mC p g) 11520000 → mg_iv fl' (mg_L mC g) 576 → post (nI n, nI k, fu', fl', x, y, sX, sY, mX, mY, mC, mv, mem, tX, tY, cn)) :
    wpX_measure post (nI n, nI k, fu, fl, x, y, sX, sY, mX, mY, mC, mv, mem, tX, tY, cn) (nI p) (nI g) := by
  have i1 : vp_in (nI p) 24 := vp_in_nI hp (by omega)
  have i2 : vp_in (nI g) 4 := vp_in_nI hg (by omega)
  obtain ⟨c1, c2, c3, c4⟩ := hM g hg
  have jc : mg_jv (mC g) (mC g).toInt 24 := mg_jvr (by omega)
  have dX := mg_ivs (mg_ivm (mg_ivo jc) (mg_ivo (mg_jvr (hx p))) (by decide)) (mg_ivo (mg_jvr c3)) (by decide)
  have dY := mg_ivs (mg_ivm (mg_ivo jc) (mg_ivo (mg_jvr (hy p))) (by decide)) (mg_ivo (mg_jvr c4)) (by decide)
  have U := mg_iva (mg_ivm dX dX (by decide)) (mg_ivm dY dY (by decide)) (by decide)
  have V := mg_ivm (mg_ivo jc) (mg_ivo jc) (by decide)
  unfold wpX_measure
  rw [nI_clamp (n := p) (by omega), nI_clamp (n := g) (by omega)]
  exact ⟨i2, i1, i2, nm_e ⟨i2, i1, i2, nm_e (nm_e ⟨i2, i2, nm_e (h _ _ (mg_ivw U rfl (by decide)) (mg_ivw V rfl (by decide)))⟩)⟩⟩
theorem mg_mm {post : SX → Prop} {b g : Nat} (hb : b < 4) (hg : g < 4) (hM : mg_M mX mY mC)
    (h : ∀ fu' fl' : Int64, mg_iv fu' (((mX b).toInt * (mC g).toInt - (mX g).toInt * (mC b).toInt) * ((mX b).toInt * (mC g).toInt - (mX g).toInt * (mC b).toInt) + ((mY b).toInt * (mC g).toInt - (mY g).toInt * (mC b).toInt) * ((mY b).toInt * (mC g).toInt - (mY g).toInt * (mC b).toInt)) 6635520000 → mg_iv fl' (((mC b).toInt * (mC g).toInt) * ((mC b).toInt * (mC g).toInt)) 331776 → post (nI n, nI k, fu', fl', x, y, sX, sY, mX, mY, mC, mv, mem, tX, tY, cn)) :
    wpX_measureMiddles post (nI n, nI k, fu, fl, x, y, sX, sY, mX, mY, mC, mv, mem, tX, tY, cn) (nI b) (nI g) := by
  have i1 : vp_in (nI b) 4 := vp_in_nI hb (by omega)
  have i2 : vp_in (nI g) 4 := vp_in_nI hg (by omega)
  obtain ⟨b1, b2, b3, b4⟩ := hM b hb
  obtain ⟨c1, c2, c3, c4⟩ := hM g hg
  have jb : mg_jv (mC b) (mC b).toInt 24 := mg_jvr (by omega)
  have jc : mg_jv (mC g) (mC g).toInt 24 := mg_jvr (by omega)
  have dX := mg_ivs (mg_ivm (mg_ivo (mg_jvr b3)) (mg_ivo jc) (by decide)) (mg_ivm (mg_ivo (mg_jvr c3)) (mg_ivo jb) (by decide)) (by decide)
  have dY := mg_ivs (mg_ivm (mg_ivo (mg_jvr b4)) (mg_ivo jc) (by decide)) (mg_ivm (mg_ivo (mg_jvr c4)) (mg_ivo jb) (by decide)) (by decide)
  have U := mg_iva (mg_ivm dX dX (by decide)) (mg_ivm dY dY (by decide)) (by decide)
  have N := mg_ivm (mg_ivo jb) (mg_ivo jc) (by decide)
  have V := mg_ivm N N (by decide)
  unfold wpX_measureMiddles
  rw [nI_clamp (n := b) (by omega), nI_clamp (n := g) (by omega)]
  exact ⟨i1, i2, i2, i1, nm_e ⟨i1, i2, i2, i1, nm_e (nm_e ⟨i1, i2, nm_e (nm_e (h _ _ (mg_ivw U rfl (by decide)) (mg_ivw V rfl (by decide))))⟩)⟩⟩
theorem mg_fb {post : Int32 → SX → Prop} {p b g : Nat} {bu bl : Int64} (hb : b < 4) (hg : g < 4) (hM : mg_M mX mY mC)
    (hbu : mg_iv bu (mg_F x y mX mY mC p b) 11520000) (hbl : mg_iv bl (mg_L mC b) 576)
    (h0 : ∀ fu' fl' : Int64, post 0 (nI n, nI k, fu', fl', x, y, sX, sY, mX, mY, mC, mv, mem, tX, tY, cn))
    (h1 : mg_F x y mX mY mC p b * mg_L mC g < mg_F x y mX mY mC p g * mg_L mC b → ∀ fu' fl' : Int64, post 1 (nI n, nI k, fu', fl', x, y, sX, sY, mX, mY, mC, mv, mem, tX, tY, cn)) :
    wpX_farBeyond post (nI n, nI k, fu, fl, x, y, sX, sY, mX, mY, mC, mv, mem, tX, tY, cn) (nI b) (nI g) bu bl := by
  unfold wpX_farBeyond
  refine mg_mm hb hg hM fun fu' fl' q1 q2 => ?_
  have l := mg_ivm q1 hbl (by decide)
  have r := mg_ivm (mg_ivm mg_iv4 hbu (by decide)) q2 (by decide)
  have hc := (hM b hb).1
  exact br_c (fun _ => h0 _ _) (fun hn => h1 (mg_tri (by omega) (Int.not_le.mp fun hh => hn ((mg_ivle l r).mpr hh))) _ _)
theorem mg_yfar {post : Int64 → Prop} {p g : Nat} (hp : p < 24) (hg : g < 4) (hx : mg_P x) (hy : mg_P y) (hM : mg_M mX mY mC)
    (h : ∀ r : Int64, mg_iv r (mg_F x y mX mY mC p g) 11520000 → post r) : wpY_far post (nI n, nI k, x, y, mem, sX, sY, mX, mY, mC) (nI p) (nI g) := by
  have i1 : vp_in (nI p) 24 := vp_in_nI hp (by omega)
  have i2 : vp_in (nI g) 4 := vp_in_nI hg (by omega)
  obtain ⟨c1, c2, c3, c4⟩ := hM g hg
  have jc : mg_jv (mC g) (mC g).toInt 24 := mg_jvr (by omega)
  have dX := mg_ivo (mg_jvs (mg_jvm (mg_jvr (hx p)) jc (by decide)) (mg_jvr c3) (by decide))
  have dY := mg_ivo (mg_jvs (mg_jvm (mg_jvr (hy p)) jc (by decide)) (mg_jvr c4) (by decide))
  have U := mg_iva (mg_ivm dX dX (by decide)) (mg_ivm dY dY (by decide)) (by decide)
  unfold wpY_far
  rw [nI_clamp (n := p) (by omega), nI_clamp (n := g) (by omega)]
  refine ⟨i1, i2, i2, nm_e ⟨i1, i2, i2, nm_e (h _ (mg_ivw U ?_ (by decide)))⟩⟩
  unfold mg_F mg_far
  rw [Int.mul_comm (mC g).toInt (x p).toInt, Int.mul_comm (mC g).toInt (y p).toInt]
theorem mg_ynr {post : Int32 → Prop} {p g h : Nat} (hp : p < 24) (hg : g < 4) (hh : h < 4) (hx : mg_P x) (hy : mg_P y) (hM : mg_M mX mY mC)
    (h1 : mg_F x y mX mY mC p g * mg_L mC h < mg_F x y mX mY mC p h * mg_L mC g → post 1)
    (h0 : ¬ mg_F x y mX mY mC p g * mg_L mC h < mg_F x y mX mY mC p h * mg_L mC g → post 0) : wpY_nearer post (nI n, nI k, x, y, mem, sX, sY, mX, mY, mC) (nI p) (nI g) (nI h) := by
  have i2 : vp_in (nI g) 4 := vp_in_nI hg (by omega)
  have i3 : vp_in (nI h) 4 := vp_in_nI hh (by omega)
  obtain ⟨c1, c2, _⟩ := hM g hg
  obtain ⟨d1, d2, _⟩ := hM h hh
  have jg : mg_jv (mC g) (mC g).toInt 24 := mg_jvr (by omega)
  have jh : mg_jv (mC h) (mC h).toInt 24 := mg_jvr (by omega)
  unfold wpY_nearer
  rw [nI_clamp (n := g) (by omega), nI_clamp (n := h) (by omega)]
  refine mg_yfar hp hg hx hy hM fun r1 q1 => ⟨i3, i3, mg_yfar hp hh hx hy hM fun r2 q2 => ⟨i2, i2, ?_⟩⟩
  have l := mg_ivw (mg_ivm (mg_ivm q2 (mg_ivo jg) (by decide)) (mg_ivo jg) (by decide)) (Int.mul_assoc _ _ _) (Nat.le_refl _)
  have r := mg_ivw (mg_ivm (mg_ivm q1 (mg_ivo jh) (by decide)) (mg_ivo jh) (by decide)) (Int.mul_assoc _ _ _) (Nat.le_refl _)
  exact br_c (fun hle => h0 (Int.not_lt.mpr ((mg_ivle l r).mp hle))) (fun hn => h1 (Int.not_le.mp fun q => hn ((mg_ivle l r).mpr q)))
end
end
section
/-! Part 03: the nearest group, on both sides -/
def mg_q (x y mX mY mC : Nat → Int32) (p : Nat) : Nat → Int := mg_kf (mg_F x y mX mY mC p) (mg_L mC)
def mg_le (q : Nat → Int) (g h : Nat) : Prop := q g < q h ∨ (q g = q h ∧ g ≤ h)
theorem mg_leR (q : Nat → Int) (g : Nat) : mg_le q g g := Or.inr ⟨rfl, Nat.le_refl g⟩
theorem mg_leT {q : Nat → Int} {a b c : Nat} (h1 : mg_le q a b) (h2 : mg_le q b c) : mg_le q a c := by
  unfold mg_le at *; omega
section
variable {n k : Nat} {fu fl : Int64} {x y sX sY mX mY mC mv mem tX tY cn : Nat → Int32}
theorem mg_ng95 {post : Int32 → SX → Prop} {J : Int32 → Int64 → Int64 → Int32 → Int32 → Int32 → Int64 → Int64 → (Nat → Int32) → (Nat → Int32) → (Nat → Int32) → (Nat → Int32) → (Nat → Int32) → (Nat → Int32) → (Nat → Int32) → (Nat → Int32) → (Nat → Int32) → (Nat → Int32) → (Nat → Int32) → (Nat → Int32) → Prop}
    {p b i : Nat} {bu bl : Int64} {st z0 : Int32} (hp : p < 24) (hb : b < 4) (hi : i < 4) (hx : mg_P x) (hy : mg_P y) (hM : mg_M mX mY mC)
    (hbu : mg_iv bu (mg_F x y mX mY mC p b) 11520000) (hbl : mg_iv bl (mg_L mC b) 576)
    (hz : z0 = 0 ∨ (z0 = 1 ∧ mg_le (mg_q x y mX mY mC p) b i))
    (hJ0 : mg_le (mg_q x y mX mY mC p) b i → ∀ fu' fl' : Int64, J (nI b) bu bl (nI (i + 1)) (nI n) (nI k) fu' fl' x y sX sY mX mY mC mv mem tX tY cn)
    (hJ1 : mg_le (mg_q x y mX mY mC p) i b → ∀ fu' fl' : Int64, mg_iv fu' (mg_F x y mX mY mC p i) 11520000 → mg_iv fl' (mg_L mC i) 576 → J (nI i) fu' fl' (nI (i + 1)) (nI n) (nI k) fu' fl' x y sX sY mX mY mC mv mem tX tY cn) :
    wX_nearestGroup_95 post J (nI p) (nI b) bu bl st (nI i) z0 (nI n) (nI k) fu fl x y sX sY mX mY mC mv mem tX tY cn := by
  have hL := mg_Lpos hM
  have K1 : mg_F x y mX mY mC p b * mg_L mC i < mg_F x y mX mY mC p i * mg_L mC b ↔ mg_q x y mX mY mC p b < mg_q x y mX mY mC p i := mg_klt hL hb hi
  have K2 : mg_F x y mX mY mC p i * mg_L mC b < mg_F x y mX mY mC p b * mg_L mC i ↔ mg_q x y mX mY mC p i < mg_q x y mX mY mC p b := mg_klt hL hi hb
  have K3 : mg_F x y mX mY mC p i * mg_L mC b = mg_F x y mX mY mC p b * mg_L mC i ↔ mg_q x y mX mY mC p i = mg_q x y mX mY mC p b := mg_keq hL hi hb
  unfold wX_nearestGroup_95
  by_cases hib : i = b
  · subst hib
    exact br_t rfl (nm_r (nI_1 i) (hJ0 (mg_leR _ _) _ _))
  · refine br_f (fun e => hib ((nI_eq (by omega) (by omega)).mp e)) ?_
    rcases hz with rfl | ⟨rfl, hz⟩
    · refine br_t rfl (mg_fb hb hi hM hbu hbl ?_ ?_)
      · intro fu1 fl1
        refine br_t rfl (mg_meas hp hi hx hy hM fun fu2 fl2 q1 q2 => ?_)
        have l := mg_ivm q1 hbl (by decide)
        have r := mg_ivm hbu q2 (by decide)
        refine nm_e (nm_e (br_c (fun hlt => ?_) (fun hnlt => br_c (fun heq => br_c (fun hle => ?_) (fun hnle => ?_)) (fun hne => ?_))))
        · have h1 := K2.mp ((mg_ivlt l r).mp hlt)
          unfold wX_nearestGroup_169
          exact nm_r (nI_1 i) (hJ1 (Or.inl h1) _ _ q1 q2)
        · have h1 := K3.mp ((mg_iveq l r).mp heq)
          have h2 := (nI_leI (by omega) (by omega)).mp hle
          exact nm_r (nI_1 i) (hJ0 (Or.inr ⟨h1.symm, h2⟩) _ _)
        · have h1 := K3.mp ((mg_iveq l r).mp heq)
          have h2 : ¬ b ≤ i := fun q => hnle ((nI_leI (by omega) (by omega)).mpr q)
          unfold wX_nearestGroup_169
          exact nm_r (nI_1 i) (hJ1 (Or.inr ⟨h1, by omega⟩) _ _ q1 q2)
        · have h1 : ¬ mg_q x y mX mY mC p i < mg_q x y mX mY mC p b := fun q => hnlt ((mg_ivlt l r).mpr (K2.mpr q))
          have h2 : ¬ mg_q x y mX mY mC p i = mg_q x y mX mY mC p b := fun q => hne ((mg_iveq l r).mpr (K3.mpr q))
          exact nm_r (nI_1 i) (hJ0 (Or.inl (by omega)) _ _)
      · intro hlt fu1 fl1
        exact br_f (by decide) (nm_r (nI_1 i) (hJ0 (Or.inl (K1.mp hlt)) _ _))
    · exact br_f (by decide) (nm_r (nI_1 i) (hJ0 hz _ _))
theorem mg_ng66 {post : Int32 → SX → Prop} {p own : Nat} {st : Int32} (hp : p < 24) (hx : mg_P x) (hy : mg_P y) (hM : mg_M mX mY mC) (hk : k ≤ 4)
    (hst : st = 0 ∨ (st = 1 ∧ ∀ h, h < k → mv h = 0 → mg_le (mg_q x y mX mY mC p) own h))
    (hpost : ∀ b, mg_N (mg_q x y mX mY mC p) k b → ∀ fu' fl' : Int64, post (nI b) (nI n, nI k, fu', fl', x, y, sX, sY, mX, mY, mC, mv, mem, tX, tY, cn)) :
    ∀ (d i b : Nat) (bu bl fu fl : Int64), i + d = k → b < k → mg_iv bu (mg_F x y mX mY mC p b) 11520000 → mg_iv bl (mg_L mC b) 576 →
      (∀ h, h < i → mg_le (mg_q x y mX mY mC p) b h) → mg_le (mg_q x y mX mY mC p) b own →
      wX_nearestGroup_66 post (nI p) st (d + 1) (nI b) bu bl (nI i) (nI n) (nI k) fu fl x y sX sY mX mY mC mv mem tX tY cn := by
  intro d
  induction d with
  | zero =>
    intro i b bu bl fu fl hid hb hbu hbl hall hown
    exact br_t (nI_le (by omega) (by omega)) (hpost b ⟨hb, fun g hg => hall g (by omega)⟩ _ _)
  | succ d ih =>
    intro i b bu bl fu fl hid hb hbu hbl hall hown
    have J0 : mg_le (mg_q x y mX mY mC p) b i → ∀ fu' fl' : Int64, wX_nearestGroup_66 post (nI p) st (d + 1) (nI b) bu bl (nI (i + 1)) (nI n) (nI k) fu' fl' x y sX sY mX mY mC mv mem tX tY cn :=
      fun hle fu' fl' => ih (i + 1) b bu bl fu' fl' (by omega) hb hbu hbl (lt_s hall hle) hown
    have J1 : mg_le (mg_q x y mX mY mC p) i b → ∀ fu' fl' : Int64, mg_iv fu' (mg_F x y mX mY mC p i) 11520000 → mg_iv fl' (mg_L mC i) 576 → wX_nearestGroup_66 post (nI p) st (d + 1) (nI i) fu' fl' (nI (i + 1)) (nI n) (nI k) fu' fl' x y sX sY mX mY mC mv mem tX tY cn :=
      fun hle fu' fl' q1 q2 => ih (i + 1) i fu' fl' fu' fl' (by omega) (by omega) q1 q2 (lt_s (fun h hh => mg_leT hle (hall h hh)) (mg_leR _ _)) (mg_leT hle hown)
    refine br_f (nI_ge (by omega) (by omega)) ?_
    rcases hst with rfl | ⟨rfl, hst⟩
    · refine br_t rfl ?_
      unfold wX_nearestGroup_94
      exact mg_ng95 hp (by omega) (by omega) hx hy hM hbu hbl (Or.inl rfl) J0 J1
    · refine br_f (by decide) ⟨vp_in_nI (by omega) (by omega), ?_⟩
      have e : (nI i).toNatClampNeg = i := nI_clamp (by omega)
      by_cases hz : mv (nI i).toNatClampNeg = 0
      · exact br_t hz (mg_ng95 hp (by omega) (by omega) hx hy hM hbu hbl (Or.inr ⟨rfl, mg_leT hown (hst i (by omega) (by rw [e] at hz; exact hz))⟩) J0 J1)
      · refine br_f hz ?_
        unfold wX_nearestGroup_94
        exact mg_ng95 hp (by omega) (by omega) hx hy hM hbu hbl (Or.inl rfl) J0 J1
theorem mg_ng24 {post : Int32 → SX → Prop} {p b0 : Nat} {x2 : Int32} (hp : p < 24) (hx : mg_P x) (hy : mg_P y) (hM : mg_M mX mY mC) (hk : k ≤ 4) (hb0 : b0 < k)
    (hm : x2 < 0 ∨ (mv b0 = 0 → ∀ h, h < k → mv h = 0 → mg_le (mg_q x y mX mY mC p) b0 h))
    (hpost : ∀ b, mg_N (mg_q x y mX mY mC p) k b → ∀ fu' fl' : Int64, post (nI b) (nI n, nI k, fu', fl', x, y, sX, sY, mX, mY, mC, mv, mem, tX, tY, cn)) :
    wX_nearestGroup_24 post (nI p) x2 (nI b0) (nI n) (nI k) fu fl x y sX sY mX mY mC mv mem tX tY cn := by
  unfold wX_nearestGroup_24
  refine mg_meas hp (by omega) hx hy hM fun fu1 fl1 q1 q2 => ?_
  have e : (nI b0).toNatClampNeg = b0 := nI_clamp (by omega)
  refine br_c (fun _ => ?_) (fun hn => ⟨vp_in_nI (by omega) (by omega), br_c (fun hz => ?_) (fun _ => ?_)⟩)
  · exact ⟨k + 1, mg_ng66 (own := b0) hp hx hy hM hk (Or.inl rfl) hpost k 0 b0 _ _ _ _ (by omega) hb0 q1 q2 lt_0 (mg_leR _ _)⟩
  · rcases hm with hm | hm
    · exact absurd hm hn
    · exact ⟨k + 1, mg_ng66 (own := b0) hp hx hy hM hk (Or.inr ⟨rfl, hm (by rw [e] at hz; exact hz)⟩) hpost k 0 b0 _ _ _ _ (by omega) hb0 q1 q2 lt_0 (mg_leR _ _)⟩
  · exact ⟨k + 1, mg_ng66 (own := b0) hp hx hy hM hk (Or.inl rfl) hpost k 0 b0 _ _ _ _ (by omega) hb0 q1 q2 lt_0 (mg_leR _ _)⟩
/-- X's nearestGroup answers the first of the nearest -/
theorem mg_ng {post : Int32 → SX → Prop} {p : Nat} (hp : p < 24) (hx : mg_P x) (hy : mg_P y) (hM : mg_M mX mY mC) (hk1 : 1 ≤ k) (hk : k ≤ 4)
    (hm : mem p = -1 ∨ ∃ g, g < k ∧ mem p = nI g ∧ (mv g = 0 → ∀ h, h < k → mv h = 0 → mg_lx (mg_F x y mX mY mC p) (mg_L mC) g h))
    (hpost : ∀ b, mg_N (mg_q x y mX mY mC p) k b → ∀ fu' fl' : Int64, post (nI b) (nI n, nI k, fu', fl', x, y, sX, sY, mX, mY, mC, mv, mem, tX, tY, cn)) :
    wpX_nearestGroup post (nI n, nI k, fu, fl, x, y, sX, sY, mX, mY, mC, mv, mem, tX, tY, cn) (nI p) := by
  unfold wpX_nearestGroup
  refine ⟨vp_in_nI hp (by omega), nm_r (congrArg mem (nI_clamp (by omega))) ?_⟩
  rcases hm with hm | ⟨g, hg, hm, hh⟩
  · rw [hm]
    refine br_t (by decide) ?_
    unfold wX_nearestGroup_19
    exact mg_ng24 (b0 := 0) hp hx hy hM hk (by omega) (Or.inl (by decide)) hpost
  · rw [hm]
    refine br_f (nI_pos (by omega)) (br_t (nI_lt hg (by omega)) ?_)
    exact mg_ng24 (b0 := g) hp hx hy hM hk hg (Or.inr fun z h hk' hz => (mg_klx (mg_Lpos hM) (by omega) (by omega)).mp (hh z h hk' hz)) hpost
theorem mg_yn4 {post : Int32 → Prop} {p : Nat} (hp : p < 24) (hx : mg_P x) (hy : mg_P y) (hM : mg_M mX mY mC) (hk : k ≤ 4)
    (hpost : ∀ b, mg_N (mg_q x y mX mY mC p) k b → post (nI b)) :
    ∀ d i b : Nat, i + d = k → b < k → (∀ h, h < i → mg_le (mg_q x y mX mY mC p) b h) → b < i → wY_nearest_4 post (nI p) (nI n) (nI k) x y mem sX sY mX mY mC (d + 1) (nI b) (nI i) := by
  intro d
  induction d with
  | zero =>
    intro i b hid hb hall hbi
    exact br_t (nI_le (by omega) (by omega)) (hpost b ⟨hb, fun g hg => hall g (by omega)⟩)
  | succ d ih =>
    intro i b hid hb hall hbi
    have hL := mg_Lpos hM
    have K2 : mg_F x y mX mY mC p i * mg_L mC b < mg_F x y mX mY mC p b * mg_L mC i ↔ mg_q x y mX mY mC p i < mg_q x y mX mY mC p b := mg_klt hL (by omega) (by omega)
    refine br_f (nI_ge (by omega) (by omega)) (mg_ynr hp (by omega) (by omega) hx hy hM (fun h1 => ?_) (fun h0 => ?_))
    · have h2 : mg_le (mg_q x y mX mY mC p) i b := Or.inl (K2.mp h1)
      exact br_f (by decide) (nm_r (nI_1 i) (ih (i + 1) i (by omega) (by omega) (lt_s (fun h hh => mg_leT h2 (hall h hh)) (mg_leR _ _)) (by omega)))
    · have h2 : mg_le (mg_q x y mX mY mC p) b i := by
        have h3 : ¬ mg_q x y mX mY mC p i < mg_q x y mX mY mC p b := fun q => h0 (K2.mpr q)
        unfold mg_le; omega
      exact br_t rfl (nm_r (nI_1 i) (ih (i + 1) b (by omega) hb (lt_s hall h2) (by omega)))
/-- Y's nearest answers the first of the nearest -/
theorem mg_yn {post : Int32 → Prop} {p : Nat} (hp : p < 24) (hx : mg_P x) (hy : mg_P y) (hM : mg_M mX mY mC) (hk1 : 1 ≤ k) (hk : k ≤ 4)
    (hpost : ∀ b, mg_N (mg_q x y mX mY mC p) k b → post (nI b)) : wpY_nearest post (nI n, nI k, x, y, mem, sX, sY, mX, mY, mC) (nI p) := by
  unfold wpY_nearest
  exact ⟨k - 1 + 1, mg_yn4 hp hx hy hM hk hpost (k - 1) 1 0 (by omega) (by omega) (fun h hh => by
    have e : h = 0 := by omega
    subst e
    exact mg_leR _ _) (by omega)⟩
end
end
section
/-! Part 04: near, in lockstep -/
section
variable {n k : Nat} {fu fl : Int64} {x y sX sY mX mY mC mv mem tX tY cn : Nat → Int32}
theorem mg_in20 {post : Int32 → SX → Prop} {p v : Nat} {ou ol : Int64} (hp : p < 24) (hv : v < 4) (hx : mg_P x) (hy : mg_P y) (hM : mg_M mX mY mC) (hk : k ≤ 4)
    (hou : mg_iv ou (mg_F x y mX mY mC p v) 11520000) (hol : mg_iv ol (mg_L mC v) 576)
    (h1 : (∀ g, g < k → ¬ mg_q x y mX mY mC p g < mg_q x y mX mY mC p v) → ∀ fu' fl' : Int64, post 1 (nI n, nI k, fu', fl', x, y, sX, sY, mX, mY, mC, mv, mem, tX, tY, cn))
    (h0 : ∀ g, g < k → mg_q x y mX mY mC p g < mg_q x y mX mY mC p v → ∀ fu' fl' : Int64, post 0 (nI n, nI k, fu', fl', x, y, sX, sY, mX, mY, mC, mv, mem, tX, tY, cn)) :
    ∀ (d i : Nat) (fu fl : Int64), i + d = k → (∀ g, g < i → ¬ mg_q x y mX mY mC p g < mg_q x y mX mY mC p v) →
      wX_isNearest_20 post (nI p) ou ol (d + 1) (nI i) (nI n) (nI k) fu fl x y sX sY mX mY mC mv mem tX tY cn := by
  intro d
  induction d with
  | zero =>
    intro i fu fl hid hall
    exact br_t (nI_le (by omega) (by omega)) (h1 (fun g hg => hall g (by omega)) _ _)
  | succ d ih =>
    intro i fu fl hid hall
    have K2 : mg_F x y mX mY mC p i * mg_L mC v < mg_F x y mX mY mC p v * mg_L mC i ↔ mg_q x y mX mY mC p i < mg_q x y mX mY mC p v := mg_klt (mg_Lpos hM) (by omega) hv
    refine br_f (nI_ge (by omega) (by omega)) (mg_meas hp (by omega) hx hy hM fun fu2 fl2 q1 q2 => ?_)
    have l := mg_ivm hou q2 (by decide)
    have r := mg_ivm q1 hol (by decide)
    refine br_c (fun hle => nm_r (nI_1 i) (ih (i + 1) _ _ (by omega) (lt_s hall fun q => ?_))) (fun hn => h0 i (by omega) (K2.mp (Int.not_le.mp fun q => hn ((mg_ivle l r).mpr q))) _ _)
    exact Int.not_lt.mpr ((mg_ivle l r).mp hle) (K2.mpr q)
theorem mg_in {post : Int32 → SX → Prop} {p v : Nat} (hp : p < 24) (hv : v < 4) (hx : mg_P x) (hy : mg_P y) (hM : mg_M mX mY mC) (hk : k ≤ 4)
    (h1 : (∀ g, g < k → ¬ mg_q x y mX mY mC p g < mg_q x y mX mY mC p v) → ∀ fu' fl' : Int64, post 1 (nI n, nI k, fu', fl', x, y, sX, sY, mX, mY, mC, mv, mem, tX, tY, cn))
    (h0 : ∀ g, g < k → mg_q x y mX mY mC p g < mg_q x y mX mY mC p v → ∀ fu' fl' : Int64, post 0 (nI n, nI k, fu', fl', x, y, sX, sY, mX, mY, mC, mv, mem, tX, tY, cn)) :
    wpX_isNearest post (nI n, nI k, fu, fl, x, y, sX, sY, mX, mY, mC, mv, mem, tX, tY, cn) (nI p) (nI v) := by
  unfold wpX_isNearest
  exact mg_meas hp hv hx hy hM fun fu1 fl1 q1 q2 => ⟨k + 1, mg_in20 hp hv hx hy hM hk q1 q2 h1 h0 k 0 _ _ (by omega) lt_0⟩
theorem mg_near {v : Nat} (hn : n ≤ 24) (hv : v < k) (hx : mg_P x) (hy : mg_P y) (hM : mg_M mX mY mC) (hk : k ≤ 4) :
    ∀ (d i : Nat) (acc : Int32), i + d = n → ∃ r : Int32,
      (∀ (post : Int32 → SX → Prop) (fu fl : Int64), (∀ fu' fl' : Int64, post r (nI n, nI k, fu', fl', x, y, sX, sY, mX, mY, mC, mv, mem, tX, tY, cn)) → wX_near_18 post (nI v) (d + 1) acc (nI i) (nI n) (nI k) fu fl x y sX sY mX mY mC mv mem tX tY cn) ∧
      (∀ post : Int32 → Prop, post r → wY_near_18 post (nI v) (nI n) (nI k) x y mem sX sY mX mY mC (d + 1) acc (nI i)) := by
  intro d
  induction d with
  | zero =>
    intro i acc hid
    have h : nI n ≤ nI i := nI_le (by omega) (by omega)
    exact ⟨acc, fun post fu fl hp => br_t h (hp _ _), fun post hp => br_t h hp⟩
  | succ d ih =>
    intro i acc hid
    have h : ¬ nI n ≤ nI i := nI_ge (by omega) (by omega)
    have hN : mg_N (mg_q x y mX mY mC i) k (mg_am (mg_q x y mX mY mC i) k) := mg_amK (by omega)
    by_cases hq : mg_q x y mX mY mC i (mg_am (mg_q x y mX mY mC i) k) < mg_q x y mX mY mC i v
    · obtain ⟨r, hX, hY⟩ := ih (i + 1) acc (by omega)
      refine ⟨r, fun post fu fl hp => br_f h (mg_in (by omega) (by omega) hx hy hM hk (fun hh => absurd hq (hh _ hN.1)) (fun g hg hl fu' fl' => ?_)), fun post hp => br_f h (mg_yn (by omega) hx hy hM (by omega) hk fun b hb => ?_)⟩
      · exact br_t rfl (nm_r (Int32.add_zero acc) (nm_r (nI_1 i) (hX post _ _ hp)))
      · rw [mg_Nu hb hN]
        have K2 := mg_klt (F := mg_F x y mX mY mC i) (mg_Lpos hM) (g := mg_am (mg_q x y mX mY mC i) k) (h := v) (by have := hN.1; omega) (by omega)
        exact mg_ynr (by omega) (by have := hN.1; omega) (by omega) hx hy hM (fun _ => br_f (by decide) (nm_r (nI_1 i) (hY post hp))) (fun hh => absurd (K2.mpr hq) hh)
    · obtain ⟨r, hX, hY⟩ := ih (i + 1) (acc + 1) (by omega)
      refine ⟨r, fun post fu fl hp => br_f h (mg_in (by omega) (by omega) hx hy hM hk (fun hh fu' fl' => ?_) (fun g hg hl fu' fl' => ?_)), fun post hp => br_f h (mg_yn (by omega) hx hy hM (by omega) hk fun b hb => ?_)⟩
      · exact br_f (by decide) (nm_e (nm_r (nI_1 i) (hX post _ _ hp)))
      · exact absurd hl (by have := hN.2 g hg; omega)
      · rw [mg_Nu hb hN]
        have K2 := mg_klt (F := mg_F x y mX mY mC i) (mg_Lpos hM) (g := mg_am (mg_q x y mX mY mC i) k) (h := v) (by have := hN.1; omega) (by omega)
        exact mg_ynr (by omega) (by have := hN.1; omega) (by omega) hx hy hM (fun hh => absurd (K2.mp hh) hq) (fun _ => br_t rfl (nm_e (nm_r (nI_1 i) (hY post hp))))
end
end
section
/-! Part 05: the relation, and reset on both sides -/
def mg_Base (n k : Nat) (x y sX sY : Nat → Int32) : Prop := n ≤ 24 ∧ 1 ≤ k ∧ k ≤ 4 ∧ mg_P x ∧ mg_P y ∧ mg_P sX ∧ mg_P sY
/-- a member is wanting, or it is a group; if that one hasn't moved, it is the nearest among those that haven't -/
def mg_H (n k : Nat) (x y mX mY mC mv mem : Nat → Int32) : Prop := ∀ p, p < n → mem p = -1 ∨ ∃ g, g < k ∧ mem p = nI g ∧ (mv g = 0 → ∀ h, h < k → mv h = 0 → mg_lx (mg_F x y mX mY mC p) (mg_L mC) g h)
/-- both hold the same points, seeds, middles and members -/
def i_Rel (k : Nat) (u : SX) (v : SY) : Prop := ∃ (n k : Nat) (fu fl : Int64) (x y sX sY mX mY mC mv mem tX tY cn : Nat → Int32),
  u = (nI n, nI k, fu, fl, x, y, sX, sY, mX, mY, mC, mv, mem, tX, tY, cn) ∧ v = (nI n, nI k, x, y, mem, sX, sY, mX, mY, mC) ∧ mg_Base n k x y sX sY ∧ mg_M mX mY mC ∧ mg_H n k x y mX mY mC mv mem
theorem mg_el {P : SX → SY → Prop} {t : Nat} {u : SX} {v : SY}
    (h : ∀ (n k : Nat) (fu fl : Int64) (x y sX sY mX mY mC mv mem tX tY cn : Nat → Int32), mg_Base n k x y sX sY → mg_M mX mY mC → mg_H n k x y mX mY mC mv mem → P (nI n, nI k, fu, fl, x, y, sX, sY, mX, mY, mC, mv, mem, tX, tY, cn) (nI n, nI k, x, y, mem, sX, sY, mX, mY, mC))
    (I : i_Rel t u v) : P u v := by
  obtain ⟨n, k, fu, fl, x, y, sX, sY, mX, mY, mC, mv, mem, tX, tY, cn, rfl, rfl, hB, hM, hH⟩ := I
  exact h n k fu fl x y sX sY mX mY mC mv mem tX tY cn hB hM hH
section
variable {n k : Nat} {fu fl : Int64} {x y sX sY mX mY mC mv mem tX tY cn : Nat → Int32}
theorem mg_rl (t : Nat) (hB : mg_Base n k x y sX sY) (hM : mg_M mX mY mC) (hH : mg_H n k x y mX mY mC mv mem) : i_Rel t (nI n, nI k, fu, fl, x, y, sX, sY, mX, mY, mC, mv, mem, tX, tY, cn) (nI n, nI k, x, y, mem, sX, sY, mX, mY, mC) :=
  ⟨n, k, fu, fl, x, y, sX, sY, mX, mY, mC, mv, mem, tX, tY, cn, rfl, rfl, hB, hM, hH⟩
theorem mg_nb1 : vp_nar .boolean 1 = 1 := rfl
theorem mg_nb0 : vp_nar .boolean 0 = 0 := rfl
theorem mg_up {a b : Nat → Int32} {i : Nat} {v w : Int32} (hi : i < 2 ^ 31) (hv : v = w) (h : w = a i) : upd (mg_fill a b i) (nI i).toNatClampNeg v = mg_fill a b (i + 1) := by
  rw [nI_clamp hi]; exact mg_fillS (hv.trans h)
theorem mg_x53 {f1 f2 : Int32} {post : SX → Prop} (h : post (f1, f2, fu, fl, x, y, sX, sY, mX, mY, mC, mv, mg_fill (fun _ => -1) mem 24, tX, tY, cn)) :
    ∀ d i : Nat, i + d = 24 → wX_reset_53 post f1 f2 fu fl (d + 1) (nI i) x y sX sY mX mY mC mv (mg_fill (fun _ => -1) mem i) tX tY cn := by
  intro d
  induction d with
  | zero =>
    intro i hid
    have e : i = 24 := by omega
    subst e
    exact br_t (nI_le (a := 24) (b := 24) (by omega) (by omega)) h
  | succ d ih =>
    intro i hid
    exact br_f (nI_ge (b := 24) (by omega) (by omega)) ⟨vp_in_nI (by omega) (by omega), nm_r (mg_up (by omega) rfl rfl) (nm_r (nI_1 i) (ih (i + 1) (by omega)))⟩
theorem mg_x2 {f1 f2 : Int32} {post : SX → Prop} (h : post (f1, f2, fu, fl, x, y, sX, sY, mg_fill sX mX 4, mg_fill sY mY 4, mg_fill (fun _ => 1) mC 4, mg_fill (fun _ => 1) mv 4, mg_fill (fun _ => -1) mem 24, tX, tY, cn)) :
    ∀ d i : Nat, i + d = 4 → wX_reset_2 post f1 f2 fu fl (d + 1) (nI i) x y sX sY (mg_fill sX mX i) (mg_fill sY mY i) (mg_fill (fun _ => 1) mC i) (mg_fill (fun _ => 1) mv i) mem tX tY cn := by
  intro d
  induction d with
  | zero =>
    intro i hid
    have e : i = 4 := by omega
    subst e
    have q := mg_x53 h 24 0 (by omega)
    rw [mg_fill0] at q
    exact br_t (nI_le (a := 4) (b := 4) (by omega) (by omega)) ⟨25, q⟩
  | succ d ih =>
    intro i hid
    have hv : vp_in (nI i) 4 := vp_in_nI (by omega) (by omega)
    have e : (nI i).toNatClampNeg = i := nI_clamp (by omega)
    exact br_f (nI_ge (b := 4) (by omega) (by omega)) ⟨hv, hv, nm_r (mg_up (by omega) (congrArg sX e) rfl) ⟨hv, hv, nm_r (mg_up (by omega) (congrArg sY e) rfl) ⟨hv, nm_r (mg_up (by omega) rfl rfl) ⟨hv, nm_r (mg_up (by omega) mg_nb1 rfl) (nm_r (nI_1 i) (ih (i + 1) (by omega)))⟩⟩⟩⟩
/-- X's reset -/
theorem mg_xr {f1 f2 : Int32} {post : SX → Prop} (h : post (f1, f2, fu, fl, x, y, sX, sY, mg_fill sX mX 4, mg_fill sY mY 4, mg_fill (fun _ => 1) mC 4, mg_fill (fun _ => 1) mv 4, mg_fill (fun _ => -1) mem 24, tX, tY, cn)) :
    wpX_reset post (f1, f2, fu, fl, x, y, sX, sY, mX, mY, mC, mv, mem, tX, tY, cn) := by
  unfold wpX_reset
  have q := mg_x2 h 4 0 (by omega)
  rw [mg_fill0, mg_fill0, mg_fill0, mg_fill0] at q
  exact ⟨5, q⟩
theorem mg_y46 {f1 f2 : Int32} {post : SY → Prop} (h : post (f1, f2, x, y, mg_fill (fun _ => -1) mem 24, sX, sY, mX, mY, mC)) :
    ∀ d i : Nat, i + d = 24 → wY_reset_46 post f1 f2 (d + 1) (nI i) x y (mg_fill (fun _ => -1) mem i) sX sY mX mY mC := by
  intro d
  induction d with
  | zero =>
    intro i hid
    have e : i = 24 := by omega
    subst e
    exact br_t (nI_le (a := 24) (b := 24) (by omega) (by omega)) h
  | succ d ih =>
    intro i hid
    exact br_f (nI_ge (b := 24) (by omega) (by omega)) ⟨vp_in_nI (by omega) (by omega), nm_r (mg_up (by omega) rfl rfl) (nm_r (nI_1 i) (ih (i + 1) (by omega)))⟩
theorem mg_y2 {f1 f2 : Int32} {post : SY → Prop} (h : post (f1, f2, x, y, mg_fill (fun _ => -1) mem 24, sX, sY, mg_fill sX mX 4, mg_fill sY mY 4, mg_fill (fun _ => 1) mC 4)) :
    ∀ d i : Nat, i + d = 4 → wY_reset_2 post f1 f2 (d + 1) (nI i) x y mem sX sY (mg_fill sX mX i) (mg_fill sY mY i) (mg_fill (fun _ => 1) mC i) := by
  intro d
  induction d with
  | zero =>
    intro i hid
    have e : i = 4 := by omega
    subst e
    have q := mg_y46 h 24 0 (by omega)
    rw [mg_fill0] at q
    exact br_t (nI_le (a := 4) (b := 4) (by omega) (by omega)) ⟨25, q⟩
  | succ d ih =>
    intro i hid
    have hv : vp_in (nI i) 4 := vp_in_nI (by omega) (by omega)
    have e : (nI i).toNatClampNeg = i := nI_clamp (by omega)
    exact br_f (nI_ge (b := 4) (by omega) (by omega)) ⟨hv, hv, nm_r (mg_up (by omega) (congrArg sX e) rfl) ⟨hv, hv, nm_r (mg_up (by omega) (congrArg sY e) rfl) ⟨hv, nm_r (mg_up (by omega) rfl rfl) (nm_r (nI_1 i) (ih (i + 1) (by omega)))⟩⟩⟩
/-- Y's reset -/
theorem mg_yr {f1 f2 : Int32} {post : SY → Prop} (h : post (f1, f2, x, y, mg_fill (fun _ => -1) mem 24, sX, sY, mg_fill sX mX 4, mg_fill sY mY 4, mg_fill (fun _ => 1) mC 4)) :
    wpY_reset post (f1, f2, x, y, mem, sX, sY, mX, mY, mC) := by
  unfold wpY_reset
  have q := mg_y2 h 4 0 (by omega)
  rw [mg_fill0, mg_fill0, mg_fill0] at q
  exact ⟨5, q⟩
/-- both resets end in related states -/
theorem mg_rr (t : Nat) (hB : mg_Base n k x y sX sY) : i_Rel t (nI n, nI k, fu, fl, x, y, sX, sY, mg_fill sX mX 4, mg_fill sY mY 4, mg_fill (fun _ => 1) mC 4, mg_fill (fun _ => 1) mv 4, mg_fill (fun _ => -1) mem 24, tX, tY, cn) (nI n, nI k, x, y, mg_fill (fun _ => -1) mem 24, sX, sY, mg_fill sX mX 4, mg_fill sY mY 4, mg_fill (fun _ => 1) mC 4) := by
  obtain ⟨h1, h2, h3, h4, h5, h6, h7⟩ := hB
  refine mg_rl t ⟨h1, h2, h3, h4, h5, h6, h7⟩ (fun g hg => ?_) (fun p hp => Or.inl ?_)
  · rw [mg_fillL hg, mg_fillL hg, mg_fillL hg]
    have a := h6 g
    have b := h7 g
    exact ⟨(by decide : (1 : Int) ≤ (1 : Int32).toInt), (by decide : (1 : Int32).toInt ≤ 24), by omega, by omega⟩
  · exact mg_fillL (show p < 24 by omega)
end
theorem i_up {k : Nat} {u : SX} {v : SY} (h : i_Rel k u v) : i_Rel (k + 4) u v := h
theorem mg_P0 : mg_P (fun _ => 0) := fun _ => (by decide : (0 : Int32).toInt.natAbs ≤ 50)
theorem i_vc0 : wpX_init (fun u => wpY_init (fun v => i_Rel 0 u v)) := by
  unfold wpX_init wpY_init
  refine mg_xr (f1 := nI 0) (f2 := nI 2) (mg_yr (f1 := nI 0) (f2 := nI 2) ?_)
  exact mg_rr (n := 0) (k := 2) 0 ⟨by omega, by omega, by omega, mg_P0, mg_P0, mg_P0, mg_P0⟩
theorem i_vc_reset {k : Nat} {u : SX} {v : SY} (I : i_Rel k u v) (hk : k + 4 ≤ 2048) : wpX_reset (fun u' => wpY_reset (fun v' => i_Rel (k + 4) u' v') v) u := by
  refine mg_el (P := fun u v => wpX_reset (fun u' => wpY_reset (fun v' => i_Rel (k + 4) u' v') v) u) ?_ I
  intro n k' fu fl x y sX sY mX mY mC mv mem tX tY cn hB hM hH
  exact mg_xr (mg_yr (mg_rr _ hB))
end
section
/-! Part 06: add, drop, seed, groups -/
def mg_ok (c : Int32) : Prop := ¬ c < -50 ∧ ¬ 50 < c
theorem mg_okB {c : Int32} (h : mg_ok c) : c.toInt.natAbs ≤ 50 := by
  obtain ⟨h1, h2⟩ := h
  rw [Int32.lt_iff_toInt_lt] at h1 h2
  have e1 : (-50 : Int32).toInt = -50 := by decide
  have e2 : (50 : Int32).toInt = 50 := by decide
  rw [e1] at h1; rw [e2] at h2
  omega
theorem mg_i1 {post : Int32 → Prop} {c : Int32} (h : mg_ok c) (hp : post 1) : wpX_inRange post c := by
  unfold wpX_inRange; exact br_f h.1 (br_f h.2 hp)
theorem mg_i0 {post : Int32 → Prop} {c : Int32} (h : ¬ mg_ok c) (hp : post 0) : wpX_inRange post c := by
  unfold wpX_inRange
  exact br_c (fun _ => hp) (fun a => br_c (fun _ => hp) (fun b => absurd ⟨a, b⟩ h))
theorem mg_b0 {post : Int32 → Prop} {c : Int32} (h : mg_ok c) (hp : post 0) : wpY_bad post c := by
  unfold wpY_bad; exact br_f h.1 (br_t (Int32.not_lt.mp h.2) hp)
theorem mg_b1 {post : Int32 → Prop} {c : Int32} (h : ¬ mg_ok c) (hp : post 1) : wpY_bad post c := by
  unfold wpY_bad
  exact br_c (fun _ => hp) (fun a => br_c (fun b => absurd ⟨a, Int32.not_lt.mpr b⟩ h) (fun _ => hp))
theorem mg_Pu {x : Nat → Int32} {i : Nat} {c : Int32} (h : mg_P x) (hc : mg_ok c) : mg_P (upd x i c) := by
  intro j
  show (if j = i then c else x j).toInt.natAbs ≤ 50
  by_cases e : j = i
  · rw [if_pos e]; exact mg_okB hc
  · rw [if_neg e]; exact h j
theorem mg_ix (v : Int32) {n : Nat} (hn : n < 2 ^ 31) : v < 0 ∨ (¬ v < 0 ∧ ¬ v < nI n) ∨ ∃ j : Nat, j < n ∧ v = nI j := by
  by_cases h : v < 0
  · exact Or.inl h
  · obtain ⟨j, hj, rfl⟩ := nI_of h
    by_cases hjn : j < n
    · exact Or.inr (Or.inr ⟨j, hjn, rfl⟩)
    · exact Or.inr (Or.inl ⟨h, nI_nlt (by omega) hj⟩)
/-- from j on, those below i are moved down by one -/
def mg_sh (a : Nat → Int32) (j i : Nat) : Nat → Int32 := fun m => if j ≤ m ∧ m < i then a (m + 1) else a m
theorem mg_sh0 (a : Nat → Int32) (j : Nat) : mg_sh a j j = a := by
  funext m; exact if_neg (by omega)
theorem mg_shS {a : Nat → Int32} {j i : Nat} (h : j ≤ i) (hi : i + 1 < 2 ^ 31) : upd (mg_sh a j i) (nI i).toNatClampNeg (mg_sh a j i (nI i + 1).toNatClampNeg) = mg_sh a j (i + 1) := by
  rw [nI_1, nI_clamp hi, nI_clamp (n := i) (by omega)]
  funext m
  show (if m = i then (if j ≤ i + 1 ∧ i + 1 < i then a (i + 1 + 1) else a (i + 1)) else if j ≤ m ∧ m < i then a (m + 1) else a m) = if j ≤ m ∧ m < i + 1 then a (m + 1) else a m
  rw [if_neg (show ¬ (j ≤ i + 1 ∧ i + 1 < i) by omega)]
  by_cases e : m = i
  · subst e; rw [if_pos rfl, if_pos (by omega)]
  · rw [if_neg e]
    by_cases h2 : j ≤ m ∧ m < i
    · rw [if_pos h2, if_pos (by omega)]
    · rw [if_neg h2, if_neg (by omega)]
theorem mg_shP {a : Nat → Int32} {j i : Nat} (h : mg_P a) : mg_P (mg_sh a j i) := by
  intro m
  show (if j ≤ m ∧ m < i then a (m + 1) else a m).toInt.natAbs ≤ 50
  by_cases e : j ≤ m ∧ m < i
  · rw [if_pos e]; exact h _
  · rw [if_neg e]; exact h _
section
variable {n k : Nat} {fu fl : Int64} {x y sX sY mX mY mC mv mem tX tY cn : Nat → Int32}
theorem mg_xd {post : Int32 → SX → Prop} {f2 : Int32} {j : Nat} (hn : n < 24)
    (h : post (nI n) (nI n, f2, fu, fl, mg_sh x j n, mg_sh y j n, sX, sY, mg_fill sX mX 4, mg_fill sY mY 4, mg_fill (fun _ => 1) mC 4, mg_fill (fun _ => 1) mv 4, mg_fill (fun _ => -1) mem 24, tX, tY, cn)) :
    ∀ d i : Nat, i + d = n → j ≤ i → wX_drop_26 post (nI n) f2 fu fl (d + 1) (nI i) (mg_sh x j i) (mg_sh y j i) sX sY mX mY mC mv mem tX tY cn := by
  intro d
  induction d with
  | zero =>
    intro i hid hj
    have e : i = n := by omega
    subst e
    exact br_t (nI_le (by omega) (by omega)) (mg_xr h)
  | succ d ih =>
    intro i hid hj
    have v1 : vp_in (nI i + 1) 24 := by rw [nI_1]; exact vp_in_nI (by omega) (by omega)
    have v2 : vp_in (nI i) 24 := vp_in_nI (by omega) (by omega)
    exact br_f (nI_ge (by omega) (by omega)) ⟨v1, v2, nm_r (mg_shS hj (by omega)) ⟨v1, v2, nm_r (mg_shS hj (by omega)) (nm_r (nI_1 i) (ih (i + 1) (by omega) (by omega)))⟩⟩
theorem mg_yd {post : Int32 → SY → Prop} {f2 : Int32} {j : Nat} (hn : n < 24)
    (h : post (nI n) (nI n, f2, mg_sh x j n, mg_sh y j n, mg_fill (fun _ => -1) mem 24, sX, sY, mg_fill sX mX 4, mg_fill sY mY 4, mg_fill (fun _ => 1) mC 4)) :
    ∀ d i : Nat, i + d = n → j ≤ i → wY_drop_26 post (nI n) f2 (d + 1) (nI i) (mg_sh x j i) (mg_sh y j i) mem sX sY mX mY mC := by
  intro d
  induction d with
  | zero =>
    intro i hid hj
    have e : i = n := by omega
    subst e
    exact br_t (nI_le (by omega) (by omega)) (mg_yr h)
  | succ d ih =>
    intro i hid hj
    have v1 : vp_in (nI i + 1) 24 := by rw [nI_1]; exact vp_in_nI (by omega) (by omega)
    have v2 : vp_in (nI i) 24 := vp_in_nI (by omega) (by omega)
    exact br_f (nI_ge (by omega) (by omega)) ⟨v1, v2, nm_r (mg_shS hj (by omega)) ⟨v1, v2, nm_r (mg_shS hj (by omega)) (nm_r (nI_1 i) (ih (i + 1) (by omega) (by omega)))⟩⟩
end
theorem i_vc_add {k : Nat} {u : SX} {v : SY} (I : i_Rel k u v) (hk : k + 4 ≤ 2048) (v1 : Int32) (v2 : Int32) : wpX_add (fun r u' => wpY_add (fun r' v' => r' = r ∧ i_Rel (k + 4) u' v') v v1 v2) u v1 v2 := by
  refine mg_el (P := fun u v => wpX_add (fun r u' => wpY_add (fun r' v' => r' = r ∧ i_Rel (k + 4) u' v') v v1 v2) u v1 v2) ?_ I
  intro n k' fu fl x y sX sY mX mY mC mv mem tX tY cn hB hM hH
  have R : i_Rel (k + 4) (nI n, nI k', fu, fl, x, y, sX, sY, mX, mY, mC, mv, mem, tX, tY, cn) (nI n, nI k', x, y, mem, sX, sY, mX, mY, mC) := mg_rl (k + 4) hB hM hH
  obtain ⟨b1, b2, b3, b4, b5, b6, b7⟩ := hB
  unfold wpX_add wpY_add
  by_cases o1 : mg_ok v1
  · refine mg_i1 o1 (br_f (by decide) ?_)
    by_cases o2 : mg_ok v2
    · refine mg_i1 o2 (br_f (by decide) ?_)
      by_cases hn : n < 24
      · have vi : vp_in (nI n) 24 := vp_in_nI hn (by omega)
        have e : (nI n).toNatClampNeg = n := nI_clamp (by omega)
        have ne : ¬ nI n = 24 := fun z => by have := (nI_eq (a := n) (b := 24) (by omega) (by omega)).mp z; omega
        refine br_t (nI_lt (b := 24) hn (by omega)) ⟨vi, nm_r (e' := upd x n v1) (by rw [e]) ⟨vi, nm_r (e' := upd y n v2) (by rw [e]) (nm_r (nI_1 n) (mg_xr ?_))⟩⟩
        refine mg_b0 o1 (br_t rfl (mg_b0 o2 (br_t rfl (br_f ne ⟨vi, nm_r (e' := upd x n v1) (by rw [e]) ⟨vi, nm_r (e' := upd y n v2) (by rw [e]) (nm_r (nI_1 n) (mg_yr ?_))⟩⟩))))
        exact ⟨rfl, mg_rr (k + 4) ⟨by omega, b2, b3, mg_Pu b4 o1, mg_Pu b5 o2, b6, b7⟩⟩
      · have e : n = 24 := by omega
        subst e
        exact br_f (nI_nlt (a := 24) (b := 24) (by omega) (by omega)) (mg_b0 o1 (br_t rfl (mg_b0 o2 (br_t rfl (br_t rfl ⟨rfl, R⟩)))))
    · exact mg_i0 o2 (br_t rfl (mg_b0 o1 (br_t rfl (mg_b1 o2 (br_f (by decide) ⟨rfl, R⟩)))))
  · exact mg_i0 o1 (br_t rfl (mg_b1 o1 (br_f (by decide) ⟨rfl, R⟩)))
theorem i_vc_drop {k : Nat} {u : SX} {v : SY} (I : i_Rel k u v) (hk : k + 4 ≤ 2048) (v1 : Int32) : wpX_drop (fun r u' => wpY_drop (fun r' v' => r' = r ∧ i_Rel (k + 4) u' v') v v1) u v1 := by
  refine mg_el (P := fun u v => wpX_drop (fun r u' => wpY_drop (fun r' v' => r' = r ∧ i_Rel (k + 4) u' v') v v1) u v1) ?_ I
  intro n k' fu fl x y sX sY mX mY mC mv mem tX tY cn hB hM hH
  have R : i_Rel (k + 4) (nI n, nI k', fu, fl, x, y, sX, sY, mX, mY, mC, mv, mem, tX, tY, cn) (nI n, nI k', x, y, mem, sX, sY, mX, mY, mC) := mg_rl (k + 4) hB hM hH
  obtain ⟨b1, b2, b3, b4, b5, b6, b7⟩ := hB
  unfold wpX_drop wpY_drop
  rcases mg_ix v1 (n := n) (by omega) with h | ⟨h0, h⟩ | ⟨j, hj, rfl⟩
  · exact br_t h (br_t h ⟨rfl, R⟩)
  · exact br_f h0 (br_f h (br_f h0 (br_f h ⟨rfl, R⟩)))
  · obtain ⟨m, rfl⟩ : ∃ m, n = m + 1 := ⟨n - 1, by omega⟩
    have h0 : ¬ nI j < 0 := nI_pos (by omega)
    have h1 : nI j < nI (m + 1) := nI_lt hj (by omega)
    refine br_f h0 (br_t h1 (nm_r (nI_pred m) ⟨m - j + 1, ?_⟩))
    have key : ∀ post : Int32 → SX → Prop, post (nI m) (nI m, nI k', fu, fl, mg_sh x j m, mg_sh y j m, sX, sY, mg_fill sX mX 4, mg_fill sY mY 4, mg_fill (fun _ => 1) mC 4, mg_fill (fun _ => 1) mv 4, mg_fill (fun _ => -1) mem 24, tX, tY, cn) → wX_drop_26 post (nI m) (nI k') fu fl (m - j + 1) (nI j) x y sX sY mX mY mC mv mem tX tY cn := by
      intro post h
      have q := mg_xd (j := j) (by omega) h (m - j) j (by omega) (by omega)
      rw [mg_sh0, mg_sh0] at q
      exact q
    have key2 : ∀ post : Int32 → SY → Prop, post (nI m) (nI m, nI k', mg_sh x j m, mg_sh y j m, mg_fill (fun _ => -1) mem 24, sX, sY, mg_fill sX mX 4, mg_fill sY mY 4, mg_fill (fun _ => 1) mC 4) → wY_drop_26 post (nI m) (nI k') (m - j + 1) (nI j) x y mem sX sY mX mY mC := by
      intro post h
      have q := mg_yd (j := j) (by omega) h (m - j) j (by omega) (by omega)
      rw [mg_sh0, mg_sh0] at q
      exact q
    refine key _ (br_f h0 (br_t h1 (nm_r (nI_pred m) ⟨m - j + 1, key2 _ ⟨rfl, ?_⟩⟩)))
    exact mg_rr (k + 4) ⟨by omega, b2, b3, mg_shP b4, mg_shP b5, b6, b7⟩
theorem i_vc_seed {k : Nat} {u : SX} {v : SY} (I : i_Rel k u v) (hk : k + 4 ≤ 2048) (v1 : Int32) (v2 : Int32) (v3 : Int32) : wpX_seed (fun r u' => wpY_seed (fun r' v' => r' = r ∧ i_Rel (k + 4) u' v') v v1 v2 v3) u v1 v2 v3 := by
  refine mg_el (P := fun u v => wpX_seed (fun r u' => wpY_seed (fun r' v' => r' = r ∧ i_Rel (k + 4) u' v') v v1 v2 v3) u v1 v2 v3) ?_ I
  intro n k' fu fl x y sX sY mX mY mC mv mem tX tY cn hB hM hH
  have R : i_Rel (k + 4) (nI n, nI k', fu, fl, x, y, sX, sY, mX, mY, mC, mv, mem, tX, tY, cn) (nI n, nI k', x, y, mem, sX, sY, mX, mY, mC) := mg_rl (k + 4) hB hM hH
  obtain ⟨b1, b2, b3, b4, b5, b6, b7⟩ := hB
  unfold wpX_seed wpY_seed
  rcases mg_ix v1 (n := 4) (by omega) with h | ⟨h0, h⟩ | ⟨j, hj, rfl⟩
  · exact br_t h (br_t h ⟨rfl, R⟩)
  · have h3 : (3 : Int32) < v1 := by
      have a : ¬ v1 < (4 : Int32) := h
      rw [Int32.lt_iff_toInt_lt] at a ⊢
      have e4 : (4 : Int32).toInt = 4 := by decide
      have e3 : (3 : Int32).toInt = 3 := by decide
      rw [e4] at a; rw [e3]; omega
    exact br_f h0 (br_t h3 (br_f h0 (br_t h3 ⟨rfl, R⟩)))
  · have h0 : ¬ nI j < 0 := nI_pos (by omega)
    have h3 : ¬ (3 : Int32) < nI j := nI_nlt (a := 3) (by omega) (by omega)
    refine br_f h0 (br_f h3 ?_)
    by_cases o1 : mg_ok v2
    · refine mg_i1 o1 (br_f (by decide) ?_)
      by_cases o2 : mg_ok v3
      · refine mg_i1 o2 (br_f (by decide) ?_)
        have vi : vp_in (nI j) 4 := vp_in_nI hj (by omega)
        have e : (nI j).toNatClampNeg = j := nI_clamp (by omega)
        refine ⟨vi, nm_r (e' := upd sX j v2) (by rw [e]) ⟨vi, nm_r (e' := upd sY j v3) (by rw [e]) (mg_xr ?_)⟩⟩
        refine br_f h0 (br_f h3 (mg_b0 o1 (br_t rfl (mg_b0 o2 (br_t rfl ⟨vi, nm_r (e' := upd sX j v2) (by rw [e]) ⟨vi, nm_r (e' := upd sY j v3) (by rw [e]) (mg_yr ?_)⟩⟩)))))
        exact ⟨rfl, mg_rr (k + 4) ⟨b1, b2, b3, b4, b5, mg_Pu b6 o1, mg_Pu b7 o2⟩⟩
      · exact mg_i0 o2 (br_t rfl (br_f h0 (br_f h3 (mg_b0 o1 (br_t rfl (mg_b1 o2 (br_f (by decide) ⟨rfl, R⟩)))))))
    · exact mg_i0 o1 (br_t rfl (br_f h0 (br_f h3 (mg_b1 o1 (br_f (by decide) ⟨rfl, R⟩)))))
theorem i_vc_groups {k : Nat} {u : SX} {v : SY} (I : i_Rel k u v) (hk : k + 4 ≤ 2048) (v1 : Int32) : wpX_groups (fun u' => wpY_groups (fun v' => i_Rel (k + 4) u' v') v v1) u v1 := by
  refine mg_el (P := fun u v => wpX_groups (fun u' => wpY_groups (fun v' => i_Rel (k + 4) u' v') v v1) u v1) ?_ I
  intro n k' fu fl x y sX sY mX mY mC mv mem tX tY cn hB hM hH
  obtain ⟨b1, b2, b3, b4, b5, b6, b7⟩ := hB
  unfold wpX_groups wpY_groups
  by_cases h1 : (1 : Int32) ≤ v1
  · by_cases h4 : v1 ≤ 4
    · obtain ⟨j, hj, rfl⟩ : ∃ j : Nat, j ≤ 4 ∧ v1 = nI j := by
        refine nI_of2 (M := 4) (by decide) ?_ h4
        rw [Int32.le_iff_toInt_le] at h1
        rw [Int32.lt_iff_toInt_lt]
        have e1 : (1 : Int32).toInt = 1 := by decide
        have e0 : (0 : Int32).toInt = 0 := by decide
        rw [e1] at h1; rw [e0]; omega
      have hj1 : 1 ≤ j := (nI_leI (a := 1) (by omega) (by omega)).mp h1
      refine br_t h1 (br_t h4 ?_)
      unfold wX_groups_20
      refine mg_xr (br_t h1 (br_t h4 ?_))
      unfold wY_groups_20
      exact mg_yr (mg_rr (k + 4) ⟨b1, hj1, hj, b4, b5, b6, b7⟩)
    · refine br_t h1 (br_f h4 ?_)
      unfold wX_groups_20
      refine mg_xr (f2 := nI 4) (br_t h1 (br_f h4 ?_))
      unfold wY_groups_20
      exact mg_yr (f2 := nI 4) (mg_rr (k + 4) ⟨b1, by omega, by omega, b4, b5, b6, b7⟩)
  · refine br_f h1 ?_
    unfold wX_groups_20
    refine mg_xr (f2 := nI 1) (br_f h1 ?_)
    unfold wY_groups_20
    exact mg_yr (f2 := nI 1) (mg_rr (k + 4) ⟨b1, by omega, by omega, b4, b5, b6, b7⟩)
end
section
/-! Part 07: size, sum, group, near -/
/-- how many of the first i are of group v -/
def mg_cz (mem : Nat → Int32) (v : Int32) : Nat → Nat
  | 0 => 0
  | i + 1 => if ¬ v < 0 ∧ mem i = v then mg_cz mem v i + 1 else mg_cz mem v i
/-- the sum of f over those of the first i that are of group v -/
def mg_sm (f mem : Nat → Int32) (v : Int32) : Nat → Int32
  | 0 => 0
  | i + 1 => if ¬ v < 0 ∧ mem i = v then mg_sm f mem v i + f i else mg_sm f mem v i
theorem mg_czP {mem : Nat → Int32} {v : Int32} {i : Nat} (h0 : ¬ v < 0) (h : mem i = v) : mg_cz mem v (i + 1) = mg_cz mem v i + 1 := if_pos ⟨h0, h⟩
theorem mg_czN {mem : Nat → Int32} {v : Int32} {i : Nat} (h : ¬ (¬ v < 0 ∧ mem i = v)) : mg_cz mem v (i + 1) = mg_cz mem v i := if_neg h
theorem mg_smP {f mem : Nat → Int32} {v : Int32} {i : Nat} (h0 : ¬ v < 0) (h : mem i = v) : mg_sm f mem v (i + 1) = mg_sm f mem v i + f i := if_pos ⟨h0, h⟩
theorem mg_smN {f mem : Nat → Int32} {v : Int32} {i : Nat} (h : ¬ (¬ v < 0 ∧ mem i = v)) : mg_sm f mem v (i + 1) = mg_sm f mem v i := if_neg h
theorem mg_czle (mem : Nat → Int32) (v : Int32) : ∀ i, mg_cz mem v i ≤ i := by
  intro i
  induction i with
  | zero => exact Nat.le_refl 0
  | succ i ih =>
    by_cases h : ¬ v < 0 ∧ mem i = v
    · rw [mg_czP h.1 h.2]; omega
    · rw [mg_czN h]; omega
theorem mg_smB {f mem : Nat → Int32} {v : Int32} (hf : mg_P f) : ∀ i, i ≤ 24 → (mg_sm f mem v i).toInt.natAbs ≤ 50 * i := by
  intro i
  induction i with
  | zero => intro _; show (0 : Int32).toInt.natAbs ≤ 0; decide
  | succ i ih =>
    intro hi
    have q := ih (by omega)
    by_cases h : ¬ v < 0 ∧ mem i = v
    · rw [mg_smP h.1 h.2]
      have r := mg_jva (mg_jvr q) (mg_jvr (hf i)) (by omega)
      rw [r.1]
      have := r.2
      omega
    · rw [mg_smN h]; omega
/-- what sum adds for a point -/
def mg_wh (x y : Nat → Int32) (w : Int32) : Nat → Int32 := if w = 0 then x else if w = 1 then y else if w = 2 then (fun i => x i * x i + y i * y i) else (fun _ => 0)
theorem mg_wh0 (x y : Nat → Int32) : mg_wh x y 0 = x := if_pos rfl
theorem mg_wh1 (x y : Nat → Int32) : mg_wh x y 1 = y := by
  unfold mg_wh; rw [if_neg (by decide), if_pos rfl]
theorem mg_whA {x y : Nat → Int32} {w : Int32} (h0 : w = 0) : mg_wh x y w = x := if_pos h0
theorem mg_whB {x y : Nat → Int32} {w : Int32} (h0 : ¬ w = 0) (h1 : w = 1) : mg_wh x y w = y := by
  unfold mg_wh; rw [if_neg h0, if_pos h1]
theorem mg_whC {x y : Nat → Int32} {w : Int32} (h0 : ¬ w = 0) (h1 : ¬ w = 1) (h2 : w = 2) : mg_wh x y w = fun i => x i * x i + y i * y i := by
  unfold mg_wh; rw [if_neg h0, if_neg h1, if_pos h2]
theorem mg_whD {x y : Nat → Int32} {w : Int32} (h0 : ¬ w = 0) (h1 : ¬ w = 1) (h2 : ¬ w = 2) : mg_wh x y w = fun _ => 0 := by
  unfold mg_wh; rw [if_neg h0, if_neg h1, if_neg h2]
section
variable {n k : Nat} {fu fl : Int64} {x y sX sY mX mY mC mv mem tX tY cn : Nat → Int32} {f2 : Int32}
theorem mg_xsz4 {post : Int32 → Prop} {v : Int32} (hn : n ≤ 24) (h : post (nI (mg_cz mem v n))) :
    ∀ d i : Nat, i + d = n → wX_size_4 post v (nI n) f2 fu fl x y sX sY mX mY mC mv mem tX tY cn (d + 1) (nI (mg_cz mem v i)) (nI i) := by
  intro d
  induction d with
  | zero =>
    intro i hid
    have e : i = n := by omega
    subst e
    exact br_t (nI_le (by omega) (by omega)) h
  | succ d ih =>
    intro i hid
    have q := ih (i + 1) (by omega)
    have e : mem (nI i).toNatClampNeg = mem i := congrArg mem (nI_clamp (by omega))
    refine br_f (nI_ge (by omega) (by omega)) (br_c (fun hv => ?_) (fun hv => ⟨vp_in_nI (by omega) (by omega), br_c (fun hm => ?_) (fun hm => ?_)⟩))
    · rw [mg_czN (fun z => z.1 hv)] at q
      exact nm_r (Int32.add_zero _) (nm_r (nI_1 i) q)
    · rw [e] at hm
      rw [mg_czP hv hm] at q
      exact nm_r (nI_1 _) (nm_r (nI_1 i) q)
    · rw [e] at hm
      rw [mg_czN (fun z => hm z.2)] at q
      exact nm_r (Int32.add_zero _) (nm_r (nI_1 i) q)
theorem mg_xsz {post : Int32 → Prop} {v : Int32} (hn : n ≤ 24) (h : post (nI (mg_cz mem v n))) : wpX_size post (nI n, f2, fu, fl, x, y, sX, sY, mX, mY, mC, mv, mem, tX, tY, cn) v := by
  unfold wpX_size
  exact ⟨n + 1, mg_xsz4 hn h n 0 (by omega)⟩
theorem mg_ysz4 {post : Int32 → Prop} {v : Int32} (hn : n ≤ 24) (h : post (nI (mg_cz mem v n))) :
    ∀ d i : Nat, i + d = n → wY_size_4 post v (nI n) f2 x y mem sX sY mX mY mC (d + 1) (nI (mg_cz mem v i)) (nI i) := by
  intro d
  induction d with
  | zero =>
    intro i hid
    have e : i = n := by omega
    subst e
    exact br_t (nI_le (by omega) (by omega)) h
  | succ d ih =>
    intro i hid
    have q := ih (i + 1) (by omega)
    have e : mem (nI i).toNatClampNeg = mem i := congrArg mem (nI_clamp (by omega))
    refine br_f (nI_ge (by omega) (by omega)) (br_c (fun hv => ?_) (fun hv => ⟨vp_in_nI (by omega) (by omega), br_c (fun hm => ?_) (fun hm => ?_)⟩))
    · rw [mg_czN (fun z => z.1 hv)] at q
      exact nm_r (nI_1 i) q
    · rw [e] at hm
      rw [mg_czP hv hm] at q
      exact nm_r (nI_1 _) (nm_r (nI_1 i) q)
    · rw [e] at hm
      rw [mg_czN (fun z => hm z.2)] at q
      exact nm_r (nI_1 i) q
theorem mg_ysz {post : Int32 → Prop} {v : Int32} (hn : n ≤ 24) (h : post (nI (mg_cz mem v n))) : wpY_size post (nI n, f2, x, y, mem, sX, sY, mX, mY, mC) v := by
  unfold wpY_size
  exact ⟨n + 1, mg_ysz4 hn h n 0 (by omega)⟩
theorem mg_xsm5 {post : Int32 → Prop} {v w : Int32} (hn : n ≤ 24) (h : post (mg_sm (mg_wh x y w) mem v n)) :
    ∀ d i : Nat, i + d = n → wX_sum_5 post v w (nI n) f2 fu fl x y sX sY mX mY mC mv mem tX tY cn (d + 1) (mg_sm (mg_wh x y w) mem v i) (nI i) := by
  intro d
  induction d with
  | zero =>
    intro i hid
    have e : i = n := by omega
    subst e
    exact br_t (nI_le (by omega) (by omega)) h
  | succ d ih =>
    intro i hid
    have q := ih (i + 1) (by omega)
    have ec : (nI i).toNatClampNeg = i := nI_clamp (by omega)
    have e : mem (nI i).toNatClampNeg = mem i := congrArg mem ec
    have vi : vp_in (nI i) 24 := vp_in_nI (by omega) (by omega)
    refine br_f (nI_ge (by omega) (by omega)) (br_c (fun hv => ?_) (fun hv => ⟨vi, br_c (fun hm => ?_) (fun hm => ?_)⟩))
    · rw [mg_smN (fun z => z.1 hv)] at q
      exact nm_r (nI_1 i) q
    · rw [e] at hm
      rw [mg_smP hv hm] at q
      refine br_c (fun h0 => ⟨vi, nm_r ?_ (nm_r (nI_1 i) q)⟩) (fun h0 => br_c (fun h1 => ⟨vi, nm_r ?_ (nm_r (nI_1 i) q)⟩) (fun h1 => br_c (fun h2 => ⟨vi, vi, vi, vi, nm_r ?_ (nm_r (nI_1 i) q)⟩) (fun h2 => nm_r ?_ (nm_r (nI_1 i) q))))
      · rw [ec]; rw [congrFun (mg_whA (x := x) (y := y) h0) i]
      · rw [ec]; rw [congrFun (mg_whB (x := x) (y := y) h0 h1) i]
      · rw [ec]; rw [congrFun (mg_whC (x := x) (y := y) h0 h1 h2) i]
      · rw [congrFun (mg_whD (x := x) (y := y) h0 h1 h2) i]
    · rw [e] at hm
      rw [mg_smN (fun z => hm z.2)] at q
      exact nm_r (nI_1 i) q
theorem mg_xsm {post : Int32 → Prop} {v w : Int32} (hn : n ≤ 24) (h : post (mg_sm (mg_wh x y w) mem v n)) : wpX_sum post (nI n, f2, fu, fl, x, y, sX, sY, mX, mY, mC, mv, mem, tX, tY, cn) v w := by
  unfold wpX_sum
  exact ⟨n + 1, mg_xsm5 hn h n 0 (by omega)⟩
theorem mg_ysm5 {post : Int32 → Prop} {v w : Int32} (hn : n ≤ 24) (h : post (mg_sm (mg_wh x y w) mem v n)) :
    ∀ d i : Nat, i + d = n → wY_sum_5 post v w (nI n) f2 x y mem sX sY mX mY mC (d + 1) (mg_sm (mg_wh x y w) mem v i) (nI i) := by
  intro d
  induction d with
  | zero =>
    intro i hid
    have e : i = n := by omega
    subst e
    exact br_t (nI_le (by omega) (by omega)) h
  | succ d ih =>
    intro i hid
    have q := ih (i + 1) (by omega)
    have ec : (nI i).toNatClampNeg = i := nI_clamp (by omega)
    have e : mem (nI i).toNatClampNeg = mem i := congrArg mem ec
    have vi : vp_in (nI i) 24 := vp_in_nI (by omega) (by omega)
    refine br_f (nI_ge (by omega) (by omega)) (br_c (fun hv => ?_) (fun hv => ⟨vi, br_c (fun hm => ?_) (fun hm => ?_)⟩))
    · rw [mg_smN (fun z => z.1 hv)] at q
      exact nm_r (nI_1 i) q
    · rw [e] at hm
      rw [mg_smP hv hm] at q
      refine br_c (fun h0 => ⟨vi, nm_r ?_ (nm_r (nI_1 i) q)⟩) (fun h0 => br_c (fun h1 => ⟨vi, nm_r ?_ (nm_r (nI_1 i) q)⟩) (fun h1 => br_c (fun h2 => ⟨vi, vi, vi, vi, nm_r ?_ (nm_r (nI_1 i) q)⟩) (fun h2 => nm_r ?_ (nm_r (nI_1 i) q))))
      · rw [ec]; rw [congrFun (mg_whA (x := x) (y := y) h0) i]
      · rw [ec]; rw [congrFun (mg_whB (x := x) (y := y) h0 h1) i]
      · rw [ec]; rw [congrFun (mg_whC (x := x) (y := y) h0 h1 h2) i]
      · rw [congrFun (mg_whD (x := x) (y := y) h0 h1 h2) i]
    · rw [e] at hm
      rw [mg_smN (fun z => hm z.2)] at q
      exact nm_r (nI_1 i) q
theorem mg_ysm {post : Int32 → Prop} {v w : Int32} (hn : n ≤ 24) (h : post (mg_sm (mg_wh x y w) mem v n)) : wpY_sum post (nI n, f2, x, y, mem, sX, sY, mX, mY, mC) v w := by
  unfold wpY_sum
  exact ⟨n + 1, mg_ysm5 hn h n 0 (by omega)⟩
end
theorem i_vc_size {k : Nat} {u : SX} {v : SY} (I : i_Rel k u v) (hk : k + 4 ≤ 2048) (v1 : Int32) : wpX_size (fun r => wpY_size (fun r' => r' = r ∧ i_Rel (k + 4) u v) v v1) u v1 := by
  refine mg_el (P := fun u v => wpX_size (fun r => wpY_size (fun r' => r' = r ∧ i_Rel (k + 4) u v) v v1) u v1) ?_ I
  intro n k' fu fl x y sX sY mX mY mC mv mem tX tY cn hB hM hH
  exact mg_xsz hB.1 (mg_ysz hB.1 ⟨rfl, mg_rl (k + 4) hB hM hH⟩)
theorem i_vc_sum {k : Nat} {u : SX} {v : SY} (I : i_Rel k u v) (hk : k + 4 ≤ 2048) (v1 : Int32) (v2 : Int32) : wpX_sum (fun r => wpY_sum (fun r' => r' = r ∧ i_Rel (k + 4) u v) v v1 v2) u v1 v2 := by
  refine mg_el (P := fun u v => wpX_sum (fun r => wpY_sum (fun r' => r' = r ∧ i_Rel (k + 4) u v) v v1 v2) u v1 v2) ?_ I
  intro n k' fu fl x y sX sY mX mY mC mv mem tX tY cn hB hM hH
  exact mg_xsm hB.1 (mg_ysm hB.1 ⟨rfl, mg_rl (k + 4) hB hM hH⟩)
theorem i_vc_group {k : Nat} {u : SX} {v : SY} (I : i_Rel k u v) (hk : k + 4 ≤ 2048) (v1 : Int32) : wpX_group (fun r => wpY_group (fun r' => r' = r ∧ i_Rel (k + 4) u v) v v1) u v1 := by
  refine mg_el (P := fun u v => wpX_group (fun r => wpY_group (fun r' => r' = r ∧ i_Rel (k + 4) u v) v v1) u v1) ?_ I
  intro n k' fu fl x y sX sY mX mY mC mv mem tX tY cn hB hM hH
  have R : i_Rel (k + 4) (nI n, nI k', fu, fl, x, y, sX, sY, mX, mY, mC, mv, mem, tX, tY, cn) (nI n, nI k', x, y, mem, sX, sY, mX, mY, mC) := mg_rl (k + 4) hB hM hH
  have hn := hB.1
  unfold wpX_group wpY_group
  rcases mg_ix v1 (n := n) (by omega) with h | ⟨h0, h⟩ | ⟨j, hj, rfl⟩
  · exact br_t h (br_t h ⟨rfl, R⟩)
  · exact br_f h0 (br_f h (br_f h0 (br_f h ⟨rfl, R⟩)))
  · have h0 : ¬ nI j < 0 := nI_pos (by omega)
    have h1 : nI j < nI n := nI_lt hj (by omega)
    have vi : vp_in (nI j) 24 := vp_in_nI (by omega) (by omega)
    exact br_f h0 (br_t h1 ⟨vi, br_f h0 (br_t h1 ⟨vi, rfl, R⟩)⟩)
theorem i_vc_near {k : Nat} {u : SX} {v : SY} (I : i_Rel k u v) (hk : k + 4 ≤ 2048) (v1 : Int32) : wpX_near (fun r u' => wpY_near (fun r' => r' = r ∧ i_Rel (k + 4) u' v) v v1) u v1 := by
  refine mg_el (P := fun u v => wpX_near (fun r u' => wpY_near (fun r' => r' = r ∧ i_Rel (k + 4) u' v) v v1) u v1) ?_ I
  intro n k' fu fl x y sX sY mX mY mC mv mem tX tY cn hB hM hH
  have R : ∀ fu fl : Int64, i_Rel (k + 4) (nI n, nI k', fu, fl, x, y, sX, sY, mX, mY, mC, mv, mem, tX, tY, cn) (nI n, nI k', x, y, mem, sX, sY, mX, mY, mC) := fun fu fl => mg_rl (k + 4) hB hM hH
  obtain ⟨b1, b2, b3, b4, b5, b6, b7⟩ := hB
  unfold wpX_near wpY_near
  rcases mg_ix v1 (n := k') (by omega) with h | ⟨h0, h⟩ | ⟨j, hj, rfl⟩
  · exact br_t h (br_t h ⟨rfl, R _ _⟩)
  · exact br_f h0 (br_f h (br_f h0 (br_f h ⟨rfl, R _ _⟩)))
  · have h0 : ¬ nI j < 0 := nI_pos (by omega)
    have h1 : nI j < nI k' := nI_lt hj (by omega)
    obtain ⟨r, hX, hY⟩ := mg_near (v := j) (sX := sX) (sY := sY) (mv := mv) (mem := mem) (tX := tX) (tY := tY) (cn := cn) b1 hj b4 b5 hM b3 n 0 0 (by omega)
    exact br_f h0 (br_t h1 ⟨n + 1, hX _ _ _ fun fu' fl' => br_f h0 (br_t h1 ⟨n + 1, hY _ ⟨rfl, R _ _⟩⟩)⟩)
end
section
/-! Part 08: the middles move -/
/-- the new value where the group has members, else the old one -/
def mg_nw (a b : Nat → Int32) (c : Nat → Nat) : Nat → Int32 := fun j => if 0 < c j then a j else b j
theorem mg_nwP {a b : Nat → Int32} {c : Nat → Nat} {j : Nat} (h : 0 < c j) : mg_nw a b c j = a j := if_pos h
theorem mg_nwN {a b : Nat → Int32} {c : Nat → Nat} {j : Nat} (h : c j = 0) : mg_nw a b c j = b j := if_neg (by omega)
/-- the middle is the same point under both names -/
def mg_S (aX aY aC mX mY mC : Nat → Int32) (j : Nat) : Prop := (aX j).toInt * (mC j).toInt = (mX j).toInt * (aC j).toInt ∧ (aY j).toInt * (mC j).toInt = (mY j).toInt * (aC j).toInt
theorem mg_us {f : Nat → Int32} {i : Nat} {v : Int32} : upd f i v i = v := if_pos rfl
theorem mg_un {f : Nat → Int32} {i j : Nat} {v : Int32} (h : ¬ j = i) : upd f i v j = f j := if_neg h
theorem mg_e32 {a b c d : Int32} (ha : a.toInt.natAbs ≤ 1200) (hb : b.toInt.natAbs ≤ 24) (hc : c.toInt.natAbs ≤ 1200) (hd : d.toInt.natAbs ≤ 24) (h : a * b = c * d) : a.toInt * b.toInt = c.toInt * d.toInt :=
  (mg_jveq (mg_jvm (mg_jvr ha) (mg_jvr hb) (by decide)) (mg_jvm (mg_jvr hc) (mg_jvr hd) (by decide))).mp h
section
variable {n k : Nat} {fu fl : Int64} {x y sX sY mX mY mC mv mem tX tY cn : Nat → Int32} {f1 f2 : Int32}
theorem mg_157 {post : SX → Prop} {J : Int32 → (Nat → Int32) → (Nat → Int32) → (Nat → Int32) → (Nat → Int32) → (Nat → Int32) → (Nat → Int32) → (Nat → Int32) → (Nat → Int32) → (Nat → Int32) → (Nat → Int32) → (Nat → Int32) → (Nat → Int32) → Prop} {i : Nat} {z0 : Int32} (hi : i < 4)
    (hz : z0 = 0 ∨ (z0 = 1 ∧ tX i * mC i = mX i * cn i))
    (hJ : ∀ w : Int32, (w = 0 → tX i * mC i = mX i * cn i ∧ tY i * mC i = mY i * cn i) → J (nI (i + 1)) x y sX sY (upd mX i (tX i)) (upd mY i (tY i)) (upd mC i (cn i)) (upd mv i w) mem tX tY cn) :
    wX_moveMiddles_157 post J (nI i) z0 f1 f2 fu fl x y sX sY mX mY mC mv mem tX tY cn := by
  have vi : vp_in (nI i) 4 := vp_in_nI hi (by omega)
  have e : (nI i).toNatClampNeg = i := nI_clamp (by omega)
  have h211 : ∀ w : Int32, (vp_nar .boolean w = 0 → tX i * mC i = mX i * cn i ∧ tY i * mC i = mY i * cn i) → wX_moveMiddles_211 post J (nI i) w (nI i) f1 f2 fu fl x y sX sY mX mY mC mv mem tX tY cn := by
    intro w hw
    unfold wX_moveMiddles_211
    rw [e]
    exact ⟨vi, nm_e ⟨vi, vi, nm_e ⟨vi, vi, nm_e ⟨vi, vi, nm_e (nm_r (nI_1 i) (hJ _ hw))⟩⟩⟩⟩
  have h206 : wX_moveMiddles_206 post J (nI i) (nI i) f1 f2 fu fl x y sX sY mX mY mC mv mem tX tY cn := by
    unfold wX_moveMiddles_206
    exact h211 1 (fun q => absurd q (by rw [mg_nb1]; decide))
  unfold wX_moveMiddles_157
  rw [e]
  refine ⟨vi, vi, vi, vi, br_c (fun hy => ?_) (fun hy => ?_)⟩
  · unfold wX_moveMiddles_192
    rcases hz with rfl | ⟨rfl, hz⟩
    · exact br_t rfl h206
    · exact br_f (by decide) (br_f (by decide) (h211 0 (fun _ => ⟨hz, hy⟩)))
  · unfold wX_moveMiddles_192
    exact br_c (fun _ => h206) (fun _ => br_t rfl h206)
theorem mg_99 {post : SX → Prop} {a1 a2 : Nat → Int32} {c : Nat → Nat} (hk : k ≤ 4) (hM : mg_M mX mY mC)
    (ht : ∀ j, j < 4 → tX j = a1 j ∧ tY j = a2 j ∧ cn j = nI (c j) ∧ c j ≤ 24 ∧ (a1 j).toInt.natAbs ≤ 1200 ∧ (a2 j).toInt.natAbs ≤ 1200)
    (h : ∀ mv' : Nat → Int32, (∀ j, j < k → mv' j = 0 → mg_S (mg_nw a1 mX c) (mg_nw a2 mY c) (mg_nw (fun j => nI (c j)) mC c) mX mY mC j) → post (f1, nI k, fu, fl, x, y, sX, sY, mg_fill (mg_nw a1 mX c) mX k, mg_fill (mg_nw a2 mY c) mY k, mg_fill (mg_nw (fun j => nI (c j)) mC c) mC k, mv', mem, tX, tY, cn)) :
    ∀ (d i : Nat) (mv : Nat → Int32), i + d = k → (∀ j, j < i → mv j = 0 → mg_S (mg_nw a1 mX c) (mg_nw a2 mY c) (mg_nw (fun j => nI (c j)) mC c) mX mY mC j) →
      wX_moveMiddles_99 post f1 (nI k) fu fl (d + 1) (nI i) x y sX sY (mg_fill (mg_nw a1 mX c) mX i) (mg_fill (mg_nw a2 mY c) mY i) (mg_fill (mg_nw (fun j => nI (c j)) mC c) mC i) mv mem tX tY cn := by
  intro d
  induction d with
  | zero =>
    intro i mv hid hall
    have e : i = k := by omega
    subst e
    exact br_t (nI_le (by omega) (by omega)) (h mv hall)
  | succ d ih =>
    intro i mv hid hall
    have hi : i < 4 := by omega
    obtain ⟨t1, t2, t3, t4, t5, t6⟩ := ht i hi
    obtain ⟨m1, m2, m3, m4⟩ := hM i hi
    have vi : vp_in (nI i) 4 := vp_in_nI hi (by omega)
    have e : (nI i).toNatClampNeg = i := nI_clamp (by omega)
    refine br_f (nI_ge (by omega) (by omega)) ⟨vi, nm_r (e' := upd mv i 0) (by rw [e, mg_nb0]) ⟨vi, ?_⟩⟩
    have step : ∀ mv' : Nat → Int32, (∀ j, ¬ j = i → mv' j = mv j) → (mv' i = 0 → mg_S (mg_nw a1 mX c) (mg_nw a2 mY c) (mg_nw (fun j => nI (c j)) mC c) mX mY mC i) →
        ∀ j, j < i + 1 → mv' j = 0 → mg_S (mg_nw a1 mX c) (mg_nw a2 mY c) (mg_nw (fun j => nI (c j)) mC c) mX mY mC j := by
      intro mv' h1 h2 j hj hz
      by_cases ej : j = i
      · subst ej; exact h2 hz
      · rw [h1 j ej] at hz; exact hall j (by omega) hz
    by_cases hc : c i = 0
    · have q := ih (i + 1) (upd mv i 0) (by omega) (step _ (fun j hj => mg_un hj) (fun _ => by unfold mg_S; rw [mg_nwN hc, mg_nwN hc, mg_nwN hc]; exact ⟨rfl, rfl⟩))
      rw [← mg_fillK (a := mg_nw a1 mX c) (b := mX) (i := i) (mg_nwN hc), ← mg_fillK (a := mg_nw a2 mY c) (b := mY) (i := i) (mg_nwN hc), ← mg_fillK (a := mg_nw (fun j => nI (c j)) mC c) (b := mC) (i := i) (mg_nwN hc)] at q
      exact br_t (by rw [e, t3, hc]; decide) (nm_r (nI_1 i) q)
    · have hJ : ∀ w : Int32, (w = 0 → tX i * mg_fill (mg_nw (fun j => nI (c j)) mC c) mC i i = mg_fill (mg_nw a1 mX c) mX i i * cn i ∧ tY i * mg_fill (mg_nw (fun j => nI (c j)) mC c) mC i i = mg_fill (mg_nw a2 mY c) mY i i * cn i) →
          wX_moveMiddles_99 post f1 (nI k) fu fl (d + 1) (nI (i + 1)) x y sX sY (upd (mg_fill (mg_nw a1 mX c) mX i) i (tX i)) (upd (mg_fill (mg_nw a2 mY c) mY i) i (tY i)) (upd (mg_fill (mg_nw (fun j => nI (c j)) mC c) mC i) i (cn i)) (upd (upd mv i 0) i w) mem tX tY cn := by
        intro w hw
        have n1 : mg_nw a1 mX c i = tX i := (mg_nwP (by omega)).trans t1.symm
        have n2 : mg_nw a2 mY c i = tY i := (mg_nwP (by omega)).trans t2.symm
        have n3 : mg_nw (fun j => nI (c j)) mC c i = cn i := (mg_nwP (by omega)).trans t3.symm
        rw [mg_fillS (a := mg_nw a1 mX c) n1.symm, mg_fillS (a := mg_nw a2 mY c) n2.symm, mg_fillS (a := mg_nw (fun j => nI (c j)) mC c) n3.symm]
        refine ih (i + 1) _ (by omega) (step _ (fun j hj => (mg_un hj).trans (mg_un hj)) (fun hz => ?_))
        rw [mg_us] at hz
        obtain ⟨w1, w2⟩ := hw hz
        rw [mg_fillI, mg_fillI] at w1 w2
        unfold mg_S
        rw [n1, n2, n3]
        have cb : (cn i).toInt.natAbs ≤ 24 := by rw [t3, nI_toInt (n := c i) (by omega)]; omega
        exact ⟨mg_e32 (by rw [t1]; exact t5) (by omega) m3 cb w1, mg_e32 (by rw [t2]; exact t6) (by omega) m4 cb w2⟩
      refine br_f (by rw [e, t3]; exact nI_nle (by omega) (by omega)) ⟨vi, vi, vi, vi, br_c (fun hx => ?_) (fun _ => ?_)⟩
      · rw [e] at hx
        exact mg_157 hi (Or.inr ⟨rfl, hx⟩) hJ
      · exact mg_157 hi (Or.inl rfl) hJ
theorem mg_36 {post : SX → Prop} (hn : n ≤ 24) (hmem : ∀ p, p < n → ∃ g, g < 4 ∧ mem p = nI g)
    (h : ∀ tX tY cn : Nat → Int32, (∀ j, j < 4 → tX j = mg_sm x mem (nI j) n ∧ tY j = mg_sm y mem (nI j) n ∧ cn j = nI (mg_cz mem (nI j) n)) → ∃ m, wX_moveMiddles_99 post (nI n) f2 fu fl m 0 x y sX sY mX mY mC mv mem tX tY cn) :
    ∀ (d i : Nat) (tX tY cn : Nat → Int32), i + d = n → (∀ j, j < 4 → tX j = mg_sm x mem (nI j) i ∧ tY j = mg_sm y mem (nI j) i ∧ cn j = nI (mg_cz mem (nI j) i)) →
      wX_moveMiddles_36 post (nI n) f2 fu fl (d + 1) (nI i) x y sX sY mX mY mC mv mem tX tY cn := by
  intro d
  induction d with
  | zero =>
    intro i tX tY cn hid hall
    have e : i = n := by omega
    subst e
    exact br_t (nI_le (by omega) (by omega)) (h tX tY cn hall)
  | succ d ih =>
    intro i tX tY cn hid hall
    obtain ⟨g, hg, hm⟩ := hmem i (by omega)
    have vi : vp_in (nI i) 24 := vp_in_nI (by omega) (by omega)
    have vg : vp_in (nI g) 4 := vp_in_nI hg (by omega)
    have e : (nI i).toNatClampNeg = i := nI_clamp (by omega)
    have eg : (nI g).toNatClampNeg = g := nI_clamp (by omega)
    refine br_f (nI_ge (by omega) (by omega)) ⟨vi, nm_r (e' := nI g) (by rw [e]; exact hm) ⟨vg, vi, vg, nm_r (e' := upd tX g (tX g + x i)) (by rw [e, eg]) ⟨vg, vi, vg, nm_r (e' := upd tY g (tY g + y i)) (by rw [e, eg]) ⟨vg, vg, nm_r (e' := upd cn g (cn g + 1)) (by rw [eg]) (nm_r (nI_1 i) (ih (i + 1) _ _ _ (by omega) ?_))⟩⟩⟩⟩
    intro j hj
    obtain ⟨a1, a2, a3⟩ := hall j hj
    by_cases ej : j = g
    · subst ej
      have h0 : ¬ nI j < 0 := nI_pos (by omega)
      rw [mg_us, mg_us, mg_us, mg_smP h0 hm, mg_smP h0 hm, mg_czP h0 hm, a1, a2, a3, nI_1]
      exact ⟨rfl, rfl, rfl⟩
    · have hne : ¬ (¬ nI j < 0 ∧ mem i = nI j) := fun z => ej ((nI_eq (by omega) (by omega)).mp (z.2.symm.trans hm))
      rw [mg_un ej, mg_un ej, mg_un ej, mg_smN hne, mg_smN hne, mg_czN hne]
      exact ⟨a1, a2, a3⟩
theorem mg_2 {post : SX → Prop}
    (h : ∀ tX tY cn : Nat → Int32, (∀ j, j < 4 → tX j = 0 ∧ tY j = 0 ∧ cn j = 0) → ∃ m, wX_moveMiddles_36 post f1 f2 fu fl m 0 x y sX sY mX mY mC mv mem tX tY cn) :
    ∀ (d i : Nat) (tX tY cn : Nat → Int32), i + d = 4 → (∀ j, j < i → tX j = 0 ∧ tY j = 0 ∧ cn j = 0) → wX_moveMiddles_2 post f1 f2 fu fl (d + 1) (nI i) x y sX sY mX mY mC mv mem tX tY cn := by
  intro d
  induction d with
  | zero =>
    intro i tX tY cn hid hall
    have e : i = 4 := by omega
    subst e
    exact br_t (nI_le (a := 4) (b := 4) (by omega) (by omega)) (h tX tY cn hall)
  | succ d ih =>
    intro i tX tY cn hid hall
    have vi : vp_in (nI i) 4 := vp_in_nI (by omega) (by omega)
    have e : (nI i).toNatClampNeg = i := nI_clamp (by omega)
    refine br_f (nI_ge (b := 4) (by omega) (by omega)) ⟨vi, nm_r (e' := upd tX i 0) (by rw [e]) ⟨vi, nm_r (e' := upd tY i 0) (by rw [e]) ⟨vi, nm_r (e' := upd cn i 0) (by rw [e]) (nm_r (nI_1 i) (ih (i + 1) _ _ _ (by omega) ?_))⟩⟩⟩
    intro j hj
    by_cases ej : j = i
    · subst ej; rw [mg_us, mg_us, mg_us]; exact ⟨rfl, rfl, rfl⟩
    · rw [mg_un ej, mg_un ej, mg_un ej]; exact hall j (by omega)
end
/-- the new middles' sums and counts -/
def mg_aX (n : Nat) (x mem mX : Nat → Int32) : Nat → Int32 := mg_nw (fun j => mg_sm x mem (nI j) n) mX (fun j => mg_cz mem (nI j) n)
def mg_aC (n : Nat) (mem mC : Nat → Int32) : Nat → Int32 := mg_nw (fun j => nI (mg_cz mem (nI j) n)) mC (fun j => mg_cz mem (nI j) n)
section
variable {n k : Nat} {fu fl : Int64} {x y sX sY mX mY mC mv mem tX tY cn : Nat → Int32} {f1 f2 : Int32}
/-- X's moveMiddles -/
theorem mg_mid {post : SX → Prop} (hn : n ≤ 24) (hk : k ≤ 4) (hx : mg_P x) (hy : mg_P y) (hM : mg_M mX mY mC) (hmem : ∀ p, p < n → ∃ g, g < 4 ∧ mem p = nI g)
    (h : ∀ mv' tX' tY' cn' : Nat → Int32, (∀ j, j < k → mv' j = 0 → mg_S (mg_aX n x mem mX) (mg_aX n y mem mY) (mg_aC n mem mC) mX mY mC j) → post (nI n, nI k, fu, fl, x, y, sX, sY, mg_fill (mg_aX n x mem mX) mX k, mg_fill (mg_aX n y mem mY) mY k, mg_fill (mg_aC n mem mC) mC k, mv', mem, tX', tY', cn')) :
    wpX_moveMiddles post (nI n, nI k, fu, fl, x, y, sX, sY, mX, mY, mC, mv, mem, tX, tY, cn) := by
  unfold wpX_moveMiddles
  refine ⟨5, mg_2 (fun tX1 tY1 cn1 h1 => ⟨n + 1, mg_36 hn hmem (fun tX2 tY2 cn2 h2 => ⟨k + 1, ?_⟩) n 0 tX1 tY1 cn1 (by omega) (fun j hj => h1 j hj)⟩) 4 0 tX tY cn (by omega) lt_0⟩
  have q := mg_99 (post := post) (f1 := nI n) (fu := fu) (fl := fl) (x := x) (y := y) (sX := sX) (sY := sY) (mem := mem) (a1 := fun j => mg_sm x mem (nI j) n) (a2 := fun j => mg_sm y mem (nI j) n) (c := fun j => mg_cz mem (nI j) n) hk hM
    (fun j hj => ⟨(h2 j hj).1, (h2 j hj).2.1, (h2 j hj).2.2, Nat.le_trans (mg_czle mem (nI j) n) hn, Nat.le_trans (mg_smB hx n hn) (by omega), Nat.le_trans (mg_smB hy n hn) (by omega)⟩)
    (fun mv' hmv => h mv' tX2 tY2 cn2 hmv) k 0 mv (by omega) lt_0
  rw [mg_fill0, mg_fill0, mg_fill0] at q
  exact q
/-- Y's middles -/
theorem mg_ymid {post : Int32 → SY → Prop} {c : Int32} (hn : n ≤ 24) (hk : k ≤ 4)
    (h : post c (nI n, nI k, x, y, mem, sX, sY, mg_fill (mg_aX n x mem mX) mX k, mg_fill (mg_aX n y mem mY) mY k, mg_fill (mg_aC n mem mC) mC k)) :
    ∀ d i : Nat, i + d = k → wY_round_46 post c (nI n) (nI k) (d + 1) (nI i) x y mem sX sY (mg_fill (mg_aX n x mem mX) mX i) (mg_fill (mg_aX n y mem mY) mY i) (mg_fill (mg_aC n mem mC) mC i) := by
  intro d
  induction d with
  | zero =>
    intro i hid
    have e : i = k := by omega
    subst e
    exact br_t (nI_le (by omega) (by omega)) h
  | succ d ih =>
    intro i hid
    have vi : vp_in (nI i) 4 := vp_in_nI (by omega) (by omega)
    have q := ih (i + 1) (by omega)
    refine br_f (nI_ge (by omega) (by omega)) (mg_ysz hn ?_)
    by_cases hc : mg_cz mem (nI i) n = 0
    · rw [← mg_fillK (a := mg_aX n x mem mX) (b := mX) (i := i) (mg_nwN hc), ← mg_fillK (a := mg_aX n y mem mY) (b := mY) (i := i) (mg_nwN hc), ← mg_fillK (a := mg_aC n mem mC) (b := mC) (i := i) (mg_nwN hc)] at q
      exact br_t (by rw [hc]; decide) (nm_r (nI_1 i) q)
    · have hz := mg_czle mem (nI i) n
      have n1 : mg_sm x mem (nI i) n = mg_aX n x mem mX i := (mg_nwP (a := fun j => mg_sm x mem (nI j) n) (c := fun j => mg_cz mem (nI j) n) (show 0 < mg_cz mem (nI i) n by omega)).symm
      have n2 : mg_sm y mem (nI i) n = mg_aX n y mem mY i := (mg_nwP (a := fun j => mg_sm y mem (nI j) n) (c := fun j => mg_cz mem (nI j) n) (show 0 < mg_cz mem (nI i) n by omega)).symm
      have n3 : nI (mg_cz mem (nI i) n) = mg_aC n mem mC i := (mg_nwP (a := fun j => nI (mg_cz mem (nI j) n)) (c := fun j => mg_cz mem (nI j) n) (show 0 < mg_cz mem (nI i) n by omega)).symm
      exact br_f (nI_nle (by omega) (by omega)) (mg_ysz hn (mg_ysm hn ⟨vi, nm_r (mg_up (by omega) (by rw [mg_wh0]) n1) (mg_ysm hn ⟨vi, nm_r (mg_up (by omega) (by rw [mg_wh1]) n2) ⟨vi, nm_r (mg_up (by omega) rfl n3) (nm_r (nI_1 i) q)⟩⟩)⟩))
end
end
section
/-! Part 09: a round -/
/-- every point's nearest group -/
def mg_Bm (k : Nat) (x y mX mY mC : Nat → Int32) : Nat → Int32 := fun p => nI (mg_am (mg_q x y mX mY mC p) k)
/-- how many of the first i differ -/
def mg_rc (a b : Nat → Int32) : Nat → Nat
  | 0 => 0
  | i + 1 => if a i = b i then mg_rc a b i else mg_rc a b i + 1
theorem mg_rcE {a b : Nat → Int32} {i : Nat} (h : a i = b i) : mg_rc a b (i + 1) = mg_rc a b i := if_pos h
theorem mg_rcN {a b : Nat → Int32} {i : Nat} (h : ¬ a i = b i) : mg_rc a b (i + 1) = mg_rc a b i + 1 := if_neg h
theorem mg_rcle (a b : Nat → Int32) : ∀ i, mg_rc a b i ≤ i := by
  intro i
  induction i with
  | zero => exact Nat.le_refl 0
  | succ i ih =>
    by_cases h : a i = b i
    · rw [mg_rcE h]; omega
    · rw [mg_rcN h]; omega
section
variable {n k : Nat} {fu fl : Int64} {x y sX sY mX mY mC mv mem tX tY cn : Nat → Int32}
theorem mg_x4 {post : Int32 → SX → Prop} (hB : mg_Base n k x y sX sY) (hM : mg_M mX mY mC) (hH : mg_H n k x y mX mY mC mv mem)
    (h : ∀ (fu fl : Int64) (mv' tX' tY' cn' : Nat → Int32), (∀ j, j < k → mv' j = 0 → mg_S (mg_aX n x (mg_fill (mg_Bm k x y mX mY mC) mem n) mX) (mg_aX n y (mg_fill (mg_Bm k x y mX mY mC) mem n) mY) (mg_aC n (mg_fill (mg_Bm k x y mX mY mC) mem n) mC) mX mY mC j) →
      post (nI (mg_rc (mg_Bm k x y mX mY mC) mem n)) (nI n, nI k, fu, fl, x, y, sX, sY, mg_fill (mg_aX n x (mg_fill (mg_Bm k x y mX mY mC) mem n) mX) mX k, mg_fill (mg_aX n y (mg_fill (mg_Bm k x y mX mY mC) mem n) mY) mY k, mg_fill (mg_aC n (mg_fill (mg_Bm k x y mX mY mC) mem n) mC) mC k, mv', mg_fill (mg_Bm k x y mX mY mC) mem n, tX', tY', cn')) :
    ∀ (d i : Nat) (fu fl : Int64), i + d = n → wX_round_4 post (d + 1) (nI (mg_rc (mg_Bm k x y mX mY mC) mem i)) (nI i) (nI n) (nI k) fu fl x y sX sY mX mY mC mv (mg_fill (mg_Bm k x y mX mY mC) mem i) tX tY cn := by
  obtain ⟨b1, b2, b3, b4, b5, b6, b7⟩ := hB
  intro d
  induction d with
  | zero =>
    intro i fu fl hid
    have e : i = n := by omega
    subst e
    refine br_t (nI_le (by omega) (by omega)) (mg_mid b1 b3 b4 b5 hM (fun p hp => ?_) (fun mv' tX' tY' cn' hc => h _ _ mv' tX' tY' cn' hc))
    have hN : mg_N (mg_q x y mX mY mC p) k (mg_am (mg_q x y mX mY mC p) k) := mg_amK b2
    exact ⟨mg_am (mg_q x y mX mY mC p) k, by have := hN.1; omega, mg_fillL hp⟩
  | succ d ih =>
    intro i fu fl hid
    have vi : vp_in (nI i) 24 := vp_in_nI (by omega) (by omega)
    have e : (nI i).toNatClampNeg = i := nI_clamp (by omega)
    have hN : mg_N (mg_q x y mX mY mC i) k (mg_am (mg_q x y mX mY mC i) k) := mg_amK b2
    refine br_f (nI_ge (by omega) (by omega)) (mg_ng (by omega) b4 b5 hM b2 b3 (by rw [mg_fillI]; exact hH i (by omega)) (fun b hb fu' fl' => ?_))
    have eb : b = mg_am (mg_q x y mX mY mC i) k := mg_Nu hb hN
    have q := ih (i + 1) fu' fl' (by omega)
    have hw : nI b = mg_Bm k x y mX mY mC i := congrArg nI eb
    refine ⟨vi, br_c (fun heq => ?_) (fun hne => ?_)⟩
    · rw [e, mg_fillI] at heq
      rw [mg_rcE (hw.symm.trans heq)] at q
      unfold wX_round_34
      exact nm_r (Int32.add_zero _) ⟨vi, nm_r (mg_up (by omega) rfl hw) (nm_r (nI_1 i) q)⟩
    · rw [e, mg_fillI] at hne
      rw [mg_rcN (fun z => hne (hw.trans z))] at q
      unfold wX_round_34
      exact nm_r (nI_1 _) ⟨vi, nm_r (mg_up (by omega) rfl hw) (nm_r (nI_1 i) q)⟩
theorem mg_y4 {post : Int32 → SY → Prop} (hB : mg_Base n k x y sX sY) (hM : mg_M mX mY mC)
    (h : post (nI (mg_rc (mg_Bm k x y mX mY mC) mem n)) (nI n, nI k, x, y, mg_fill (mg_Bm k x y mX mY mC) mem n, sX, sY, mg_fill (mg_aX n x (mg_fill (mg_Bm k x y mX mY mC) mem n) mX) mX k, mg_fill (mg_aX n y (mg_fill (mg_Bm k x y mX mY mC) mem n) mY) mY k, mg_fill (mg_aC n (mg_fill (mg_Bm k x y mX mY mC) mem n) mC) mC k)) :
    ∀ d i : Nat, i + d = n → wY_round_4 post (nI n) (nI k) (d + 1) (nI (mg_rc (mg_Bm k x y mX mY mC) mem i)) (nI i) x y (mg_fill (mg_Bm k x y mX mY mC) mem i) sX sY mX mY mC := by
  obtain ⟨b1, b2, b3, b4, b5, b6, b7⟩ := hB
  intro d
  induction d with
  | zero =>
    intro i hid
    have e : i = n := by omega
    subst e
    have q := mg_ymid b1 b3 h k 0 (by omega)
    rw [mg_fill0, mg_fill0, mg_fill0] at q
    exact br_t (nI_le (by omega) (by omega)) ⟨k + 1, q⟩
  | succ d ih =>
    intro i hid
    have vi : vp_in (nI i) 24 := vp_in_nI (by omega) (by omega)
    have e : (nI i).toNatClampNeg = i := nI_clamp (by omega)
    have hN : mg_N (mg_q x y mX mY mC i) k (mg_am (mg_q x y mX mY mC i) k) := mg_amK b2
    refine br_f (nI_ge (by omega) (by omega)) (mg_yn (by omega) b4 b5 hM b2 b3 (fun b hb => ?_))
    have eb : b = mg_am (mg_q x y mX mY mC i) k := mg_Nu hb hN
    have q := ih (i + 1) (by omega)
    have hw : nI b = mg_Bm k x y mX mY mC i := congrArg nI eb
    refine ⟨vi, br_c (fun heq => ?_) (fun hne => ?_)⟩
    · rw [e, mg_fillI] at heq
      rw [mg_rcE (hw.symm.trans heq)] at q
      exact ⟨vi, nm_r (mg_up (by omega) rfl hw) (nm_r (nI_1 i) q)⟩
    · rw [e, mg_fillI] at hne
      rw [mg_rcN (fun z => hne (hw.trans z))] at q
      exact nm_r (nI_1 _) ⟨vi, nm_r (mg_up (by omega) rfl hw) (nm_r (nI_1 i) q)⟩
/-- the new middles are within their bounds -/
theorem mg_M' (hn : n ≤ 24) (hx : mg_P x) (hy : mg_P y) (hM : mg_M mX mY mC) : mg_M (mg_fill (mg_aX n x mem mX) mX k) (mg_fill (mg_aX n y mem mY) mY k) (mg_fill (mg_aC n mem mC) mC k) := by
  intro g hg
  by_cases hk : g < k
  · rw [mg_fillL hk, mg_fillL hk, mg_fillL hk]
    by_cases hc : mg_cz mem (nI g) n = 0
    · have e1 : mg_aX n x mem mX g = mX g := mg_nwN hc
      have e2 : mg_aX n y mem mY g = mY g := mg_nwN hc
      have e3 : mg_aC n mem mC g = mC g := mg_nwN hc
      rw [e1, e2, e3]; exact hM g hg
    · have e1 : mg_aX n x mem mX g = mg_sm x mem (nI g) n := mg_nwP (a := fun j => mg_sm x mem (nI j) n) (c := fun j => mg_cz mem (nI j) n) (show 0 < mg_cz mem (nI g) n by omega)
      have e2 : mg_aX n y mem mY g = mg_sm y mem (nI g) n := mg_nwP (a := fun j => mg_sm y mem (nI j) n) (c := fun j => mg_cz mem (nI j) n) (show 0 < mg_cz mem (nI g) n by omega)
      have e3 : mg_aC n mem mC g = nI (mg_cz mem (nI g) n) := mg_nwP (a := fun j => nI (mg_cz mem (nI j) n)) (c := fun j => mg_cz mem (nI j) n) (show 0 < mg_cz mem (nI g) n by omega)
      have z := mg_czle mem (nI g) n
      rw [e1, e2, e3, nI_toInt (n := mg_cz mem (nI g) n) (by omega)]
      exact ⟨by omega, by omega, Nat.le_trans (mg_smB hx n hn) (by omega), Nat.le_trans (mg_smB hy n hn) (by omega)⟩
  · have hk' : k ≤ g := by omega
    rw [mg_fillG hk', mg_fillG hk', mg_fillG hk']
    exact hM g hg
/-- the new members are the nearest among the middles that haven't moved -/
theorem mg_H' {mem' aX aY aC mv' : Nat → Int32} (hk1 : 1 ≤ k) (hk : k ≤ 4) (hM : mg_M mX mY mC) (hM' : mg_M (mg_fill aX mX k) (mg_fill aY mY k) (mg_fill aC mC k))
    (hmem : ∀ p, p < n → mem' p = mg_Bm k x y mX mY mC p)
    (hS : ∀ j, j < k → mv' j = 0 → mg_S aX aY aC mX mY mC j) : mg_H n k x y (mg_fill aX mX k) (mg_fill aY mY k) (mg_fill aC mC k) mv' mem' := by
  intro p hp
  have hN : mg_N (mg_q x y mX mY mC p) k (mg_am (mg_q x y mX mY mC p) k) := mg_amK hk1
  have hb := hN.1
  have hL := mg_Lpos hM
  have hL' := mg_Lpos hM'
  refine Or.inr ⟨mg_am (mg_q x y mX mY mC p) k, hb, hmem p hp, fun z h hh hz => ?_⟩
  generalize mg_am (mg_q x y mX mY mC p) k = b at hN hb z
  have old : mg_lx (mg_F x y mX mY mC p) (mg_L mC) b h := (mg_klx hL (by omega) (by omega)).mpr (hN.2 h hh)
  have sm : ∀ g, g < k → mv' g = 0 → mg_F x y (mg_fill aX mX k) (mg_fill aY mY k) (mg_fill aC mC k) p g * mg_L mC g = mg_F x y mX mY mC p g * mg_L (mg_fill aC mC k) g := by
    intro g hg hgz
    unfold mg_F mg_L
    rw [mg_fillL hg, mg_fillL hg, mg_fillL hg]
    exact mg_same (hS g hg hgz).1 (hS g hg hgz).2
  have R := mg_repr (sm b hb z) (sm h hh hz) (hL b (by omega)) (hL h (by omega)) (hL' b (by omega)) (hL' h (by omega))
  rcases old with o | ⟨o1, o2⟩
  · exact Or.inl (R.1 o)
  · exact Or.inr ⟨R.2 o1, o2⟩
end
/-- a round: one answer, and Y's next state, to which every end of X is related -/
theorem mg_round {t : Nat} {u : SX} {v : SY} (I : i_Rel t u v) : ∃ (c : Nat) (v' : SY), c ≤ 24 ∧
    (∀ post : Int32 → SX → Prop, (∀ u', i_Rel t u' v' → post (nI c) u') → wpX_round post u) ∧ (∀ post : Int32 → SY → Prop, post (nI c) v' → wpY_round post v) := by
  refine mg_el (P := fun u v => ∃ (c : Nat) (v' : SY), c ≤ 24 ∧ (∀ post : Int32 → SX → Prop, (∀ u', i_Rel t u' v' → post (nI c) u') → wpX_round post u) ∧ (∀ post : Int32 → SY → Prop, post (nI c) v' → wpY_round post v)) ?_ I
  intro n k fu fl x y sX sY mX mY mC mv mem tX tY cn hB hM hH
  refine ⟨mg_rc (mg_Bm k x y mX mY mC) mem n, (nI n, nI k, x, y, mg_fill (mg_Bm k x y mX mY mC) mem n, sX, sY, mg_fill (mg_aX n x (mg_fill (mg_Bm k x y mX mY mC) mem n) mX) mX k, mg_fill (mg_aX n y (mg_fill (mg_Bm k x y mX mY mC) mem n) mY) mY k, mg_fill (mg_aC n (mg_fill (mg_Bm k x y mX mY mC) mem n) mC) mC k), Nat.le_trans (mg_rcle _ _ n) hB.1, fun post h => ?_, fun post h => ?_⟩
  · unfold wpX_round
    have M2 := mg_M' (n := n) (k := k) (mem := mg_fill (mg_Bm k x y mX mY mC) mem n) hB.1 hB.2.2.2.1 hB.2.2.2.2.1 hM
    have q := mg_x4 (post := post) (tX := tX) (tY := tY) (cn := cn) hB hM hH (fun fu' fl' mv' tX' tY' cn' hc => h _ (mg_rl t hB M2 (mg_H' hB.2.1 hB.2.2.1 hM M2 (fun p hp => mg_fillL hp) hc))) n 0 fu fl (by omega)
    rw [mg_fill0] at q
    exact ⟨n + 1, q⟩
  · unfold wpY_round
    have q := mg_y4 (post := post) hB hM h n 0 (by omega)
    rw [mg_fill0] at q
    exact ⟨n + 1, q⟩
end
section
/-! Part 10: round and settle, the owed statements -/
theorem i_vc_round {k : Nat} {u : SX} {v : SY} (I : i_Rel k u v) (hk : k + 4 ≤ 2048) : wpX_round (fun r u' => wpY_round (fun r' v' => r' = r ∧ i_Rel (k + 4) u' v') v) u := by
  obtain ⟨c, v', hc, hX, hY⟩ := mg_round I
  exact hX _ (fun u' hu => hY _ ⟨rfl, i_up hu⟩)
def mg_xs (post : Int32 → SX → Prop) (m : Nat) (x1 : Int32) (u : SX) : Prop := match u with
  | (a, b, c, d, e, f, g, h, i, j, l, o, p, q, r, s) => wX_settle_6 post m x1 a b c d e f g h i j l o p q r s
def mg_ys (post : Int32 → SY → Prop) (m : Nat) (x1 x2 : Int32) (v : SY) : Prop := match v with
  | (a, b, c, d, e, f, g, h, i, j) => wY_settle_8 post m x1 x2 a b c d e f g h i j
theorem mg_set (t : Nat) (S : (Int32 → SY → Prop) → Prop) : ∀ (d j m : Nat) (u : SX) (v : SY), j + d = 40 → 0 < m → m ≤ 24 → i_Rel t u v →
    (∀ post : Int32 → SY → Prop, mg_ys post (d + 1) (nI j) (nI m) v → S post) → mg_xs (fun r u' => S (fun r' v' => r' = r ∧ i_Rel t u' v')) (d + 1) (nI (j + 1)) u := by
  intro d
  induction d with
  | zero =>
    intro j m u v hj hm0 hm I
    refine mg_el (P := fun u v => (∀ post : Int32 → SY → Prop, mg_ys post (0 + 1) (nI j) (nI m) v → S post) → mg_xs (fun r u' => S (fun r' v' => r' = r ∧ i_Rel t u' v')) (0 + 1) (nI (j + 1)) u) ?_ I
    intro n k fu fl x y sX sY mX mY mC mv mem tX tY cn hB hM hH YR
    have e : j = 40 := by omega
    subst e
    exact br_t (nI_lt (a := 40) (by omega) (by omega)) (YR _ (br_f (nI_nle hm0 (by omega)) (br_t (nI_le (a := 40) (by omega) (by omega)) ⟨rfl, mg_rl t hB hM hH⟩)))
  | succ d ih =>
    intro j m u v hj hm0 hm I
    refine mg_el (P := fun u v => (∀ post : Int32 → SY → Prop, mg_ys post (d + 1 + 1) (nI j) (nI m) v → S post) → mg_xs (fun r u' => S (fun r' v' => r' = r ∧ i_Rel t u' v')) (d + 1 + 1) (nI (j + 1)) u) ?_ I
    intro n k fu fl x y sX sY mX mY mC mv mem tX tY cn hB hM hH YR
    obtain ⟨c, v1, hc, hX, hY⟩ := mg_round (mg_rl (fu := fu) (fl := fl) (tX := tX) (tY := tY) (cn := cn) t hB hM hH)
    refine br_f (nI_nlt (b := j + 1) (a := 40) (by omega) (by omega)) (hX _ (fun u1 I1 => ?_))
    have YR1 : ∀ post : Int32 → SY → Prop, mg_ys post (d + 1) (nI (j + 1)) (nI c) v1 → S post := by
      intro post h
      refine YR post (br_f (nI_nle hm0 (by omega)) (br_f (nI_ge (b := 40) (by omega) (by omega)) (hY _ ?_)))
      exact nm_r (nI_1 j) h
    by_cases hc0 : c = 0
    · subst hc0
      obtain ⟨n1, k1, fu1, fl1, x1, y1, sX1, sY1, mX1, mY1, mC1, mv1, mem1, tX1, tY1, cn1, rfl, rfl, hB1, hM1, hH1⟩ := I1
      exact br_t rfl (YR1 _ (br_t (by decide) ⟨rfl, mg_rl t hB1 hM1 hH1⟩))
    · have q := ih (j + 1) c u1 v1 (by omega) (by omega) hc I1 YR1
      obtain ⟨n1, k1, fu1, fl1, x1, y1, sX1, sY1, mX1, mY1, mC1, mv1, mem1, tX1, tY1, cn1, rfl, rfl, hB1, hM1, hH1⟩ := I1
      exact br_f (nI_ne0 (by omega) (by omega)) (nm_r (nI_1 (j + 1)) q)
theorem i_vc_settle {k : Nat} {u : SX} {v : SY} (I : i_Rel k u v) (hk : k + 4 ≤ 2048) : wpX_settle (fun r u' => wpY_settle (fun r' v' => r' = r ∧ i_Rel (k + 4) u' v') v) u := by
  refine mg_el (P := fun u v => wpX_settle (fun r u' => wpY_settle (fun r' v' => r' = r ∧ i_Rel (k + 4) u' v') v) u) ?_ I
  intro n k' fu fl x y sX sY mX mY mC mv mem tX tY cn hB hM hH
  have R := mg_rr (fu := fu) (fl := fl) (mX := mX) (mY := mY) (mC := mC) (mv := mv) (mem := mem) (tX := tX) (tY := tY) (cn := cn) (k + 4) hB
  have q := mg_set (k + 4) (fun post => wpY_settle post (nI n, nI k', x, y, mem, sX, sY, mX, mY, mC)) 40 0 1 _ _ (by omega) (by omega) (by omega) R (fun post h => by
    show wpY_settle post (nI n, nI k', x, y, mem, sX, sY, mX, mY, mC)
    unfold wpY_settle
    exact mg_yr ⟨41, h⟩)
  unfold wpX_settle
  exact mg_xr ⟨41, q⟩
end
