section
/-! ===== ints: Int32 and Int64 arithmetic without overflow, read as Int ===== -/
theorem cd_b32 {x : Int} (h : -2147483648 ≤ x ∧ x ≤ 2147483647) : x.bmod (2 ^ 32) = x :=
  Int.bmod_eq_of_le (by omega) (by omega)
theorem cd_b64 {x : Int} (h : -9223372036854775808 ≤ x ∧ x ≤ 9223372036854775807) : x.bmod (2 ^ 64) = x :=
  Int.bmod_eq_of_le (by omega) (by omega)
theorem cd_bd {x y : Int} (m n k : Nat) (hk : m * n = k) (hx : -(m : Int) ≤ x ∧ x ≤ m) (hy : -(n : Int) ≤ y ∧ y ≤ n) : -(k : Int) ≤ x * y ∧ x * y ≤ k := by
  have h : (x * y).natAbs ≤ k := by
    rw [Int.natAbs_mul, ← hk]
    exact Nat.mul_le_mul (by omega) (by omega)
  generalize x * y = z at h ⊢
  omega
theorem cd_mul32 {x y : Int32} {X Y : Int} (hx : x.toInt = X) (hy : y.toInt = Y) (h : -1000000000 ≤ X * Y ∧ X * Y ≤ 1000000000) : (x * y).toInt = X * Y := by
  rw [Int32.toInt_mul, hx, hy]
  generalize X * Y = Z at h ⊢
  exact cd_b32 (by omega)
theorem cd_sub32 {x y : Int32} {X Y : Int} (hx : x.toInt = X) (hy : y.toInt = Y) (h : -1000000000 ≤ X - Y ∧ X - Y ≤ 1000000000) : (x - y).toInt = X - Y := by
  rw [Int32.toInt_sub, hx, hy]
  exact cd_b32 (by omega)
theorem cd_neg32 {x : Int32} {X : Int} (hx : x.toInt = X) (h : -1000000000 ≤ X ∧ X ≤ 1000000000) : (-x).toInt = -X := by
  rw [Int32.toInt_neg, hx]
  exact cd_b32 (by omega)
theorem cd_mul64 {x y : Int64} {X Y : Int} (hx : x.toInt = X) (hy : y.toInt = Y) (h : -1000000000 ≤ X * Y ∧ X * Y ≤ 1000000000) : (x * y).toInt = X * Y := by
  rw [Int64.toInt_mul, hx, hy]
  generalize X * Y = Z at h ⊢
  exact cd_b64 (by omega)
theorem cd_add64 {x y : Int64} {X Y : Int} (hx : x.toInt = X) (hy : y.toInt = Y) (h : -1000000000 ≤ X + Y ∧ X + Y ≤ 1000000000) : (x + y).toInt = X + Y := by
  rw [Int64.toInt_add, hx, hy]
  exact cd_b64 (by omega)
theorem cd_sub64 {x y : Int64} {X Y : Int} (hx : x.toInt = X) (hy : y.toInt = Y) (h : -1000000000 ≤ X - Y ∧ X - Y ≤ 1000000000) : (x - y).toInt = X - Y := by
  rw [Int64.toInt_sub, hx, hy]
  exact cd_b64 (by omega)
theorem cd_neg64 {x : Int64} {X : Int} (hx : x.toInt = X) (h : -1000000000 ≤ X ∧ X ≤ 1000000000) : (-x).toInt = -X := by
  rw [Int64.toInt_neg, hx]
  exact cd_b64 (by omega)
theorem cd_32to64 {x : Int32} {X : Int} (hx : x.toInt = X) : x.toInt64.toInt = X := by
  rw [Int32.toInt_toInt64, hx]
/-- a small condition: the three numbers of a condition as Ints -/
def cd_S (a b c : Int32) (A B C : Int) : Prop := a.toInt = A ∧ b.toInt = B ∧ c.toInt = C ∧ (-9 ≤ A ∧ A ≤ 9) ∧ (-9 ≤ B ∧ B ≤ 9) ∧ (-99 ≤ C ∧ C ≤ 99)
/-- a point on the line: its numbers are small, its divisor is W, its place along the line is T / W -/
def cd_P (A B : Int) (x y w : Int64) (T W : Int) : Prop := (-1000 ≤ x.toInt ∧ x.toInt ≤ 1000) ∧ (-1000 ≤ y.toInt ∧ y.toInt ≤ 1000) ∧ w.toInt = W ∧ (1 ≤ W ∧ W ≤ 9) ∧ A * y.toInt - B * x.toInt = T ∧ (-20000 ≤ T ∧ T ≤ 20000)
/-- a remembered end of the stretch -/
def cd_O (A B : Int) (f : Int32) (x y w : Int64) : Option (Int × Int) → Prop
  | none => f = 0
  | some (T, W) => f = 1 ∧ cd_P A B x y w T W
def cd_hi (o : Option (Int × Int)) (T' W' : Int) : Option (Int × Int) := match o with
  | none => some (T', W')
  | some (T, W) => if T * W' ≤ T' * W then some (T, W) else some (T', W')
def cd_lo (o : Option (Int × Int)) (T' W' : Int) : Option (Int × Int) := match o with
  | none => some (T', W')
  | some (T, W) => if T' * W ≤ T * W' then some (T, W) else some (T', W')
theorem cd_PI {A B X Y W : Int} {x y w : Int64} (bA : -9 ≤ A ∧ A ≤ 9) (bB : -9 ≤ B ∧ B ≤ 9) (hx : x.toInt = X) (hy : y.toInt = Y) (hw : w.toInt = W) (bX : -1000 ≤ X ∧ X ≤ 1000) (bY : -1000 ≤ Y ∧ Y ≤ 1000) (bW : 1 ≤ W ∧ W ≤ 9) : cd_P A B x y w (A * Y - B * X) W := by
  have h1 := cd_bd 9 1000 9000 rfl (x := A) (y := Y) (by omega) (by omega)
  have h2 := cd_bd 9 1000 9000 rfl (x := B) (y := X) (by omega) (by omega)
  refine ⟨by omega, by omega, hw, bW, by rw [hx, hy], ?_⟩
  generalize A * Y = p at h1 ⊢
  generalize B * X = q at h2 ⊢
  omega
/-- how far a point lies along the line, in Int64 -/
theorem cd_al {a b : Int32} {A B T W : Int} {x y w : Int64} (ha : a.toInt = A) (hb : b.toInt = B) (bA : -9 ≤ A ∧ A ≤ 9) (bB : -9 ≤ B ∧ B ≤ 9) (h : cd_P A B x y w T W) : (a.toInt64 * y - b.toInt64 * x).toInt = T := by
  obtain ⟨hx, hy, hw, bW, hT, bT⟩ := h
  have h1 := cd_bd 9 1000 9000 rfl (x := A) (y := y.toInt) (by omega) (by omega)
  have h2 := cd_bd 9 1000 9000 rfl (x := B) (y := x.toInt) (by omega) (by omega)
  have e1 := cd_mul64 (cd_32to64 ha) (rfl : y.toInt = y.toInt) (by omega)
  have e2 := cd_mul64 (cd_32to64 hb) (rfl : x.toInt = x.toInt) (by omega)
  rw [cd_sub64 e1 e2 (by omega)]
  exact hT
theorem cd_cmp {r s v w : Int64} {R S V W : Int} (hr : r.toInt = R) (hs : s.toInt = S) (hv : v.toInt = V) (hw : w.toInt = W) (bR : -20000 ≤ R ∧ R ≤ 20000) (bS : -20000 ≤ S ∧ S ≤ 20000) (bV : 1 ≤ V ∧ V ≤ 9) (bW : 1 ≤ W ∧ W ≤ 9) : (r * v ≤ s * w) ↔ R * V ≤ S * W := by
  have h1 := cd_bd 20000 9 180000 rfl (x := R) (y := V) (by omega) (by omega)
  have h2 := cd_bd 20000 9 180000 rfl (x := S) (y := W) (by omega) (by omega)
  rw [Int64.le_iff_toInt_le, cd_mul64 hr hv (by omega), cd_mul64 hs hw (by omega)]
end
section
/-! ===== the plain law of the stretch: no program in sight ===== -/
/-- all points of the line meet the condition (U, V, 50), where that one is parallel -/
def cd_par (A B C U V : Int) : Prop := if A = 0 then (if B ≤ 0 then 50 * B ≤ V * C else V * C ≤ 50 * B) else (if A ≤ 0 then 50 * A ≤ U * C else U * C ≤ 50 * A)
theorem cd_dv {N p q z : Int} (hN : 0 < N) (h : q - p = N * z) : p ≤ q ↔ 0 ≤ z := by
  constructor
  · intro g
    by_cases hz : 0 ≤ z
    · exact hz
    · have := Int.mul_neg_of_pos_of_neg hN (show z < 0 by omega)
      omega
  · intro g
    have := Int.mul_nonneg (show 0 ≤ N by omega) g
    omega
theorem cd_fin {a b g N tl th tl' th' : Int} (ha : 0 < a) (hb : 0 < b) (hN : N = a * a + b * b) (h1 : tl = -(50 * N - g * a)) (h2 : th = 50 * N + g * a) (h3 : tl' = -(50 * N + g * b)) (h4 : th' = 50 * N - g * b) :
    ∃ TL WL TH WH, cd_lo (some (tl, b)) tl' a = some (TL, WL) ∧ cd_hi (some (th, b)) th' a = some (TH, WH) ∧ (TL * WH ≤ TH * WL ↔ -(50 * (a + b)) ≤ g ∧ g ≤ 50 * (a + b)) := by
  have hp : 0 < N := by
    have := Int.mul_pos ha ha
    have := Int.mul_pos hb hb
    omega
  have k1 : tl' * b ≤ tl * a ↔ 0 ≤ g - 50 * (a - b) := cd_dv hp (by subst h1 h3 hN; grind)
  have k2 : th * a ≤ th' * b ↔ 0 ≤ 50 * (b - a) - g := cd_dv hp (by subst h2 h4 hN; grind)
  have f1 : tl * b ≤ th * b ↔ 0 ≤ 100 * b := cd_dv hp (by subst h1 h2 hN; grind)
  have f2 : tl * a ≤ th' * b ↔ 0 ≤ 50 * (a + b) - g := cd_dv hp (by subst h1 h4 hN; grind)
  have f3 : tl' * b ≤ th * a ↔ 0 ≤ 50 * (a + b) + g := cd_dv hp (by subst h3 h2 hN; grind)
  have f4 : tl' * a ≤ th' * a ↔ 0 ≤ 100 * a := cd_dv hp (by subst h3 h4 hN; grind)
  clear h1 h2 h3 h4 hN
  by_cases c1 : tl' * b ≤ tl * a
  · have e1 : cd_lo (some (tl, b)) tl' a = some (tl, b) := if_pos c1
    rw [k1] at c1
    by_cases c2 : th * a ≤ th' * b
    · have e2 : cd_hi (some (th, b)) th' a = some (th, b) := if_pos c2
      rw [k2] at c2
      exact ⟨_, _, _, _, e1, e2, by rw [f1]; omega⟩
    · have e2 : cd_hi (some (th, b)) th' a = some (th', a) := if_neg c2
      rw [k2] at c2
      exact ⟨_, _, _, _, e1, e2, by rw [f2]; omega⟩
  · have e1 : cd_lo (some (tl, b)) tl' a = some (tl', a) := if_neg c1
    rw [k1] at c1
    by_cases c2 : th * a ≤ th' * b
    · have e2 : cd_hi (some (th, b)) th' a = some (th, b) := if_pos c2
      rw [k2] at c2
      exact ⟨_, _, _, _, e1, e2, by rw [f3]; omega⟩
    · have e2 : cd_hi (some (th, b)) th' a = some (th', a) := if_neg c2
      rw [k2] at c2
      exact ⟨_, _, _, _, e1, e2, by rw [f4]; omega⟩
/-- the line's condition and a parallel pair: both met, or not -/
theorem cd_parX {A C : Int} (hA : A ≠ 0) : (cd_par A 0 C 1 0 ∧ cd_par A 0 C (-1) 0) ↔ -(50 * (A.natAbs : Int)) ≤ C ∧ C ≤ 50 * (A.natAbs : Int) := by
  unfold cd_par
  rw [if_neg hA, if_neg hA]
  by_cases h : A ≤ 0
  · rw [if_pos h, if_pos h]
    omega
  · rw [if_neg h, if_neg h]
    omega
theorem cd_parY {B C : Int} (hB : B ≠ 0) : (cd_par 0 B C 0 1 ∧ cd_par 0 B C 0 (-1)) ↔ -(50 * (B.natAbs : Int)) ≤ C ∧ C ≤ 50 * (B.natAbs : Int) := by
  unfold cd_par
  rw [if_pos rfl, if_pos rfl]
  by_cases h : B ≤ 0
  · rw [if_pos h, if_pos h]
    omega
  · rw [if_neg h, if_neg h]
    omega
/-- what a search answers: r and the corner -/
def cd_G (can : Prop) (r : Int32) (x w : Int64) : Prop := (r = 0 ∧ ¬ can) ∨ (r = 1 ∧ can ∧ (-1000 ≤ x.toInt ∧ x.toInt ≤ 1000) ∧ (1 ≤ w.toInt ∧ w.toInt ≤ 9))
end
section
/-! ===== the methods that cut the stretch ===== -/
section
variable {ct lv : Int32} {x y w : Int64} {fl fh : Int32} {lx ly lw hx hy hw : Int64} {rm : Int32} {bX bY bW : Int64} {ap aq : Int32} {a1 a2 a3 a4 : Nat → Int32}
/-- the row j of the conditions: (U, V, 50) -/
def cd_J (a1 a2 a3 : Nat → Int32) (j : Int32) (U V : Int) : Prop := (a1 j.toNatClampNeg).toInt = U ∧ (a2 j.toNatClampNeg).toInt = V ∧ (a3 j.toNatClampNeg).toInt = 50
theorem cd_cutHigh {post : St2 → Prop} {k : Int32} {A B C T W : Int} {px py pw : Int64} {o : Option (Int × Int)} (hk : vp_in k 14) (hS : cd_S (a1 k.toNatClampNeg) (a2 k.toNatClampNeg) (a3 k.toNatClampNeg) A B C)
    (ho : cd_O A B fh hx hy hw o) (hp : cd_P A B px py pw T W) (H : ∀ (f : Int32) (x' y' w' : Int64), cd_O A B f x' y' w' (cd_hi o T W) → post (ct, lv, x, y, w, fl, f, lx, ly, lw, x', y', w', rm, bX, bY, bW, ap, aq, a1, a2, a3, a4)) : wpX_cutHigh post (ct, lv, x, y, w, fl, fh, lx, ly, lw, hx, hy, hw, rm, bX, bY, bW, ap, aq, a1, a2, a3, a4) k px py pw := by
  obtain ⟨ha, hb, hc, bA, bB, bC⟩ := hS
  cases o with
  | none => exact br_t ho (H 1 px py pw ⟨rfl, hp⟩)
  | some q =>
    obtain ⟨T0, W0⟩ := q
    obtain ⟨h1, h2⟩ := ho
    have hc := cd_cmp (cd_al ha hb bA bB h2) (cd_al ha hb bA bB hp) hp.2.2.1 h2.2.2.1 h2.2.2.2.2.2 hp.2.2.2.2.2 hp.2.2.2.1 h2.2.2.2.1
    refine br_f (by rw [h1]; decide) ⟨hk, hk, hk, hk, br_c (fun g => ?_) (fun g => ?_)⟩
    · refine H fh hx hy hw ?_
      show cd_O A B fh hx hy hw (if T0 * W ≤ T * W0 then some (T0, W0) else some (T, W))
      rw [if_pos (hc.mp g)]
      exact ⟨h1, h2⟩
    · refine H 1 px py pw ?_
      show cd_O A B 1 px py pw (if T0 * W ≤ T * W0 then some (T0, W0) else some (T, W))
      rw [if_neg (fun t => g (hc.mpr t))]
      exact ⟨rfl, hp⟩
theorem cd_cutLow {post : St2 → Prop} {k : Int32} {A B C T W : Int} {px py pw : Int64} {o : Option (Int × Int)} (hk : vp_in k 14) (hS : cd_S (a1 k.toNatClampNeg) (a2 k.toNatClampNeg) (a3 k.toNatClampNeg) A B C)
    (ho : cd_O A B fl lx ly lw o) (hp : cd_P A B px py pw T W) (H : ∀ (f : Int32) (x' y' w' : Int64), cd_O A B f x' y' w' (cd_lo o T W) → post (ct, lv, x, y, w, f, fh, x', y', w', hx, hy, hw, rm, bX, bY, bW, ap, aq, a1, a2, a3, a4)) : wpX_cutLow post (ct, lv, x, y, w, fl, fh, lx, ly, lw, hx, hy, hw, rm, bX, bY, bW, ap, aq, a1, a2, a3, a4) k px py pw := by
  obtain ⟨ha, hb, hc, bA, bB, bC⟩ := hS
  cases o with
  | none => exact br_t ho (H 1 px py pw ⟨rfl, hp⟩)
  | some q =>
    obtain ⟨T0, W0⟩ := q
    obtain ⟨h1, h2⟩ := ho
    have hc := cd_cmp (cd_al ha hb bA bB hp) (cd_al ha hb bA bB h2) h2.2.2.1 hp.2.2.1 hp.2.2.2.2.2 h2.2.2.2.2.2 h2.2.2.2.1 hp.2.2.2.1
    refine br_f (by rw [h1]; decide) ⟨hk, hk, hk, hk, br_c (fun g => ?_) (fun g => ?_)⟩
    · refine H fl lx ly lw ?_
      show cd_O A B fl lx ly lw (if T * W0 ≤ T0 * W then some (T0, W0) else some (T, W))
      rw [if_pos (hc.mp g)]
      exact ⟨h1, h2⟩
    · refine H 1 px py pw ?_
      show cd_O A B 1 px py pw (if T * W0 ≤ T0 * W then some (T0, W0) else some (T, W))
      rw [if_neg (fun t => g (hc.mpr t))]
      exact ⟨rfl, hp⟩
theorem cd_par49 {post : Int32 → Prop} {k j own oth : Int32} {C O Q : Int} (hk : vp_in k 14) (hj : vp_in j 14) (ho : own.toInt = O) (hq : oth.toInt = Q) (bO : -9 ≤ O ∧ O ≤ 9) (bQ : -1 ≤ Q ∧ Q ≤ 1)
    (hc : (a3 k.toNatClampNeg).toInt = C) (bC : -99 ≤ C ∧ C ≤ 99) (h50 : (a3 j.toNatClampNeg).toInt = 50) (h1 : (if O ≤ 0 then 50 * O ≤ Q * C else Q * C ≤ 50 * O) → post 1) (h0 : ¬ (if O ≤ 0 then 50 * O ≤ Q * C else Q * C ≤ 50 * O) → post 0) :
    wX_parallelMeets_49 post k j own oth ct lv x y w fl fh lx ly lw hx hy hw rm bX bY bW ap aq a1 a2 a3 a4 := by
  have p1 := cd_bd 1 99 99 rfl (x := Q) (y := C) (by omega) (by omega)
  have e1 : (oth * a3 k.toNatClampNeg).toInt = Q * C := cd_mul32 hq hc (by omega)
  have e2 : (a3 j.toNatClampNeg * own).toInt = 50 * O := cd_mul32 h50 ho (by omega)
  have z0 : (0 : Int32).toInt = 0 := rfl
  refine br_c (fun g => ⟨hk, hj, br_c (fun l => h0 ?_) (fun l => h1 ?_)⟩) (fun g => ⟨hk, hj, br_c (fun l => h0 ?_) (fun l => h1 ?_)⟩)
  · rw [Int32.le_iff_toInt_le, ho, z0] at g
    rw [Int32.lt_iff_toInt_lt, e1, e2] at l
    rw [if_pos g]
    omega
  · rw [Int32.le_iff_toInt_le, ho, z0] at g
    rw [Int32.lt_iff_toInt_lt, e1, e2] at l
    rw [if_pos g]
    omega
  · rw [Int32.le_iff_toInt_le, ho, z0] at g
    rw [Int32.lt_iff_toInt_lt, e1, e2] at l
    rw [if_neg g]
    omega
  · rw [Int32.le_iff_toInt_le, ho, z0] at g
    rw [Int32.lt_iff_toInt_lt, e1, e2] at l
    rw [if_neg g]
    omega
theorem cd_parm {post : Int32 → Prop} {k j : Int32} {A B C U V : Int} (hk : vp_in k 14) (hj : vp_in j 14) (hS : cd_S (a1 k.toNatClampNeg) (a2 k.toNatClampNeg) (a3 k.toNatClampNeg) A B C) (hJ : cd_J a1 a2 a3 j U V) (bU : -1 ≤ U ∧ U ≤ 1) (bV : -1 ≤ V ∧ V ≤ 1)
    (h1 : cd_par A B C U V → post 1) (h0 : ¬ cd_par A B C U V → post 0) : wpX_parallelMeets post (ct, lv, x, y, w, fl, fh, lx, ly, lw, hx, hy, hw, rm, bX, bY, bW, ap, aq, a1, a2, a3, a4) k j := by
  obtain ⟨ha, hb, hc, bA, bB, bC⟩ := hS
  obtain ⟨hu, hv, h50⟩ := hJ
  unfold cd_par at h1 h0
  by_cases ea : A = 0
  · have ea' : a1 k.toNatClampNeg = 0 := Int32.toInt.inj (by rw [ha, ea]; rfl)
    rw [if_pos ea] at h1 h0
    exact ⟨hk, br_t ea' ⟨hk, hk, br_t ea' ⟨hj, cd_par49 hk hj hb hv bB bV hc bC h50 h1 h0⟩⟩⟩
  · have ea' : ¬ a1 k.toNatClampNeg = 0 := fun z => ea (by rw [← ha, z]; rfl)
    rw [if_neg ea] at h1 h0
    exact ⟨hk, br_f ea' ⟨hk, hk, br_f ea' ⟨hj, cd_par49 hk hj ha hu bA bU hc bC h50 h1 h0⟩⟩⟩
theorem cd_nb0 : narrow .boolean (.int 0) = .int 0 := by rfl
theorem cd_nb1 : narrow .boolean (.int 1) = .int 1 := by rfl
theorem cd_fb0 : fits .boolean (.int 0) = true := by rfl
theorem cd_fb1 : fits .boolean (.int 1) = true := by rfl
theorem cd_stretch {post : Int32 → St2 → Prop} {k j : Int32} {A B C U V t T : Int} {lo hi : Option (Int × Int)} (hk : vp_in k 14) (hj : vp_in j 14) (hS : cd_S (a1 k.toNatClampNeg) (a2 k.toNatClampNeg) (a3 k.toNatClampNeg) A B C) (hJ : cd_J a1 a2 a3 j U V)
    (bU : -1 ≤ U ∧ U ≤ 1) (bV : -1 ≤ V ∧ V ≤ 1) (ht : A * V - U * B = t) (bt : -9 ≤ t ∧ t ≤ 9) (hT : A * (A * 50 - U * C) - B * (C * V - 50 * B) = T)
    (hl : cd_O A B fl lx ly lw lo) (hh : cd_O A B fh hx hy hw hi)
    (Hz : t = 0 → cd_par A B C U V → post 1 (ct, lv, x, y, w, fl, fh, lx, ly, lw, hx, hy, hw, rm, bX, bY, bW, ap, aq, a1, a2, a3, a4)) (Hf : t = 0 → ¬ cd_par A B C U V → post 0 (ct, lv, x, y, w, fl, fh, lx, ly, lw, hx, hy, hw, rm, bX, bY, bW, ap, aq, a1, a2, a3, a4))
    (Hn : t < 0 → ∀ (f : Int32) (x' y' w' : Int64), cd_O A B f x' y' w' (cd_lo lo (-T) (-t)) → post 1 (ct, lv, x, y, w, f, fh, x', y', w', hx, hy, hw, rm, bX, bY, bW, ap, aq, a1, a2, a3, a4))
    (Hp : 0 < t → ∀ (f : Int32) (x' y' w' : Int64), cd_O A B f x' y' w' (cd_hi hi T t) → post 1 (ct, lv, x, y, w, fl, f, lx, ly, lw, x', y', w', rm, bX, bY, bW, ap, aq, a1, a2, a3, a4)) :
    wpX_cutStretch post (ct, lv, x, y, w, fl, fh, lx, ly, lw, hx, hy, hw, rm, bX, bY, bW, ap, aq, a1, a2, a3, a4) k j := by
  obtain ⟨ha, hb, hc, bA, bB, bC⟩ := id hS
  obtain ⟨hu, hv, h50⟩ := id hJ
  have p1 := cd_bd 9 1 9 rfl (x := A) (y := V) (by omega) (by omega)
  have p2 := cd_bd 1 9 9 rfl (x := U) (y := B) (by omega) (by omega)
  have p3 := cd_bd 99 1 99 rfl (x := C) (y := V) (by omega) (by omega)
  have p4 := cd_bd 1 99 99 rfl (x := U) (y := C) (by omega) (by omega)
  have z0 : (0 : Int32).toInt = 0 := rfl
  have e1 : (a1 k.toNatClampNeg * a2 j.toNatClampNeg).toInt = A * V := cd_mul32 ha hv (by omega)
  have e2 : (a1 j.toNatClampNeg * a2 k.toNatClampNeg).toInt = U * B := cd_mul32 hu hb (by omega)
  have e3 : (a3 k.toNatClampNeg * a2 j.toNatClampNeg).toInt = C * V := cd_mul32 hc hv (by omega)
  have e4 : (a3 j.toNatClampNeg * a2 k.toNatClampNeg).toInt = 50 * B := cd_mul32 h50 hb (by omega)
  have e5 : (a1 k.toNatClampNeg * a3 j.toNatClampNeg).toInt = A * 50 := cd_mul32 ha h50 (by omega)
  have e6 : (a1 j.toNatClampNeg * a3 k.toNatClampNeg).toInt = U * C := cd_mul32 hu hc (by omega)
  have et := cd_sub32 e1 e2 (by omega)
  have ex := cd_sub32 e3 e4 (by omega)
  have ey := cd_sub32 e5 e6 (by omega)
  have qX : -1000 ≤ C * V - 50 * B ∧ C * V - 50 * B ≤ 1000 := by omega
  have qY : -1000 ≤ A * 50 - U * C ∧ A * 50 - U * C ≤ 1000 := by omega
  rw [ht] at et
  clear e1 e2 e3 e4 e5 e6 p1 p2 p3 p4
  refine ⟨hk, hj, hj, hk, fun x3 e3 => ?_⟩
  have h3 : x3.toInt = t := by rw [e3]; exact et
  refine br_c (fun z => ?_) (fun z => ⟨hk, hj, hj, hk, fun x4 e4 => ⟨hk, hj, hj, hk, fun x6 e6 => ?_⟩⟩)
  · have zt : t = 0 := by rw [← h3, z]; rfl
    exact cd_parm hk hj hS hJ bU bV (fun c => ⟨cd_nb1, Hz zt c⟩) (fun c => ⟨cd_nb0, Hf zt c⟩)
  · have zt : t ≠ 0 := fun c => z (Int32.toInt.inj (by rw [h3, c]; rfl))
    have h4 : x4.toInt = C * V - 50 * B := by rw [e4]; exact cd_32to64 ex
    have h6 : x6.toInt = A * 50 - U * C := by rw [e6]; exact cd_32to64 ey
    generalize C * V - 50 * B = X at h4 qX hT
    generalize A * 50 - U * C = Y at h6 qY hT
    refine br_c (fun g => ?_) (fun g => ?_)
    · rw [Int32.le_iff_toInt_le, h3, z0] at g
      have hq := cd_PI bA bB (cd_neg64 h4 (by omega)) (cd_neg64 h6 (by omega)) (cd_32to64 (cd_neg32 h3 (by omega))) (by omega) (by omega) (by omega)
      have eT : A * -Y - B * -X = -T := by rw [← hT]; grind
      rw [eT] at hq
      exact cd_cutLow hk hS hl hq (fun f x' y' w' h => Hn (by omega) f x' y' w' h)
    · rw [Int32.le_iff_toInt_le, h3, z0] at g
      have hq := cd_PI bA bB h4 h6 (cd_32to64 h3) qX qY (by omega)
      rw [hT] at hq
      exact cd_cutHigh hk hS hh hq (fun f x' y' w' h => Hp (by omega) f x' y' w' h)
end
end
section
/-! ===== moveOnto ===== -/
section
variable {ct lv : Int32} {x y w : Int64} {fl fh : Int32} {lx ly lw hx hy hw : Int64} {rm : Int32} {bX bY bW : Int64} {ap aq : Int32} {a1 a2 a3 a4 : Nat → Int32}
theorem cd_in4 : vp_in 4 14 := vp_in_nI (n := 4) (by decide) (by decide)
/-- the end of the loop: one of the stretch's ends, or none -/
theorem cd_exit {post : Int32 → St2 → Prop} {p q : Int32} {n : Nat} {A B C TL WL TH WH : Int} (hS : cd_S (a1 (4 : Int32).toNatClampNeg) (a2 (4 : Int32).toNatClampNeg) (a3 (4 : Int32).toNatClampNeg) A B C)
    (hl : cd_O A B fl lx ly lw (some (TL, WL))) (hh : cd_O A B fh hx hy hw (some (TH, WH)))
    (H1 : TL * WH ≤ TH * WL → ∀ x' y' w' : Int64, (-1000 ≤ x'.toInt ∧ x'.toInt ≤ 1000) → (1 ≤ w'.toInt ∧ w'.toInt ≤ 9) → post 1 (ct, lv, x', y', w', fl, fh, lx, ly, lw, hx, hy, hw, rm, bX, bY, bW, ap, aq, a1, a2, a3, a4))
    (H0 : ¬ TL * WH ≤ TH * WL → post 0 (ct, lv, x, y, w, fl, fh, lx, ly, lw, hx, hy, hw, rm, bX, bY, bW, ap, aq, a1, a2, a3, a4)) : wX_moveOnto_13 post 4 p q (-1) (n + 1) 4 ct lv x y w fl fh lx ly lw hx hy hw rm bX bY bW ap aq a1 a2 a3 a4 := by
  obtain ⟨ha, hb, hc, bA, bB, bC⟩ := hS
  obtain ⟨hl0, hl⟩ := hl
  obtain ⟨hh0, hh⟩ := hh
  have hcmp := cd_cmp (cd_al ha hb bA bB hl) (cd_al ha hb bA bB hh) hh.2.2.1 hl.2.2.1 hl.2.2.2.2.2 hh.2.2.2.2.2 hh.2.2.2.1 hl.2.2.2.1
  refine br_t (by decide) ⟨cd_in4, cd_in4, cd_in4, cd_in4, br_c (fun g => ?_) (fun g => H0 (fun t => g (hcmp.mpr t)))⟩
  have J := H1 (hcmp.mp g)
  have JL := J lx ly lw hl.1 (by rw [hl.2.2.1]; exact hl.2.2.2.1)
  have JH := J hx hy hw hh.1 (by rw [hh.2.2.1]; exact hh.2.2.2.1)
  have LL : wX_moveOnto_150 post ct lv x y w fl fh lx ly lw hx hy hw rm bX bY bW ap aq a1 a2 a3 a4 := br_t rfl (br_t rfl (br_t rfl JL))
  have HH : wX_moveOnto_146 post ct lv x y w fl fh lx ly lw hx hy hw rm bX bY bW ap aq a1 a2 a3 a4 := br_f (by decide) (br_f (by decide) (br_f (by decide) JH))
  exact ⟨cd_in4, cd_in4, fun u eu => br_c (fun _ => HH) (fun _ => br_c (fun _ => ⟨cd_in4, br_c (fun _ => HH) (fun _ => ⟨cd_in4, br_c (fun _ => ⟨cd_in4, br_c (fun _ => LL) (fun _ => HH)⟩) (fun _ => LL)⟩)⟩) (fun _ => LL))⟩
/-- one round of the loop -/
theorem cd_iter {post : Int32 → St2 → Prop} {p q j j' : Int32} {n : Nat} {A B C U V t T : Int} {lo hi : Option (Int × Int)} (hj : vp_in j 14) (h4 : ¬ (4 : Int32) ≤ j) (hm : ¬ j = -1) (hn : j + 1 = j')
    (hS : cd_S (a1 (4 : Int32).toNatClampNeg) (a2 (4 : Int32).toNatClampNeg) (a3 (4 : Int32).toNatClampNeg) A B C) (hJ : cd_J a1 a2 a3 j U V)
    (bU : -1 ≤ U ∧ U ≤ 1) (bV : -1 ≤ V ∧ V ≤ 1) (ht : A * V - U * B = t) (bt : -9 ≤ t ∧ t ≤ 9) (hT : A * (A * 50 - U * C) - B * (C * V - 50 * B) = T)
    (hl : cd_O A B fl lx ly lw lo) (hh : cd_O A B fh hx hy hw hi)
    (Hz : t = 0 → cd_par A B C U V → wX_moveOnto_13 post 4 p q (-1) n j' ct lv x y w fl fh lx ly lw hx hy hw rm bX bY bW ap aq a1 a2 a3 a4) (Hf : t = 0 → ¬ cd_par A B C U V → post 0 (ct, lv, x, y, w, fl, fh, lx, ly, lw, hx, hy, hw, rm, bX, bY, bW, ap, aq, a1, a2, a3, a4))
    (Hn : t < 0 → ∀ (f : Int32) (x' y' w' : Int64), cd_O A B f x' y' w' (cd_lo lo (-T) (-t)) → wX_moveOnto_13 post 4 p q (-1) n j' ct lv x y w f fh x' y' w' hx hy hw rm bX bY bW ap aq a1 a2 a3 a4)
    (Hp : 0 < t → ∀ (f : Int32) (x' y' w' : Int64), cd_O A B f x' y' w' (cd_hi hi T t) → wX_moveOnto_13 post 4 p q (-1) n j' ct lv x y w fl f lx ly lw x' y' w' rm bX bY bW ap aq a1 a2 a3 a4) :
    wX_moveOnto_13 post 4 p q (-1) (n + 1) j ct lv x y w fl fh lx ly lw hx hy hw rm bX bY bW ap aq a1 a2 a3 a4 :=
  br_f h4 (br_f hm (cd_stretch cd_in4 hj hS hJ bU bV ht bt hT hl hh
    (fun z c => br_f (by decide) (nm_r hn (Hz z c)))
    (fun z c => br_t rfl (Hf z c))
    (fun z f x' y' w' h => br_f (by decide) (nm_r hn (Hn z f x' y' w' h)))
    (fun z f x' y' w' h => br_f (by decide) (nm_r hn (Hp z f x' y' w' h)))))
/-- two rounds, over a condition (U, V, 50) and its opposite -/
theorem cd_pair {post : Int32 → St2 → Prop} {p q j j' j'' : Int32} {n : Nat} {A B C U V t T T' : Int} {lo hi : Option (Int × Int)} (hj : vp_in j 14) (h4 : ¬ (4 : Int32) ≤ j) (hm : ¬ j = -1) (hn : j + 1 = j')
    (hj' : vp_in j' 14) (h4' : ¬ (4 : Int32) ≤ j') (hm' : ¬ j' = -1) (hn' : j' + 1 = j'')
    (hS : cd_S (a1 (4 : Int32).toNatClampNeg) (a2 (4 : Int32).toNatClampNeg) (a3 (4 : Int32).toNatClampNeg) A B C) (hJ : cd_J a1 a2 a3 j U V) (hJ' : cd_J a1 a2 a3 j' (-U) (-V))
    (bU : -1 ≤ U ∧ U ≤ 1) (bV : -1 ≤ V ∧ V ≤ 1) (ht : A * V - U * B = t) (bt : -9 ≤ t ∧ t ≤ 9) (hT : A * (A * 50 - U * C) - B * (C * V - 50 * B) = T) (hT' : A * (A * 50 + U * C) + B * (C * V + 50 * B) = T')
    (hl : cd_O A B fl lx ly lw lo) (hh : cd_O A B fh hx hy hw hi)
    (Hz : t = 0 → cd_par A B C U V ∧ cd_par A B C (-U) (-V) → wX_moveOnto_13 post 4 p q (-1) n j'' ct lv x y w fl fh lx ly lw hx hy hw rm bX bY bW ap aq a1 a2 a3 a4) (Hf : t = 0 → ¬ (cd_par A B C U V ∧ cd_par A B C (-U) (-V)) → post 0 (ct, lv, x, y, w, fl, fh, lx, ly, lw, hx, hy, hw, rm, bX, bY, bW, ap, aq, a1, a2, a3, a4))
    (Hn : t < 0 → ∀ (f : Int32) (x' y' w' : Int64) (f2 : Int32) (x2 y2 w2 : Int64), cd_O A B f x' y' w' (cd_lo lo (-T) (-t)) → cd_O A B f2 x2 y2 w2 (cd_hi hi T' (-t)) → wX_moveOnto_13 post 4 p q (-1) n j'' ct lv x y w f f2 x' y' w' x2 y2 w2 rm bX bY bW ap aq a1 a2 a3 a4)
    (Hp : 0 < t → ∀ (f : Int32) (x' y' w' : Int64) (f2 : Int32) (x2 y2 w2 : Int64), cd_O A B f x' y' w' (cd_lo lo (-T') t) → cd_O A B f2 x2 y2 w2 (cd_hi hi T t) → wX_moveOnto_13 post 4 p q (-1) n j'' ct lv x y w f f2 x' y' w' x2 y2 w2 rm bX bY bW ap aq a1 a2 a3 a4) :
    wX_moveOnto_13 post 4 p q (-1) (n + 2) j ct lv x y w fl fh lx ly lw hx hy hw rm bX bY bW ap aq a1 a2 a3 a4 := by
  have ht' : A * -V - -U * B = -t := by rw [← ht]; grind
  have hT2 : A * (A * 50 - -U * C) - B * (C * -V - 50 * B) = T' := by rw [← hT']; grind
  refine cd_iter hj h4 hm hn hS hJ bU bV ht bt hT hl hh (fun z c => ?_) (fun z c => Hf z (fun d => c d.1)) (fun z f x' y' w' h => ?_) (fun z f x' y' w' h => ?_)
  · exact cd_iter hj' h4' hm' hn' hS hJ' (by omega) (by omega) ht' (by omega) hT2 hl hh (fun z' c' => Hz z ⟨c, c'⟩) (fun z' c' => Hf z (fun d => c' d.2)) (fun z' => absurd z' (by omega)) (fun z' => absurd z' (by omega))
  · exact cd_iter hj' h4' hm' hn' hS hJ' (by omega) (by omega) ht' (by omega) hT2 h hh (fun z' => absurd z' (by omega)) (fun z' => absurd z' (by omega)) (fun z' => absurd z' (by omega)) (fun z' f2 x2 y2 w2 h2 => Hn z f x' y' w' f2 x2 y2 w2 h h2)
  · refine cd_iter hj' h4' hm' hn' hS hJ' (by omega) (by omega) ht' (by omega) hT2 hl h (fun z' => absurd z' (by omega)) (fun z' => absurd z' (by omega)) (fun z' f2 x2 y2 w2 h2 => ?_) (fun z' => absurd z' (by omega))
    rw [Int.neg_neg] at h2
    exact Hp z f2 x2 y2 w2 f x' y' w' h2 h
/-- the four conditions that always hold, and the row -/
def cd_Ar (A B C : Int) (a1 a2 a3 : Nat → Int32) : Prop := cd_S (a1 (4 : Int32).toNatClampNeg) (a2 (4 : Int32).toNatClampNeg) (a3 (4 : Int32).toNatClampNeg) A B C ∧ cd_J a1 a2 a3 0 1 0 ∧ cd_J a1 a2 a3 1 (-1) 0 ∧ cd_J a1 a2 a3 2 0 1 ∧ cd_J a1 a2 a3 3 0 (-1)
/-- the two conditions on y, behind those on x -/
theorem cd_Y {post : Int32 → St2 → Prop} {p q : Int32} {n : Nat} {A B C N : Int} {lo hi : Option (Int × Int)} (hA : cd_Ar A B C a1 a2 a3) (hN : N = A * A + B * B)
    (hl : cd_O A B fl lx ly lw lo) (hh : cd_O A B fh hx hy hw hi)
    (Hz : A = 0 → cd_par A B C 0 1 ∧ cd_par A B C 0 (-1) → wX_moveOnto_13 post 4 p q (-1) n 4 ct lv x y w fl fh lx ly lw hx hy hw rm bX bY bW ap aq a1 a2 a3 a4) (Hf : A = 0 → ¬ (cd_par A B C 0 1 ∧ cd_par A B C 0 (-1)) → post 0 (ct, lv, x, y, w, fl, fh, lx, ly, lw, hx, hy, hw, rm, bX, bY, bW, ap, aq, a1, a2, a3, a4))
    (Hn : A < 0 → ∀ (f : Int32) (x' y' w' : Int64) (f2 : Int32) (x2 y2 w2 : Int64), cd_O A B f x' y' w' (cd_lo lo (-(50 * N - B * C)) (-A)) → cd_O A B f2 x2 y2 w2 (cd_hi hi (50 * N + B * C) (-A)) → wX_moveOnto_13 post 4 p q (-1) n 4 ct lv x y w f f2 x' y' w' x2 y2 w2 rm bX bY bW ap aq a1 a2 a3 a4)
    (Hp : 0 < A → ∀ (f : Int32) (x' y' w' : Int64) (f2 : Int32) (x2 y2 w2 : Int64), cd_O A B f x' y' w' (cd_lo lo (-(50 * N + B * C)) A) → cd_O A B f2 x2 y2 w2 (cd_hi hi (50 * N - B * C) A) → wX_moveOnto_13 post 4 p q (-1) n 4 ct lv x y w f f2 x' y' w' x2 y2 w2 rm bX bY bW ap aq a1 a2 a3 a4) :
    wX_moveOnto_13 post 4 p q (-1) (n + 2) 2 ct lv x y w fl fh lx ly lw hx hy hw rm bX bY bW ap aq a1 a2 a3 a4 := by
  obtain ⟨hS, j0, j1, j2, j3⟩ := hA
  have bA := hS.2.2.2.1
  exact cd_pair (U := 0) (V := 1) (j' := 3) (vp_in_nI (n := 2) (by decide) (by decide)) (by decide) (by decide) (by decide) (vp_in_nI (n := 3) (by decide) (by decide)) (by decide) (by decide) (by decide) hS j2 j3 (by decide) (by decide) (by omega) bA (by subst hN; grind) (by subst hN; grind) hl hh Hz Hf Hn Hp
/-- the two conditions on x -/
theorem cd_X {post : Int32 → St2 → Prop} {p q : Int32} {n : Nat} {A B C N : Int} {lo hi : Option (Int × Int)} (hA : cd_Ar A B C a1 a2 a3) (hN : N = A * A + B * B)
    (hl : cd_O A B fl lx ly lw lo) (hh : cd_O A B fh hx hy hw hi)
    (Hz : B = 0 → cd_par A B C 1 0 ∧ cd_par A B C (-1) 0 → wX_moveOnto_13 post 4 p q (-1) n 2 ct lv x y w fl fh lx ly lw hx hy hw rm bX bY bW ap aq a1 a2 a3 a4) (Hf : B = 0 → ¬ (cd_par A B C 1 0 ∧ cd_par A B C (-1) 0) → post 0 (ct, lv, x, y, w, fl, fh, lx, ly, lw, hx, hy, hw, rm, bX, bY, bW, ap, aq, a1, a2, a3, a4))
    (Hp : 0 < B → ∀ (f : Int32) (x' y' w' : Int64) (f2 : Int32) (x2 y2 w2 : Int64), cd_O A B f x' y' w' (cd_lo lo (-(50 * N - A * C)) B) → cd_O A B f2 x2 y2 w2 (cd_hi hi (50 * N + A * C) B) → wX_moveOnto_13 post 4 p q (-1) n 2 ct lv x y w f f2 x' y' w' x2 y2 w2 rm bX bY bW ap aq a1 a2 a3 a4)
    (Hn : B < 0 → ∀ (f : Int32) (x' y' w' : Int64) (f2 : Int32) (x2 y2 w2 : Int64), cd_O A B f x' y' w' (cd_lo lo (-(50 * N + A * C)) (-B)) → cd_O A B f2 x2 y2 w2 (cd_hi hi (50 * N - A * C) (-B)) → wX_moveOnto_13 post 4 p q (-1) n 2 ct lv x y w f f2 x' y' w' x2 y2 w2 rm bX bY bW ap aq a1 a2 a3 a4) :
    wX_moveOnto_13 post 4 p q (-1) (n + 2) 0 ct lv x y w fl fh lx ly lw hx hy hw rm bX bY bW ap aq a1 a2 a3 a4 := by
  obtain ⟨hS, j0, j1, j2, j3⟩ := hA
  have bB := hS.2.2.2.2.1
  refine cd_pair (U := 1) (V := 0) (j' := 1) (t := -B) (T := 50 * N - A * C) (T' := 50 * N + A * C) (vp_in_nI (n := 0) (by decide) (by decide)) (by decide) (by decide) (by decide) (vp_in_nI (n := 1) (by decide) (by decide)) (by decide) (by decide) (by decide) hS j0 j1 (by decide) (by decide) (by omega) (by omega) (by subst hN; grind) (by subst hN; grind) hl hh (fun z => Hz (by omega)) (fun z => Hf (by omega)) (fun z => ?_) (fun z => Hn (by omega))
  rw [Int.neg_neg]
  exact Hp (by omega)
/-- moveOnto from a point that doesn't meet the row -/
theorem cd_move {post : Int32 → St2 → Prop} {p q : Int32} {A B C : Int} {can : Prop} (hA : cd_Ar A B C a1 a2 a3) (hAB : A ≠ 0 ∨ B ≠ 0) (hcan : can ↔ -(50 * ((A.natAbs : Int) + (B.natAbs : Int))) ≤ C) (hC : C ≤ 50 * ((A.natAbs : Int) + (B.natAbs : Int)))
    (H : ∀ (r : Int32) (x' y' w' : Int64) (f : Int32) (lx' ly' lw' : Int64) (f2 : Int32) (hx' hy' hw' : Int64), cd_G can r x' w' → post r (ct, lv, x', y', w', f, f2, lx', ly', lw', hx', hy', hw', rm, bX, bY, bW, ap, aq, a1, a2, a3, a4)) :
    wpX_moveOnto post (ct, lv, x, y, w, fl, fh, lx, ly, lw, hx, hy, hw, rm, bX, bY, bW, ap, aq, a1, a2, a3, a4) 4 p q (-1) := by
  have hS := hA.1
  have E : ∀ {N a b g tl th tl' th' : Int} {f : Int32} {x' y' w' : Int64} {f2 : Int32} {x2 y2 w2 : Int64} {n : Nat}, 0 < a → 0 < b → N = a * a + b * b → (a + b = (A.natAbs : Int) + (B.natAbs : Int)) → (g = C ∨ g = -C) →
      tl = -(50 * N - g * a) → th = 50 * N + g * a → tl' = -(50 * N + g * b) → th' = 50 * N - g * b →
      cd_O A B f x' y' w' (cd_lo (some (tl, b)) tl' a) → cd_O A B f2 x2 y2 w2 (cd_hi (some (th, b)) th' a) → wX_moveOnto_13 post 4 p q (-1) (n + 1) 4 ct lv x y w f f2 x' y' w' x2 y2 w2 rm bX bY bW ap aq a1 a2 a3 a4 := by
    intro N a b g tl th tl' th' f x' y' w' f2 x2 y2 w2 n ha hb hN hab hg h1 h2 h3 h4 hl hh
    obtain ⟨TL, WL, TH, WH, el, eh, hf⟩ := cd_fin ha hb hN h1 h2 h3 h4
    rw [el] at hl
    rw [eh] at hh
    refine cd_exit hS hl hh (fun c x3 y3 w3 b3 bw => H _ _ _ _ _ _ _ _ _ _ _ _ (Or.inr ⟨rfl, ?_, b3, bw⟩)) (fun c => H _ _ _ _ _ _ _ _ _ _ _ _ (Or.inl ⟨rfl, ?_⟩))
    · rw [hf] at c
      rw [hcan]
      omega
    · rw [hf] at c
      rw [hcan]
      omega
  have S : ∀ {K D W : Int} {f : Int32} {x' y' w' : Int64} {f2 : Int32} {x2 y2 w2 : Int64} {n : Nat}, 0 < K → 0 < W → can → cd_O A B f x' y' w' (some (-(K - D), W)) → cd_O A B f2 x2 y2 w2 (some (K + D, W)) → wX_moveOnto_13 post 4 p q (-1) (n + 1) 4 ct lv x y w f f2 x' y' w' x2 y2 w2 rm bX bY bW ap aq a1 a2 a3 a4 := by
    intro K D W f x' y' w' f2 x2 y2 w2 n hK hW hc hl hh
    refine cd_exit hS hl hh (fun c x3 y3 w3 b3 bw => H _ _ _ _ _ _ _ _ _ _ _ _ (Or.inr ⟨rfl, hc, b3, bw⟩)) (fun c => absurd ?_ c)
    exact Int.mul_le_mul_of_nonneg_right (by omega) (by omega)
  have hNp : 0 < A * A + B * B := by
    have t1 : ∀ z : Int, z ≠ 0 → 0 < z * z := by
      intro z hz
      rcases Int.lt_or_gt_of_ne hz with c | c
      · exact Int.mul_pos_of_neg_of_neg c c
      · exact Int.mul_pos c c
    have t2 : ∀ z : Int, 0 ≤ z * z := by
      intro z
      by_cases c : z = 0
      · subst c; decide
      · exact Int.le_of_lt (t1 z c)
    have a2 := t2 A
    have b2 := t2 B
    rcases hAB with c | c
    · have := t1 A c
      omega
    · have := t1 B c
      omega
  generalize hN : A * A + B * B = N at hNp
  refine ⟨5, ?_⟩
  refine cd_X (n := 3) hA hN.symm (lo := none) (hi := none) rfl rfl (fun zB c => ?_) (fun zB c => ?_) (fun zB f x' y' w' f2 x2 y2 w2 hl hh => ?_) (fun zB f x' y' w' f2 x2 y2 w2 hl hh => ?_)
  · have nA : A ≠ 0 := by omega
    rw [zB, cd_parX nA] at c
    have hc : can := by rw [hcan]; omega
    refine cd_Y (n := 1) hA hN.symm (lo := none) (hi := none) rfl rfl (fun z => absurd z nA) (fun z => absurd z nA) (fun z f x' y' w' f2 x2 y2 w2 hl hh => ?_) (fun z f x' y' w' f2 x2 y2 w2 hl hh => ?_)
    · exact S (K := 50 * N) (D := B * C) (W := -A) (by omega) (by omega) hc hl hh
    · exact S (K := 50 * N) (D := -(B * C)) (W := A) (by omega) (by omega) hc (by rw [Int.sub_neg]; exact hl) (by rw [← Int.sub_eq_add_neg]; exact hh)
  · have nA : A ≠ 0 := by omega
    rw [zB, cd_parX nA] at c
    exact H _ _ _ _ _ _ _ _ _ _ _ _ (Or.inl ⟨rfl, by rw [hcan]; omega⟩)
  · refine cd_Y (n := 1) hA hN.symm hl hh (fun zA c => ?_) (fun zA c => ?_) (fun zA f x' y' w' f2 x2 y2 w2 hl hh => ?_) (fun zA f x' y' w' f2 x2 y2 w2 hl hh => ?_)
    · rw [zA, cd_parY (by omega)] at c
      exact S (K := 50 * N) (D := A * C) (W := B) (by omega) (by omega) (by rw [hcan]; omega) hl hh
    · rw [zA, cd_parY (by omega)] at c
      exact H _ _ _ _ _ _ _ _ _ _ _ _ (Or.inl ⟨rfl, by rw [hcan]; omega⟩)
    · exact E (N := N) (a := -A) (b := B) (g := -C) (by omega) (by omega) (by rw [← hN]; grind) (by omega) (Or.inr rfl) (by grind) (by grind) (by grind) (by grind) hl hh
    · exact E (N := N) (a := A) (b := B) (g := C) (by omega) (by omega) (by rw [← hN]) (by omega) (Or.inl rfl) (by grind) (by grind) (by grind) (by grind) hl hh
  · refine cd_Y (n := 1) hA hN.symm hl hh (fun zA c => ?_) (fun zA c => ?_) (fun zA f x' y' w' f2 x2 y2 w2 hl hh => ?_) (fun zA f x' y' w' f2 x2 y2 w2 hl hh => ?_)
    · rw [zA, cd_parY (by omega)] at c
      exact S (K := 50 * N) (D := -(A * C)) (W := -B) (by omega) (by omega) (by rw [hcan]; omega) (by rw [Int.sub_neg]; exact hl) (by rw [← Int.sub_eq_add_neg]; exact hh)
    · rw [zA, cd_parY (by omega)] at c
      exact H _ _ _ _ _ _ _ _ _ _ _ _ (Or.inl ⟨rfl, by rw [hcan]; omega⟩)
    · exact E (N := N) (a := -A) (b := -B) (g := C) (by omega) (by omega) (by rw [← hN]; grind) (by omega) (Or.inl rfl) (by grind) (by grind) (by grind) (by grind) hl hh
    · exact E (N := N) (a := A) (b := -B) (g := -C) (by omega) (by omega) (by rw [← hN]; grind) (by omega) (Or.inr rfl) (by grind) (by grind) (by grind) (by grind) hl hh
end
end
section
/-! ===== solve, possible, best ===== -/
section
variable {ct lv : Int32} {x y w : Int64} {fl fh : Int32} {lx ly lw hx hy hw : Int64} {rm : Int32} {bX bY bW : Int64} {ap aq : Int32} {a1 a2 a3 a4 : Nat → Int32}
/-- the desk: no row, or one; can: the conditions can be met -/
def cd_D (can : Prop) (ct : Int32) (a1 a2 a3 : Nat → Int32) : Prop := (ct = 4 ∧ can) ∨ (ct = 5 ∧ ∃ A B C : Int, cd_Ar A B C a1 a2 a3 ∧ (A ≠ 0 ∨ B ≠ 0) ∧ (can ↔ -(50 * ((A.natAbs : Int) + (B.natAbs : Int))) ≤ C))
/-- a corner of the four conditions -/
theorem cd_corner {a b c : Int32} {A B C X Y : Int} {x y w : Int64} (h : cd_S a b c A B C) (hx : x.toInt = X) (hy : y.toInt = Y) (hw : w.toInt = 1) (cX : X = 50 ∨ X = -50) (cY : Y = 50 ∨ Y = -50) :
    (c.toInt64 * w < a.toInt64 * x + b.toInt64 * y) ↔ C < A * X + B * Y := by
  obtain ⟨ha, hb, hc, bA, bB, bC⟩ := h
  have p1 := cd_bd 9 50 450 rfl (x := A) (y := X) (by omega) (by omega)
  have p2 := cd_bd 9 50 450 rfl (x := B) (y := Y) (by omega) (by omega)
  have e1 := cd_mul64 (cd_32to64 ha) hx (by omega)
  have e2 := cd_mul64 (cd_32to64 hb) hy (by omega)
  have e3 := cd_mul64 (cd_32to64 hc) hw (by omega)
  rw [Int64.lt_iff_toInt_lt, e3, cd_add64 e1 e2 (by omega), Int.mul_one]
theorem cd_sol42 {post : Int32 → St2 → Prop} {p q : Int32} {can : Prop} {X Y : Int} (hD : cd_D can ct a1 a2 a3) (hx0 : x.toInt = X) (hy0 : y.toInt = Y) (cX : X = 50 ∨ X = -50) (cY : Y = 50 ∨ Y = -50)
    (H : ∀ (r : Int32) (x' y' w' : Int64) (f : Int32) (lx' ly' lw' : Int64) (f2 : Int32) (hx' hy' hw' : Int64), cd_G can r x' w' → post r (ct, lv, x', y', w', f, f2, lx', ly', lw', hx', hy', hw', rm, bX, bY, bW, ap, aq, a1, a2, a3, a4)) :
    ∃ n, wX_solve_42 post p q (-1) n 4 ct lv x y 1 fl fh lx ly lw hx hy hw rm bX bY bW ap aq a1 a2 a3 a4 := by
  have w1 : (1 : Int64).toInt = 1 := rfl
  refine ⟨2, ?_⟩
  rcases hD with ⟨h4, hc⟩ | ⟨h5, A, B, C, hA, hAB, hcan⟩
  · subst h4
    exact br_t (by decide) (H 1 x y 1 fl lx ly lw fh hx hy hw (Or.inr ⟨rfl, hc, by omega, by decide⟩))
  · subst h5
    have hm := cd_corner hA.1 hx0 hy0 w1 cX cY
    have hm2 : (C < A * X + B * Y → C ≤ 50 * ((A.natAbs : Int) + (B.natAbs : Int))) ∧ (¬ C < A * X + B * Y → -(50 * ((A.natAbs : Int) + (B.natAbs : Int))) ≤ C) := by
      rcases cX with c | c <;> rcases cY with d | d <;> subst c <;> subst d <;> omega
    refine br_f (by decide) (br_f (by decide) ⟨cd_in4, cd_in4, cd_in4, br_c (fun g => ?_) (fun g => ?_)⟩)
    · refine br_t rfl (cd_move hA hAB hcan (hm2.1 (hm.mp g)) (fun r x' y' w' f lx' ly' lw' f2 hx' hy' hw' hG => ?_))
      rcases id hG with ⟨hr, _⟩ | ⟨hr, _⟩
      · subst hr
        exact br_t rfl (H _ _ _ _ _ _ _ _ _ _ _ _ hG)
      · subst hr
        exact br_f (by decide) (nm_r (e' := 5) (by decide) (br_t (by decide) (H _ _ _ _ _ _ _ _ _ _ _ _ hG)))
    · exact br_f (by decide) (nm_r (e' := 5) (by decide) (br_t (by decide) (H 1 x y 1 fl lx ly lw fh hx hy hw (Or.inr ⟨rfl, hcan.mpr (hm2.2 (fun t => g (hm.mpr t))), by omega, by decide⟩))))
theorem cd_solve {post : Int32 → St2 → Prop} {p q : Int32} {can : Prop} (hD : cd_D can ct a1 a2 a3)
    (H : ∀ (r : Int32) (x' y' w' : Int64) (f : Int32) (lx' ly' lw' : Int64) (f2 : Int32) (hx' hy' hw' : Int64), cd_G can r x' w' → post r (ct, lv, x', y', w', f, f2, lx', ly', lw', hx', hy', hw', rm, bX, bY, bW, ap, aq, a1, a2, a3, a4)) :
    wpX_solve post (ct, lv, x, y, w, fl, fh, lx, ly, lw, hx, hy, hw, rm, bX, bY, bW, ap, aq, a1, a2, a3, a4) p q (-1) := by
  have e1 : (50 : Int64).toInt = 50 := rfl
  have e2 : (-50 : Int64).toInt = -50 := rfl
  exact br_c
    (fun _ => br_c (fun _ => cd_sol42 hD e2 e2 (Or.inr rfl) (Or.inr rfl) H) (fun _ => cd_sol42 hD e2 e1 (Or.inr rfl) (Or.inl rfl) H))
    (fun _ => br_c (fun _ => cd_sol42 hD e1 e2 (Or.inl rfl) (Or.inr rfl) H) (fun _ => cd_sol42 hD e1 e1 (Or.inl rfl) (Or.inl rfl) H))
theorem cd_possible {post : Int32 → St2 → Prop} {can : Prop} (hD : cd_D can ct a1 a2 a3)
    (H : ∀ (r : Int32) (x' y' w' : Int64) (f : Int32) (lx' ly' lw' : Int64) (f2 : Int32) (hx' hy' hw' : Int64), (r = 0 ∧ ¬ can) ∨ (r = 1 ∧ can) → post r (ct, lv, x', y', w', f, f2, lx', ly', lw', hx', hy', hw', rm, bX, bY, bW, ap, aq, a1, a2, a3, a4)) :
    wpX_possible post (ct, lv, x, y, w, fl, fh, lx, ly, lw, hx, hy, hw, rm, bX, bY, bW, ap, aq, a1, a2, a3, a4) := by
  refine cd_solve (can := can) hD (fun r x' y' w' f lx' ly' lw' f2 hx' hy' hw' hG => ?_)
  rcases hG with ⟨hr, hc⟩ | ⟨hr, hc, _⟩
  · subst hr
    exact br_t rfl (H _ _ _ _ _ _ _ _ _ _ _ _ (Or.inl ⟨rfl, hc⟩))
  · subst hr
    exact br_f (by decide) (H _ _ _ _ _ _ _ _ _ _ _ _ (Or.inr ⟨rfl, hc⟩))
/-- an aim that is taken -/
def cd_aim (p q : Int32) : Prop := ¬ p < -9 ∧ ¬ 9 < p ∧ ¬ q < -9 ∧ ¬ 9 < q
theorem cd_best {post : Int32 → St2 → Prop} {p q : Int32} {can : Prop} (hD : cd_D can ct a1 a2 a3)
    (Hm : ¬ cd_aim p q → post (-1) (ct, lv, x, y, w, fl, fh, lx, ly, lw, hx, hy, hw, rm, bX, bY, bW, ap, aq, a1, a2, a3, a4))
    (H0 : cd_aim p q → ¬ can → ∀ (x' y' w' : Int64) (f : Int32) (lx' ly' lw' : Int64) (f2 : Int32) (hx' hy' hw' : Int64), post 0 (ct, lv, x', y', w', f, f2, lx', ly', lw', hx', hy', hw', 0, bX, bY, bW, ap, aq, a1, a2, a3, a4))
    (H1 : cd_aim p q → can → ∀ (x' y' w' : Int64) (f : Int32) (lx' ly' lw' : Int64) (f2 : Int32) (hx' hy' hw' : Int64), (-1000 ≤ x'.toInt ∧ x'.toInt ≤ 1000) → (1 ≤ w'.toInt ∧ w'.toInt ≤ 9) → post 1 (ct, lv, x', y', w', f, f2, lx', ly', lw', hx', hy', hw', 1, x', y', w', p, q, a1, a2, a3, a4)) :
    wpX_best post (ct, lv, x, y, w, fl, fh, lx, ly, lw, hx, hy, hw, rm, bX, bY, bW, ap, aq, a1, a2, a3, a4) p q := by
  refine br_c (fun g1 => Hm (fun t => t.1 g1)) (fun g1 => br_c (fun g2 => Hm (fun t => t.2.1 g2)) (fun g2 => br_c (fun g3 => Hm (fun t => t.2.2.1 g3)) (fun g3 => br_c (fun g4 => ?_) (fun g4 => Hm (fun t => t.2.2.2 (Int32.not_le.mp g4))))))
  have ha : cd_aim p q := ⟨g1, g2, g3, Int32.not_lt.mpr g4⟩
  refine cd_solve (can := can) hD (fun r x' y' w' f lx' ly' lw' f2 hx' hy' hw' hG => ?_)
  rcases hG with ⟨hr, hc⟩ | ⟨hr, hc, hb1, hb2⟩
  · subst hr
    exact ⟨cd_nb0, cd_fb0, br_t rfl (H0 ha hc _ _ _ _ _ _ _ _ _ _ _)⟩
  · subst hr
    exact ⟨cd_nb1, cd_fb1, br_f (by decide) (H1 ha hc _ _ _ _ _ _ _ _ _ _ _ hb1 hb2)⟩
end
end
section
/-! ===== divisor, denominator, numerator, test ===== -/
theorem cd_div {post : Int64 → Prop} {D : Nat} (hD : 0 < D) (hD9 : D ≤ 9) (H : ∀ v : Nat, 1 ≤ v → v ≤ D → post (lN v)) :
    ∀ n U V s : Nat, U < n → U + s ≤ 20 → 0 < V → V ≤ 1000 → Nat.gcd U V ∣ D → wX_divisor_20 post n (lN U) (lN V) (nI s)
  | 0, U, V, s, h1, h2, h3, h4, h5 => absurd h1 (by omega)
  | n + 1, U, V, s, h1, h2, h3, h4, h5 => by
    refine br_f (nI_ge (b := 64) (by omega) (by decide)) ?_
    by_cases hu : U = 0
    · subst hu
      rw [Nat.gcd_zero_left] at h5
      exact br_t ((pk_lLE (a := 0) (b := 0) (by decide) (by decide)).mpr (Nat.le_refl 0)) (H V h3 (Nat.le_of_dvd hD h5))
    · have hm : V % U < U := Nat.mod_lt _ (by omega)
      have hg : Nat.gcd (V % U) U ∣ D := by rw [← Nat.gcd_rec]; exact h5
      have hle : ¬ lN U ≤ lN 0 := fun t => absurd ((pk_lLE (by omega) (by decide)).mp t) (by omega)
      have hne : ¬ lN U = lN 0 := fun t => hu ((pk_lEQ (by omega) (by decide)).mp t)
      exact br_f hle ⟨hne, nm_r (pk_lRem (by omega) (by omega) (by omega)) (nm_r (nI_1 s) (cd_div hD hD9 H n (V % U) U (s + 1) (by omega) (by omega) (by omega) (by omega) hg))⟩
theorem cd_div0 {post : Int64 → Prop} {D U : Nat} (hD : 0 < D) (hD9 : D ≤ 9) (hU : U ≤ 1000) (H : ∀ v : Nat, 1 ≤ v → v ≤ D → post (lN v)) : ∃ n, wX_divisor_20 post n (lN U) (lN D) 0 := by
  refine ⟨13, ?_⟩
  refine br_f (by decide) ?_
  by_cases hu : U = 0
  · subst hu
    exact br_t ((pk_lLE (a := 0) (b := 0) (by decide) (by decide)).mpr (Nat.le_refl 0)) (H D hD (Nat.le_refl D))
  · have hm : D % U ≤ D := Nat.mod_le _ _
    have hg : Nat.gcd (D % U) U ∣ D := by rw [← Nat.gcd_rec]; exact Nat.gcd_dvd_right U D
    have hle : ¬ lN U ≤ lN 0 := fun t => absurd ((pk_lLE (by omega) (by decide)).mp t) (by omega)
    have hne : ¬ lN U = lN 0 := fun t => hu ((pk_lEQ (by omega) (by decide)).mp t)
    exact br_f hle ⟨hne, nm_r (pk_lRem (by omega) (by omega) (by omega)) (nm_r (e' := nI 1) (by decide) (cd_div hD hD9 H 12 (D % U) U 1 (by omega) (by omega) (by omega) (by omega) hg))⟩
theorem cd_lOf {x : Int64} {k : Nat} (h : x.toInt = (k : Int)) : x = lN k := by
  have hl := Int64.toInt_lt x
  refine Int64.toInt.inj ?_
  rw [h, pk_lT (by omega)]
theorem cd_divisor {post : Int64 → Prop} {n d : Int64} (hn : -1000 ≤ n.toInt ∧ n.toInt ≤ 1000) (hd : 1 ≤ d.toInt ∧ d.toInt ≤ 9) (H : ∀ v D : Nat, 1 ≤ v → v ≤ D → D ≤ 9 → d = lN D → post (lN v)) : wpX_divisor post () n d := by
  have z0 : (0 : Int64).toInt = 0 := rfl
  obtain ⟨D, eD⟩ : ∃ D : Nat, d.toInt = (D : Int) := ⟨d.toInt.toNat, by omega⟩
  have eD' := cd_lOf eD
  have K : ∀ U : Nat, U ≤ 1000 → ∃ f, wX_divisor_20 post f (lN U) d 0 := by
    intro U hU
    rw [eD']
    exact cd_div0 (by omega) (by omega) hU (fun v h1 h2 => H v D h1 h2 (by omega) eD')
  refine br_c (fun g => ?_) (fun g => ?_)
  · rw [Int64.le_iff_toInt_le, z0] at g
    have e : n = lN n.toInt.toNat := cd_lOf (by omega)
    rw [e]
    exact K _ (by omega)
  · rw [Int64.le_iff_toInt_le, z0] at g
    have en := cd_neg64 (rfl : n.toInt = n.toInt) (by omega)
    refine nm_r (e' := lN (-n.toInt).toNat) (cd_lOf (by omega)) (K _ (by omega))
section
variable {ct lv : Int32} {x y w : Int64} {fl fh : Int32} {lx ly lw hx hy hw : Int64} {rm : Int32} {bX bY bW : Int64} {ap aq : Int32} {a1 a2 a3 a4 : Nat → Int32}
theorem cd_den1 {post : Int32 → Prop} (hx0 : -1000 ≤ bX.toInt ∧ bX.toInt ≤ 1000) (hw0 : 1 ≤ bW.toInt ∧ bW.toInt ≤ 9) (H : ∀ k : Nat, 1 ≤ k → k ≤ 9 → post (nI k)) : wpX_denominator post (ct, lv, x, y, w, fl, fh, lx, ly, lw, hx, hy, hw, 1, bX, bY, bW, ap, aq, a1, a2, a3, a4) 1 := by
  refine br_f (by decide) (br_f (by decide) (br_t (by decide) (br_t rfl (cd_divisor hx0 hw0 (fun v D h1 h2 h3 eD => ?_)))))
  refine ⟨fun t => ?_, ?_⟩
  · have := (pk_lEQ (a := v) (b := 0) (by omega) (by decide)).mp t
    omega
  · have e : bW / lN v = lN (D / v) := by rw [eD]; exact pk_lDiv (by omega) (by omega) (by omega)
    rw [e, lN_i]
    refine H _ ((Nat.one_le_div_iff (by omega)).mpr h2) (Nat.le_trans (Nat.div_le_self _ _) h3)
theorem cd_den0 {post : Int32 → Prop} {k : Int32} (H : post 0) : wpX_denominator post (ct, lv, x, y, w, fl, fh, lx, ly, lw, hx, hy, hw, 0, bX, bY, bW, ap, aq, a1, a2, a3, a4) k := br_t rfl H
theorem cd_den3 {post : Int32 → Prop} (H : post 0) : wpX_denominator post (ct, lv, x, y, w, fl, fh, lx, ly, lw, hx, hy, hw, rm, bX, bY, bW, ap, aq, a1, a2, a3, a4) 3 := br_c (fun _ => H) (fun _ => br_f (by decide) (br_f (by decide) H))
theorem cd_num {post : Int32 → Prop} (H : post 0) : wpX_numerator post (ct, lv, x, y, w, fl, fh, lx, ly, lw, hx, hy, hw, rm, bX, bY, bW, ap, aq, a1, a2, a3, a4) (-1) := br_c (fun _ => H) (fun _ => br_t (by decide) H)
/-- what isCondition asks -/
def cd_ok (a b c : Int32) : Prop := ¬ a < -9 ∧ ¬ 9 < a ∧ ¬ b < -9 ∧ ¬ 9 < b ∧ ¬ c < -99 ∧ ¬ 99 < c ∧ (¬ a = 0 ∨ ¬ b = 0)
theorem cd_isC {post : Int32 → Prop} {a b c : Int32} (h1 : cd_ok a b c → post 1) (h0 : ¬ cd_ok a b c → post 0) : wpX_isCondition post () a b c := by
  have Z : ¬ cd_ok a b c → wX_isCondition_40 post a b := fun t => br_t rfl (h0 t)
  refine br_c (fun g1 => Z (fun t => t.1 g1)) (fun g1 => br_c (fun g2 => Z (fun t => t.2.1 g2)) (fun g2 => br_c (fun g3 => Z (fun t => t.2.2.1 g3)) (fun g3 => br_c (fun g4 => Z (fun t => t.2.2.2.1 g4)) (fun g4 => br_c (fun g5 => Z (fun t => t.2.2.2.2.1 g5)) (fun g5 => br_c (fun g6 => Z (fun t => t.2.2.2.2.2.1 g6)) (fun g6 => br_f (by decide) (br_c (fun g7 => br_c (fun g8 => h0 ?_) (fun g8 => h1 ?_)) (fun g7 => h1 ?_))))))))
  · intro t
    rcases t.2.2.2.2.2.2 with c | c
    · exact c g7
    · exact c g8
  · exact ⟨g1, g2, g3, g4, g5, g6, Or.inr g8⟩
  · exact ⟨g1, g2, g3, g4, g5, g6, Or.inl g7⟩
theorem cd_test {post : Int32 → Prop} {a b c : Int32} (hm : ¬ (¬ rm = 0 ∧ cd_ok a b c) → post (-1)) (hp : ¬ rm = 0 → cd_ok a b c → ∀ r : Int32, ¬ r = -1 → post r) : wpX_test post (ct, lv, x, y, w, fl, fh, lx, ly, lw, hx, hy, hw, rm, bX, bY, bW, ap, aq, a1, a2, a3, a4) a b c := by
  refine br_c (fun g => hm (fun t => t.1 g)) (fun g => cd_isC (fun k => br_f (by decide) (fun u eu => br_c (fun _ => hp g k 1 (by decide)) (fun _ => br_c (fun _ => hp g k 0 (by decide)) (fun _ => hp g k 2 (by decide))))) (fun k => br_t rfl (hm (fun t => k t.2))))
end
end
section
/-! ===== the law, from its end ===== -/
section
variable {ct lv : Int32} {x y w : Int64} {fl fh : Int32} {lx ly lw hx hy hw : Int64} {rm : Int32} {bX bY bW : Int64} {ap aq : Int32} {a1 a2 a3 a4 : Nat → Int32} {post : Int32 → St0 → Prop} {mc ms kc ks : Nat} {pa pb pc pp pq vo vc va vi zz : Int32} {can : Prop}
/-- a flag of the law and what it stands for -/
def cd_B (v : Int32) (P : Prop) : Prop := (v = 0 ∧ ¬ P) ∨ (v = 1 ∧ P)
theorem cd_283 {z0 z1 : Int32} (hp : post 1 ()) (h : ¬ z1 < z0) : wL_lawOf_283 post mc ms z0 z1 kc ks ct lv x y w fl fh lx ly lw hx hy hw rm bX bY bW ap aq a1 a2 a3 a4 := br_f h (cd_den3 (br_t rfl (cd_num (br_t rfl hp))))
/-- what is remembered goes with the flag 'is' -/
def cd_M (vi rm : Int32) (bX bW : Int64) : Prop := (vi = 0 ∧ rm = 0) ∨ (vi = 1 ∧ rm = 1 ∧ (-1000 ≤ bX.toInt ∧ bX.toInt ≤ 1000) ∧ (1 ≤ bW.toInt ∧ bW.toInt ≤ 9))
theorem cd_264 (hp : post 1 ()) (hM : cd_M vi rm bX bW) : wL_lawOf_264 post mc ms vi zz zz kc ks ct lv x y w fl fh lx ly lw hx hy hw rm bX bY bW ap aq a1 a2 a3 a4 := by
  rcases hM with ⟨h1, h2⟩ | ⟨h1, h2, h3, h4⟩
  · subst h1 h2
    exact br_t rfl (cd_den0 (br_t rfl (cd_283 hp (by decide))))
  · subst h1 h2
    refine br_t rfl (cd_den1 h3 h4 (fun k k1 k9 => br_f (by decide) (cd_283 hp ?_)))
    exact nI_nlt (b := 1) k1 (by omega)
theorem cd_249 (hp : post 1 ()) (hM : cd_M vi rm bX bW) (h1 : vi = 0 ∨ vo = 0 → zz = 1) (h0 : ¬ vi = 0 → ¬ vo = 0 → zz = 0) : wL_lawOf_249 post mc ms vo vi zz kc ks ct lv x y w fl fh lx ly lw hx hy hw rm bX bY bW ap aq a1 a2 a3 a4 := by
  refine br_c (fun g => ?_) (fun g => br_c (fun k => ?_) (fun k => ?_))
  · have e := h1 (Or.inl g)
    subst e
    exact cd_264 hp hM
  · have e := h1 (Or.inr k)
    subst e
    exact cd_264 hp hM
  · have e := h0 g k
    subst e
    exact cd_264 hp hM
theorem cd_230 (hp : post 1 ()) (hM : cd_M vi rm bX bW) (hO : cd_B vo (cd_ok pa pb pc)) : wL_lawOf_230 post mc ms pa pb pc vo vi kc ks ct lv x y w fl fh lx ly lw hx hy hw rm bX bY bW ap aq a1 a2 a3 a4 := by
  refine cd_test (fun g => br_t rfl (cd_249 hp hM (fun _ => rfl) (fun k1 k2 => absurd ?_ g))) (fun g k r hr => br_f hr (cd_249 hp hM (fun t => absurd t ?_) (fun _ _ => rfl)))
  · refine ⟨?_, ?_⟩
    · rcases hM with ⟨h1, h2⟩ | ⟨h1, h2, _⟩
      · exact absurd h1 k1
      · rw [h2]; decide
    · rcases hO with ⟨h1, h2⟩ | ⟨h1, h2⟩
      · exact absurd h1 k2
      · exact h2
  · intro t
    rcases t with t | t
    · rcases hM with ⟨h1, h2⟩ | ⟨h1, h2, _⟩
      · exact g h2
      · rw [h1] at t; exact absurd t (by decide)
    · rcases hO with ⟨h1, h2⟩ | ⟨h1, h2⟩
      · exact h2 k
      · rw [h1] at t; exact absurd t (by decide)
theorem cd_210 (hp : post 1 ()) (hO : cd_B vo (cd_ok pa pb pc)) (h0 : va = 0 ∨ vc = 0 → cd_M 0 rm bX bW) (h1 : ¬ va = 0 → ¬ vc = 0 → cd_M 1 rm bX bW) : wL_lawOf_210 post mc ms pa pb pc vo vc va zz zz kc ks ct lv x y w fl fh lx ly lw hx hy hw rm bX bY bW ap aq a1 a2 a3 a4 :=
  br_t rfl (br_c (fun g => cd_230 hp (h0 (Or.inl g)) hO) (fun g => br_c (fun k => cd_230 hp (h0 (Or.inr k)) hO) (fun k => cd_230 hp (h1 g k) hO)))
theorem cd_181 (hp : post 1 ()) (hO : cd_B vo (cd_ok pa pb pc)) (hC : cd_B vc can) (hA : cd_B va (cd_aim pp pq)) (hD : cd_D can ct a1 a2 a3) (hr : rm = 0) : wL_lawOf_181 post mc ms pa pb pc pp pq vo vc va kc ks ct lv x y w fl fh lx ly lw hx hy hw rm bX bY bW ap aq a1 a2 a3 a4 := by
  subst hr
  refine cd_best (can := can) hD (fun g => ?_) (fun g k x' y' w' f lx' ly' lw' f2 hx' hy' hw' => ?_) (fun g k x' y' w' f lx' ly' lw' f2 hx' hy' hw' b1 b2 => ?_)
  · rcases hA with ⟨h1, h2⟩ | ⟨h1, h2⟩
    · subst h1
      exact br_t rfl (cd_210 hp hO (fun _ => Or.inl ⟨rfl, rfl⟩) (fun t => absurd rfl t))
    · exact absurd h2 g
  · rcases hA with ⟨h1, h2⟩ | ⟨h1, h2⟩
    · exact absurd g h2
    · subst h1
      rcases hC with ⟨h3, h4⟩ | ⟨h3, h4⟩
      · subst h3
        exact br_f (by decide) (br_t rfl (cd_210 hp hO (fun _ => Or.inl ⟨rfl, rfl⟩) (fun _ t => absurd rfl t)))
      · exact absurd h4 k
  · rcases hA with ⟨h1, h2⟩ | ⟨h1, h2⟩
    · exact absurd g h2
    · subst h1
      rcases hC with ⟨h3, h4⟩ | ⟨h3, h4⟩
      · exact absurd k h4
      · subst h3
        exact br_f (by decide) (br_f (by decide) (cd_210 hp hO (fun t => absurd t (by decide)) (fun _ _ => Or.inr ⟨rfl, rfl, b1, b2⟩)))
theorem cd_145 (hp : post 1 ()) (hO : cd_B vo (cd_ok pa pb pc)) (hC : cd_B vc can) (hD : cd_D can ct a1 a2 a3) (hr : rm = 0) : wL_lawOf_145 post mc ms pa pb pc pp pq vo vc zz zz kc ks ct lv x y w fl fh lx ly lw hx hy hw rm bX bY bW ap aq a1 a2 a3 a4 := by
  have Z : ¬ cd_aim pp pq → wL_lawOf_180 post mc ms pa pb pc pp pq vo vc kc ks ct lv x y w fl fh lx ly lw hx hy hw rm bX bY bW ap aq a1 a2 a3 a4 := fun t => cd_181 hp hO hC (Or.inl ⟨rfl, t⟩) hD hr
  exact br_t rfl (br_c (fun g1 => Z (fun t => t.1 g1)) (fun g1 => br_c (fun g2 => Z (fun t => t.2.1 g2)) (fun g2 => br_c (fun g3 => Z (fun t => t.2.2.1 g3)) (fun g3 => br_c (fun g4 => Z (fun t => t.2.2.2 g4)) (fun g4 => cd_181 hp hO hC (Or.inr ⟨rfl, g1, g2, g3, g4⟩) hD hr)))))
theorem cd_128 (hp : post 1 ()) (hO : cd_B vo (cd_ok pa pb pc)) (hC : cd_B vc can) (hD : cd_D can ct a1 a2 a3) (hr : rm = 0) : wL_lawOf_128 post mc ms pa pb pc pp pq vo vc kc ks ct lv x y w fl fh lx ly lw hx hy hw rm bX bY bW ap aq a1 a2 a3 a4 := by
  refine cd_possible (can := can) hD (fun r x' y' w' f lx' ly' lw' f2 hx' hy' hw' hq => ?_)
  rcases hq with ⟨e, k⟩ | ⟨e, k⟩
  · subst e
    rcases id hC with ⟨h1, h2⟩ | ⟨h1, h2⟩
    · exact br_t h1 (cd_145 hp hO hC hD hr)
    · exact absurd h2 k
  · subst e
    rcases id hC with ⟨h1, h2⟩ | ⟨h1, h2⟩
    · exact absurd k h2
    · exact br_f (by rw [h1]; decide) (cd_145 hp hO hC hD hr)
/-- low, read as an Int, where the row is a condition -/
theorem cd_108 {u v : Int32} (hp : post 1 ()) (hO : cd_B vo (cd_ok pa pb pc)) (hD : cd_D (¬ cd_ok pa pb pc ∨ ¬ pc < (-50) * u - 50 * v) ct a1 a2 a3) (hr : rm = 0) : wL_lawOf_108 post mc ms pa pb pc pp pq vo v 50 ((-50) * u) kc ks ct lv x y w fl fh lx ly lw hx hy hw rm bX bY bW ap aq a1 a2 a3 a4 := by
  refine nm_e (br_c (fun g => ?_) (fun g => br_c (fun k => ?_) (fun k => ?_)))
  · refine cd_128 hp hO (Or.inr ⟨rfl, ?_⟩) hD hr
    rcases hO with ⟨h1, h2⟩ | ⟨h1, h2⟩
    · exact Or.inl h2
    · rw [h1] at g; exact absurd g (by decide)
  · refine cd_128 hp hO (Or.inl ⟨rfl, ?_⟩) hD hr
    rcases hO with ⟨h1, h2⟩ | ⟨h1, h2⟩
    · exact absurd h1 g
    · rintro (t | t)
      · exact t h2
      · exact t k
  · exact cd_128 hp hO (Or.inr ⟨rfl, Or.inr k⟩) hD hr
/-- the desk behind add -/
def cd_W (pa pb pc ct : Int32) (a1 a2 a3 : Nat → Int32) : Prop := (¬ cd_ok pa pb pc ∧ ct = 4) ∨ (cd_ok pa pb pc ∧ ct = 5 ∧ cd_Ar pa.toInt pb.toInt pc.toInt a1 a2 a3)
theorem cd_okI {a b c : Int32} (h : cd_ok a b c) : (-9 ≤ a.toInt ∧ a.toInt ≤ 9) ∧ (-9 ≤ b.toInt ∧ b.toInt ≤ 9) ∧ (-99 ≤ c.toInt ∧ c.toInt ≤ 99) ∧ (a.toInt ≠ 0 ∨ b.toInt ≠ 0) := by
  obtain ⟨h1, h2, h3, h4, h5, h6, h7⟩ := h
  rw [Int32.lt_iff_toInt_lt] at h1 h2 h3 h4 h5 h6
  have e1 : (-9 : Int32).toInt = -9 := rfl
  have e2 : (9 : Int32).toInt = 9 := rfl
  have e3 : (-99 : Int32).toInt = -99 := rfl
  have e4 : (99 : Int32).toInt = 99 := rfl
  have n0 : ∀ z : Int32, ¬ z = 0 → z.toInt ≠ 0 := fun z hz t => hz (Int32.toInt.inj (by rw [t]; rfl))
  refine ⟨by omega, by omega, by omega, ?_⟩
  rcases h7 with t | t
  · exact Or.inl (n0 _ t)
  · exact Or.inr (n0 _ t)
theorem cd_WD {u v : Int32} (hW : cd_W pa pb pc ct a1 a2 a3) (hu : cd_ok pa pb pc → u.toInt = (pa.toInt.natAbs : Int)) (hv : cd_ok pa pb pc → v.toInt = (pb.toInt.natAbs : Int)) : cd_D (¬ cd_ok pa pb pc ∨ ¬ pc < (-50) * u - 50 * v) ct a1 a2 a3 := by
  rcases hW with ⟨h1, h2⟩ | ⟨h1, h2, h3⟩
  · exact Or.inl ⟨h2, Or.inl h1⟩
  · obtain ⟨bA, bB, bC, hz⟩ := cd_okI h1
    refine Or.inr ⟨h2, _, _, _, h3, hz, ?_⟩
    have e1 : ((-50) * u).toInt = -50 * (pa.toInt.natAbs : Int) := cd_mul32 rfl (hu h1) (by omega)
    have e2 : (50 * v).toInt = 50 * (pb.toInt.natAbs : Int) := cd_mul32 rfl (hv h1) (by omega)
    rw [Int32.lt_iff_toInt_lt, cd_sub32 e1 e2 (by omega)]
    constructor
    · rintro (t | t)
      · exact absurd h1 t
      · omega
    · intro t
      right
      omega
theorem cd_78 (hp : post 1 ()) (hO : cd_B vo (cd_ok pa pb pc)) (hW : cd_W pa pb pc ct a1 a2 a3) (hr : rm = 0) : wL_lawOf_78 post mc ms pa pb pc pp pq vo zz zz kc ks ct lv x y w fl fh lx ly lw hx hy hw rm bX bY bW ap aq a1 a2 a3 a4 := by
  have z0 : (0 : Int32).toInt = 0 := rfl
  have P : ∀ z : Int32, 0 ≤ z → z.toInt = (z.toInt.natAbs : Int) := by
    intro z hz
    rw [Int32.le_iff_toInt_le, z0] at hz
    omega
  have M : ∀ z : Int32, ¬ 0 ≤ z → (-9 ≤ z.toInt ∧ z.toInt ≤ 9) → (-z).toInt = (z.toInt.natAbs : Int) := by
    intro z hz hb
    rw [Int32.le_iff_toInt_le, z0] at hz
    rw [cd_neg32 rfl (by omega)]
    omega
  have Q : ∀ u : Int32, (cd_ok pa pb pc → u.toInt = (pa.toInt.natAbs : Int)) → wL_lawOf_95 post mc ms pa pb pc pp pq vo u (-50) kc ks ct lv x y w fl fh lx ly lw hx hy hw rm bX bY bW ap aq a1 a2 a3 a4 := by
    intro u hu
    exact br_c (fun g => cd_108 hp hO (cd_WD hW hu (fun _ => P _ g)) hr) (fun g => cd_108 hp hO (cd_WD hW hu (fun k => M _ g (cd_okI k).2.1)) hr)
  exact br_t rfl (br_c (fun g => Q _ (fun _ => P _ g)) (fun g => Q _ (fun k => M _ g (cd_okI k).1)))
theorem cd_58 (hp : post 1 ()) (hO : cd_B vo (cd_ok pa pb pc)) (hr : rm = 0) (hc : ct = 4) (j0 : cd_J a1 a2 a3 0 1 0) (j1 : cd_J a1 a2 a3 1 (-1) 0) (j2 : cd_J a1 a2 a3 2 0 1) (j3 : cd_J a1 a2 a3 3 0 (-1)) : wL_lawOf_58 post mc ms pa pb pc pp pq vo kc ks ct lv x y w fl fh lx ly lw hx hy hw rm bX bY bW ap aq a1 a2 a3 a4 := by
  subst hc
  refine cd_isC (fun k => ?_) (fun k => ?_)
  · have hv : vo = 1 := by
      rcases hO with ⟨h1, h2⟩ | ⟨h1, h2⟩
      · exact absurd k h2
      · exact h1
    have G : ∀ (f : Nat → Int32) (v : Int32) (j : Int32), j.toNatClampNeg ≠ (4 : Int32).toNatClampNeg → upd f (4 : Int32).toNatClampNeg v j.toNatClampNeg = f j.toNatClampNeg := fun f v j hj => pk_un hj
    have R : ∀ (j : Int32) (U V : Int), j.toNatClampNeg ≠ (4 : Int32).toNatClampNeg → cd_J a1 a2 a3 j U V → cd_J (upd a1 (4 : Int32).toNatClampNeg pa) (upd a2 (4 : Int32).toNatClampNeg pb) (upd a3 (4 : Int32).toNatClampNeg pc) j U V := by
      intro j U V hj h
      unfold cd_J
      rw [G _ _ _ hj, G _ _ _ hj, G _ _ _ hj]
      exact h
    refine br_f (by decide) (br_t (by decide) ⟨cd_in4, nm_e ⟨cd_in4, nm_e ⟨cd_in4, nm_e (nm_r (e' := 5) (by decide) (br_f (by rw [hv]; decide) ?_))⟩⟩⟩)
    have e : (5 : Int32) - 4 = 1 := by decide
    rw [e]
    obtain ⟨bA, bB, bC, hz⟩ := cd_okI k
    refine cd_78 hp hO (Or.inr ⟨k, rfl, ?_, R 0 _ _ (by decide) j0, R 1 _ _ (by decide) j1, R 2 _ _ (by decide) j2, R 3 _ _ (by decide) j3⟩) hr
    rw [pk_us, pk_us, pk_us]
    exact ⟨rfl, rfl, rfl, bA, bB, bC⟩
  · have hv : vo = 0 := by
      rcases hO with ⟨h1, h2⟩ | ⟨h1, h2⟩
      · exact h1
      · exact absurd h2 k
    exact br_t rfl (br_t hv (cd_78 hp hO (Or.inl ⟨k, rfl⟩) hr))
end
theorem cd_init {post : St2 → Prop} (H : ∀ b1 b2 b3 b4 : Nat → Int32, cd_J b1 b2 b3 0 1 0 → cd_J b1 b2 b3 1 (-1) 0 → cd_J b1 b2 b3 2 0 1 → cd_J b1 b2 b3 3 0 (-1) → post (4, 1, 0, 0, 0, 0, 0, 0, 0, 0, 0, 0, 0, 0, 0, 0, 0, 0, 0, b1, b2, b3, b4)) :
    wpX_init post 4 50 (0, 0, 0, 0, 0, 0, 0, 0, 0, 0, 0, 0, 0, 0, 0, 0, 0, 0, 0) := by
  refine ⟨by decide, by decide, by decide, by decide, by decide, by decide, by decide, by decide, nm_e (nm_e (nm_e (nm_e ⟨5, ?_⟩)))⟩
  refine br_f (by decide) ⟨pk_in 0 14 (by decide), nm_e (nm_r (e' := 1) (by decide) ?_)⟩
  refine br_f (by decide) ⟨pk_in 1 14 (by decide), nm_e (nm_r (e' := 2) (by decide) ?_)⟩
  refine br_f (by decide) ⟨pk_in 2 14 (by decide), nm_e (nm_r (e' := 3) (by decide) ?_)⟩
  refine br_f (by decide) ⟨pk_in 3 14 (by decide), nm_e (nm_r (e' := 4) (by decide) ?_)⟩
  refine br_t (by decide) (nm_e (H _ _ _ _ ⟨by decide, by decide, by decide⟩ ⟨by decide, by decide, by decide⟩ ⟨by decide, by decide, by decide⟩ ⟨by decide, by decide, by decide⟩))
theorem cd_lawOf {post : Int32 → St0 → Prop} {pa pb pc pp pq : Int32} (hp : post 1 ()) : wpL_lawOf post 5 73 () pa pb pc pp pq := by
  refine ⟨by decide, by decide, 4, 50, by decide, by decide, cd_init (fun b1 b2 b3 b4 j0 j1 j2 j3 => ?_)⟩
  have Z : ¬ cd_ok pa pb pc → wL_lawOf_57 post 5 73 pa pb pc pp pq (1 + 4) (23 + 50) 4 1 0 0 0 0 0 0 0 0 0 0 0 0 0 0 0 0 0 b1 b2 b3 b4 := fun t => cd_58 hp (Or.inl ⟨rfl, t⟩) rfl rfl j0 j1 j2 j3
  have Y : cd_ok pa pb pc → wL_lawOf_53 post 5 73 pa pb pc pp pq (1 + 4) (23 + 50) 4 1 0 0 0 0 0 0 0 0 0 0 0 0 0 0 0 0 0 b1 b2 b3 b4 := fun t => cd_58 hp (Or.inr ⟨rfl, t⟩) rfl rfl j0 j1 j2 j3
  exact br_c (fun g1 => Z (fun t => t.1 g1)) (fun g1 => br_c (fun g2 => Z (fun t => t.2.1 g2)) (fun g2 => br_c (fun g3 => Z (fun t => t.2.2.1 g3)) (fun g3 => br_c (fun g4 => Z (fun t => t.2.2.2.1 g4)) (fun g4 => br_c (fun g5 => Z (fun t => t.2.2.2.2.1 g5)) (fun g5 => br_c (fun g6 => Z (fun t => t.2.2.2.2.2.1 g6)) (fun g6 => br_c (fun g7 => br_c (fun g8 => Z (fun t => t.2.2.2.2.2.2.elim (fun c => c g7) (fun c => c g8))) (fun g8 => Y ⟨g1, g2, g3, g4, g5, g6, Or.inr g8⟩)) (fun g7 => Y ⟨g1, g2, g3, g4, g5, g6, Or.inl g7⟩)))))))
end
section
theorem cd_cell {post : Int32 → Prop} {L : Nat} {xs : Nat → Int32} (hL : L ≤ 5) (k : Nat) (hk : k < 5) (H : ∀ r, post r) : wpL_cellAt post L xs () (nI k) :=
  pk_le L k (fun _ => H 0) (fun z => ⟨vp_in_nI z (by omega), H _⟩)
theorem i_vc (xs : Nat → Int32) (L : Nat) (hL : L ≤ 5) : wpL_law (fun r => r = 1) L xs :=
  cd_cell hL 0 (by decide) (fun r1 => cd_cell hL 1 (by decide) (fun r2 => cd_cell hL 2 (by decide) (fun r3 => cd_cell hL 3 (by decide) (fun r4 => cd_cell hL 4 (by decide) (fun r5 => ⟨5, 73, by decide, by decide, cd_lawOf rfl⟩)))))
end
