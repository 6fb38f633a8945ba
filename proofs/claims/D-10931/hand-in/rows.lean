section
/-- the squared distance of (x, y) and (a, b), in the code's own longs -/
def mg_D (x y a b : Int32) : Int64 := (x.toInt64 - a.toInt64) * (x.toInt64 - a.toInt64) + (y.toInt64 - b.toInt64) * (y.toInt64 - b.toInt64)
/-- a coordinate that the component takes -/
def mg_R (x : Int32) : Prop := ¬ x < (-50) ∧ ¬ 50 < x
theorem mg_R_int {x : Int32} (h : mg_R x) : -50 ≤ x.toInt ∧ x.toInt ≤ 50 := by
  obtain ⟨h1, h2⟩ := h
  rw [Int32.lt_iff_toInt_lt] at h1 h2
  have e1 : (-50 : Int32).toInt = -50 := by decide
  have e2 : (50 : Int32).toInt = 50 := by decide
  rw [e1] at h1
  rw [e2] at h2
  omega
theorem mg_R_0 : mg_R 0 := ⟨by decide, by decide⟩
theorem mg_sq {d : Int} (h1 : -100 ≤ d) (h2 : d ≤ 100) : 0 ≤ d * d ∧ d * d ≤ 10000 := by
  have h := Int.natAbs_mul_self (a := d)
  have h3 : d.natAbs ≤ 100 := by omega
  have h4 : d.natAbs * d.natAbs ≤ 100 * 100 := Nat.mul_le_mul h3 h3
  rw [← h]
  generalize d.natAbs * d.natAbs = q at h4
  omega
theorem mg_nn (d : Int) : 0 ≤ d * d := by
  rw [← Int.natAbs_mul_self (a := d)]
  exact Int.natCast_nonneg _
theorem mg_bm {z : Int} (h1 : -1000000 ≤ z) (h2 : z ≤ 1000000) : z.bmod (2 ^ 64) = z :=
  Int.bmod_eq_of_le (by omega) (by omega)
theorem mg_D_int {x y a b : Int32} (hx : mg_R x) (hy : mg_R y) (ha : mg_R a) (hb : mg_R b) :
    (mg_D x y a b).toInt = (x.toInt - a.toInt) * (x.toInt - a.toInt) + (y.toInt - b.toInt) * (y.toInt - b.toInt) ∧
    0 ≤ (mg_D x y a b).toInt ∧ (mg_D x y a b).toInt ≤ 20000 := by
  have hx := mg_R_int hx
  have hy := mg_R_int hy
  have ha := mg_R_int ha
  have hb := mg_R_int hb
  have s1 := mg_sq (d := x.toInt - a.toInt) (by omega) (by omega)
  have s2 := mg_sq (d := y.toInt - b.toInt) (by omega) (by omega)
  have e1 : (x.toInt64 - a.toInt64).toInt = x.toInt - a.toInt := by
    rw [Int64.toInt_sub, Int32.toInt_toInt64, Int32.toInt_toInt64]
    exact mg_bm (by omega) (by omega)
  have e2 : (y.toInt64 - b.toInt64).toInt = y.toInt - b.toInt := by
    rw [Int64.toInt_sub, Int32.toInt_toInt64, Int32.toInt_toInt64]
    exact mg_bm (by omega) (by omega)
  have e : (mg_D x y a b).toInt = (x.toInt - a.toInt) * (x.toInt - a.toInt) + (y.toInt - b.toInt) * (y.toInt - b.toInt) := by
    unfold mg_D
    rw [Int64.toInt_add, Int64.toInt_mul, Int64.toInt_mul, e1, e2]
    generalize (x.toInt - a.toInt) * (x.toInt - a.toInt) = q at s1
    generalize (y.toInt - b.toInt) * (y.toInt - b.toInt) = r at s2
    rw [mg_bm (z := q) (by omega) (by omega), mg_bm (z := r) (by omega) (by omega)]
    exact mg_bm (by omega) (by omega)
  rw [e]
  generalize (x.toInt - a.toInt) * (x.toInt - a.toInt) = q at s1
  generalize (y.toInt - b.toInt) * (y.toInt - b.toInt) = r at s2
  exact ⟨rfl, by omega, by omega⟩
/-- no distance is below 0 -/
theorem mg_D_nn {x y a b : Int32} (hx : mg_R x) (hy : mg_R y) (ha : mg_R a) (hb : mg_R b) : ¬ mg_D x y a b < 0 := by
  have h := mg_D_int hx hy ha hb
  rw [Int64.lt_iff_toInt_lt, Int64.toInt_zero]
  omega
theorem mg_D_self (x y : Int32) : mg_D x y x y = 0 := by
  unfold mg_D
  rw [Int64.sub_self, Int64.sub_self]
  decide
theorem mg_D_0 (x y : Int32) : mg_D x y 0 0 = x.toInt64 * x.toInt64 + y.toInt64 * y.toInt64 := by
  unfold mg_D
  have e : (0 : Int32).toInt64 = 0 := by decide
  rw [e, Int64.sub_zero, Int64.sub_zero]
/-- the triangle, in whole numbers -/
theorem mg_tri (a b c d : Int) (h : 4 * (a * a + c * c) < b * b + d * d) : a * a + c * c ≤ (a - b) * (a - b) + (c - d) * (c - d) := by
  have n1 := mg_nn (b - 2 * a)
  have n2 := mg_nn (d - 2 * c)
  have e1 : (b - 2 * a) * (b - 2 * a) = b * b - 4 * (a * b) + 4 * (a * a) := by grind
  have e2 : (d - 2 * c) * (d - 2 * c) = d * d - 4 * (c * d) + 4 * (c * c) := by grind
  have e3 : (a - b) * (a - b) = a * a - 2 * (a * b) + b * b := by grind
  have e4 : (c - d) * (c - d) = c * c - 2 * (c * d) + d * d := by grind
  rw [e1] at n1
  rw [e2] at n2
  rw [e3, e4]
  generalize a * a = A at *
  generalize b * b = B at *
  generalize c * c = C at *
  generalize d * d = E at *
  generalize a * b = M at *
  generalize c * d = N at *
  omega
/-- where farBeyond cuts, the other middle is no nearer -/
theorem mg_far64 {x y a b c d : Int32} (hx : mg_R x) (hy : mg_R y) (ha : mg_R a) (hb : mg_R b) (hc : mg_R c) (hd : mg_R d)
    (h : ¬ mg_D a b c d ≤ 4 * mg_D x y a b) : ¬ mg_D x y c d < mg_D x y a b := by
  have h1 := mg_D_int ha hb hc hd
  have h2 := mg_D_int hx hy ha hb
  have h3 := mg_D_int hx hy hc hd
  have e4 : (4 * mg_D x y a b).toInt = 4 * (mg_D x y a b).toInt := by
    have e : (4 : Int64).toInt = 4 := by decide
    rw [Int64.toInt_mul, e]
    exact mg_bm (by omega) (by omega)
  rw [Int64.le_iff_toInt_le, e4] at h
  rw [Int64.lt_iff_toInt_lt]
  have t := mg_tri (x.toInt - a.toInt) (c.toInt - a.toInt) (y.toInt - b.toInt) (d.toInt - b.toInt)
  have f1 : x.toInt - a.toInt - (c.toInt - a.toInt) = x.toInt - c.toInt := by omega
  have f2 : y.toInt - b.toInt - (d.toInt - b.toInt) = y.toInt - d.toInt := by omega
  have f3 : (c.toInt - a.toInt) * (c.toInt - a.toInt) = (a.toInt - c.toInt) * (a.toInt - c.toInt) := by grind
  have f4 : (d.toInt - b.toInt) * (d.toInt - b.toInt) = (b.toInt - d.toInt) * (b.toInt - d.toInt) := by grind
  rw [f1, f2, f3, f4, ← h1.1, ← h2.1, ← h3.1] at t
  omega
/-- a place written behind those that hold already -/
theorem mg_fill {f s : Nat → Int32} {i k : Nat} {x : Int32} (hk : k = i) (h : ∀ j, j < i → s j = f j) (hx : x = f i) : ∀ j, j < i + 1 → upd s k x j = f j := by
  intro j hj
  rw [hk]
  by_cases e : j = i
  · rw [e, pk_us, hx]
  · rw [pk_un e]
    exact h j (by omega)
end
section
section
variable {P K : Int32} {up lo : Int64} {a1 a2 a3 a4 a5 a6 a7 a8 a9 a10 a11 a12 : Nat → Int32}
theorem mg_53 {post : St2 → Prop} (H : ∀ b9, (∀ j, j < 24 → b9 j = -1) → post (P, K, up, lo, a1, a2, a3, a4, a5, a6, a7, a8, b9, a10, a11, a12)) : ∃ n, wX_reset_53 post P K up lo n 0 a1 a2 a3 a4 a5 a6 a7 a8 a9 a10 a11 a12 :=
  pk_loop (fun n i s => wX_reset_53 post P K up lo n (nI i) a1 a2 a3 a4 a5 a6 a7 a8 s a10 a11 a12) (fun i s => ∀ j, j < i → s j = -1) 24 0 a9 (by omega) (fun j hj => absurd hj (by omega))
    (fun n s h => pk_le 24 24 (fun _ => H s h) (fun z => absurd z (by omega)))
    (fun n i s hi h hw => pk_le 24 i (fun z => absurd z (by omega)) (fun _ => ⟨pk_in i 24 hi, nm_e (nm_r (nI_1 i) (hw _ (mg_fill (f := fun _ => -1) (nI_clamp (by omega)) h rfl)))⟩))
theorem mg_reset {post : St2 → Prop} (H : ∀ b5 b6 b7 b8 b9 : Nat → Int32, (∀ j, j < 4 → b5 j = a3 j) → (∀ j, j < 4 → b6 j = a4 j) → (∀ j, j < 4 → b7 j = 1) → (∀ j, j < 24 → b9 j = -1) → post (P, K, up, lo, a1, a2, a3, a4, b5, b6, b7, b8, b9, a10, a11, a12)) : wpX_reset post (P, K, up, lo, a1, a2, a3, a4, a5, a6, a7, a8, a9, a10, a11, a12) :=
  pk_loop (σ := (Nat → Int32) × (Nat → Int32) × (Nat → Int32) × (Nat → Int32)) (fun n i s => wX_reset_2 post P K up lo n (nI i) a1 a2 a3 a4 s.1 s.2.1 s.2.2.1 s.2.2.2 a9 a10 a11 a12)
    (fun i s => (∀ j, j < i → s.1 j = a3 j) ∧ (∀ j, j < i → s.2.1 j = a4 j) ∧ (∀ j, j < i → s.2.2.1 j = 1)) 4 0 (a5, a6, a7, a8) (by omega) ⟨fun j hj => absurd hj (by omega), fun j hj => absurd hj (by omega), fun j hj => absurd hj (by omega)⟩
    (fun n s h => pk_le 4 4 (fun _ => mg_53 (fun b9 h9 => H _ _ _ _ _ h.1 h.2.1 h.2.2 h9)) (fun z => absurd z (by omega)))
    (fun n i s hi h hw => pk_le 4 i (fun z => absurd z (by omega)) (fun _ => ⟨pk_in i 4 hi, pk_in i 4 hi, nm_e ⟨pk_in i 4 hi, pk_in i 4 hi, nm_e ⟨pk_in i 4 hi, nm_e ⟨pk_in i 4 hi, nm_e (nm_r (nI_1 i) (hw (_, _, _, _)
      ⟨mg_fill (nI_clamp (by omega)) h.1 (by rw [nI_clamp (by omega)]), mg_fill (nI_clamp (by omega)) h.2.1 (by rw [nI_clamp (by omega)]), mg_fill (f := fun _ => 1) (nI_clamp (by omega)) h.2.2 rfl⟩))⟩⟩⟩⟩))
theorem mg_init {post : St2 → Prop} (H : ∀ b5 b6 b7 b8 b9 : Nat → Int32, (∀ j, j < 24 → b9 j = -1) → post (0, 2, 0, 0, fun _ => 0, fun _ => 0, fun _ => 0, fun _ => 0, b5, b6, b7, b8, b9, fun _ => 0, fun _ => 0, fun _ => 0)) : wpX_init post 12 108 (0, 0, 0, 0) := by
  unfold wpX_init
  dsimp only
  refine ⟨by omega, by omega, by omega, by omega, by omega, by omega, by omega, by omega, by omega, by omega, by omega, by omega, by omega, by omega, by omega, by omega, by omega, by omega, by omega, by omega, by omega, by omega, by omega, by omega, ?_⟩
  exact mg_reset (fun b5 b6 b7 b8 b9 _ _ _ h9 => H b5 b6 b7 b8 b9 h9)
theorem mg_inRange {post : Int32 → Prop} {u : St0} {c : Int32} (H1 : mg_R c → post 1) (H0 : ¬ mg_R c → post 0) : wpX_inRange post u c :=
  br_c (fun h => H0 (fun r => r.1 h)) (fun h => br_c (fun h2 => H0 (fun r => r.2 h2)) (fun h2 => H1 ⟨h, h2⟩))
theorem mg_add {post : Int32 → St2 → Prop} {x y : Int32}
    (H1 : mg_R x → mg_R y → ∀ b1 b2 b5 b6 b7 b8 b9 : Nat → Int32, b1 0 = x → b2 0 = y → (∀ j, j < 24 → b9 j = -1) → post 1 (1, K, up, lo, b1, b2, a3, a4, b5, b6, b7, b8, b9, a10, a11, a12))
    (H0 : ¬ (mg_R x ∧ mg_R y) → post (-1) (0, K, up, lo, a1, a2, a3, a4, a5, a6, a7, a8, a9, a10, a11, a12)) : wpX_add post (0, K, up, lo, a1, a2, a3, a4, a5, a6, a7, a8, a9, a10, a11, a12) x y := by
  unfold wpX_add
  dsimp only
  refine mg_inRange (fun r1 => br_f (by decide) (mg_inRange (fun r2 => br_f (by decide) (br_t (by decide) ⟨pk_in 0 24 (by omega), nm_e ⟨pk_in 0 24 (by omega), nm_e (nm_r (e' := 1) (by decide) (mg_reset (fun b5 b6 b7 b8 b9 _ _ _ h9 => ?_)))⟩⟩)) (fun r2 => br_t rfl (H0 (fun t => r2 t.2))))) (fun r1 => br_t rfl (H0 (fun t => r1 t.1)))
  dsimp only
  rw [sb_cl0]
  exact H1 r1 r2 _ _ b5 b6 b7 b8 b9 pk_us pk_us h9
/-- a group and a middle that seed takes -/
def mg_S (g x y : Int32) : Prop := ¬ g < 0 ∧ ¬ 3 < g ∧ mg_R x ∧ mg_R y
theorem mg_seed {post : Int32 → St2 → Prop} {g x y : Int32}
    (H1 : mg_S g x y → ∀ (j : Nat) (b5 b6 b7 b8 b9 : Nat → Int32), j < 4 → g = nI j → (∀ j, j < 24 → b9 j = -1) → post 0 (P, K, up, lo, a1, a2, upd a3 j x, upd a4 j y, b5, b6, b7, b8, b9, a10, a11, a12))
    (H0 : ¬ mg_S g x y → post (-1) (P, K, up, lo, a1, a2, a3, a4, a5, a6, a7, a8, a9, a10, a11, a12)) : wpX_seed post (P, K, up, lo, a1, a2, a3, a4, a5, a6, a7, a8, a9, a10, a11, a12) g x y := by
  unfold wpX_seed
  dsimp only
  refine br_c (fun h => H0 (fun t => t.1 h)) (fun h1 => br_c (fun h => H0 (fun t => t.2.1 h)) (fun h2 => ?_))
  obtain ⟨j, hj, e⟩ : ∃ j : Nat, j ≤ 3 ∧ g = nI j := nI_of2 (M := 3) (by decide) h1 (Int32.not_lt.mp h2)
  refine mg_inRange (fun r1 => br_f (by decide) (mg_inRange (fun r2 => br_f (by decide) ?_) (fun r2 => br_t rfl (H0 (fun t => r2 t.2.2.2))))) (fun r1 => br_t rfl (H0 (fun t => r1 t.2.2.1)))
  refine ⟨pk_in j 4 (by omega) e, nm_r (by rw [e, nI_clamp (by omega)]) ⟨pk_in j 4 (by omega) e, nm_r (by rw [e, nI_clamp (by omega)]) (mg_reset (fun b5 b6 b7 b8 b9 _ _ _ h9 => ?_))⟩⟩
  exact H1 ⟨h1, h2, r1, r2⟩ j b5 b6 b7 b8 b9 (by omega) e h9
theorem mg_group0 {post : Int32 → Prop} (H : post (-1)) : wpX_group post (0, K, up, lo, a1, a2, a3, a4, a5, a6, a7, a8, a9, a10, a11, a12) 0 :=
  br_f (by decide) (br_f (by decide) H)
theorem mg_group1 {post : Int32 → Prop} (H : post (a9 0)) : wpX_group post (1, K, up, lo, a1, a2, a3, a4, a5, a6, a7, a8, a9, a10, a11, a12) 0 :=
  br_f (by decide) (br_t (by decide) ⟨pk_in 0 24 (by omega), by rw [sb_cl0]; exact H⟩)
end
end
section
section
variable {P K : Int32} {up lo : Int64} {a1 a2 a3 a4 a5 a6 a7 a8 a9 a10 a11 a12 : Nat → Int32}
theorem mg_211 {post : St2 → Prop} {J : Int32 → (Nat → Int32) → (Nat → Int32) → (Nat → Int32) → (Nat → Int32) → (Nat → Int32) → (Nat → Int32) → (Nat → Int32) → (Nat → Int32) → (Nat → Int32) → (Nat → Int32) → (Nat → Int32) → (Nat → Int32) → Prop} {i : Nat} {z : Int32} (hi : i < 4)
    (H : ∀ v : Int32, J (nI (i + 1)) a1 a2 a3 a4 (upd a5 i (a10 i)) (upd a6 i (a11 i)) (upd a7 i (a12 i)) (upd a8 i v) a9 a10 a11 a12) : wX_moveMiddles_211 post J (nI i) z (nI i) P K up lo a1 a2 a3 a4 a5 a6 a7 a8 a9 a10 a11 a12 := by
  unfold wX_moveMiddles_211
  rw [nI_clamp (show i < 2 ^ 31 by omega)]
  exact ⟨pk_in i 4 hi, nm_e ⟨pk_in i 4 hi, pk_in i 4 hi, nm_e ⟨pk_in i 4 hi, pk_in i 4 hi, nm_e ⟨pk_in i 4 hi, pk_in i 4 hi, nm_e (nm_r (nI_1 i) (H _))⟩⟩⟩⟩
theorem mg_192 {post : St2 → Prop} {J : Int32 → (Nat → Int32) → (Nat → Int32) → (Nat → Int32) → (Nat → Int32) → (Nat → Int32) → (Nat → Int32) → (Nat → Int32) → (Nat → Int32) → (Nat → Int32) → (Nat → Int32) → (Nat → Int32) → (Nat → Int32) → Prop} {i : Nat} {x2 z : Int32} (hi : i < 4)
    (H : ∀ v : Int32, J (nI (i + 1)) a1 a2 a3 a4 (upd a5 i (a10 i)) (upd a6 i (a11 i)) (upd a7 i (a12 i)) (upd a8 i v) a9 a10 a11 a12) : wX_moveMiddles_192 post J (nI i) x2 z P K up lo a1 a2 a3 a4 a5 a6 a7 a8 a9 a10 a11 a12 := by
  unfold wX_moveMiddles_192 wX_moveMiddles_206
  exact br_c (fun _ => mg_211 hi H) (fun _ => br_c (fun _ => mg_211 hi H) (fun _ => mg_211 hi H))
theorem mg_157 {post : St2 → Prop} {J : Int32 → (Nat → Int32) → (Nat → Int32) → (Nat → Int32) → (Nat → Int32) → (Nat → Int32) → (Nat → Int32) → (Nat → Int32) → (Nat → Int32) → (Nat → Int32) → (Nat → Int32) → (Nat → Int32) → (Nat → Int32) → Prop} {i : Nat} {z : Int32} (hi : i < 4)
    (H : ∀ v : Int32, J (nI (i + 1)) a1 a2 a3 a4 (upd a5 i (a10 i)) (upd a6 i (a11 i)) (upd a7 i (a12 i)) (upd a8 i v) a9 a10 a11 a12) : wX_moveMiddles_157 post J (nI i) z P K up lo a1 a2 a3 a4 a5 a6 a7 a8 a9 a10 a11 a12 := by
  unfold wX_moveMiddles_157
  exact ⟨pk_in i 4 hi, pk_in i 4 hi, pk_in i 4 hi, pk_in i 4 hi, br_c (fun _ => mg_192 hi H) (fun _ => mg_192 hi H)⟩
/-- what the last loop leaves at place g: the old middle where no point fell, else the sums -/
def mg_M (c10 c11 c12 c5 c6 c7 b5 b6 b7 : Int32) : Prop := (c12 ≤ 0 → b5 = c5 ∧ b6 = c6 ∧ b7 = c7) ∧ (¬ c12 ≤ 0 → b5 = c10 ∧ b6 = c11 ∧ b7 = c12)
theorem mg_99 {post : St2 → Prop} (H : ∀ b5 b6 b7 b8 : Nat → Int32, (∀ g, g < 2 → mg_M (a10 g) (a11 g) (a12 g) (a5 g) (a6 g) (a7 g) (b5 g) (b6 g) (b7 g)) → post (P, 2, up, lo, a1, a2, a3, a4, b5, b6, b7, b8, a9, a10, a11, a12)) : ∃ n, wX_moveMiddles_99 post P 2 up lo n 0 a1 a2 a3 a4 a5 a6 a7 a8 a9 a10 a11 a12 := by
  refine pk_loop (σ := (Nat → Int32) × (Nat → Int32) × (Nat → Int32) × (Nat → Int32)) (fun n i s => wX_moveMiddles_99 post P 2 up lo n (nI i) a1 a2 a3 a4 s.1 s.2.1 s.2.2.1 s.2.2.2 a9 a10 a11 a12)
    (fun i s => (∀ g, g < i → mg_M (a10 g) (a11 g) (a12 g) (a5 g) (a6 g) (a7 g) (s.1 g) (s.2.1 g) (s.2.2.1 g)) ∧ (∀ g, i ≤ g → s.1 g = a5 g ∧ s.2.1 g = a6 g ∧ s.2.2.1 g = a7 g)) 2 0 (a5, a6, a7, a8) (by omega)
    ⟨fun j hj => absurd hj (by omega), fun g _ => ⟨rfl, rfl, rfl⟩⟩
    (fun n s h => pk_le 2 2 (fun _ => H _ _ _ _ h.1) (fun z => absurd z (by omega))) ?_
  intro n i s hi h hw
  obtain ⟨c5, c6, c7, c8⟩ := s
  dsimp only at h hw ⊢
  obtain ⟨h1, h2⟩ := h
  refine pk_le 2 i (fun z => absurd z (by omega)) (fun _ => ⟨pk_in i 4 (by omega), nm_e ⟨pk_in i 4 (by omega), ?_⟩⟩)
  rw [nI_clamp (show i < 2 ^ 31 by omega)]
  obtain ⟨q5, q6, q7⟩ := h2 i (Nat.le_refl i)
  refine br_c (fun hc => nm_r (nI_1 i) (hw (_, _, _, _) ⟨fun g hg => ?_, fun g hg => h2 g (by omega)⟩)) (fun hc => ⟨pk_in i 4 (by omega), pk_in i 4 (by omega), pk_in i 4 (by omega), pk_in i 4 (by omega), ?_⟩)
  · by_cases e : g = i
    · subst e
      exact ⟨fun _ => ⟨q5, q6, q7⟩, fun z => absurd hc z⟩
    · exact h1 g (by omega)
  · have T : ∀ v : Int32, wX_moveMiddles_99 post P 2 up lo n (nI (i + 1)) a1 a2 a3 a4 (upd c5 i (a10 i)) (upd c6 i (a11 i)) (upd c7 i (a12 i)) (upd (upd c8 i 0) i v) a9 a10 a11 a12 := by
      intro v
      refine hw (upd c5 i (a10 i), upd c6 i (a11 i), upd c7 i (a12 i), upd (upd c8 i 0) i v) ⟨fun g hg => ?_, fun g hg => ?_⟩
      · by_cases e : g = i
        · subst e
          exact ⟨fun z => absurd z hc, fun _ => ⟨pk_us, pk_us, pk_us⟩⟩
        · have t := h1 g (by omega)
          dsimp only
          rw [pk_un e, pk_un e, pk_un e]
          exact t
      · have e : g ≠ i := by omega
        have t := h2 g (by omega)
        dsimp only
        rw [pk_un e, pk_un e, pk_un e]
        exact t
    exact br_c (fun _ => mg_157 (by omega) T) (fun _ => mg_157 (by omega) T)
theorem mg_m2 {post : St2 → Prop} (H : ∀ b10 b11 b12 : Nat → Int32, (∀ j, j < 4 → b10 j = 0) → (∀ j, j < 4 → b11 j = 0) → (∀ j, j < 4 → b12 j = 0) → ∃ n, wX_moveMiddles_36 post P K up lo n 0 a1 a2 a3 a4 a5 a6 a7 a8 a9 b10 b11 b12) : wpX_moveMiddles post (P, K, up, lo, a1, a2, a3, a4, a5, a6, a7, a8, a9, a10, a11, a12) :=
  pk_loop (σ := (Nat → Int32) × (Nat → Int32) × (Nat → Int32)) (fun n i s => wX_moveMiddles_2 post P K up lo n (nI i) a1 a2 a3 a4 a5 a6 a7 a8 a9 s.1 s.2.1 s.2.2)
    (fun i s => (∀ j, j < i → s.1 j = 0) ∧ (∀ j, j < i → s.2.1 j = 0) ∧ (∀ j, j < i → s.2.2 j = 0)) 4 0 (a10, a11, a12) (by omega) ⟨fun j hj => absurd hj (by omega), fun j hj => absurd hj (by omega), fun j hj => absurd hj (by omega)⟩
    (fun n s h => pk_le 4 4 (fun _ => H _ _ _ h.1 h.2.1 h.2.2) (fun z => absurd z (by omega)))
    (fun n i s hi h hw => pk_le 4 i (fun z => absurd z (by omega)) (fun _ => ⟨pk_in i 4 hi, nm_e ⟨pk_in i 4 hi, nm_e ⟨pk_in i 4 hi, nm_e (nm_r (nI_1 i) (hw (_, _, _)
      ⟨mg_fill (f := fun _ => 0) (nI_clamp (by omega)) h.1 rfl, mg_fill (f := fun _ => 0) (nI_clamp (by omega)) h.2.1 rfl, mg_fill (f := fun _ => 0) (nI_clamp (by omega)) h.2.2 rfl⟩))⟩⟩⟩))
/-- no point: whatever the arrays hold -/
theorem mg_mm0 {post : St2 → Prop} (H : ∀ b5 b6 b7 b8 b10 b11 b12 : Nat → Int32, post (0, 2, up, lo, a1, a2, a3, a4, b5, b6, b7, b8, a9, b10, b11, b12)) : wpX_moveMiddles post (0, 2, up, lo, a1, a2, a3, a4, a5, a6, a7, a8, a9, a10, a11, a12) :=
  mg_m2 (fun _ _ _ _ _ _ => ⟨1, br_t (by decide) (mg_99 (fun _ _ _ _ _ => H _ _ _ _ _ _ _))⟩)
/-- one point, in group b: its middle moves onto the point, the other one stays -/
theorem mg_mm1 {post : St2 → Prop} {b : Nat} (hb : b < 2) (h9 : a9 0 = nI b)
    (H : ∀ b5 b6 b7 b8 b10 b11 b12 : Nat → Int32, b5 b = a1 0 → b6 b = a2 0 → b7 b = 1 → (∀ g, g < 2 → g ≠ b → b5 g = a5 g ∧ b6 g = a6 g ∧ b7 g = a7 g) → post (1, 2, up, lo, a1, a2, a3, a4, b5, b6, b7, b8, a9, b10, b11, b12)) : wpX_moveMiddles post (1, 2, up, lo, a1, a2, a3, a4, a5, a6, a7, a8, a9, a10, a11, a12) := by
  refine mg_m2 (fun b10 b11 b12 h10 h11 h12 => ⟨2, br_f (by decide) ⟨pk_in 0 24 (by omega), nm_r (e' := nI b) (by rw [sb_cl0]; exact h9) ⟨pk_in b 4 (by omega), pk_in 0 24 (by omega), pk_in b 4 (by omega), nm_e ⟨pk_in b 4 (by omega), pk_in 0 24 (by omega), pk_in b 4 (by omega), nm_e ⟨pk_in b 4 (by omega), pk_in b 4 (by omega), nm_e (nm_r (e' := 1) (by decide) (br_t (by decide) (mg_99 ?_)))⟩⟩⟩⟩⟩)
  intro b5 b6 b7 b8 hM
  rw [nI_clamp (show b < 2 ^ 31 by omega), sb_cl0] at hM
  have m1 := hM b hb
  rw [pk_us, pk_us, pk_us, h10 b (by omega), h11 b (by omega), h12 b (by omega), Int32.zero_add, Int32.zero_add, Int32.zero_add] at m1
  obtain ⟨r5, r6, r7⟩ := m1.2 (by decide)
  refine H _ _ _ _ _ _ _ r5 r6 r7 (fun g hg ne => ?_)
  have m2 := hM g hg
  rw [pk_un ne, pk_un ne, pk_un ne, h12 g (by omega)] at m2
  exact m2.1 (by decide)
end
end
section
section
variable {P K : Int32} {up lo : Int64} {a1 a2 a3 a4 a5 a6 a7 a8 a9 a10 a11 a12 : Nat → Int32}
theorem mg_i1 : (1 : Int32).toInt64 = 1 := by decide
theorem mg_measure {post : St2 → Prop} {g : Nat} (hg : g < 4) (h7 : a7 g = 1) (H : post (P, K, mg_D (a1 0) (a2 0) (a5 g) (a6 g), 1, a1, a2, a3, a4, a5, a6, a7, a8, a9, a10, a11, a12)) : wpX_measure post (P, K, up, lo, a1, a2, a3, a4, a5, a6, a7, a8, a9, a10, a11, a12) 0 (nI g) := by
  unfold wpX_measure
  dsimp only
  rw [nI_clamp (show g < 2 ^ 31 by omega), sb_cl0, h7, mg_i1]
  exact ⟨pk_in g 4 hg, pk_in 0 24 (by omega), pk_in g 4 hg, nm_r (e' := (a1 0).toInt64 - (a5 g).toInt64) (by rw [Int64.one_mul]) ⟨pk_in g 4 hg, pk_in 0 24 (by omega), pk_in g 4 hg, nm_r (e' := (a2 0).toInt64 - (a6 g).toInt64) (by rw [Int64.one_mul])
    (nm_r (e' := mg_D (a1 0) (a2 0) (a5 g) (a6 g)) rfl ⟨pk_in g 4 hg, pk_in g 4 hg, nm_r (e' := 1) (by decide) H⟩)⟩⟩
theorem mg_mids {post : St2 → Prop} {b g : Nat} (hb : b < 4) (hg : g < 4) (h7 : a7 b = 1) (h8 : a7 g = 1) (H : post (P, K, mg_D (a5 b) (a6 b) (a5 g) (a6 g), 1, a1, a2, a3, a4, a5, a6, a7, a8, a9, a10, a11, a12)) : wpX_measureMiddles post (P, K, up, lo, a1, a2, a3, a4, a5, a6, a7, a8, a9, a10, a11, a12) (nI b) (nI g) := by
  unfold wpX_measureMiddles
  dsimp only
  rw [nI_clamp (show g < 2 ^ 31 by omega), nI_clamp (show b < 2 ^ 31 by omega), h7, h8, mg_i1]
  exact ⟨pk_in b 4 hb, pk_in g 4 hg, pk_in g 4 hg, pk_in b 4 hb, nm_r (e' := (a5 b).toInt64 - (a5 g).toInt64) (by rw [Int64.mul_one, Int64.mul_one]) ⟨pk_in b 4 hb, pk_in g 4 hg, pk_in g 4 hg, pk_in b 4 hb, nm_r (e' := (a6 b).toInt64 - (a6 g).toInt64) (by rw [Int64.mul_one, Int64.mul_one])
    (nm_r (e' := mg_D (a5 b) (a6 b) (a5 g) (a6 g)) rfl ⟨pk_in b 4 hb, pk_in g 4 hg, nm_r (e' := 1) (by decide) (nm_r (e' := 1) (by decide) H)⟩)⟩⟩
theorem mg_beyond {post : Int32 → St2 → Prop} {b g : Nat} {d : Int64} (hb : b < 4) (hg : g < 4) (h7 : a7 b = 1) (h8 : a7 g = 1)
    (H0 : mg_D (a5 b) (a6 b) (a5 g) (a6 g) ≤ 4 * d → ∀ up lo : Int64, post 0 (P, K, up, lo, a1, a2, a3, a4, a5, a6, a7, a8, a9, a10, a11, a12)) (H1 : ¬ mg_D (a5 b) (a6 b) (a5 g) (a6 g) ≤ 4 * d → ∀ up lo : Int64, post 1 (P, K, up, lo, a1, a2, a3, a4, a5, a6, a7, a8, a9, a10, a11, a12)) : wpX_farBeyond post (P, K, up, lo, a1, a2, a3, a4, a5, a6, a7, a8, a9, a10, a11, a12) (nI b) (nI g) d 1 := by
  unfold wpX_farBeyond
  dsimp only
  refine mg_mids hb hg h7 h8 ?_
  dsimp only
  rw [Int64.mul_one, Int64.mul_one]
  exact br_c (fun h => H0 h _ _) (fun h => H1 h _ _)
/-- round 1, at group 1, the best so far group 0 -/
theorem mg_95a {post : Int32 → St2 → Prop} {J : Int32 → Int64 → Int64 → Int32 → Int32 → Int32 → Int64 → Int64 → (Nat → Int32) → (Nat → Int32) → (Nat → Int32) → (Nat → Int32) → (Nat → Int32) → (Nat → Int32) → (Nat → Int32) → (Nat → Int32) → (Nat → Int32) → (Nat → Int32) → (Nat → Int32) → (Nat → Int32) → Prop} {x8 : Int32}
    (h70 : a7 0 = 1) (h71 : a7 1 = 1) (r1 : mg_R (a1 0)) (r2 : mg_R (a2 0)) (r50 : mg_R (a5 0)) (r60 : mg_R (a6 0)) (r51 : mg_R (a5 1)) (r61 : mg_R (a6 1))
    (H1 : mg_D (a1 0) (a2 0) (a5 1) (a6 1) < mg_D (a1 0) (a2 0) (a5 0) (a6 0) → ∀ (d e : Int64) (up lo : Int64), J (nI 1) d e (nI 2) P K up lo a1 a2 a3 a4 a5 a6 a7 a8 a9 a10 a11 a12)
    (H0 : ¬ mg_D (a1 0) (a2 0) (a5 1) (a6 1) < mg_D (a1 0) (a2 0) (a5 0) (a6 0) → ∀ (d e : Int64) (up lo : Int64), J (nI 0) d e (nI 2) P K up lo a1 a2 a3 a4 a5 a6 a7 a8 a9 a10 a11 a12) :
    wX_nearestGroup_95 post J 0 (nI 0) (mg_D (a1 0) (a2 0) (a5 0) (a6 0)) 1 x8 (nI 1) 0 P K up lo a1 a2 a3 a4 a5 a6 a7 a8 a9 a10 a11 a12 := by
  unfold wX_nearestGroup_95
  refine br_f (by decide) (br_t rfl (mg_beyond (by omega) (by omega) h70 h71 (fun _ up lo => br_t rfl ?_) (fun hf up lo => br_f (by decide) (nm_r (e' := nI 2) (by decide) (H0 (mg_far64 r1 r2 r50 r60 r51 r61 hf) _ _ _ _)))))
  refine mg_measure (by omega) h71 ?_
  dsimp only
  refine nm_r (Int64.mul_one _) (nm_r (Int64.mul_one _) (br_c (fun h => ?_) (fun h => br_c (fun e => br_t (by decide) (nm_r (e' := nI 2) (by decide) (H0 h _ _ _ _))) (fun e => nm_r (e' := nI 2) (by decide) (H0 h _ _ _ _)))))
  unfold wX_nearestGroup_169
  exact nm_r (e' := nI 2) (by decide) (H1 h _ _ _ _)
/-- round 2: the best is the own group b, at distance 0 -/
theorem mg_95b {post : Int32 → St2 → Prop} {J : Int32 → Int64 → Int64 → Int32 → Int32 → Int32 → Int64 → Int64 → (Nat → Int32) → (Nat → Int32) → (Nat → Int32) → (Nat → Int32) → (Nat → Int32) → (Nat → Int32) → (Nat → Int32) → (Nat → Int32) → (Nat → Int32) → (Nat → Int32) → (Nat → Int32) → (Nat → Int32) → Prop} {x8 z : Int32} {b g : Nat}
    (hb : b < 2) (hg : g < 2) (h7b : a7 b = 1) (h7g : a7 g = 1) (hd : ¬ mg_D (a1 0) (a2 0) (a5 g) (a6 g) < 0) (hq : g < b → mg_D (a1 0) (a2 0) (a5 g) (a6 g) ≠ 0)
    (H : ∀ up lo : Int64, J (nI b) 0 1 (nI (g + 1)) P K up lo a1 a2 a3 a4 a5 a6 a7 a8 a9 a10 a11 a12) : wX_nearestGroup_95 post J 0 (nI b) 0 1 x8 (nI g) z P K up lo a1 a2 a3 a4 a5 a6 a7 a8 a9 a10 a11 a12 := by
  unfold wX_nearestGroup_95
  refine pk_eq g b (fun _ => nm_r (nI_1 g) (H _ _)) (fun ne => br_c (fun _ => mg_beyond (by omega) (by omega) h7b h7g (fun _ up lo => br_t rfl ?_) (fun hf up lo => br_f (by decide) (nm_r (nI_1 g) (H _ _)))) (fun _ => nm_r (nI_1 g) (H _ _)))
  refine mg_measure (by omega) h7g ?_
  dsimp only
  exact nm_r (Int64.mul_one _) (nm_r Int64.zero_mul (br_f hd (br_c (fun e => pk_le b g (fun _ => nm_r (nI_1 g) (H _ _)) (fun z => absurd e (hq z))) (fun _ => nm_r (nI_1 g) (H _ _)))))
/-- round 1 -/
theorem mg_near1 {post : Int32 → St2 → Prop} (h9 : a9 0 = -1) (h70 : a7 0 = 1) (h71 : a7 1 = 1) (r1 : mg_R (a1 0)) (r2 : mg_R (a2 0)) (r50 : mg_R (a5 0)) (r60 : mg_R (a6 0)) (r51 : mg_R (a5 1)) (r61 : mg_R (a6 1))
    (H : ∀ (b : Nat) (up lo : Int64), b < 2 → (b = 1 ↔ mg_D (a1 0) (a2 0) (a5 1) (a6 1) < mg_D (a1 0) (a2 0) (a5 0) (a6 0)) → post (nI b) (P, 2, up, lo, a1, a2, a3, a4, a5, a6, a7, a8, a9, a10, a11, a12)) : wpX_nearestGroup post (P, 2, up, lo, a1, a2, a3, a4, a5, a6, a7, a8, a9, a10, a11, a12) 0 := by
  unfold wpX_nearestGroup
  dsimp only
  refine ⟨pk_in 0 24 (by omega), nm_r (e' := -1) (by rw [sb_cl0]; exact h9) (br_t (by decide) ?_)⟩
  unfold wX_nearestGroup_19 wX_nearestGroup_24
  refine mg_measure (g := 0) (by omega) h70 ?_
  dsimp only
  refine br_t (by decide) ⟨3, br_f (by decide) (br_t rfl ?_)⟩
  unfold wX_nearestGroup_94 wX_nearestGroup_95
  refine br_t rfl (nm_r (e' := nI 1) (by decide) (br_f (by decide) (br_t rfl ?_)))
  unfold wX_nearestGroup_94
  exact mg_95a h70 h71 r1 r2 r50 r60 r51 r61 (fun h d e up lo => br_t (by decide) (H 1 up lo (by omega) ⟨fun _ => h, fun _ => rfl⟩))
    (fun h d e up lo => br_t (by decide) (H 0 up lo (by omega) ⟨fun z => absurd z (by omega), fun z => absurd z h⟩))
/-- behind round 1: group b holds the point, and its middle lies on it; the other one is no nearer -/
def mg_Q (b : Nat) (a1 a2 a5 a6 a7 a9 : Nat → Int32) : Prop := b < 2 ∧ a9 0 = nI b ∧ a5 b = a1 0 ∧ a6 b = a2 0 ∧ (∀ g, g < 2 → a7 g = 1 ∧ ¬ mg_D (a1 0) (a2 0) (a5 g) (a6 g) < 0 ∧ (g < b → mg_D (a1 0) (a2 0) (a5 g) (a6 g) ≠ 0))
theorem mg_66b {post : Int32 → St2 → Prop} {b : Nat} {x8 : Int32} (q : mg_Q b a1 a2 a5 a6 a7 a9) (H : ∀ up lo : Int64, post (nI b) (P, 2, up, lo, a1, a2, a3, a4, a5, a6, a7, a8, a9, a10, a11, a12)) : ∃ n, wX_nearestGroup_66 post 0 x8 n (nI b) 0 1 0 P 2 up lo a1 a2 a3 a4 a5 a6 a7 a8 a9 a10 a11 a12 := by
  obtain ⟨hb, _, _, _, h⟩ := q
  refine pk_loop (σ := Int64 × Int64) (fun n i s => wX_nearestGroup_66 post 0 x8 n (nI b) 0 1 (nI i) P 2 s.1 s.2 a1 a2 a3 a4 a5 a6 a7 a8 a9 a10 a11 a12) (fun _ _ => True) 2 0 (up, lo) (by omega) trivial
    (fun n s _ => pk_le 2 2 (fun _ => H _ _) (fun z => absurd z (by omega))) ?_
  intro n i s hi _ hw
  have T : ∀ z : Int32, wX_nearestGroup_95 post (wX_nearestGroup_66 post 0 x8 n) 0 (nI b) 0 1 x8 (nI i) z P 2 s.1 s.2 a1 a2 a3 a4 a5 a6 a7 a8 a9 a10 a11 a12 := fun z =>
    mg_95b hb hi (h b hb).1 (h i hi).1 (h i hi).2.1 (h i hi).2.2 (fun up lo => hw (up, lo) trivial)
  refine pk_le 2 i (fun z => absurd z (by omega)) (fun _ => br_c (fun _ => ?_) (fun _ => ⟨pk_in i 4 (by omega), br_c (fun _ => T 1) (fun _ => ?_)⟩))
  · unfold wX_nearestGroup_94
    exact T 0
  · unfold wX_nearestGroup_94
    exact T 0
/-- round 2 -/
theorem mg_near2 {post : Int32 → St2 → Prop} {b : Nat} (q : mg_Q b a1 a2 a5 a6 a7 a9) (H : ∀ up lo : Int64, post (nI b) (P, 2, up, lo, a1, a2, a3, a4, a5, a6, a7, a8, a9, a10, a11, a12)) : wpX_nearestGroup post (P, 2, up, lo, a1, a2, a3, a4, a5, a6, a7, a8, a9, a10, a11, a12) 0 := by
  have q' := q
  obtain ⟨hb, h9, h5, h6, h⟩ := q
  unfold wpX_nearestGroup
  dsimp only
  refine ⟨pk_in 0 24 (by omega), nm_r (e' := nI b) (by rw [sb_cl0]; exact h9) (br_f (nI_pos (by omega)) (br_t (nI_lt (b := 2) hb (by omega)) ?_))⟩
  unfold wX_nearestGroup_24
  refine mg_measure (by omega) (h b hb).1 ?_
  dsimp only
  rw [h5, h6, mg_D_self]
  exact br_f (nI_pos (by omega)) ⟨pk_in b 4 (by omega), br_c (fun _ => mg_66b q' H) (fun _ => mg_66b q' H)⟩
end
end
section
section
variable {P K : Int32} {up lo : Int64} {a1 a2 a3 a4 a5 a6 a7 a8 a9 a10 a11 a12 : Nat → Int32}
theorem mg_round0 {post : Int32 → St2 → Prop} (H : ∀ b5 b6 b7 b8 b10 b11 b12 : Nat → Int32, post 0 (0, 2, up, lo, a1, a2, a3, a4, b5, b6, b7, b8, a9, b10, b11, b12)) : wpX_round post (0, 2, up, lo, a1, a2, a3, a4, a5, a6, a7, a8, a9, a10, a11, a12) :=
  ⟨1, br_t (by decide) (mg_mm0 (fun b5 b6 b7 b8 b10 b11 b12 => H b5 b6 b7 b8 b10 b11 b12))⟩
theorem mg_mkQ {b : Nat} {b5 b6 b7 b9 : Nat → Int32} (h70 : a7 0 = 1) (h71 : a7 1 = 1) (r1 : mg_R (a1 0)) (r2 : mg_R (a2 0)) (r50 : mg_R (a5 0)) (r60 : mg_R (a6 0)) (r51 : mg_R (a5 1)) (r61 : mg_R (a6 1))
    (hb : b < 2) (hD : b = 1 ↔ mg_D (a1 0) (a2 0) (a5 1) (a6 1) < mg_D (a1 0) (a2 0) (a5 0) (a6 0)) (h9 : b9 0 = nI b) (h5 : b5 b = a1 0) (h6 : b6 b = a2 0) (h7 : b7 b = 1)
    (ho : ∀ g, g < 2 → g ≠ b → b5 g = a5 g ∧ b6 g = a6 g ∧ b7 g = a7 g) : mg_Q b a1 a2 b5 b6 b7 b9 := by
  refine ⟨hb, h9, h5, h6, fun g hg => ?_⟩
  by_cases e : g = b
  · subst e
    rw [h5, h6, mg_D_self]
    exact ⟨h7, by decide, fun z => absurd z (by omega)⟩
  · obtain ⟨o5, o6, o7⟩ := ho g hg e
    rw [o5, o6, o7]
    have n1 := mg_D_nn r1 r2 r51 r61
    have n0 := mg_D_nn r1 r2 r50 r60
    rcases (show g = 0 ∨ g = 1 by omega) with eg | eg
    · subst eg
      refine ⟨h70, n0, fun hz hq => ?_⟩
      have t := hD.mp (by omega)
      rw [hq] at t
      exact n1 t
    · subst eg
      exact ⟨h71, n1, fun z => absurd z (by omega)⟩
theorem mg_round1 {post : Int32 → St2 → Prop} (h9 : a9 0 = -1) (h70 : a7 0 = 1) (h71 : a7 1 = 1) (r1 : mg_R (a1 0)) (r2 : mg_R (a2 0)) (r50 : mg_R (a5 0)) (r60 : mg_R (a6 0)) (r51 : mg_R (a5 1)) (r61 : mg_R (a6 1))
    (H : ∀ (b : Nat) (up lo : Int64) (b5 b6 b7 b8 b9 b10 b11 b12 : Nat → Int32), mg_Q b a1 a2 b5 b6 b7 b9 → (b = 1 ↔ mg_D (a1 0) (a2 0) (a5 1) (a6 1) < mg_D (a1 0) (a2 0) (a5 0) (a6 0)) → post 1 (1, 2, up, lo, a1, a2, a3, a4, b5, b6, b7, b8, b9, b10, b11, b12)) : wpX_round post (1, 2, up, lo, a1, a2, a3, a4, a5, a6, a7, a8, a9, a10, a11, a12) := by
  refine ⟨2, br_f (by decide) (mg_near1 h9 h70 h71 r1 r2 r50 r60 r51 r61 (fun b up lo hb hD => ?_))⟩
  dsimp only
  refine ⟨pk_in 0 24 (by omega), br_f (by rw [sb_cl0, h9]; intro z; exact absurd (z ▸ nI_pos (show b < 2 ^ 31 by omega) : ¬ (-1 : Int32) < 0) (by decide)) ?_⟩
  unfold wX_round_34
  rw [sb_cl0]
  refine nm_r (e' := 1) (by decide) ⟨pk_in 0 24 (by omega), nm_e (nm_r (e' := 1) (by decide) (br_t (by decide) (mg_mm1 hb pk_us (fun b5 b6 b7 b8 b10 b11 b12 h5 h6 h7 ho => ?_))))⟩
  exact H b _ _ _ _ _ _ _ _ _ _ (mg_mkQ h70 h71 r1 r2 r50 r60 r51 r61 hb hD pk_us h5 h6 h7 ho) hD
theorem mg_round2 {post : Int32 → St2 → Prop} {b : Nat} (q : mg_Q b a1 a2 a5 a6 a7 a9)
    (H : ∀ (up lo : Int64) (b5 b6 b7 b8 b9 b10 b11 b12 : Nat → Int32), b9 0 = nI b → post 0 (1, 2, up, lo, a1, a2, a3, a4, b5, b6, b7, b8, b9, b10, b11, b12)) : wpX_round post (1, 2, up, lo, a1, a2, a3, a4, a5, a6, a7, a8, a9, a10, a11, a12) := by
  refine ⟨2, br_f (by decide) (mg_near2 q (fun up lo => ?_))⟩
  dsimp only
  refine ⟨pk_in 0 24 (by omega), br_t (by rw [sb_cl0, q.2.1]) ?_⟩
  unfold wX_round_34
  rw [sb_cl0]
  refine nm_r (e' := 0) (by decide) ⟨pk_in 0 24 (by omega), nm_e (nm_r (e' := 1) (by decide) (br_t (by decide) (mg_mm1 q.1 pk_us (fun b5 b6 b7 b8 b10 b11 b12 _ _ _ _ => ?_))))⟩
  exact H _ _ _ _ _ _ _ _ _ _ pk_us
theorem mg_settle0 {post : Int32 → St2 → Prop} (H : ∀ (up lo : Int64) (b5 b6 b7 b8 b9 b10 b11 b12 : Nat → Int32), post 1 (0, 2, up, lo, a1, a2, a3, a4, b5, b6, b7, b8, b9, b10, b11, b12)) : wpX_settle post (0, 2, up, lo, a1, a2, a3, a4, a5, a6, a7, a8, a9, a10, a11, a12) := by
  unfold wpX_settle
  dsimp only
  refine mg_reset (fun b5 b6 b7 b8 b9 _ _ _ _ => ?_)
  exact ⟨1, br_f (by decide) (mg_round0 (fun c5 c6 c7 c8 c10 c11 c12 => br_t rfl (H _ _ _ _ _ _ _ _ _ _)))⟩
theorem mg_settle1 {post : Int32 → St2 → Prop} (r1 : mg_R (a1 0)) (r2 : mg_R (a2 0)) (r30 : mg_R (a3 0)) (r40 : mg_R (a4 0)) (r31 : mg_R (a3 1)) (r41 : mg_R (a4 1))
    (H : ∀ (b : Nat) (up lo : Int64) (b5 b6 b7 b8 b9 b10 b11 b12 : Nat → Int32), b < 2 → (b = 1 ↔ mg_D (a1 0) (a2 0) (a3 1) (a4 1) < mg_D (a1 0) (a2 0) (a3 0) (a4 0)) → b9 0 = nI b → post 2 (1, 2, up, lo, a1, a2, a3, a4, b5, b6, b7, b8, b9, b10, b11, b12)) : wpX_settle post (1, 2, up, lo, a1, a2, a3, a4, a5, a6, a7, a8, a9, a10, a11, a12) := by
  unfold wpX_settle
  dsimp only
  refine mg_reset (fun b5 b6 b7 b8 b9 h5 h6 h7 h9 => ?_)
  dsimp only
  have e50 := h5 0 (by omega)
  have e51 := h5 1 (by omega)
  have e60 := h6 0 (by omega)
  have e61 := h6 1 (by omega)
  refine ⟨2, br_f (by decide) (mg_round1 (h9 0 (by omega)) (h7 0 (by omega)) (h7 1 (by omega)) r1 r2 (e50 ▸ r30) (e60 ▸ r40) (e51 ▸ r31) (e61 ▸ r41) (fun b up lo c5 c6 c7 c8 c9 c10 c11 c12 q hD => ?_))⟩
  rw [e50, e51, e60, e61] at hD
  refine br_f (by decide) (nm_r (e' := 2) (by decide) (br_f (by decide) (mg_round2 q (fun up lo d5 d6 d7 d8 d9 d10 d11 d12 hd => br_t rfl ?_))))
  exact H b _ _ _ _ _ _ _ _ _ _ q.1 hD hd
end
end
section
section
variable {P K : Int32} {up lo : Int64} {a1 a2 a3 a4 a5 a6 a7 a8 a9 a10 a11 a12 : Nat → Int32}
theorem mg_size0 {post : Int32 → Prop} {g : Int32} (H : post 0) : wpX_size post (0, K, up, lo, a1, a2, a3, a4, a5, a6, a7, a8, a9, a10, a11, a12) g := ⟨1, br_t (by decide) H⟩
theorem mg_sum0 {post : Int32 → Prop} {g w : Int32} (H : post 0) : wpX_sum post (0, K, up, lo, a1, a2, a3, a4, a5, a6, a7, a8, a9, a10, a11, a12) g w := ⟨1, br_t (by decide) H⟩
theorem mg_drop0 {post : Int32 → St2 → Prop} {g : Int32} (H : post (-1) (0, K, up, lo, a1, a2, a3, a4, a5, a6, a7, a8, a9, a10, a11, a12)) : wpX_drop post (0, K, up, lo, a1, a2, a3, a4, a5, a6, a7, a8, a9, a10, a11, a12) g :=
  br_c (fun _ => H) (fun h => br_f h H)
theorem mg_size1 {post : Int32 → Prop} {b : Nat} (hb : b < 2) (h9 : a9 0 = nI b) (H : post 1) : wpX_size post (1, K, up, lo, a1, a2, a3, a4, a5, a6, a7, a8, a9, a10, a11, a12) (nI b) :=
  ⟨2, br_f (by decide) (br_f (nI_pos (by omega)) ⟨pk_in 0 24 (by omega), br_t (by rw [sb_cl0]; exact h9) (nm_r (e' := 1) (by decide) (nm_r (e' := 1) (by decide) (br_t (by decide) H)))⟩)⟩
theorem mg_sum1 {post : Int32 → Prop} {b : Nat} (hb : b < 2) (h9 : a9 0 = nI b) (H : post (a2 0)) : wpX_sum post (1, K, up, lo, a1, a2, a3, a4, a5, a6, a7, a8, a9, a10, a11, a12) (nI b) 1 :=
  ⟨2, br_f (by decide) (br_f (nI_pos (by omega)) ⟨pk_in 0 24 (by omega), br_t (by rw [sb_cl0]; exact h9) (br_f (by decide) (br_t rfl ⟨pk_in 0 24 (by omega), nm_r (e' := a2 0) (by rw [sb_cl0, Int32.zero_add]) (nm_r (e' := 1) (by decide) (br_t (by decide) H))⟩))⟩)⟩
theorem mg_drop1 {post : Int32 → St2 → Prop} {g : Int32} (H0 : g = 0 → ∀ b5 b6 b7 b8 b9 : Nat → Int32, post 0 (0, K, up, lo, a1, a2, a3, a4, b5, b6, b7, b8, b9, a10, a11, a12)) (H1 : g ≠ 0 → post (-1) (1, K, up, lo, a1, a2, a3, a4, a5, a6, a7, a8, a9, a10, a11, a12)) : wpX_drop post (1, K, up, lo, a1, a2, a3, a4, a5, a6, a7, a8, a9, a10, a11, a12) g := by
  unfold wpX_drop
  dsimp only
  by_cases e : g = 0
  · subst e
    exact br_f (by decide) (br_t (by decide) (nm_r (e' := 0) (by decide) ⟨1, br_t (by decide) (mg_reset (fun b5 b6 b7 b8 b9 _ _ _ _ => H0 rfl b5 b6 b7 b8 b9))⟩))
  · refine br_c (fun _ => H1 e) (fun h => br_f (fun h2 => ?_) (H1 e))
    obtain ⟨j, hj, ej⟩ := nI_of h
    rw [ej] at h2
    have h3 : j < 1 := (nI_ltI hj (by omega)).mp h2
    have h4 : j = 0 := by omega
    subst h4
    exact e ej
section
variable {mc ms kc ks : Nat} {x0 x1 x2 x3 x4 x6 x7 z : Int32}
/-- no point: group answers -1, size and sum 0, drop -1 -/
theorem mg_tail0 : wL_lawOf_248 (fun r _ => r = 1) mc ms x1 x2 0 z kc ks 0 K up lo a1 a2 a3 a4 a5 a6 a7 a8 a9 a10 a11 a12 := by
  unfold wL_lawOf_248
  refine mg_group0 (br_t rfl ?_)
  unfold wL_lawOf_267
  refine br_t rfl (mg_size0 (br_t rfl ?_))
  unfold wL_lawOf_287
  refine br_t rfl (mg_sum0 (br_t rfl ?_))
  unfold wL_lawOf_308
  refine br_t rfl (mg_drop0 (br_t rfl ?_))
  unfold wL_lawOf_330 wL_lawOf_331
  exact br_t rfl rfl
/-- one point in group b -/
theorem mg_tail1 {b : Nat} (hb : b < 2) (h9 : a9 0 = nI b) (h2 : a2 0 = x1) : wL_lawOf_248 (fun r _ => r = 1) mc ms x1 x2 1 (nI b) kc ks 1 K up lo a1 a2 a3 a4 a5 a6 a7 a8 a9 a10 a11 a12 := by
  unfold wL_lawOf_248
  refine mg_group1 (br_f (by decide) ?_)
  unfold wL_lawOf_267
  refine br_t h9 (mg_size1 hb h9 (br_f (by decide) ?_))
  unfold wL_lawOf_287
  refine br_t rfl (mg_sum1 hb h9 (br_f (by decide) ?_))
  unfold wL_lawOf_308
  refine br_t h2 (mg_drop1 (fun e b5 b6 b7 b8 b9 => br_f (by decide) (br_t e ?_)) (fun e => br_f (by decide) (br_f e ?_)))
  · unfold wL_lawOf_331
    exact br_t rfl rfl
  · unfold wL_lawOf_330 wL_lawOf_331
    exact br_t rfl rfl
/-- the group that the law expects -/
def mg_G (x0 x1 x2 x3 x4 x7 z : Int32) : Prop :=
  (¬ x7 = 0 ∧ x2 = 0 ∧ mg_D x0 x1 x3 x4 ≤ mg_D x0 x1 0 0 ∧ z = 0) ∨ (¬ x7 = 0 ∧ x2 = 0 ∧ ¬ mg_D x0 x1 x3 x4 ≤ mg_D x0 x1 0 0 ∧ z = 1) ∨
  (¬ x7 = 0 ∧ x2 = 1 ∧ mg_D x0 x1 0 0 ≤ mg_D x0 x1 x3 x4 ∧ z = 0) ∨ (¬ x7 = 0 ∧ x2 = 1 ∧ ¬ mg_D x0 x1 0 0 ≤ mg_D x0 x1 x3 x4 ∧ z = 1) ∨
  ((x7 = 0 ∨ (¬ x2 = 0 ∧ ¬ x2 = 1)) ∧ z = 0)
theorem mg_151 {post : Int32 → St0 → Prop} {y : Int32} (H : ∀ z : Int32, mg_G x0 x1 x2 x3 x4 x7 z → wL_lawOf_248 post mc ms x1 x2 x6 z kc ks P K up lo a1 a2 a3 a4 a5 a6 a7 a8 a9 a10 a11 a12) : wL_lawOf_151 post mc ms x0 x1 x2 x3 x4 x6 x7 y y kc ks P K up lo a1 a2 a3 a4 a5 a6 a7 a8 a9 a10 a11 a12 := by
  unfold wL_lawOf_151 wL_lawOf_221 wL_lawOf_247
  refine br_t rfl (nm_r (e' := mg_D x0 x1 0 0) (mg_D_0 x0 x1).symm (nm_r (e' := mg_D x0 x1 x3 x4) rfl ?_))
  refine br_c (fun h7 => br_t h7 (H 0 (Or.inr (Or.inr (Or.inr (Or.inr ⟨Or.inl h7, rfl⟩)))))) (fun h7 => br_c (fun e0 => br_c (fun h => H 0 (Or.inl ⟨h7, e0, h, rfl⟩)) (fun h => H 1 (Or.inr (Or.inl ⟨h7, e0, h, rfl⟩)))) (fun e0 => br_f h7 (br_c (fun e1 => ?_) (fun e1 => ?_))))
  · exact br_c (fun h => H 0 (Or.inr (Or.inr (Or.inl ⟨h7, e1, h, rfl⟩)))) (fun h => H 1 (Or.inr (Or.inr (Or.inr (Or.inl ⟨h7, e1, h, rfl⟩)))))
  · exact H 0 (Or.inr (Or.inr (Or.inr (Or.inr ⟨Or.inr ⟨e0, e1⟩, rfl⟩))))
end
end
end
section
section
variable {P K : Int32} {up lo : Int64} {a1 a2 a3 a4 a5 a6 a7 a8 a9 a10 a11 a12 : Nat → Int32}
variable {mc ms kc ks : Nat} {x0 x1 x2 x3 x4 x6 x7 : Int32}
/-- the seeds of groups 0 and 1 behind the law's call of seed -/
def mg_W (x2 x3 x4 x7 : Int32) (a3 a4 : Nat → Int32) : Prop :=
  (¬ x7 = 0 ∧ x2 = 0 ∧ mg_R x3 ∧ mg_R x4 ∧ a3 0 = x3 ∧ a4 0 = x4 ∧ a3 1 = 0 ∧ a4 1 = 0) ∨
  (¬ x7 = 0 ∧ x2 = 1 ∧ mg_R x3 ∧ mg_R x4 ∧ a3 0 = 0 ∧ a4 0 = 0 ∧ a3 1 = x3 ∧ a4 1 = x4) ∨
  ((x7 = 0 ∨ (¬ x2 = 0 ∧ ¬ x2 = 1)) ∧ a3 0 = 0 ∧ a4 0 = 0 ∧ a3 1 = 0 ∧ a4 1 = 0)
theorem mg_WR (w : mg_W x2 x3 x4 x7 a3 a4) : mg_R (a3 0) ∧ mg_R (a4 0) ∧ mg_R (a3 1) ∧ mg_R (a4 1) := by
  rcases w with ⟨_, _, r3, r4, e1, e2, e3, e4⟩ | ⟨_, _, r3, r4, e1, e2, e3, e4⟩ | ⟨_, e1, e2, e3, e4⟩
  · rw [e1, e2, e3, e4]
    exact ⟨r3, r4, mg_R_0, mg_R_0⟩
  · rw [e1, e2, e3, e4]
    exact ⟨mg_R_0, mg_R_0, r3, r4⟩
  · rw [e1, e2, e3, e4]
    exact ⟨mg_R_0, mg_R_0, mg_R_0, mg_R_0⟩
theorem mg_b0 {b : Nat} {z : Int32} (hb : b < 2) (h : ¬ b = 1) (hz : z = 0) : z = nI b := by
  have e : b = 0 := by omega
  rw [e, hz, nI_0]
theorem mg_b1 {b : Nat} {z : Int32} (h : b = 1) (hz : z = 1) : z = nI b := by
  rw [h, hz]
  decide
theorem mg_zb {b : Nat} {z : Int32} (w : mg_W x2 x3 x4 x7 a3 a4) (hb : b < 2) (hD : b = 1 ↔ mg_D x0 x1 (a3 1) (a4 1) < mg_D x0 x1 (a3 0) (a4 0)) (hz : mg_G x0 x1 x2 x3 x4 x7 z) : z = nI b := by
  have n01 : ¬ (0 : Int32) = 1 := by decide
  rcases w with ⟨w7, w2, _, _, e1, e2, e3, e4⟩ | ⟨w7, w2, _, _, e1, e2, e3, e4⟩ | ⟨w7, e1, e2, e3, e4⟩
  · rw [e1, e2, e3, e4] at hD
    rcases hz with ⟨_, _, h, hz⟩ | ⟨_, _, h, hz⟩ | ⟨_, g2, _, _⟩ | ⟨_, g2, _, _⟩ | ⟨g, _⟩
    · exact mg_b0 hb (fun t => absurd h (Int64.not_le.mpr (hD.mp t))) hz
    · exact mg_b1 (hD.mpr (Int64.not_le.mp h)) hz
    · exact absurd (w2.symm.trans g2) n01
    · exact absurd (w2.symm.trans g2) n01
    · rcases g with g | g
      · exact absurd g w7
      · exact absurd w2 g.1
  · rw [e1, e2, e3, e4] at hD
    rcases hz with ⟨_, g2, _, _⟩ | ⟨_, g2, _, _⟩ | ⟨_, _, h, hz⟩ | ⟨_, _, h, hz⟩ | ⟨g, _⟩
    · exact absurd (g2.symm.trans w2) n01
    · exact absurd (g2.symm.trans w2) n01
    · exact mg_b0 hb (fun t => absurd h (Int64.not_le.mpr (hD.mp t))) hz
    · exact mg_b1 (hD.mpr (Int64.not_le.mp h)) hz
    · rcases g with g | g
      · exact absurd g w7
      · exact absurd w2 g.2
  · rw [e1, e2, e3, e4] at hD
    have nb : ¬ b = 1 := fun t => absurd (hD.mp t) Int64.lt_irrefl
    rcases hz with ⟨g7, g2, _, _⟩ | ⟨g7, g2, _, _⟩ | ⟨g7, g2, _, _⟩ | ⟨g7, g2, _, _⟩ | ⟨_, hz⟩
    · exact absurd w7 (fun t => t.elim g7 (fun t => t.1 g2))
    · exact absurd w7 (fun t => t.elim g7 (fun t => t.1 g2))
    · exact absurd w7 (fun t => t.elim g7 (fun t => t.2 g2))
    · exact absurd w7 (fun t => t.elim g7 (fun t => t.2 g2))
    · exact mg_b0 hb nb hz
theorem mg_121n {y : Int32} : wL_lawOf_121 (fun r _ => r = 1) mc ms x0 x1 x2 x3 x4 0 x7 y y kc ks 0 2 up lo a1 a2 a3 a4 a5 a6 a7 a8 a9 a10 a11 a12 := by
  unfold wL_lawOf_121
  exact br_t rfl (mg_group0 (br_t rfl (mg_settle0 (fun up lo b5 b6 b7 b8 b9 b10 b11 b12 => br_t rfl (mg_151 (fun z _ => mg_tail0))))))
theorem mg_121p {y : Int32} (r0 : mg_R x0) (r1 : mg_R x1) (h1 : a1 0 = x0) (h2 : a2 0 = x1) (h9 : a9 0 = -1) (w : mg_W x2 x3 x4 x7 a3 a4) : wL_lawOf_121 (fun r _ => r = 1) mc ms x0 x1 x2 x3 x4 1 x7 y y kc ks 1 2 up lo a1 a2 a3 a4 a5 a6 a7 a8 a9 a10 a11 a12 := by
  obtain ⟨w1, w2, w3, w4⟩ := mg_WR w
  unfold wL_lawOf_121
  refine br_t rfl (mg_group1 (br_t h9 (mg_settle1 (h1 ▸ r0) (h2 ▸ r1) w1 w2 w3 w4 (fun b up lo b5 b6 b7 b8 b9 b10 b11 b12 hb hD hb9 => br_f (by decide) (mg_151 (fun z hz => ?_))))))
  rw [h1, h2] at hD
  rw [mg_zb w hb hD hz]
  exact mg_tail1 hb hb9 h2
/-- the law's flag s -/
def mg_fs (x2 x3 x4 x7 : Int32) : Prop := (mg_S x2 x3 x4 ∧ x7 = 1) ∨ (¬ mg_S x2 x3 x4 ∧ x7 = 0)
theorem mg_99n {y : Int32} (hs : mg_fs x2 x3 x4 x7) : wL_lawOf_99 (fun r _ => r = 1) mc ms x0 x1 x2 x3 x4 0 x7 y y kc ks 0 2 up lo a1 a2 a3 a4 a5 a6 a7 a8 a9 a10 a11 a12 := by
  unfold wL_lawOf_99
  rcases hs with ⟨s, e⟩ | ⟨s, e⟩
  · subst e
    exact br_t rfl (mg_seed (fun _ j b5 b6 b7 b8 b9 _ _ _ => br_f (by decide) mg_121n) (fun n => absurd s n))
  · subst e
    exact br_t rfl (mg_seed (fun t => absurd t s) (fun _ => br_t rfl mg_121n))
theorem mg_99p {y : Int32} (r0 : mg_R x0) (r1 : mg_R x1) (h1 : a1 0 = x0) (h2 : a2 0 = x1) (h9 : a9 0 = -1) (hs : mg_fs x2 x3 x4 x7) :
    wL_lawOf_99 (fun r _ => r = 1) mc ms x0 x1 x2 x3 x4 1 x7 y y kc ks 1 2 up lo a1 a2 (fun _ => 0) (fun _ => 0) a5 a6 a7 a8 a9 a10 a11 a12 := by
  unfold wL_lawOf_99
  rcases hs with ⟨s, e⟩ | ⟨s, e⟩
  · subst e
    refine br_t rfl (mg_seed (fun _ j b5 b6 b7 b8 b9 hj ej hb9 => br_f (by decide) (mg_121p r0 r1 h1 h2 (hb9 0 (by omega)) ?_)) (fun n => absurd s n))
    have n10 : ¬ (1 : Int32) = 0 := by decide
    by_cases e0 : j = 0
    · subst e0
      exact Or.inl ⟨n10, ej, s.2.2.1, s.2.2.2, pk_us, pk_us, pk_un (by decide), pk_un (by decide)⟩
    · by_cases e1 : j = 1
      · subst e1
        exact Or.inr (Or.inl ⟨n10, ej, s.2.2.1, s.2.2.2, pk_un (by decide), pk_un (by decide), pk_us, pk_us⟩)
      · have k0 : ¬ x2 = 0 := by
          rw [ej]
          exact nI_ne0 (by omega) (by omega)
        have k1 : ¬ x2 = 1 := by
          rw [ej]
          exact fun t => e1 ((nI_eq (a := j) (b := 1) (by omega) (by omega)).mp t)
        exact Or.inr (Or.inr ⟨Or.inr ⟨k0, k1⟩, pk_un (fun t => e0 t.symm), pk_un (fun t => e0 t.symm), pk_un (fun t => e1 t.symm), pk_un (fun t => e1 t.symm)⟩)
  · subst e
    exact br_t rfl (mg_seed (fun t => absurd t s) (fun _ => br_t rfl (mg_121p r0 r1 h1 h2 h9 (Or.inr (Or.inr ⟨Or.inl rfl, rfl, rfl, rfl, rfl⟩)))))
/-- the law's flag p -/
def mg_fp (x0 x1 x6 : Int32) : Prop := ((mg_R x0 ∧ mg_R x1) ∧ x6 = 1) ∨ (¬ (mg_R x0 ∧ mg_R x1) ∧ x6 = 0)
theorem mg_80 (hp : mg_fp x0 x1 x6) (hs : mg_fs x2 x3 x4 x7) : wL_lawOf_80 (fun r _ => r = 1) mc ms x0 x1 x2 x3 x4 x6 x7 kc ks 0 2 up lo a1 a2 (fun _ => 0) (fun _ => 0) a5 a6 a7 a8 a9 a10 a11 a12 := by
  unfold wL_lawOf_80
  rcases hp with ⟨p, e⟩ | ⟨p, e⟩
  · subst e
    exact mg_add (fun _ _ b1 b2 b5 b6 b7 b8 b9 h1 h2 h9 => br_f (by decide) (mg_99p p.1 p.2 h1 h2 (h9 0 (by omega)) hs)) (fun n => absurd p n)
  · subst e
    exact mg_add (fun t1 t2 => absurd ⟨t1, t2⟩ p) (fun _ => br_t rfl (mg_99n hs))
theorem mg_38 (hp : mg_fp x0 x1 x6) : wL_lawOf_38 (fun r _ => r = 1) mc ms x0 x1 x2 x3 x4 x6 kc ks 0 2 up lo a1 a2 (fun _ => 0) (fun _ => 0) a5 a6 a7 a8 a9 a10 a11 a12 := by
  unfold wL_lawOf_38 wL_lawOf_79
  have H0 : ¬ mg_S x2 x3 x4 → wL_lawOf_80 (fun r _ => r = 1) mc ms x0 x1 x2 x3 x4 x6 0 kc ks 0 2 up lo a1 a2 (fun _ => 0) (fun _ => 0) a5 a6 a7 a8 a9 a10 a11 a12 := fun n => mg_80 hp (Or.inr ⟨n, rfl⟩)
  exact br_c (fun h => H0 (fun t => t.1 h)) (fun g1 => br_c (fun h => H0 (fun t => t.2.1 h)) (fun g2 => br_c (fun h => H0 (fun t => t.2.2.1.1 h)) (fun g3 => br_c (fun h => H0 (fun t => t.2.2.1.2 h)) (fun g4 => br_c (fun h => H0 (fun t => t.2.2.2.1 h)) (fun g5 => br_c (fun h => H0 (fun t => t.2.2.2.2 h))
    (fun g6 => mg_80 hp (Or.inl ⟨⟨g1, g2, ⟨g3, g4⟩, ⟨g5, g6⟩⟩, rfl⟩)))))))
theorem mg_lawOf {p0 p1 p2 p3 p4 : Int32} : wpL_lawOf (fun r _ => r = 1) 13 124 () p0 p1 p2 p3 p4 := by
  unfold wpL_lawOf
  refine ⟨by omega, by omega, 12, 108, by omega, by omega, mg_init (fun b5 b6 b7 b8 b9 h9 => ?_)⟩
  dsimp only
  unfold wL_lawOf_37
  exact br_c (fun h => mg_38 (Or.inr ⟨fun t => t.1.1 h, rfl⟩)) (fun g1 => br_c (fun h => mg_38 (Or.inr ⟨fun t => t.1.2 h, rfl⟩)) (fun g2 => br_c (fun h => mg_38 (Or.inr ⟨fun t => t.2.1 h, rfl⟩)) (fun g3 => br_c (fun h => mg_38 (Or.inr ⟨fun t => t.2.2 h, rfl⟩))
    (fun g4 => mg_38 (Or.inl ⟨⟨⟨g1, g2⟩, ⟨g3, g4⟩⟩, rfl⟩)))))
theorem mg_cell {post : Int32 → Prop} {L i : Nat} {xs : Nat → Int32} {u : St0} (hi : i < 5) (hL : L ≤ 5) (H : ∀ r, post r) : wpL_cellAt post L xs u (nI i) :=
  pk_le L i (fun _ => H _) (fun h => ⟨pk_in i L h, H _⟩)
end
end
section
theorem i_vc (xs : Nat → Int32) (L : Nat) (hL : L ≤ 5) : wpL_law (fun r => r = 1) L xs := by
  unfold wpL_law
  exact mg_cell (i := 0) (by omega) hL (fun r1 => mg_cell (i := 1) (by omega) hL (fun r2 => mg_cell (i := 2) (by omega) hL (fun r3 => mg_cell (i := 3) (by omega) hL (fun r4 => mg_cell (i := 4) (by omega) hL (fun r5 =>
    ⟨13, 124, by omega, by omega, mg_lawOf⟩)))))
end
