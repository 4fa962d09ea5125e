section
/-! Int32 without overflow -/
theorem od_bm {z : Int} (h1 : -100000000 ≤ z) (h2 : z ≤ 100000000) : z.bmod (2 ^ 32) = z := by
  apply Int.bmod_eq_of_le_mul_two <;> omega
theorem od_add {a b : Int32} (h1 : -100000000 ≤ a.toInt + b.toInt) (h2 : a.toInt + b.toInt ≤ 100000000) : (a + b).toInt = a.toInt + b.toInt := by
  rw [Int32.toInt_add]; exact od_bm h1 h2
theorem od_sub {a b : Int32} (h1 : -100000000 ≤ a.toInt - b.toInt) (h2 : a.toInt - b.toInt ≤ 100000000) : (a - b).toInt = a.toInt - b.toInt := by
  rw [Int32.toInt_sub]; exact od_bm h1 h2
theorem od_mul {a b : Int32} (h1 : -100000000 ≤ a.toInt * b.toInt) (h2 : a.toInt * b.toInt ≤ 100000000) : (a * b).toInt = a.toInt * b.toInt := by
  rw [Int32.toInt_mul]; exact od_bm h1 h2
theorem od_neg {a : Int32} (h1 : -100000000 ≤ a.toInt) (h2 : a.toInt ≤ 100000000) : (-a).toInt = -a.toInt := by
  rw [Int32.toInt_neg]; exact od_bm (by omega) (by omega)
theorem od_le {x y : Int32} {a b : Int} (hx : x.toInt = a) (hy : y.toInt = b) : x ≤ y ↔ a ≤ b := by
  rw [Int32.le_iff_toInt_le, hx, hy]
theorem od_lt {x y : Int32} {a b : Int} (hx : x.toInt = a) (hy : y.toInt = b) : x < y ↔ a < b := by
  rw [Int32.lt_iff_toInt_lt, hx, hy]
theorem od_eq {x y : Int32} {a b : Int} (hx : x.toInt = a) (hy : y.toInt = b) : x = y ↔ a = b := by
  rw [← Int32.toInt_inj, hx, hy]
/-! branches by the integers behind -/
theorem od_ble {x y : Int32} {A B : Prop} (a b : Int) (hx : x.toInt = a) (hy : y.toInt = b) (f : a ≤ b → A) (g : b < a → B) : (x ≤ y → A) ∧ (¬ x ≤ y → B) := by
  rw [od_le hx hy]
  exact ⟨f, fun z => g (by omega)⟩
theorem od_blt {x y : Int32} {A B : Prop} (a b : Int) (hx : x.toInt = a) (hy : y.toInt = b) (f : a < b → A) (g : b ≤ a → B) : (x < y → A) ∧ (¬ x < y → B) := by
  rw [od_lt hx hy]
  exact ⟨f, fun z => g (by omega)⟩
theorem od_beq {x y : Int32} {A B : Prop} (a b : Int) (hx : x.toInt = a) (hy : y.toInt = b) (f : a = b → A) (g : a ≠ b → B) : (x = y → A) ∧ (¬ x = y → B) := by
  rw [od_eq hx hy]
  exact ⟨f, g⟩
theorem od_0 : (0 : Int32).toInt = 0 := by decide
theorem od_1 : (1 : Int32).toInt = 1 := by decide
theorem od_6 : (6 : Int32).toInt = 6 := by decide
theorem od_m6 : (-6 : Int32).toInt = -6 := by decide
theorem od_m1 : (-1 : Int32).toInt = -1 := by decide
theorem od_9 : (9 : Int32).toInt = 9 := by decide
theorem od_m9 : (-9 : Int32).toInt = -9 := by decide
theorem od_99 : (99 : Int32).toInt = 99 := by decide
theorem od_m99 : (-99 : Int32).toInt = -99 := by decide
theorem od_100 : (100 : Int32).toInt = 100 := by decide
theorem od_n0 : ¬ (1 : Int32) = 0 := by decide
/-! places of three a row -/
theorem od_e0 (k : Nat) : (3 : Int32) * nI k = nI (3 * k) := pk_mul 3 k
theorem od_e1 (k : Nat) : (3 : Int32) * nI k + 1 = nI (3 * k + 1) := by
  rw [od_e0, nI_1]
theorem od_e2 (k : Nat) : (3 : Int32) * nI k + 2 = nI (3 * k + 2) := by
  rw [od_e0]; exact nI_add (3 * k) 2
theorem od_c0 {k : Nat} (h : k < 1000) : ((3 : Int32) * nI k).toNatClampNeg = 3 * k := by
  rw [od_e0]; exact nI_clamp (by omega)
theorem od_c1 {k : Nat} (h : k < 1000) : ((3 : Int32) * nI k + 1).toNatClampNeg = 3 * k + 1 := by
  rw [od_e1]; exact nI_clamp (by omega)
theorem od_c2 {k : Nat} (h : k < 1000) : ((3 : Int32) * nI k + 2).toNatClampNeg = 3 * k + 2 := by
  rw [od_e2]; exact nI_clamp (by omega)
theorem od_c {k : Nat} (h : k < 1000) : (nI k).toNatClampNeg = k := nI_clamp (by omega)
theorem od_i0 {k N : Nat} (h : 3 * k < N) (hN : N < 1000) : vp_in ((3 : Int32) * nI k) N := by
  rw [od_e0]; exact vp_in_nI h (by omega)
theorem od_i1 {k N : Nat} (h : 3 * k + 1 < N) (hN : N < 1000) : vp_in ((3 : Int32) * nI k + 1) N := by
  rw [od_e1]; exact vp_in_nI h (by omega)
theorem od_i2 {k N : Nat} (h : 3 * k + 2 < N) (hN : N < 1000) : vp_in ((3 : Int32) * nI k + 2) N := by
  rw [od_e2]; exact vp_in_nI h (by omega)
theorem od_i {k N : Nat} (h : k < N) (hN : N < 1000) : vp_in (nI k) N := vp_in_nI h (by omega)
/-! the small methods -/
theorem od_fd {post : Int32 → Prop} {u : St0} {p0 p1 : Int32} (h1 : 0 < p1.toInt) (h2 : p1.toInt ≤ 1000) (h3 : -1000 ≤ p0.toInt) (h4 : p0.toInt ≤ 1000)
    (H : ∀ r : Int32, r.toInt = p0.toInt / p1.toInt → post r) : wpX_floorDivide post u p0 p1 := by
  have n0 : ¬ p1 = 0 := fun h => by
    rw [h, od_0] at h1
    omega
  have nm : p1 ≠ -1 := fun h => by
    rw [h, od_m1] at h1
    omega
  have eq : (p0 / p1).toInt = p0.toInt.tdiv p1.toInt := Int32.toInt_div_of_ne_right p0 p1 nm
  have t1 := Int.tmod_add_tdiv_mul p0.toInt p1.toInt
  have t2 := Int.tmod_lt_of_pos p0.toInt h1
  have t3 := Int.lt_tmod_of_pos p0.toInt h1
  have em : (p0 / p1 * p1).toInt = p0.toInt.tdiv p1.toInt * p1.toInt := by
    rw [← eq]
    apply od_mul
    · rw [eq]; omega
    · rw [eq]; omega
  have es : (p0 - p0 / p1 * p1).toInt = p0.toInt.tmod p1.toInt := by
    rw [od_sub (by rw [em]; omega) (by rw [em]; omega), em]
    omega
  refine ⟨n0, fun x ex => ⟨n0, od_ble 0 _ od_0 es (fun g => ?_) (fun g => ?_)⟩⟩
  · rw [ex]
    apply H
    rw [eq]
    refine ((Int.ediv_emod_unique (r := p0.toInt.tmod p1.toInt) h1).mpr ⟨?_, g, t2⟩).1.symm
    rw [Int.mul_comm]
    exact t1
  · rw [ex]
    apply H
    have key : p0.toInt / p1.toInt = p0.toInt.tdiv p1.toInt - 1 := by
      refine ((Int.ediv_emod_unique (r := p0.toInt.tmod p1.toInt + p1.toInt) h1).mpr ⟨?_, by omega, by omega⟩).1
      rw [Int.mul_sub, Int.mul_one, Int.mul_comm]
      omega
    have q1 : -1000 ≤ p0.toInt / p1.toInt := by
      rw [Int.le_ediv_iff_mul_le h1]
      have := Int.mul_le_mul_of_nonneg_left (a := 1) (b := p1.toInt) (c := 1000) (by omega) (by omega)
      omega
    have q2 : p0.toInt / p1.toInt ≤ 1000 := by
      apply Int.ediv_le_of_le_mul h1
      have := Int.mul_le_mul_of_nonneg_left (a := 1) (b := p1.toInt) (c := 1000) (by omega) (by omega)
      omega
    rw [od_sub (by rw [eq, od_1]; omega) (by rw [eq, od_1]; omega), eq, od_1, key]
theorem od_am {post : Int32 → Prop} {u : St0} {p0 : Int32} (h3 : -1000 ≤ p0.toInt) (h4 : p0.toInt ≤ 1000) (H : ∀ r : Int32, r.toInt = (p0.toInt.natAbs : Int) → post r) : wpX_amount post u p0 :=
  od_ble 0 _ od_0 rfl (fun g => H _ (by omega)) (fun g => H _ (by rw [od_neg (by omega) (by omega)]; omega))
theorem od_gcd {post : Int32 → Prop} {u : St0} {p0 p1 : Int32} (hz : p0.toInt = 0 ∨ p1.toInt = 0) (h1 : -1000 ≤ p0.toInt) (h2 : p0.toInt ≤ 1000) (h3 : -1000 ≤ p1.toInt) (h4 : p1.toInt ≤ 1000)
    (H : ∀ r : Int32, r.toInt = (p0.toInt.natAbs : Int) + (p1.toInt.natAbs : Int) → post r) : wpX_divisorOf post u p0 p1 := by
  refine od_am h1 h2 (fun r1 e1 => od_am h3 h4 (fun r2 e2 => ?_))
  by_cases c : p0.toInt = 0
  · refine ⟨1, br_f (by decide) (od_ble _ 0 e1 od_0 (fun _ => H r2 ?_) (fun g => ?_))⟩
    · omega
    · omega
  · have c1 : p1.toInt = 0 := by omega
    have z2 : r2 = 0 := by
      rw [od_eq e2 od_0]
      omega
    refine ⟨2, br_f (by decide) (od_ble _ 0 e1 od_0 (fun g => ?_) (fun g => ?_))⟩
    · omega
    · have ne : ¬ r1 = 0 := by
        rw [od_eq e1 od_0]
        omega
      have nm : r1 ≠ -1 := by
        intro h
        rw [od_eq e1 od_m1] at h
        omega
      refine ⟨ne, fun x5 e5 x4 e4 => ?_⟩
      have ed : (r2 / r1).toInt = 0 := by
        rw [Int32.toInt_div_of_ne_right r2 r1 nm, z2, od_0, Int.zero_tdiv]
      have em : (r2 / r1 * r1).toInt = 0 := by
        rw [od_mul (by rw [ed]; omega) (by rw [ed]; omega), ed, Int.zero_mul]
      have es : x5.toInt = 0 := by
        rw [e5, od_sub (by rw [em, e2]; omega) (by rw [em, e2]; omega), em, e2]
        omega
      rw [e4]
      refine br_f (by decide) (od_ble _ 0 es od_0 (fun _ => H r1 ?_) (fun g => absurd g (by decide)))
      omega
end
section
/-- the few rows: k of them, factors -1, 0 or 1; what they say together is S -/
def od_F (k : Nat) (a6 a7 : Nat → Int32) (S : Int → Int → Prop) : Prop :=
  (∀ r, r < k → -1 ≤ (a6 (3 * r)).toInt ∧ (a6 (3 * r)).toInt ≤ 1 ∧ -1 ≤ (a6 (3 * r + 1)).toInt ∧ (a6 (3 * r + 1)).toInt ≤ 1 ∧ -200 ≤ (a7 r).toInt ∧ (a7 r).toInt ≤ 200) ∧
  (∀ x y : Int, (∀ r, r < k → (a6 (3 * r)).toInt * x + (a6 (3 * r + 1)).toInt * y ≤ (a7 r).toInt) ↔ S x y)
theorem od_Fc {k : Nat} {a6 a7 : Nat → Int32} {S S' : Int → Int → Prop} (h : od_F k a6 a7 S) (e : ∀ x y, S x y ↔ S' x y) : od_F k a6 a7 S' :=
  ⟨h.1, fun x y => (h.2 x y).trans (e x y)⟩
theorem od_F0 {a6 a7 : Nat → Int32} {S : Int → Int → Prop} (h : ∀ x y, S x y) : od_F 0 a6 a7 S :=
  ⟨fun r hr => absurd hr (by omega), fun x y => ⟨fun _ => h x y, fun _ r hr => absurd hr (by omega)⟩⟩
/-- one more few row -/
theorem od_Fa {k : Nat} {a6 a7 A B C : Nat → Int32} {S : Int → Int → Prop} {x5 x6 x7 : Int32} (h : od_F k a6 a7 S) (b5 : -1 ≤ x5.toInt ∧ x5.toInt ≤ 1) (b6 : -1 ≤ x6.toInt ∧ x6.toInt ≤ 1) (b7 : -200 ≤ x7.toInt ∧ x7.toInt ≤ 200)
    (eA : A = upd a6 (3 * k) x5) (eB : B = upd A (3 * k + 1) x6) (eC : C = upd a7 k x7) : od_F (k + 1) B C (fun x y => S x y ∧ x5.toInt * x + x6.toInt * y ≤ x7.toInt) := by
  have B0 : B (3 * k) = x5 := by rw [eB, pk_un (by omega), eA, pk_us]
  have B1 : B (3 * k + 1) = x6 := by rw [eB, pk_us]
  have C0 : C k = x7 := by rw [eC, pk_us]
  have Bo : ∀ r, r < k → B (3 * r) = a6 (3 * r) ∧ B (3 * r + 1) = a6 (3 * r + 1) ∧ C r = a7 r := fun r hr =>
    ⟨by rw [eB, pk_un (by omega), eA, pk_un (by omega)], by rw [eB, pk_un (by omega), eA, pk_un (by omega)], by rw [eC, pk_un (by omega)]⟩
  constructor
  · intro r hr
    by_cases e : r = k
    · rw [e, B0, B1, C0]
      exact ⟨b5.1, b5.2, b6.1, b6.2, b7.1, b7.2⟩
    · obtain ⟨q1, q2, q3⟩ := Bo r (by omega)
      rw [q1, q2, q3]
      exact h.1 r (by omega)
  · intro x y
    show _ ↔ S x y ∧ _
    rw [← h.2 x y]
    constructor
    · intro g
      refine ⟨fun r hr => ?_, ?_⟩
      · have t := g r (by omega)
        obtain ⟨q1, q2, q3⟩ := Bo r hr
        rw [q1, q2, q3] at t
        exact t
      · have t := g k (by omega)
        rw [B0, B1, C0] at t
        exact t
    · intro g r hr
      by_cases e : r = k
      · rw [e, B0, B1, C0]
        exact g.2
      · obtain ⟨q1, q2, q3⟩ := Bo r (by omega)
        rw [q1, q2, q3]
        exact g.1 r (by omega)
/-- a few row with the same factors made stricter -/
theorem od_Fr {k r0 : Nat} {a6 a7 C : Nat → Int32} {S : Int → Int → Prop} {x5 x6 x7 v : Int32} (h : od_F k a6 a7 S) (hr0 : r0 < k) (e5 : a6 (3 * r0) = x5) (e6 : a6 (3 * r0 + 1) = x6) (b7 : -200 ≤ x7.toInt ∧ x7.toInt ≤ 200)
    (v1 : v.toInt ≤ (a7 r0).toInt) (v2 : v.toInt ≤ x7.toInt) (v3 : v.toInt = (a7 r0).toInt ∨ v.toInt = x7.toInt) (eC : C = upd a7 r0 v) : od_F k a6 C (fun x y => S x y ∧ x5.toInt * x + x6.toInt * y ≤ x7.toInt) := by
  have C0 : C r0 = v := by rw [eC, pk_us]
  have Co : ∀ r, r ≠ r0 → C r = a7 r := fun r hr => by rw [eC, pk_un hr]
  constructor
  · intro r hr
    have t := h.1 r hr
    by_cases e : r = r0
    · rw [e] at t
      rw [e, C0]
      exact ⟨t.1, t.2.1, t.2.2.1, t.2.2.2.1, by omega, by omega⟩
    · rw [Co r e]
      exact t
  · intro x y
    show _ ↔ S x y ∧ _
    rw [← h.2 x y]
    constructor
    · intro g
      have g0 := g r0 hr0
      rw [C0, e5, e6] at g0
      refine ⟨fun r hr => ?_, by omega⟩
      by_cases e : r = r0
      · rw [e, e5, e6]
        omega
      · have t := g r hr
        rw [Co r e] at t
        exact t
    · intro g r hr
      have t := g.1 r hr
      have t2 := g.2
      by_cases e : r = r0
      · rw [e, e5, e6] at t
        rw [e, C0, e5, e6]
        omega
      · rw [Co r e]
        exact t
section
variable {f0 f1 f2 f3 : Int32} {a1 a2 a3 a4 a5 a6 a7 a8 : Nat → Int32}
theorem od_pf48 {post : Int32 → St2 → Prop} {x5 x6 x7 : Int32} {k : Nat} (hk : k < 150) {S : Int → Int → Prop} (hF : od_F k a6 a7 S) (b5 : -1 ≤ x5.toInt ∧ x5.toInt ≤ 1) (b6 : -1 ≤ x6.toInt ∧ x6.toInt ≤ 1) (b7 : -200 ≤ x7.toInt ∧ x7.toInt ≤ 200)
    (H : ∀ (k' : Nat) (b6' b7' : Nat → Int32), k' ≤ k + 1 → od_F k' b6' b7' (fun x y => S x y ∧ x5.toInt * x + x6.toInt * y ≤ x7.toInt) → post 1 (f0, f1, nI k', f3, a1, a2, a3, a4, a5, b6', b7', a8)) :
    ∀ (n r : Nat), r ≤ k → k - r < n → wX_putFew_48 post x5 x6 x7 f0 f1 (nI k) f3 a1 a2 a3 a4 a5 a6 a7 a8 n (nI r) := by
  intro n
  induction n with
  | zero => intro r hr hn; omega
  | succ n ih =>
    intro r hr hn
    refine pk_le k r (fun z => ?_) (fun z => ?_)
    · refine ⟨od_i0 (by omega) (by omega), fun A eA => ⟨od_i1 (by omega) (by omega), fun B eB => ⟨od_i (by omega) (by omega), fun C eC => fun f ef => ?_⟩⟩⟩
      rw [od_c0 (by omega)] at eA
      rw [od_c1 (by omega)] at eB
      rw [od_c (by omega)] at eC
      rw [nI_1] at ef
      rw [ef]
      exact H (k + 1) B C (by omega) (od_Fa hF b5 b6 b7 eA eB eC)
    · refine ⟨od_i0 (by omega) (by omega), br_c (fun g => ⟨od_i1 (by omega) (by omega), br_c (fun g' => ⟨od_i (by omega) (by omega), ?_⟩) (fun _ => nm_r (nI_1 r) (ih (r + 1) (by omega) (by omega)))⟩) (fun _ => nm_r (nI_1 r) (ih (r + 1) (by omega) (by omega)))⟩
      rw [od_c0 (by omega)] at g
      rw [od_c1 (by omega)] at g'
      rw [od_c (show r < 1000 by omega)]
      refine od_ble (a7 r).toInt x7.toInt rfl rfl (fun le => ⟨od_i (by omega) (by omega), od_i (by omega) (by omega), fun C eC => ?_⟩) (fun lt => ⟨od_i (by omega) (by omega), fun C eC => ?_⟩)
      · exact H k a6 C (by omega) (od_Fr hF z g g' b7 (by omega) le (Or.inl rfl) eC)
      · exact H k a6 C (by omega) (od_Fr hF z g g' b7 (by omega) (by omega) (Or.inr rfl) eC)
/-- a factor divided by its amount -/
theorem od_q1 {p g : Int} (hg : 0 < g) (h : p = 0 ∨ p = g ∨ p = -g) : p = g * p.tdiv g ∧ -1 ≤ p.tdiv g ∧ p.tdiv g ≤ 1 := by
  rcases h with h | h | h
  · rw [h, Int.zero_tdiv]
    exact ⟨by omega, by omega, by omega⟩
  · rw [h, Int.tdiv_self (by omega)]
    exact ⟨by omega, by omega, by omega⟩
  · rw [h, Int.neg_tdiv, Int.tdiv_self (by omega)]
    exact ⟨by omega, by omega, by omega⟩
theorem od_q2 {p q s t g d x y : Int} (hg : 0 < g) (hp : p = g * s) (hq : q = g * t) : s * x + t * y ≤ d / g ↔ p * x + q * y ≤ d := by
  rw [Int.le_ediv_iff_mul_le hg, hp, hq]
  have e : (s * x + t * y) * g = g * s * x + g * t * y := by grind
  rw [e]
theorem od_q3 {d g : Int} (hg : 0 < g) (h1 : -200 ≤ d) (h2 : d ≤ 200) : -200 ≤ d / g ∧ d / g ≤ 200 := by
  have t := Int.mul_le_mul_of_nonneg_left (a := 1) (b := g) (c := 200) (by omega) (by omega)
  constructor
  · rw [Int.le_ediv_iff_mul_le hg]
    omega
  · apply Int.ediv_le_of_le_mul hg
    omega
theorem od_pf18 {post : Int32 → St2 → Prop} {k : Nat} (hk : k < 150) {S : Int → Int → Prop} (hF : od_F k a6 a7 S) {p0 p1 p2 : Int32} (hz : p0.toInt = 0 ∨ p1.toInt = 0) (hn : ¬ (p0.toInt = 0 ∧ p1.toInt = 0)) (b0 : -9 ≤ p0.toInt ∧ p0.toInt ≤ 9) (b1 : -9 ≤ p1.toInt ∧ p1.toInt ≤ 9) (b2 : -200 ≤ p2.toInt ∧ p2.toInt ≤ 200)
    (H : ∀ (k' : Nat) (b6' b7' : Nat → Int32), k' ≤ k + 1 → od_F k' b6' b7' (fun x y => S x y ∧ p0.toInt * x + p1.toInt * y ≤ p2.toInt) → post 1 (f0, f1, nI k', f3, a1, a2, a3, a4, a5, b6', b7', a8)) :
    wX_putFew_18 post p0 p1 p2 f0 f1 (nI k) f3 a1 a2 a3 a4 a5 a6 a7 a8 := by
  unfold wX_putFew_18
  refine od_gcd hz (by omega) (by omega) (by omega) (by omega) (fun g eg => ?_)
  have hg : 0 < g.toInt := by omega
  have ne : ¬ g = 0 := by
    intro h
    rw [h, od_0] at hg
    omega
  have nm : g ≠ -1 := by
    intro h
    rw [h, od_m1] at hg
    omega
  refine ⟨ne, fun x5 e5 => ⟨ne, fun x6 e6 => od_fd hg (by omega) (by omega) (by omega) (fun x7 e7 => ⟨k + 1, ?_⟩)⟩⟩
  have s5 : x5.toInt = p0.toInt.tdiv g.toInt := by rw [e5, Int32.toInt_div_of_ne_right _ _ nm]
  have s6 : x6.toInt = p1.toInt.tdiv g.toInt := by rw [e6, Int32.toInt_div_of_ne_right _ _ nm]
  obtain ⟨t0, u0, w0⟩ := od_q1 (p := p0.toInt) hg (by omega)
  obtain ⟨t1, u1, w1⟩ := od_q1 (p := p1.toInt) hg (by omega)
  rw [← s5] at t0 u0 w0
  rw [← s6] at t1 u1 w1
  have b7 := od_q3 hg b2.1 b2.2
  rw [← e7] at b7
  refine od_pf48 hk hF ⟨u0, w0⟩ ⟨u1, w1⟩ b7 (fun k' c6 c7 hk' hF' => H k' c6 c7 hk' (od_Fc hF' (fun x y => ?_))) (k + 1) 0 (by omega) (by omega)
  show S x y ∧ _ ↔ S x y ∧ _
  rw [e7, od_q2 hg t0 t1]
/-- a condition without a variable that is met -/
theorem od_pf0 {post : Int32 → St2 → Prop} {p0 p1 p2 : Int32} (e0 : p0.toInt = 0) (e1 : p1.toInt = 0) (h : 0 ≤ p2.toInt) (H : post 1 (f0, f1, f2, f3, a1, a2, a3, a4, a5, a6, a7, a8)) : wpX_putFew post (f0, f1, f2, f3, a1, a2, a3, a4, a5, a6, a7, a8) p0 p1 p2 :=
  br_t (Int32.toInt_inj.mp (e0.trans od_0.symm)) (br_t (Int32.toInt_inj.mp (e1.trans od_0.symm)) (od_blt p2.toInt 0 rfl od_0 (fun z => absurd z (by omega)) (fun _ => H)))
theorem od_pf {post : Int32 → St2 → Prop} {k : Nat} (hk : k < 150) {S : Int → Int → Prop} (hF : od_F k a6 a7 S) {p0 p1 p2 : Int32} (hz : p0.toInt = 0 ∨ p1.toInt = 0) (b0 : -9 ≤ p0.toInt ∧ p0.toInt ≤ 9) (b1 : -9 ≤ p1.toInt ∧ p1.toInt ≤ 9) (b2 : -200 ≤ p2.toInt ∧ p2.toInt ≤ 200)
    (H0 : (∀ x y : Int, ¬ p0.toInt * x + p1.toInt * y ≤ p2.toInt) → post 0 (f0, f1, nI k, f3, a1, a2, a3, a4, a5, a6, a7, a8))
    (H1 : ∀ (k' : Nat) (b6' b7' : Nat → Int32), k' ≤ k + 1 → od_F k' b6' b7' (fun x y => S x y ∧ p0.toInt * x + p1.toInt * y ≤ p2.toInt) → post 1 (f0, f1, nI k', f3, a1, a2, a3, a4, a5, b6', b7', a8)) :
    wpX_putFew post (f0, f1, nI k, f3, a1, a2, a3, a4, a5, a6, a7, a8) p0 p1 p2 := by
  refine od_beq p0.toInt 0 rfl od_0 (fun g0 => od_beq p1.toInt 0 rfl od_0 (fun g1 => od_blt p2.toInt 0 rfl od_0 (fun g2 => H0 ?_) (fun g2 => H1 k a6 a7 (by omega) (od_Fc hF ?_))) (fun g1 => ?_)) (fun g0 => ?_)
  · intro x y
    rw [g0, g1, Int.zero_mul, Int.zero_mul]
    omega
  · intro x y
    show S x y ↔ S x y ∧ _
    rw [g0, g1, Int.zero_mul, Int.zero_mul]
    exact ⟨fun h => ⟨h, by omega⟩, fun h => h.1⟩
  · exact od_pf18 hk hF hz (fun h => g1 h.2) b0 b1 b2 H1
  · exact od_pf18 hk hF hz (fun h => g0 h.1) b0 b1 b2 H1
end
end
section
/-! two variables: leavesRoom, planeSolvable -/
section
variable {f0 f1 f2 f3 : Int32} {a1 a2 a3 a4 a5 a6 a7 a8 : Nat → Int32}
/-- one row's cut of the stretch lo .. hi: B * y ≤ R -/
theorem od_l64 {post : Int32 → Prop} {J : Int32 → Int32 → Int32 → Prop} {x1 lo hi x5 x6 : Int32} {r : Nat} (hB1 : -1 ≤ x5.toInt) (hB2 : x5.toInt ≤ 1) (hR1 : -300 ≤ x6.toInt) (hR2 : x6.toInt ≤ 300) (hz : x5.toInt = 0 → 0 ≤ x6.toInt)
    (l1 : -300 ≤ lo.toInt) (l2 : lo.toInt ≤ 300) (h1 : -300 ≤ hi.toInt) (h2 : hi.toInt ≤ 300)
    (H : ∀ lo' hi' : Int32, -300 ≤ lo'.toInt → lo'.toInt ≤ 300 → -300 ≤ hi'.toInt → hi'.toInt ≤ 300 → (∀ y : Int, (lo'.toInt ≤ y ∧ y ≤ hi'.toInt) ↔ ((lo.toInt ≤ y ∧ y ≤ hi.toInt) ∧ x5.toInt * y ≤ x6.toInt)) → J lo' hi' (nI (r + 1))) :
    wX_leavesRoom_64 post J x1 lo hi (nI r) x5 x6 f0 f1 f2 f3 a1 a2 a3 a4 a5 a6 a7 a8 := by
  unfold wX_leavesRoom_64
  refine od_ble x5.toInt 0 rfl od_0 (fun g => od_ble 0 x5.toInt od_0 rfl (fun g' => nm_r (nI_1 r) (H lo hi l1 l2 h1 h2 (fun y => ?_))) (fun g' => ?_)) (fun g => ?_)
  · have e : x5.toInt = 0 := by omega
    rw [e, Int.zero_mul]
    exact ⟨fun h => ⟨h, hz e⟩, fun h => h.1⟩
  · have e : x5.toInt = -1 := by omega
    have en : (-x5).toInt = 1 := by
      rw [od_neg (by omega) (by omega)]
      omega
    refine od_fd (by omega) (by omega) (by omega) (by omega) (fun q eq => fun x7 e7 => ?_)
    rw [en, Int.ediv_one] at eq
    have e7' : x7.toInt = -x6.toInt := by
      rw [e7, od_neg (by omega) (by omega), eq]
    refine od_ble x7.toInt lo.toInt rfl rfl (fun c => nm_r (nI_1 r) (H lo hi l1 l2 h1 h2 (fun y => ?_))) (fun c => nm_r (nI_1 r) (H x7 hi (by omega) (by omega) h1 h2 (fun y => ?_)))
    · rw [e]
      omega
    · rw [e]
      omega
  · have e : x5.toInt = 1 := by omega
    refine od_fd (by omega) (by omega) (by omega) (by omega) (fun q eq => ?_)
    rw [e, Int.ediv_one] at eq
    refine od_ble hi.toInt q.toInt rfl rfl (fun c => nm_r (nI_1 r) (H lo hi l1 l2 h1 h2 (fun y => ?_))) (fun c => nm_r (nI_1 r) (H lo q l1 l2 (by omega) (by omega) (fun y => ?_)))
    · rw [e]
      omega
    · rw [e]
      omega
/-- a factor of at most 1 times a value of the box -/
theorem od_ax {A x : Int} (h1 : -1 ≤ A) (h2 : A ≤ 1) (x1 : -6 ≤ x) (x2 : x ≤ 6) : -6 ≤ A * x ∧ A * x ≤ 6 := by
  have c : A = -1 ∨ A = 0 ∨ A = 1 := by omega
  rcases c with c | c | c
  · rw [c]; omega
  · rw [c]; omega
  · rw [c]; omega
theorem od_lr9 {post : Int32 → Prop} {k : Nat} (hk : k ≤ 100) {S : Int → Int → Prop} (hF : od_F k a6 a7 S) {p : Int32} {x : Int} (hp : p.toInt = x) (x1 : -6 ≤ x) (x2 : x ≤ 6)
    (H0 : (∀ y, -6 ≤ y → y ≤ 6 → ¬ S x y) → post 0) (H1 : ∀ y, -6 ≤ y → y ≤ 6 → S x y → post 1) :
    ∀ (n r : Nat) (lo hi : Int32), r ≤ k → k - r < n → -300 ≤ lo.toInt → lo.toInt ≤ 300 → -300 ≤ hi.toInt → hi.toInt ≤ 300 →
      (∀ y : Int, (lo.toInt ≤ y ∧ y ≤ hi.toInt) ↔ ((-6 ≤ y ∧ y ≤ 6) ∧ ∀ j, j < r → (a6 (3 * j)).toInt * x + (a6 (3 * j + 1)).toInt * y ≤ (a7 j).toInt)) →
      wX_leavesRoom_9 post p f0 f1 (nI k) f3 a1 a2 a3 a4 a5 a6 a7 a8 n lo hi (nI r) := by
  intro n
  induction n with
  | zero => intro r lo hi hr hn; omega
  | succ n ih =>
    intro r lo hi hr hn l1 l2 h1 h2 hI
    refine pk_le k r (fun z => ?_) (fun z => ?_)
    · have er : r = k := by omega
      rw [er] at hI
      refine od_blt hi.toInt lo.toInt rfl rfl (fun c => H0 (fun y y1 y2 hS => ?_)) (fun c => ?_)
      · have t := (hI y).mpr ⟨⟨y1, y2⟩, (hF.2 x y).mpr hS⟩
        omega
      · have t := (hI lo.toInt).mp ⟨by omega, by omega⟩
        exact H1 lo.toInt t.1.1 t.1.2 ((hF.2 x lo.toInt).mp t.2)
    · obtain ⟨A1, A2, B1, B2, E1, E2⟩ := hF.1 r z
      obtain ⟨m1, m2⟩ := od_ax A1 A2 x1 x2
      refine ⟨od_i1 (by omega) (by omega), fun x5 e5 => ⟨od_i (by omega) (by omega), od_i0 (by omega) (by omega), fun x6 e6 => ?_⟩⟩
      rw [od_c1 (by omega)] at e5
      rw [od_c0 (by omega), od_c (by omega)] at e6
      have em : (a6 (3 * r) * p).toInt = (a6 (3 * r)).toInt * x := by
        rw [od_mul (by rw [hp]; omega) (by rw [hp]; omega), hp]
      have es : x6.toInt = (a7 r).toInt - (a6 (3 * r)).toInt * x := by
        rw [e6, od_sub (by rw [em]; omega) (by rw [em]; omega), em]
      have step : (x5.toInt = 0 → 0 ≤ x6.toInt) → wX_leavesRoom_64 post (wX_leavesRoom_9 post p f0 f1 (nI k) f3 a1 a2 a3 a4 a5 a6 a7 a8 n) p lo hi (nI r) x5 x6 f0 f1 (nI k) f3 a1 a2 a3 a4 a5 a6 a7 a8 := by
        intro hz
        refine od_l64 (by rw [e5]; exact B1) (by rw [e5]; exact B2) (by omega) (by omega) hz l1 l2 h1 h2 (fun lo' hi' l1' l2' h1' h2' hI' => ?_)
        refine ih (r + 1) lo' hi' (by omega) (by omega) l1' l2' h1' h2' (fun y => ?_)
        rw [hI' y, hI y, es, e5]
        constructor
        · intro t
          refine ⟨t.1.1, fun j hj => ?_⟩
          by_cases e : j = r
          · have := t.2
            rw [e]
            omega
          · exact t.1.2 j (by omega)
        · intro t
          have t2 := t.2 r (by omega)
          exact ⟨⟨t.1, fun j hj => t.2 j (by omega)⟩, by omega⟩
      refine od_beq x5.toInt 0 rfl od_0 (fun g => od_ble 0 x6.toInt od_0 rfl (fun g' => step (fun _ => g')) (fun g' => H0 (fun y y1 y2 hS => ?_))) (fun g => step (fun h => absurd h g))
      have t := (hF.2 x y).mpr hS r z
      rw [e5] at g
      rw [g, Int.zero_mul] at t
      omega
theorem od_lr {post : Int32 → Prop} {k : Nat} (hk : k ≤ 100) {S : Int → Int → Prop} (hF : od_F k a6 a7 S) {p : Int32} {x : Int} (hp : p.toInt = x) (x1 : -6 ≤ x) (x2 : x ≤ 6)
    (H0 : (∀ y, -6 ≤ y → y ≤ 6 → ¬ S x y) → post 0) (H1 : ∀ y, -6 ≤ y → y ≤ 6 → S x y → post 1) : wpX_leavesRoom post (f0, f1, nI k, f3, a1, a2, a3, a4, a5, a6, a7, a8) p :=
  ⟨k + 1, od_lr9 hk hF hp x1 x2 H0 H1 (k + 1) 0 (-6) 6 (by omega) (by omega) (by rw [od_m6]; omega) (by rw [od_m6]; omega) (by rw [od_6]; omega) (by rw [od_6]; omega)
    (fun y => by rw [od_m6, od_6]; exact ⟨fun h => ⟨h, fun j hj => absurd hj (by omega)⟩, fun h => h.1⟩)⟩
theorem od_ps {post : Int32 → Prop} {k : Nat} (hk : k ≤ 100) {S : Int → Int → Prop} (hF : od_F k a6 a7 S)
    (H0 : (∀ x y, -6 ≤ x → x ≤ 6 → -6 ≤ y → y ≤ 6 → ¬ S x y) → post 0) (H1 : ∀ x y, -6 ≤ x → x ≤ 6 → -6 ≤ y → y ≤ 6 → S x y → post 1) : wpX_planeSolvable post (f0, f1, nI k, f3, a1, a2, a3, a4, a5, a6, a7, a8) := by
  have key : ∀ (n : Nat) (p : Int32) (x : Int), p.toInt = x → -6 ≤ x → x ≤ 7 → 7 - x < n → (∀ x', -6 ≤ x' → x' < x → ∀ y, -6 ≤ y → y ≤ 6 → ¬ S x' y) → wX_planeSolvable_3 post f0 f1 (nI k) f3 a1 a2 a3 a4 a5 a6 a7 a8 n p := by
    intro n
    induction n with
    | zero => intro p x hp h1 h2 hn; omega
    | succ n ih =>
      intro p x hp h1 h2 hn hI
      refine od_blt 6 x od_6 hp (fun c => H0 (fun x' y x1 x2 y1 y2 => hI x' x1 (by omega) y y1 y2)) (fun c => ?_)
      refine od_lr hk hF hp h1 c (fun hno => br_t rfl (fun q eq => ?_)) (fun y y1 y2 hS => br_f od_n0 (H1 x y h1 c y1 y2 hS))
      refine ih q (x + 1) ?_ (by omega) (by omega) (by omega) (fun x' g1 g2 y y1 y2 => ?_)
      · rw [eq, od_add (by rw [hp, od_1]; omega) (by rw [hp, od_1]; omega), hp, od_1]
      · by_cases e : x' = x
        · rw [e]
          exact hno y y1 y2
        · exact hI x' g1 (by omega) y y1 y2
  exact ⟨14, key 14 (-6) (-6) od_m6 (by omega) (by omega) (by omega) (fun x' g1 g2 => absurd g2 (by omega))⟩
end
end
section
/-- a row's shape: without z and with one variable at most, or one of the two of z -/
def od_S (lz hz a b c d : Int) : Prop :=
  (c = 0 ∧ (a = 0 ∨ b = 0) ∧ -9 ≤ a ∧ a ≤ 9 ∧ -9 ≤ b ∧ b ≤ 9 ∧ -100 ≤ d ∧ d ≤ 100) ∨ (a = 0 ∧ b = 0 ∧ c = 1 ∧ d = hz) ∨ (a = 0 ∧ b = 0 ∧ c = -1 ∧ d = -lz)
/-- what row j says of x and y, if it is without z -/
def od_A (a4 a5 : Nat → Int32) (j : Nat) (x y : Int) : Prop :=
  (a4 (3 * j + 2)).toInt = 0 → (a4 (3 * j)).toInt * x + (a4 (3 * j + 1)).toInt * y ≤ (a5 j).toInt
/-- n rows, all of the shape; those without z say together T -/
def od_R (lz hz : Int) (n : Nat) (a4 a5 : Nat → Int32) (T : Int → Int → Prop) : Prop :=
  (∀ j, j < n → od_S lz hz (a4 (3 * j)).toInt (a4 (3 * j + 1)).toInt (a4 (3 * j + 2)).toInt (a5 j).toInt) ∧ (∀ x y : Int, (∀ j, j < n → od_A a4 a5 j x y) ↔ T x y)
theorem od_Sc {lz hz a b c d : Int} (h : od_S lz hz a b c d) : -1 ≤ c ∧ c ≤ 1 := by
  rcases h with h | h | h
  · omega
  · omega
  · omega
theorem od_S0 {lz hz a b c d : Int} (h : od_S lz hz a b c d) (hc : c = 0) : (a = 0 ∨ b = 0) ∧ (-9 ≤ a ∧ a ≤ 9) ∧ (-9 ≤ b ∧ b ≤ 9) ∧ (-200 ≤ d ∧ d ≤ 200) := by
  rcases h with h | h | h
  · exact ⟨h.2.1, by omega, by omega, by omega⟩
  · omega
  · omega
theorem od_Sp {lz hz a b c d : Int} (h : od_S lz hz a b c d) (hc : 0 < c) : a = 0 ∧ b = 0 ∧ c = 1 ∧ d = hz := by
  rcases h with h | h | h
  · omega
  · exact h
  · omega
theorem od_Sm {lz hz a b c d : Int} (h : od_S lz hz a b c d) (hc : c < 0) : a = 0 ∧ b = 0 ∧ c = -1 ∧ d = -lz := by
  rcases h with h | h | h
  · omega
  · omega
  · exact h
theorem od_m1v {x y : Int32} {v : Int} (hx : x.toInt = 1) (hy : y.toInt = v) (h1 : -1000 ≤ v) (h2 : v ≤ 1000) : (x * y).toInt = v := by
  rw [od_mul (by rw [hx, hy]; omega) (by rw [hx, hy]; omega), hx, hy, Int.one_mul]
theorem od_av {x y : Int32} {a b : Int} (hx : x.toInt = a) (hy : y.toInt = b) (h1 : -10000 ≤ a) (h2 : a ≤ 10000) (h3 : -10000 ≤ b) (h4 : b ≤ 10000) : (x + y).toInt = a + b := by
  rw [od_add (by rw [hx, hy]; omega) (by rw [hx, hy]; omega), hx, hy]
theorem od_sv {x y : Int32} {a b : Int} (hx : x.toInt = a) (hy : y.toInt = b) (h1 : -10000 ≤ a) (h2 : a ≤ 10000) (h3 : -10000 ≤ b) (h4 : b ≤ 10000) : (x - y).toInt = a - b := by
  rw [od_sub (by rw [hx, hy]; omega) (by rw [hx, hy]; omega), hx, hy]
theorem od_nv {x : Int32} {a : Int} (hx : x.toInt = a) (h1 : -10000 ≤ a) (h2 : a ≤ 10000) : (-x).toInt = -a := by
  rw [od_neg (by rw [hx]; omega) (by rw [hx]; omega), hx]
section
variable {f0 f1 f2 f3 : Int32} {a1 a2 a3 a4 a5 a6 a7 a8 : Nat → Int32}
theorem od_pu {post : Int32 → St2 → Prop} {lz hz : Int} {n l : Nat} {T : Int → Int → Prop} (hn : n ≤ 25) (hzz : lz ≤ hz) (z1 : -100 ≤ lz) (z2 : hz ≤ 100) (hR : od_R lz hz n a4 a5 T) (hl : l < n) (hc : (a4 (3 * l + 2)).toInt < 0) {x2 : Int32} (h2 : x2.toInt = 1)
    (H : post 1 (f0, nI n, f2, f3, a1, a2, a3, a4, a5, a6, a7, a8)) : wpX_pairUp post (f0, nI n, f2, f3, a1, a2, a3, a4, a5, a6, a7, a8) (nI l) x2 1 := by
  obtain ⟨la, lb, lc, ld⟩ := od_Sm (hR.1 l hl) hc
  have key : ∀ (m i : Nat), i ≤ n → n - i < m → wX_pairUp_3 post (nI l) x2 1 m (nI i) f0 (nI n) f2 f3 a1 a2 a3 a4 a5 a6 a7 a8 := by
    intro m
    induction m with
    | zero => intro i hi hm; omega
    | succ m ih =>
      intro i hi hm
      refine pk_le n i (fun _ => H) (fun z => ⟨od_i2 (by omega) (by omega), fun x5 e5 => ?_⟩)
      rw [od_c2 (by omega)] at e5
      refine od_ble x5.toInt 0 rfl od_0 (fun _ => nm_r (nI_1 i) (ih (i + 1) (by omega) (by omega))) (fun g => ?_)
      rw [e5] at g
      obtain ⟨ra, rb, rc, rd⟩ := od_Sp (hR.1 i z) g
      rw [← e5] at rc
      refine ⟨od_i0 (by omega) (by omega), od_i0 (by omega) (by omega), fun x6 e6 => ⟨od_i1 (by omega) (by omega), od_i1 (by omega) (by omega), fun x7 e7 => ⟨od_i (by omega) (by omega), od_i (by omega) (by omega), br_f od_n0 ?_⟩⟩⟩
      rw [od_c0 (by omega), od_c0 (by omega)] at e6
      rw [od_c1 (by omega), od_c1 (by omega)] at e7
      rw [od_c (show l < 1000 by omega), od_c (show i < 1000 by omega)]
      have v6 : x6.toInt = 0 + 0 := by
        rw [e6]
        exact od_av (od_m1v rc la (by omega) (by omega)) (od_m1v h2 ra (by omega) (by omega)) (by omega) (by omega) (by omega) (by omega)
      have v7 : x7.toInt = 0 + 0 := by
        rw [e7]
        exact od_av (od_m1v rc lb (by omega) (by omega)) (od_m1v h2 rb (by omega) (by omega)) (by omega) (by omega) (by omega) (by omega)
      have v1 : (x5 * a5 l + x2 * a5 i).toInt = -lz + hz :=
        od_av (od_m1v rc ld (by omega) (by omega)) (od_m1v h2 rd (by omega) (by omega)) (by omega) (by omega) (by omega) (by omega)
      have v0a : (x5 - 1).toInt = 0 := by
        rw [od_sv rc od_1 (by omega) (by omega) (by omega) (by omega)]
        omega
      have v0 : ((x5 - 1) * (x2 - 1)).toInt = 0 := by
        rw [od_mul (by rw [v0a]; omega) (by rw [v0a]; omega), v0a, Int.zero_mul]
      intro x8 e8
      have v8 : x8.toInt = (-lz + hz) - 0 := by
        rw [e8]
        exact od_sv v1 v0 (by omega) (by omega) (by omega) (by omega)
      exact od_pf0 (by omega) (by omega) (by omega) (br_f od_n0 (nm_r (nI_1 i) (ih (i + 1) (by omega) (by omega))))
  exact ⟨n + 1, key (n + 1) 0 (by omega) (by omega)⟩
theorem od_mf {post : Int32 → St2 → Prop} {lz hz : Int} {n : Nat} {T : Int → Int → Prop} (hn : n ≤ 25) (hzz : lz ≤ hz) (z1 : -100 ≤ lz) (z2 : hz ≤ 100) (hR : od_R lz hz n a4 a5 T)
    (H0 : (∀ x y, ¬ T x y) → ∀ (f : Int32) (b6 b7 : Nat → Int32), post 0 (f0, nI n, f, f3, a1, a2, a3, a4, a5, b6, b7, a8))
    (H1 : ∀ (k : Nat) (b6 b7 : Nat → Int32), k ≤ n → od_F k b6 b7 T → post 1 (f0, nI n, nI k, f3, a1, a2, a3, a4, a5, b6, b7, a8)) :
    wpX_makeFew post (f0, nI n, f2, f3, a1, a2, a3, a4, a5, a6, a7, a8) 1 := by
  have key : ∀ (m i k : Nat) (b6 b7 : Nat → Int32), i ≤ n → n - i < m → k ≤ i → od_F k b6 b7 (fun x y => ∀ j, j < i → od_A a4 a5 j x y) → wX_makeFew_9 post 1 m 1 (nI i) f0 (nI n) (nI k) f3 a1 a2 a3 a4 a5 b6 b7 a8 := by
    intro m
    induction m with
    | zero => intro i k b6 b7 hi hm; omega
    | succ m ih =>
      intro i k b6 b7 hi hm hk hF
      refine pk_le n i (fun z => ⟨rfl, ?_⟩) (fun z => br_f od_n0 ⟨od_i2 (by omega) (by omega), fun x4 e4 => ?_⟩)
      · have e : i = n := by omega
        rw [e] at hF hk
        exact H1 k b6 b7 hk (od_Fc hF (fun x y => hR.2 x y))
      · rw [od_c2 (by omega)] at e4
        have hS := hR.1 i z
        have skip : ¬ (a4 (3 * i + 2)).toInt = 0 → od_F k b6 b7 (fun x y => ∀ j, j < i + 1 → od_A a4 a5 j x y) := by
          intro g
          refine od_Fc hF (fun x y => ⟨fun h j hj => ?_, fun h j hj => h j (by omega)⟩)
          by_cases e : j = i
          · rw [e]
            exact fun c => absurd c g
          · exact h j (by omega)
        refine od_beq x4.toInt 0 rfl od_0 (fun g => ⟨od_i0 (by omega) (by omega), od_i1 (by omega) (by omega), od_i (by omega) (by omega), ?_⟩) (fun g => od_ble 0 x4.toInt od_0 rfl (fun g' => nm_r (nI_1 i) (ih (i + 1) k b6 b7 (by omega) (by omega) (by omega) (skip (by rw [← e4]; exact g)))) (fun g' => ?_))
        · rw [e4] at g
          obtain ⟨s0, s1, s2, s3⟩ := od_S0 hS g
          rw [od_c0 (by omega), od_c1 (by omega), od_c (show i < 1000 by omega)]
          refine od_pf (by omega) hF s0 s1 s2 s3 (fun hno => nm_r (nI_1 i) ?_) (fun k' c6 c7 hk' hF' => nm_r (nI_1 i) (ih (i + 1) k' c6 c7 (by omega) (by omega) (by omega) (od_Fc hF' (fun x y => ?_))))
          · obtain ⟨m', em⟩ : ∃ m', m = m' + 1 := ⟨m - 1, by omega⟩
            rw [em]
            have hT : ∀ x y, ¬ T x y := fun x y t => hno x y ((hR.2 x y).mpr t i z g)
            exact br_c (fun _ => ⟨rfl, H0 hT _ _ _⟩) (fun _ => br_t rfl ⟨rfl, H0 hT _ _ _⟩)
          · constructor
            · intro t j hj
              by_cases e : j = i
              · rw [e]
                exact fun _ => t.2
              · exact t.1 j (by omega)
            · intro t
              exact ⟨fun j hj => t j (by omega), t i (by omega) g⟩
        · have hx : (-x4).toInt = 1 := by
            have c := od_Sm hS (by rw [← e4]; exact g')
            rw [e4, od_nv c.2.2.1 (by omega) (by omega)]
            omega
          exact od_pu hn hzz z1 z2 hR z (by rw [← e4]; exact g') hx (nm_r (nI_1 i) (ih (i + 1) k b6 b7 (by omega) (by omega) (by omega) (skip (by rw [← e4]; exact g))))
  exact ⟨n + 1, key (n + 1) 0 0 a6 a7 (by omega) (by omega) (by omega) (od_F0 (fun x y j hj => absurd hj (by omega)))⟩
theorem od_ie {post : Int32 → Prop} {lz hz : Int} {n : Nat} {T : Int → Int → Prop} (hn : n ≤ 25) (hR : od_R lz hz n a4 a5 T) (H : post 1) : wpX_isExact post (f0, nI n, f2, f3, a1, a2, a3, a4, a5, a6, a7, a8) := by
  have key : ∀ (m i : Nat), i ≤ n → n - i < m → wX_isExact_6 post f0 (nI n) f2 f3 a1 a2 a3 a4 a5 a6 a7 a8 m 1 1 (nI i) := by
    intro m
    induction m with
    | zero => intro i hi hm; omega
    | succ m ih =>
      intro i hi hm
      refine pk_le n i (fun _ => br_t rfl H) (fun z => ⟨od_i2 (by omega) (by omega), fun x4 e4 => ?_⟩)
      rw [od_c2 (by omega)] at e4
      have c := od_Sc (hR.1 i z)
      rw [← e4] at c
      have h1 : -x4 ≤ 1 := by
        rw [od_le (od_nv rfl (by omega) (by omega)) od_1]
        omega
      have h2 : x4 ≤ 1 := by
        rw [od_le rfl od_1]
        omega
      exact br_t h1 (br_t h2 (nm_r (nI_1 i) (ih (i + 1) (by omega) (by omega))))
  exact ⟨n + 1, key (n + 1) 0 (by omega) (by omega)⟩
theorem od_sol {post : Int32 → St2 → Prop} {lz hz : Int} {n : Nat} {T : Int → Int → Prop} (hn : n ≤ 25) (hzz : lz ≤ hz) (z1 : -100 ≤ lz) (z2 : hz ≤ 100) (hR : od_R lz hz n a4 a5 T)
    (H0 : (∀ x y, -6 ≤ x → x ≤ 6 → -6 ≤ y → y ≤ 6 → ¬ T x y) → ∀ (f : Int32) (b6 b7 : Nat → Int32), post 0 (f0, nI n, f, f3, a1, a2, a3, a4, a5, b6, b7, a8))
    (H1 : ∀ x y, -6 ≤ x → x ≤ 6 → -6 ≤ y → y ≤ 6 → T x y → ∀ (f : Int32) (b6 b7 : Nat → Int32), post 1 (f0, nI n, f, f3, a1, a2, a3, a4, a5, b6, b7, a8)) :
    wpX_solvable post (f0, nI n, f2, f3, a1, a2, a3, a4, a5, a6, a7, a8) := by
  have s17 : (∀ x y, -6 ≤ x → x ≤ 6 → -6 ≤ y → y ≤ 6 → ¬ T x y) → ∀ (f : Int32) (b6 b7 : Nat → Int32), wX_solvable_17 post f0 (nI n) f f3 a1 a2 a3 a4 a5 b6 b7 a8 := by
    intro hno f b6 b7
    unfold wX_solvable_17
    exact od_ie hn hR (br_f od_n0 (H0 hno f b6 b7))
  unfold wpX_solvable
  refine od_mf hn hzz z1 z2 hR (fun hno f b6 b7 => br_t rfl (s17 (fun x y _ _ _ _ => hno x y) f b6 b7)) (fun k b6 b7 hk hF => br_f od_n0 ?_)
  exact od_ps (by omega) hF (fun hno => br_t rfl (s17 hno _ b6 b7)) (fun x y x1 x2 y1 y2 hT => br_f od_n0 (H1 x y x1 x2 y1 y2 hT _ b6 b7))
end
end
section
/-! put, collect -/
theorem od_Rc {lz hz : Int} {n : Nat} {a4 a5 : Nat → Int32} {T T' : Int → Int → Prop} (h : od_R lz hz n a4 a5 T) (e : ∀ x y, T x y ↔ T' x y) : od_R lz hz n a4 a5 T' :=
  ⟨h.1, fun x y => (h.2 x y).trans (e x y)⟩
theorem od_R0 {lz hz : Int} {a4 a5 : Nat → Int32} : od_R lz hz 0 a4 a5 (fun _ _ => True) :=
  ⟨fun j hj => absurd hj (by omega), fun x y => ⟨fun _ => trivial, fun _ j hj => absurd hj (by omega)⟩⟩
theorem od_Ra {lz hz : Int} {n : Nat} {a4 a5 A B C E : Nat → Int32} {T : Int → Int → Prop} {p0 p1 p2 p3 : Int32} (h : od_R lz hz n a4 a5 T) (sh : od_S lz hz p0.toInt p1.toInt p2.toInt p3.toInt)
    (eA : A = upd a4 (3 * n) p0) (eB : B = upd A (3 * n + 1) p1) (eC : C = upd B (3 * n + 2) p2) (eE : E = upd a5 n p3) :
    od_R lz hz (n + 1) C E (fun x y => T x y ∧ (p2.toInt = 0 → p0.toInt * x + p1.toInt * y ≤ p3.toInt)) := by
  have C0 : C (3 * n) = p0 := by rw [eC, pk_un (by omega), eB, pk_un (by omega), eA, pk_us]
  have C1 : C (3 * n + 1) = p1 := by rw [eC, pk_un (by omega), eB, pk_us]
  have C2 : C (3 * n + 2) = p2 := by rw [eC, pk_us]
  have E0 : E n = p3 := by rw [eE, pk_us]
  have lowC : ∀ j, j < 3 * n → C j = a4 j := fun j hj => by rw [eC, pk_un (by omega), eB, pk_un (by omega), eA, pk_un (by omega)]
  have Eo : ∀ j, j < n → E j = a5 j := fun j hj => by rw [eE, pk_un (by omega)]
  have Ao : ∀ j, j < n → ∀ x y, od_A C E j x y ↔ od_A a4 a5 j x y := by
    intro j hj x y
    unfold od_A
    rw [lowC (3 * j) (by omega), lowC (3 * j + 1) (by omega), lowC (3 * j + 2) (by omega), Eo j hj]
  constructor
  · intro j hj
    by_cases e : j = n
    · rw [e, C0, C1, C2, E0]
      exact sh
    · rw [lowC (3 * j) (by omega), lowC (3 * j + 1) (by omega), lowC (3 * j + 2) (by omega), Eo j (by omega)]
      exact h.1 j (by omega)
  · intro x y
    show _ ↔ T x y ∧ _
    rw [← h.2 x y]
    constructor
    · intro g
      refine ⟨fun j hj => (Ao j hj x y).mp (g j (by omega)), ?_⟩
      have t := g n (by omega)
      unfold od_A at t
      rw [C0, C1, C2, E0] at t
      exact t
    · intro g j hj
      by_cases e : j = n
      · rw [e]
        unfold od_A
        rw [C0, C1, C2, E0]
        exact g.2
      · exact (Ao j (by omega) x y).mpr (g.1 j (by omega))
/-! what a fixed value (100: any) leaves of the box -/
def od_V (f : Int32) : Prop := f = 100 ∨ (-6 ≤ f.toInt ∧ f.toInt ≤ 6)
def od_lo (f : Int32) : Int := if f = 100 then -6 else f.toInt
def od_hi (f : Int32) : Int := if f = 100 then 6 else f.toInt
theorem od_lo1 {f : Int32} (h : f = 100) : od_lo f = -6 := if_pos h
theorem od_lo0 {f : Int32} (h : ¬ f = 100) : od_lo f = f.toInt := if_neg h
theorem od_hi1 {f : Int32} (h : f = 100) : od_hi f = 6 := if_pos h
theorem od_hi0 {f : Int32} (h : ¬ f = 100) : od_hi f = f.toInt := if_neg h
theorem od_Vb {f : Int32} (h : od_V f) : -6 ≤ od_lo f ∧ od_lo f ≤ od_hi f ∧ od_hi f ≤ 6 := by
  by_cases c : f = 100
  · rw [od_lo1 c, od_hi1 c]
    omega
  · rw [od_lo0 c, od_hi0 c]
    rcases h with h | h
    · exact absurd h c
    · omega
/-- the desk: no condition held, or one on y alone; C is what it says -/
def od_D (f0 f3 : Int32) (a1 a2 a3 : Nat → Int32) (C : Int → Prop) : Prop :=
  f3 = -1 ∧ ((f0 = 0 ∧ ∀ y, C y) ∨ (f0 = 1 ∧ a1 0 = 0 ∧ a1 2 = 0 ∧ (-9 ≤ (a1 1).toInt ∧ (a1 1).toInt ≤ 9) ∧ (-99 ≤ (a2 0).toInt ∧ (a2 0).toInt ≤ 99) ∧
    ((a3 0 = 0 ∧ ∀ y, C y ↔ (a1 1).toInt * y ≤ (a2 0).toInt) ∨ (¬ a3 0 = 0 ∧ ∀ y, C y ↔ (a1 1).toInt * y = (a2 0).toInt))))
section
variable {f0 f1 f2 f3 : Int32} {a1 a2 a3 a4 a5 a6 a7 a8 : Nat → Int32}
theorem od_put {post : St2 → Prop} {lz hz : Int} {n : Nat} {T : Int → Int → Prop} (hn : n < 25) (hR : od_R lz hz n a4 a5 T) {p0 p1 p2 p3 : Int32} (sh : od_S lz hz p0.toInt p1.toInt p2.toInt p3.toInt)
    (H : ∀ (b4 b5 : Nat → Int32), od_R lz hz (n + 1) b4 b5 (fun x y => T x y ∧ (p2.toInt = 0 → p0.toInt * x + p1.toInt * y ≤ p3.toInt)) → post (f0, nI (n + 1), f2, f3, a1, a2, a3, b4, b5, a6, a7, a8)) :
    wpX_put post (f0, nI n, f2, f3, a1, a2, a3, a4, a5, a6, a7, a8) p0 p1 p2 p3 := by
  refine ⟨od_i0 (by omega) (by omega), fun A eA => ⟨od_i1 (by omega) (by omega), fun B eB => ⟨od_i2 (by omega) (by omega), fun C eC => ⟨od_i (by omega) (by omega), fun E eE => fun f ef => ?_⟩⟩⟩⟩
  rw [od_c0 (by omega)] at eA
  rw [od_c1 (by omega)] at eB
  rw [od_c2 (by omega)] at eC
  rw [od_c (by omega)] at eE
  rw [nI_1] at ef
  rw [ef]
  exact H C E (od_Ra hR sh eA eB eC eE)
/-- the two rows of x -/
theorem od_y0 {post : St2 → Prop} {J : Int32 → Int32 → Int32 → Int32 → Int32 → (Nat → Int32) → (Nat → Int32) → (Nat → Int32) → (Nat → Int32) → (Nat → Int32) → (Nat → Int32) → (Nat → Int32) → (Nat → Int32) → Prop}
    {lz hz : Int} {n : Nat} {T : Int → Int → Prop} (hn : n < 20) (hR : od_R lz hz n a4 a5 T) {x2 x3 : Int32} {h l : Int} (eh : x2.toInt = h) (el : x3.toInt = l) (b1 : -6 ≤ l) (b2 : l ≤ h) (b3 : h ≤ 6)
    (H : ∀ b4 b5 : Nat → Int32, od_R lz hz (n + 2) b4 b5 (fun x y => T x y ∧ (l ≤ x ∧ x ≤ h)) → J 1 f0 (nI (n + 2)) f2 f3 a1 a2 a3 b4 b5 a6 a7 a8) :
    wX_collect_154 post J 0 x2 x3 f0 (nI n) f2 f3 a1 a2 a3 a4 a5 a6 a7 a8 := by
  have en : (-x3).toInt = -l := od_nv el (by omega) (by omega)
  refine br_t rfl (br_f (by decide) (br_f (by decide) (od_put (by omega) hR (Or.inl ?_) (fun b4 b5 h1 => br_t rfl (br_f (by decide) (br_f (by decide) (od_put (by omega) h1 (Or.inl ?_) (fun c4 c5 h2 => nm_r (show (0 : Int32) + 1 = 1 by decide) (H c4 c5 (od_Rc h2 (fun x y => ?_))))))))))) 
  · rw [od_0, od_1, eh]
    omega
  · rw [od_0, od_m1, en]
    omega
  · rw [od_0, od_1, od_m1, eh, en]
    constructor
    · intro t
      have t1 := t.1.2 rfl
      have t2 := t.2 rfl
      exact ⟨t.1.1, by omega, by omega⟩
    · intro t
      exact ⟨⟨t.1, fun _ => by omega⟩, fun _ => by omega⟩
/-- the two rows of y -/
theorem od_y1 {post : St2 → Prop} {J : Int32 → Int32 → Int32 → Int32 → Int32 → (Nat → Int32) → (Nat → Int32) → (Nat → Int32) → (Nat → Int32) → (Nat → Int32) → (Nat → Int32) → (Nat → Int32) → (Nat → Int32) → Prop}
    {lz hz : Int} {n : Nat} {T : Int → Int → Prop} (hn : n < 20) (hR : od_R lz hz n a4 a5 T) {x2 x3 : Int32} {h l : Int} (eh : x2.toInt = h) (el : x3.toInt = l) (b1 : -6 ≤ l) (b2 : l ≤ h) (b3 : h ≤ 6)
    (H : ∀ b4 b5 : Nat → Int32, od_R lz hz (n + 2) b4 b5 (fun x y => T x y ∧ (l ≤ y ∧ y ≤ h)) → J 2 f0 (nI (n + 2)) f2 f3 a1 a2 a3 b4 b5 a6 a7 a8) :
    wX_collect_154 post J 1 x2 x3 f0 (nI n) f2 f3 a1 a2 a3 a4 a5 a6 a7 a8 := by
  have en : (-x3).toInt = -l := od_nv el (by omega) (by omega)
  refine br_f (by decide) (br_t rfl (br_f (by decide) (od_put (by omega) hR (Or.inl ?_) (fun b4 b5 h1 => br_f (by decide) (br_t rfl (br_f (by decide) (od_put (by omega) h1 (Or.inl ?_) (fun c4 c5 h2 => nm_r (show (1 : Int32) + 1 = 2 by decide) (H c4 c5 (od_Rc h2 (fun x y => ?_)))))))))))
  · rw [od_0, od_1, eh]
    omega
  · rw [od_0, od_m1, en]
    omega
  · rw [od_0, od_1, od_m1, eh, en]
    constructor
    · intro t
      have t1 := t.1.2 rfl
      have t2 := t.2 rfl
      exact ⟨t.1.1, by omega, by omega⟩
    · intro t
      exact ⟨⟨t.1, fun _ => by omega⟩, fun _ => by omega⟩
/-- the two rows of z -/
theorem od_y2 {post : St2 → Prop} {J : Int32 → Int32 → Int32 → Int32 → Int32 → (Nat → Int32) → (Nat → Int32) → (Nat → Int32) → (Nat → Int32) → (Nat → Int32) → (Nat → Int32) → (Nat → Int32) → (Nat → Int32) → Prop}
    {lz hz : Int} {n : Nat} {T : Int → Int → Prop} (hn : n < 20) (hR : od_R lz hz n a4 a5 T) {x2 x3 : Int32} (eh : x2.toInt = hz) (el : x3.toInt = lz) (b1 : -6 ≤ lz) (b2 : lz ≤ hz) (b3 : hz ≤ 6)
    (H : ∀ b4 b5 : Nat → Int32, od_R lz hz (n + 2) b4 b5 T → J 3 f0 (nI (n + 2)) f2 f3 a1 a2 a3 b4 b5 a6 a7 a8) :
    wX_collect_154 post J 2 x2 x3 f0 (nI n) f2 f3 a1 a2 a3 a4 a5 a6 a7 a8 := by
  have en : (-x3).toInt = -lz := od_nv el (by omega) (by omega)
  refine br_f (by decide) (br_f (by decide) (br_t rfl (od_put (by omega) hR (Or.inr (Or.inl ?_)) (fun b4 b5 h1 => br_f (by decide) (br_f (by decide) (br_t rfl (od_put (by omega) h1 (Or.inr (Or.inr ?_)) (fun c4 c5 h2 => nm_r (show (2 : Int32) + 1 = 3 by decide) (H c4 c5 (od_Rc h2 (fun x y => ?_)))))))))))
  · exact ⟨od_0, od_0, od_1, eh⟩
  · exact ⟨od_0, od_0, od_m1, en⟩
  · rw [od_1, od_m1]
    exact ⟨fun t => t.1.1, fun t => ⟨⟨t, fun c => absurd c (by omega)⟩, fun c => absurd c (by omega)⟩⟩
/-- high and low of variable v -/
theorem od_w {post : St2 → Prop} {J : Int32 → Int32 → Int32 → Int32 → Int32 → (Nat → Int32) → (Nat → Int32) → (Nat → Int32) → (Nat → Int32) → (Nat → Int32) → (Nat → Int32) → (Nat → Int32) → (Nat → Int32) → Prop} (v : Nat) (hv : v < 3)
    (Y : ∀ x2 x3 : Int32, x2.toInt = od_hi (a8 v) → x3.toInt = od_lo (a8 v) → wX_collect_154 post J (nI v) x2 x3 f0 f1 f2 f3 a1 a2 a3 a4 a5 a6 a7 a8) :
    vp_in (nI v) 3 ∧ (((a8 (nI v).toNatClampNeg) = 100 → (wX_collect_131 post J (nI v) 6 f0 f1 f2 f3 a1 a2 a3 a4 a5 a6 a7 a8)) ∧ (¬ (a8 (nI v).toNatClampNeg) = 100 → (vp_in (nI v) 3 ∧ (wX_collect_131 post J (nI v) (a8 (nI v).toNatClampNeg) f0 f1 f2 f3 a1 a2 a3 a4 a5 a6 a7 a8)))) := by
  have X : ∀ z : Int32, z.toInt = od_hi (a8 v) → wX_collect_131 post J (nI v) z f0 f1 f2 f3 a1 a2 a3 a4 a5 a6 a7 a8 := by
    intro z ez
    unfold wX_collect_131
    rw [od_c (show v < 1000 by omega)]
    exact ⟨od_i hv (by omega), br_c (fun c => Y z (-6) ez (by rw [od_lo1 c]; exact od_m6)) (fun c => ⟨od_i hv (by omega), Y z (a8 v) ez (by rw [od_lo0 c])⟩)⟩
  rw [od_c (show v < 1000 by omega)]
  exact ⟨od_i hv (by omega), br_c (fun c => X 6 (by rw [od_hi1 c]; exact od_6)) (fun c => ⟨od_i hv (by omega), X (a8 v) (by rw [od_hi0 c])⟩)⟩
theorem od_104 {post : St2 → Prop} {n : Nat} {T : Int → Int → Prop} (hn : n < 10) (hR : od_R (od_lo (a8 2)) (od_hi (a8 2)) n a4 a5 T) (v0 : od_V (a8 0)) (v1 : od_V (a8 1)) (v2 : od_V (a8 2))
    (H : ∀ b4 b5 : Nat → Int32, od_R (od_lo (a8 2)) (od_hi (a8 2)) (n + 2 + 2 + 2) b4 b5 (fun x y => (T x y ∧ (od_lo (a8 0) ≤ x ∧ x ≤ od_hi (a8 0))) ∧ (od_lo (a8 1) ≤ y ∧ y ≤ od_hi (a8 1))) → post (f0, nI (n + 2 + 2 + 2), f2, f3, a1, a2, a3, b4, b5, a6, a7, a8)) :
    ∃ fu : Nat, wX_collect_104 post fu 0 f0 (nI n) f2 f3 a1 a2 a3 a4 a5 a6 a7 a8 := by
  obtain ⟨p0, q0, r0⟩ := od_Vb v0
  obtain ⟨p1, q1, r1⟩ := od_Vb v1
  obtain ⟨p2, q2, r2⟩ := od_Vb v2
  have s3 : ∀ (m : Nat) (b4 b5 : Nat → Int32), od_R (od_lo (a8 2)) (od_hi (a8 2)) (n + 2 + 2 + 2) b4 b5 (fun x y => (T x y ∧ (od_lo (a8 0) ≤ x ∧ x ≤ od_hi (a8 0))) ∧ (od_lo (a8 1) ≤ y ∧ y ≤ od_hi (a8 1))) → wX_collect_104 post (m + 1) 3 f0 (nI (n + 2 + 2 + 2)) f2 f3 a1 a2 a3 b4 b5 a6 a7 a8 :=
    fun m b4 b5 h => br_t (by decide) (H b4 b5 h)
  have s2 : ∀ (m : Nat) (b4 b5 : Nat → Int32), od_R (od_lo (a8 2)) (od_hi (a8 2)) (n + 2 + 2) b4 b5 (fun x y => (T x y ∧ (od_lo (a8 0) ≤ x ∧ x ≤ od_hi (a8 0))) ∧ (od_lo (a8 1) ≤ y ∧ y ≤ od_hi (a8 1))) → wX_collect_104 post (m + 1 + 1) 2 f0 (nI (n + 2 + 2)) f2 f3 a1 a2 a3 b4 b5 a6 a7 a8 :=
    fun m b4 b5 h => br_f (by decide) (od_w 2 (by omega) (fun x2 x3 e2 e3 => od_y2 (by omega) h e2 e3 p2 q2 r2 (fun c4 c5 h' => s3 m c4 c5 h')))
  have s1 : ∀ (m : Nat) (b4 b5 : Nat → Int32), od_R (od_lo (a8 2)) (od_hi (a8 2)) (n + 2) b4 b5 (fun x y => T x y ∧ (od_lo (a8 0) ≤ x ∧ x ≤ od_hi (a8 0))) → wX_collect_104 post (m + 1 + 1 + 1) 1 f0 (nI (n + 2)) f2 f3 a1 a2 a3 b4 b5 a6 a7 a8 :=
    fun m b4 b5 h => br_f (by decide) (od_w 1 (by omega) (fun x2 x3 e2 e3 => od_y1 (by omega) h e2 e3 p1 q1 r1 (fun c4 c5 h' => s2 m c4 c5 h')))
  have s0 : ∀ (m : Nat), wX_collect_104 post (m + 1 + 1 + 1 + 1) 0 f0 (nI n) f2 f3 a1 a2 a3 a4 a5 a6 a7 a8 :=
    fun m => br_f (by decide) (od_w 0 (by omega) (fun x2 x3 e2 e3 => od_y0 (by omega) hR e2 e3 p0 q0 r0 (fun c4 c5 h' => s1 m c4 c5 h')))
  exact ⟨_, s0 0⟩
theorem od_z0 : ((3 : Int32) * 0).toNatClampNeg = 0 := by decide
theorem od_z1 : ((3 : Int32) * 0 + 1).toNatClampNeg = 1 := by decide
theorem od_z2 : ((3 : Int32) * 0 + 2).toNatClampNeg = 2 := by decide
theorem od_zz : (0 : Int32).toNatClampNeg = 0 := by decide
theorem od_col {post : St2 → Prop} {C : Int → Prop} (hD : od_D f0 f3 a1 a2 a3 C) (v0 : od_V (a8 0)) (v1 : od_V (a8 1)) (v2 : od_V (a8 2))
    (H : ∀ (n : Nat) (b4 b5 : Nat → Int32), n ≤ 25 → od_R (od_lo (a8 2)) (od_hi (a8 2)) n b4 b5 (fun x y => C y ∧ (od_lo (a8 0) ≤ x ∧ x ≤ od_hi (a8 0)) ∧ (od_lo (a8 1) ≤ y ∧ y ≤ od_hi (a8 1))) → post (f0, nI n, f2, f3, a1, a2, a3, b4, b5, a6, a7, a8)) :
    wpX_collect post (f0, f1, f2, f3, a1, a2, a3, a4, a5, a6, a7, a8) := by
  have fin : ∀ (n : Nat) (b4 b5 : Nat → Int32) (T : Int → Int → Prop), n < 10 → od_R (od_lo (a8 2)) (od_hi (a8 2)) n b4 b5 T → (∀ x y, T x y ↔ C y) → ∃ fu : Nat, wX_collect_104 post fu 0 f0 (nI n) f2 f3 a1 a2 a3 b4 b5 a6 a7 a8 := by
    intro n b4 b5 T hn hR hT
    refine od_104 hn hR v0 v1 v2 (fun c4 c5 h => H _ c4 c5 (by omega) (od_Rc h (fun x y => ?_)))
    rw [hT x y]
    exact and_assoc
  obtain ⟨e3, hd⟩ := hD
  rcases hd with ⟨e0, hC⟩ | ⟨e0, c0, c2, ⟨cl, cr⟩, ⟨dl, dr⟩, hE⟩
  · subst e0
    exact ⟨0 + 1, br_t (by decide) (fin 0 a4 a5 _ (by omega) od_R0 (fun x y => ⟨fun _ => hC y, fun _ => trivial⟩))⟩
  · subst e0
    subst e3
    have n2 : (-a1 1).toInt = -(a1 1).toInt := od_nv rfl (by omega) (by omega)
    have nd : (-a2 0).toInt = -(a2 0).toInt := od_nv rfl (by omega) (by omega)
    refine ⟨0 + 1 + 1, br_f (by decide) (br_f (by decide) ⟨vp_in_iff.mpr (by decide), fun y2 e2 => ⟨vp_in_iff.mpr (by decide), fun y3 e3 => ⟨vp_in_iff.mpr (by decide), fun y4 e4 => ⟨vp_in_iff.mpr (by decide), ?_⟩⟩⟩⟩)⟩
    rw [od_z0, c0] at e2
    rw [od_z1] at e3
    rw [od_z2, c2] at e4
    rw [od_zz]
    subst e2
    subst e3
    subst e4
    refine od_put (n := 0) (lz := od_lo (a8 2)) (hz := od_hi (a8 2)) (by omega) od_R0 (Or.inl ?_) (fun b4 b5 h1 => ⟨vp_in_iff.mpr (by decide), ?_⟩)
    · rw [od_0]
      omega
    · rcases hE with ⟨g, hC⟩ | ⟨g, hC⟩
      · refine br_t g (nm_e (br_t (by decide) (fin 1 b4 b5 _ (by omega) h1 (fun x y => ?_))))
        rw [hC y, od_0, Int.zero_mul, Int.zero_add]
        exact ⟨fun t => t.2 rfl, fun t => ⟨trivial, fun _ => t⟩⟩
      · refine br_f g ⟨vp_in_iff.mpr (by decide), od_put (n := 1) (by omega) h1 (Or.inl ?_) (fun c4 c5 h2 => nm_e (br_t (by decide) (fin 2 c4 c5 _ (by omega) h2 (fun x y => ?_))))⟩
        · rw [show (-(0 : Int32)).toInt = 0 by decide, n2]
          show _ ∧ _ ∧ _ ∧ _ ∧ _ ∧ _ ∧ -100 ≤ (-a2 0).toInt ∧ (-a2 0).toInt ≤ 100
          rw [nd]
          omega
        · show ((True ∧ _) ∧ (_ → _ ≤ (-a2 0).toInt)) ↔ _
          rw [hC y, show (-(0 : Int32)).toInt = 0 by decide, od_0, Int.zero_mul, Int.zero_add, Int.zero_add, n2, nd, Int.neg_mul]
          constructor
          · intro t
            have t1 := t.1.2 rfl
            have t2 := t.2 rfl
            omega
          · intro t
            exact ⟨⟨trivial, fun _ => by omega⟩, fun _ => by omega⟩
end
end
section
/-! the desk's questions -/
/-- some y that f leaves meets the condition -/
def od_Q (C : Int → Prop) (f : Int32) : Prop := ∃ y : Int, (od_lo f ≤ y ∧ y ≤ od_hi f) ∧ C y
/-- the least y of the box that meets C -/
def od_M (C : Int → Prop) (m : Int) : Prop := -6 ≤ m ∧ m ≤ 6 ∧ C m ∧ ∀ y, -6 ≤ y → y < m → ¬ C y
/-- some y of the box meets C -/
def od_E (C : Int → Prop) : Prop := ∃ y : Int, (-6 ≤ y ∧ y ≤ 6) ∧ C y
theorem od_Q100 {C : Int → Prop} {f : Int32} (h : f = 100) : od_Q C f ↔ od_E C := by
  unfold od_Q od_E
  rw [od_lo1 h, od_hi1 h]
theorem od_Qv {C : Int → Prop} {f : Int32} {x : Int} (h : f.toInt = x) (hx : x ≤ 6) : od_Q C f ↔ C x := by
  have n : ¬ f = 100 := by
    rw [od_eq h od_100]
    omega
  unfold od_Q
  rw [od_lo0 n, od_hi0 n, h]
  constructor
  · intro t
    obtain ⟨y, hy, hc⟩ := t
    have e : y = x := by omega
    rw [← e]
    exact hc
  · intro t
    exact ⟨x, by omega, t⟩
theorem od_Vx {f : Int32} {x : Int} (h : f.toInt = x) (h1 : -6 ≤ x) (h2 : x ≤ 6) : od_V f := Or.inr (by omega)
section
variable {f0 f1 f2 f3 : Int32} {a1 a2 a3 a4 a5 a6 a7 a8 : Nat → Int32}
/-- collect, then solvable -/
theorem od_q {post : Int32 → St2 → Prop} {P : St2 → Prop} {C : Int → Prop} (hD : od_D f0 f3 a1 a2 a3 C) (v0 : od_V (a8 0)) (v1 : od_V (a8 1)) (v2 : od_V (a8 2))
    (hP : ∀ (g0 g1 g2 g3 : Int32) (b1 b2 b3 b4 b5 b6 b7 b8 : Nat → Int32), wpX_solvable post (g0, g1, g2, g3, b1, b2, b3, b4, b5, b6, b7, b8) → P (g0, g1, g2, g3, b1, b2, b3, b4, b5, b6, b7, b8))
    (H0 : ¬ od_Q C (a8 1) → ∀ (g1 g2 : Int32) (b4 b5 b6 b7 : Nat → Int32), post 0 (f0, g1, g2, f3, a1, a2, a3, b4, b5, b6, b7, a8))
    (H1 : od_Q C (a8 1) → ∀ (g1 g2 : Int32) (b4 b5 b6 b7 : Nat → Int32), post 1 (f0, g1, g2, f3, a1, a2, a3, b4, b5, b6, b7, a8)) :
    wpX_collect P (f0, f1, f2, f3, a1, a2, a3, a4, a5, a6, a7, a8) := by
  obtain ⟨p0, q0, r0⟩ := od_Vb v0
  obtain ⟨p1, q1, r1⟩ := od_Vb v1
  obtain ⟨p2, q2, r2⟩ := od_Vb v2
  refine od_col hD v0 v1 v2 (fun n b4 b5 hn hR => hP _ _ _ _ _ _ _ _ _ _ _ _ (od_sol hn q2 (by omega) (by omega) hR (fun hno f b6 b7 => H0 ?_ _ f b4 b5 b6 b7) (fun x y x1 x2 y1 y2 hT f b6 b7 => H1 ?_ _ f b4 b5 b6 b7)))
  · intro t
    obtain ⟨y, hy, hc⟩ := t
    exact hno (od_lo (a8 0)) y (by omega) (by omega) (by omega) (by omega) ⟨hc, by omega, hy⟩
  · exact ⟨y, hT.2.2, hT.1⟩
theorem od_i3 {v : Nat} (h : v < 3) : vp_in (nI v) 3 := od_i h (by omega)
theorem od_free {post : St2 → Prop} (H : ∀ b8 : Nat → Int32, b8 0 = 100 → b8 1 = 100 → b8 2 = 100 → post (f0, f1, f2, f3, a1, a2, a3, a4, a5, a6, a7, b8)) : wpX_free post (f0, f1, f2, f3, a1, a2, a3, a4, a5, a6, a7, a8) := by
  refine ⟨0 + 1 + 1 + 1 + 1, br_f (by decide) ⟨od_i3 (v := 0) (by omega), fun A eA => nm_r (show (0 : Int32) + 1 = 1 by decide) (br_f (by decide) ⟨od_i3 (v := 1) (by omega), fun B eB => nm_r (show (1 : Int32) + 1 = 2 by decide) (br_f (by decide) ⟨od_i3 (v := 2) (by omega), fun E eE => nm_r (show (2 : Int32) + 1 = 3 by decide) (br_t (by decide) (H E ?_ ?_ ?_))⟩)⟩)⟩⟩
  · rw [eE, show (2 : Int32).toNatClampNeg = 2 by decide, pk_un (by omega), eB, show (1 : Int32).toNatClampNeg = 1 by decide, pk_un (by omega), eA, od_zz, pk_us]
  · rw [eE, show (2 : Int32).toNatClampNeg = 2 by decide, pk_un (by omega), eB, show (1 : Int32).toNatClampNeg = 1 by decide, pk_us]
  · rw [eE, show (2 : Int32).toNatClampNeg = 2 by decide, pk_us]
/-- what leastValue asks of the value x for variable v -/
def od_G (C : Int → Prop) (v : Nat) (a8 : Nat → Int32) (x : Int) : Prop := if v = 1 then C x else od_Q C (a8 1)
theorem od_G1 {C : Int → Prop} {v : Nat} {a8 : Nat → Int32} {x : Int} (h : v = 1) : od_G C v a8 x ↔ C x := by
  unfold od_G
  rw [if_pos h]
theorem od_Gn {C : Int → Prop} {v : Nat} {a8 : Nat → Int32} {x : Int} (h : ¬ v = 1) : od_G C v a8 x ↔ od_Q C (a8 1) := by
  unfold od_G
  rw [if_neg h]
theorem od_lv {post : Int32 → St2 → Prop} {C : Int → Prop} (hD : od_D f0 f3 a1 a2 a3 C) (v : Nat) (hv : v < 3) (hV : ∀ j, j < 3 → j ≠ v → od_V (a8 j))
    (H0 : (∀ x, -6 ≤ x → x ≤ 6 → ¬ od_G C v a8 x) → ∀ (g1 g2 : Int32) (b4 b5 b6 b7 b8 : Nat → Int32), b8 v = 100 → (∀ j, j ≠ v → b8 j = a8 j) → post 100 (f0, g1, g2, f3, a1, a2, a3, b4, b5, b6, b7, b8))
    (H1 : ∀ m : Int32, -6 ≤ m.toInt → m.toInt ≤ 6 → od_G C v a8 m.toInt → (∀ x, -6 ≤ x → x < m.toInt → ¬ od_G C v a8 x) → ∀ (g1 g2 : Int32) (b4 b5 b6 b7 b8 : Nat → Int32), b8 v = 100 → (∀ j, j ≠ v → b8 j = a8 j) → post m (f0, g1, g2, f3, a1, a2, a3, b4, b5, b6, b7, b8)) :
    wpX_leastValue post (f0, f1, f2, f3, a1, a2, a3, a4, a5, a6, a7, a8) (nI v) 0 := by
  have cv : (nI v).toNatClampNeg = v := od_c (by omega)
  have key : ∀ (n k : Nat) (g1 g2 : Int32) (b4 b5 b6 b7 b8 : Nat → Int32), k ≤ 13 → 13 - k < n → (∀ j, j ≠ v → b8 j = a8 j) → (∀ x : Int, -6 ≤ x → x < (k : Int) - 6 → ¬ od_G C v a8 x) → wX_leastValue_2 post (nI v) 0 n (nI k) f0 g1 g2 f3 a1 a2 a3 b4 b5 b6 b7 b8 := by
    intro n
    induction n with
    | zero => intro k g1 g2 b4 b5 b6 b7 b8 hk hn; omega
    | succ n ih =>
      intro k g1 g2 b4 b5 b6 b7 b8 hk hn hb hI
      refine pk_le 13 k (fun z => ⟨od_i3 hv, fun A eA => ?_⟩) (fun z => br_t rfl ⟨od_i3 hv, fun A eA => ?_⟩)
      · rw [cv] at eA
        refine H0 (fun x x1 x2 => hI x x1 (by omega)) _ _ _ _ _ _ _ (by rw [eA, pk_us]) (fun j hj => by rw [eA, pk_un hj, hb j hj])
      · rw [cv] at eA
        have ez : (nI k - 6).toInt = (k : Int) - 6 := od_sv (nI_toInt (by omega)) od_6 (by omega) (by omega) (by omega) (by omega)
        have Av : A v = nI k - 6 := by rw [eA, pk_us]
        have Ao : ∀ j, j ≠ v → A j = a8 j := fun j hj => by rw [eA, pk_un hj, hb j hj]
        have VA : ∀ j, j < 3 → od_V (A j) := by
          intro j hj
          by_cases e : j = v
          · rw [e, Av]
            exact od_Vx ez (by omega) (by omega)
          · rw [Ao j e]
            exact hV j hj e
        have QG : od_Q C (A 1) ↔ od_G C v a8 ((k : Int) - 6) := by
          by_cases e : v = 1
          · rw [od_G1 e, ← e, Av, od_Qv ez (by omega)]
          · rw [od_Gn e, Ao 1 (fun h => e h.symm)]
        refine od_q hD (VA 0 (by omega)) (VA 1 (by omega)) (VA 2 (by omega)) (fun _ _ _ _ _ _ _ _ _ _ _ _ h => h) (fun hq h1 h2 c4 c5 c6 c7 => br_t rfl (nm_r (nI_1 k) (ih (k + 1) _ _ _ _ _ _ A (by omega) (by omega) Ao (fun x x1 x2 => ?_)))) (fun hq h1 h2 c4 c5 c6 c7 => br_f od_n0 ⟨od_i3 hv, fun B eB => ?_⟩)
        · by_cases e : x = (k : Int) - 6
          · rw [e, ← QG]
            exact hq
          · exact hI x x1 (by omega)
        · rw [cv] at eB
          refine H1 (nI k - 6) (by omega) (by omega) (by rw [ez]; exact QG.mp hq) (fun x x1 x2 => hI x x1 (by omega)) _ _ _ _ _ _ _ (by rw [eB, pk_us]) (fun j hj => by rw [eB, pk_un hj, Ao j hj])
  exact ⟨14, key 14 0 _ _ _ _ _ _ _ (by omega) (by omega) (fun j _ => rfl) (fun x x1 x2 => absurd x2 (by omega))⟩
/-- first: its answer at place p -/
theorem od_first {post : Int32 → St2 → Prop} {C : Int → Prop} (hD : od_D f0 f3 a1 a2 a3 C) (p : Nat) (hp : p ≤ 2)
    (H0 : ¬ od_E C → ∀ (g1 g2 : Int32) (b4 b5 b6 b7 b8 : Nat → Int32), post 100 (f0, g1, g2, f3, a1, a2, a3, b4, b5, b6, b7, b8))
    (H1 : od_E C → ∀ r : Int32, (p = 1 → od_M C r.toInt) → (p ≠ 1 → r = -6) → ∀ (g1 g2 : Int32) (b4 b5 b6 b7 b8 : Nat → Int32), post r (f0, g1, g2, f3, a1, a2, a3, b4, b5, b6, b7, b8)) :
    wpX_first post (f0, f1, f2, f3, a1, a2, a3, a4, a5, a6, a7, a8) (nI p) := by
  have n100 : ∀ m : Int32, m.toInt ≤ 6 → ¬ m = 100 := by
    intro m hm h
    rw [h, od_100] at hm
    omega
  have s3 : od_E C → ∀ (n : Nat) (m : Int32), od_M C m.toInt → ∀ (g1 g2 : Int32) (b4 b5 b6 b7 b8 : Nat → Int32), b8 0 = -6 → b8 1 = m → b8 2 = -6 → wX_first_18 post (nI p) (n + 1) (nI 3) f0 g1 g2 f3 a1 a2 a3 b4 b5 b6 b7 b8 := by
    intro hE n m hm g1 g2 b4 b5 b6 b7 b8 e0 e1 e2
    refine pk_lt p 3 (fun _ => ⟨od_i3 (by omega), H1 hE _ ?_ ?_ _ _ _ _ _ _ _⟩) (fun z => absurd z (by omega))
    · intro ep
      rw [od_c (by omega), ep, e1]
      exact hm
    · intro ep
      rw [od_c (by omega)]
      have c : p = 0 ∨ p = 2 := by omega
      rcases c with c | c
      · rw [c, e0]
      · rw [c, e2]
  have s2 : od_E C → ∀ (n : Nat) (m : Int32), od_M C m.toInt → ∀ (g1 g2 : Int32) (b4 b5 b6 b7 b8 : Nat → Int32), b8 0 = -6 → b8 1 = m → b8 2 = 100 → wX_first_18 post (nI p) (n + 1 + 1) (nI 2) f0 g1 g2 f3 a1 a2 a3 b4 b5 b6 b7 b8 := by
    intro hE n m hm g1 g2 b4 b5 b6 b7 b8 e0 e1 e2
    have hQ : od_Q C (b8 1) := by
      rw [e1]
      exact (od_Qv rfl hm.2.1).mpr hm.2.2.1
    refine pk_lt p 2 (fun _ => ⟨od_i3 (by omega), H1 hE _ ?_ ?_ _ _ _ _ _ _ _⟩) (fun z => od_lv hD 2 (by omega) ?_ (fun hno => ?_) (fun r r1 r2 hG hlt h1 h2 c4 c5 c6 c7 c8 k2 ko => br_f (n100 r r2) ⟨od_i3 (v := 2) (by omega), fun d8 ed => nm_r (nI_1 2) (s3 hE n m hm _ _ _ _ _ _ d8 ?_ ?_ ?_)⟩))
    · intro ep
      rw [od_c (by omega), ep, e1]
      exact hm
    · intro ep
      rw [od_c (by omega), show p = 0 by omega, e0]
    · intro j hj jn
      have c : j = 0 ∨ j = 1 := by omega
      rcases c with c | c
      · rw [c, e0]
        exact od_Vx od_m6 (by omega) (by omega)
      · rw [c, e1]
        exact od_Vx rfl hm.1 hm.2.1
    · exact absurd ((od_Gn (by omega)).mpr hQ) (hno (-6) (by omega) (by omega))
    · rw [ed, od_c (by omega), pk_un (by omega), ko 0 (by omega), e0]
    · rw [ed, od_c (by omega), pk_un (by omega), ko 1 (by omega), e1]
    · have er : r = -6 := by
        rw [od_eq rfl od_m6]
        have t : ¬ -6 < r.toInt := fun g => hlt (-6) (by omega) g ((od_Gn (by omega)).mpr hQ)
        omega
      rw [ed, od_c (by omega), pk_us, er]
  have s1 : od_E C → ∀ (n : Nat) (g1 g2 : Int32) (b4 b5 b6 b7 b8 : Nat → Int32), b8 0 = -6 → b8 1 = 100 → b8 2 = 100 → wX_first_18 post (nI p) (n + 1 + 1 + 1) (nI 1) f0 g1 g2 f3 a1 a2 a3 b4 b5 b6 b7 b8 := by
    intro hE n g1 g2 b4 b5 b6 b7 b8 e0 e1 e2
    refine pk_lt p 1 (fun _ => ⟨od_i3 (by omega), H1 hE _ (fun ep => absurd ep (by omega)) ?_ _ _ _ _ _ _ _⟩) (fun z => od_lv hD 1 (by omega) ?_ (fun hno => ?_) (fun r r1 r2 hG hlt h1 h2 c4 c5 c6 c7 c8 k1 ko => br_f (n100 r r2) ⟨od_i3 (v := 1) (by omega), fun d8 ed => nm_r (nI_1 1) (s2 hE n r ?_ _ _ _ _ _ _ d8 ?_ ?_ ?_)⟩))
    · intro ep
      rw [od_c (by omega), show p = 0 by omega, e0]
    · intro j hj jn
      have c : j = 0 ∨ j = 2 := by omega
      rcases c with c | c
      · rw [c, e0]
        exact od_Vx od_m6 (by omega) (by omega)
      · rw [c]
        exact Or.inl e2
    · obtain ⟨y, hy, hc⟩ := hE
      exact absurd ((od_G1 rfl).mpr hc) (hno y hy.1 hy.2)
    · exact ⟨r1, r2, (od_G1 rfl).mp hG, fun y y1 y2 hc => hlt y y1 y2 ((od_G1 rfl).mpr hc)⟩
    · rw [ed, od_c (by omega), pk_un (by omega), ko 0 (by omega), e0]
    · rw [ed, od_c (by omega), pk_us]
    · rw [ed, od_c (by omega), pk_un (by omega), ko 2 (by omega), e2]
  have s0 : ∀ (n : Nat) (g1 g2 : Int32) (b4 b5 b6 b7 b8 : Nat → Int32), b8 0 = 100 → b8 1 = 100 → b8 2 = 100 → wX_first_18 post (nI p) (n + 1 + 1 + 1 + 1) (nI 0) f0 g1 g2 f3 a1 a2 a3 b4 b5 b6 b7 b8 := by
    intro n g1 g2 b4 b5 b6 b7 b8 e0 e1 e2
    refine pk_lt p 0 (fun z => absurd z (by omega)) (fun z => od_lv hD 0 (by omega) ?_ (fun hno h1 h2 c4 c5 c6 c7 c8 k1 ko => br_t rfl (H0 ?_ _ _ _ _ _ _ _)) (fun r r1 r2 hG hlt h1 h2 c4 c5 c6 c7 c8 k1 ko => br_f (n100 r r2) ⟨od_i3 (v := 0) (by omega), fun d8 ed => nm_r (nI_1 0) (s1 ?_ n _ _ _ _ _ _ d8 ?_ ?_ ?_)⟩))
    · intro j hj jn
      have c : j = 1 ∨ j = 2 := by omega
      rcases c with c | c
      · rw [c]
        exact Or.inl e1
      · rw [c]
        exact Or.inl e2
    · intro hE
      exact hno (-6) (by omega) (by omega) ((od_Gn (by omega)).mpr ((od_Q100 e1).mpr hE))
    · exact (od_Q100 e1).mp ((od_Gn (by omega)).mp hG)
    · have er : r = -6 := by
        rw [od_eq rfl od_m6]
        have t : ¬ -6 < r.toInt := fun g => hlt (-6) (by omega) g ((od_Gn (by omega)).mpr ((od_Gn (by omega)).mp hG))
        omega
      rw [ed, od_c (by omega), pk_us, er]
    · rw [ed, od_c (by omega), pk_un (by omega), ko 1 (by omega), e1]
    · rw [ed, od_c (by omega), pk_un (by omega), ko 2 (by omega), e2]
  exact pk_lt p 0 (fun z => absurd z (by omega)) (fun _ => pk_le p 2 (fun _ => od_free (fun b8 e0 e1 e2 => ⟨_, s0 0 _ _ _ _ _ _ b8 e0 e1 e2⟩)) (fun z => absurd z (by omega)))
theorem od_firstOut {post : Int32 → St2 → Prop} {x : Int32} (hx : x.toInt < 0 ∨ 2 < x.toInt) (H : post 100 (f0, f1, f2, f3, a1, a2, a3, a4, a5, a6, a7, a8)) : wpX_first post (f0, f1, f2, f3, a1, a2, a3, a4, a5, a6, a7, a8) x :=
  od_blt x.toInt 0 rfl od_0 (fun _ => H) (fun z => od_ble x.toInt 2 rfl (by decide) (fun z2 => absurd hx (by omega)) (fun _ => H))
theorem od_extreme {post : Int32 → St2 → Prop} {C : Int → Prop} (hD : od_D f0 f3 a1 a2 a3 C)
    (H0 : ¬ od_E C → ∀ (g1 g2 : Int32) (b4 b5 b6 b7 b8 : Nat → Int32), post 100 (f0, g1, g2, f3, a1, a2, a3, b4, b5, b6, b7, b8))
    (H1 : ∀ r : Int32, od_M C r.toInt → ∀ (g1 g2 : Int32) (b4 b5 b6 b7 b8 : Nat → Int32), post r (f0, g1, g2, f3, a1, a2, a3, b4, b5, b6, b7, b8)) :
    wpX_extreme post (f0, f1, f2, f3, a1, a2, a3, a4, a5, a6, a7, a8) 1 0 := by
  refine br_f (by decide) (br_t (by decide) (od_free (fun b8 e0 e1 e2 => od_lv hD 1 (by omega) ?_ (fun hno h1 h2 c4 c5 c6 c7 c8 k1 ko => H0 ?_ _ _ _ _ _ _ _) (fun r r1 r2 hG hlt h1 h2 c4 c5 c6 c7 c8 k1 ko => H1 r ?_ _ _ _ _ _ _ _))))
  · intro j hj jn
    have c : j = 0 ∨ j = 2 := by omega
    rcases c with c | c
    · rw [c]
      exact Or.inl e0
    · rw [c]
      exact Or.inl e2
  · intro hE
    obtain ⟨y, hy, hc⟩ := hE
    exact hno y hy.1 hy.2 ((od_G1 rfl).mpr hc)
  · exact ⟨r1, r2, (od_G1 rfl).mp hG, fun y y1 y2 hc => hlt y y1 y2 ((od_G1 rfl).mpr hc)⟩
theorem od_possible {post : Int32 → St2 → Prop} {C : Int → Prop} (hD : od_D f0 f3 a1 a2 a3 C)
    (H0 : ¬ od_E C → ∀ (g1 g2 : Int32) (b4 b5 b6 b7 b8 : Nat → Int32), post 0 (f0, g1, g2, f3, a1, a2, a3, b4, b5, b6, b7, b8))
    (H1 : od_E C → ∀ (g1 g2 : Int32) (b4 b5 b6 b7 b8 : Nat → Int32), post 1 (f0, g1, g2, f3, a1, a2, a3, b4, b5, b6, b7, b8)) :
    wpX_possible post (f0, f1, f2, f3, a1, a2, a3, a4, a5, a6, a7, a8) := by
  unfold wpX_possible
  exact od_free (fun b8 e0 e1 e2 => od_q hD (Or.inl e0) (Or.inl e1) (Or.inl e2) (fun _ _ _ _ _ _ _ _ _ _ _ _ h => h)
    (fun hq h1 h2 c4 c5 c6 c7 => br_t rfl (H0 (fun hE => hq ((od_Q100 e1).mpr hE)) _ _ _ _ _ _ _))
    (fun hq h1 h2 c4 c5 c6 c7 => br_f od_n0 (H1 ((od_Q100 e1).mp hq) _ _ _ _ _ _ _)))
theorem od_with {post : Int32 → St2 → Prop} {C : Int → Prop} (hD : od_D f0 f3 a1 a2 a3 C) {x : Int32} (x1 : -6 ≤ x.toInt) (x2 : x.toInt ≤ 6)
    (H0 : ¬ C x.toInt → ∀ (g1 g2 : Int32) (b4 b5 b6 b7 b8 : Nat → Int32), post 0 (f0, g1, g2, f3, a1, a2, a3, b4, b5, b6, b7, b8))
    (H1 : C x.toInt → ∀ (g1 g2 : Int32) (b4 b5 b6 b7 b8 : Nat → Int32), post 1 (f0, g1, g2, f3, a1, a2, a3, b4, b5, b6, b7, b8)) :
    wpX_with post (f0, f1, f2, f3, a1, a2, a3, a4, a5, a6, a7, a8) 1 x := by
  refine br_f (by decide) (br_f (by decide) (od_blt x.toInt (-6) rfl od_m6 (fun z => absurd z (by omega)) (fun _ => od_ble x.toInt 6 rfl od_6 (fun _ => ?_) (fun z => absurd z (by omega)))))
  refine od_free (fun b8 e0 e1 e2 => ⟨od_i3 (v := 1) (by omega), fun A eA => ?_⟩)
  rw [show (1 : Int32).toNatClampNeg = 1 by decide] at eA
  have A0 : A 0 = 100 := by rw [eA, pk_un (by omega), e0]
  have A1 : A 1 = x := by rw [eA, pk_us]
  have A2 : A 2 = 100 := by rw [eA, pk_un (by omega), e2]
  have hQ : od_Q C (A 1) ↔ C x.toInt := by
    rw [A1]
    exact od_Qv rfl x2
  refine od_q hD (Or.inl A0) (by rw [A1]; exact od_Vx rfl x1 x2) (Or.inl A2) (fun _ _ _ _ _ _ _ _ _ _ _ _ h => h)
    (fun hq h1 h2 c4 c5 c6 c7 => br_t rfl (H0 (fun hE => hq (hQ.mpr hE)) _ _ _ _ _ _ _))
    (fun hq h1 h2 c4 c5 c6 c7 => br_f od_n0 (H1 (hQ.mp hq) _ _ _ _ _ _ _))
theorem od_withOut {post : Int32 → St2 → Prop} {x : Int32} (hx : x.toInt < -6 ∨ 6 < x.toInt) (H : post 0 (f0, f1, f2, f3, a1, a2, a3, a4, a5, a6, a7, a8)) : wpX_with post (f0, f1, f2, f3, a1, a2, a3, a4, a5, a6, a7, a8) 1 x :=
  br_f (by decide) (br_f (by decide) (od_blt x.toInt (-6) rfl od_m6 (fun _ => H) (fun z => od_ble x.toInt 6 rfl od_6 (fun z2 => absurd hx (by omega)) (fun _ => H))))
end
end
section
/-! the law -/
theorem od_pm {a b : Int} (h1 : -9 ≤ a) (h2 : a ≤ 9) (h3 : -6 ≤ b) (h4 : b ≤ 6) : -54 ≤ a * b ∧ a * b ≤ 54 := by
  have c : b = -6 ∨ b = -5 ∨ b = -4 ∨ b = -3 ∨ b = -2 ∨ b = -1 ∨ b = 0 ∨ b = 1 ∨ b = 2 ∨ b = 3 ∨ b = 4 ∨ b = 5 ∨ b = 6 := by omega
  rcases c with c | c | c | c | c | c | c | c | c | c | c | c | c <;> rw [c] <;> omega
theorem od_xm {x y : Int32} {b : Int} (h1 : -9 ≤ x.toInt) (h2 : x.toInt ≤ 9) (hb : y.toInt = b) (h3 : -6 ≤ b) (h4 : b ≤ 6) : (x * y).toInt = x.toInt * b := by
  obtain ⟨p, q⟩ := od_pm h1 h2 h3 h4
  rw [od_mul (by rw [hb]; omega) (by rw [hb]; omega), hb]
theorem od_uq {C : Int → Prop} {m m' : Int} (h : od_M C m) (h' : od_M C m') : m = m' := by
  have t : ¬ m < m' := fun g => h'.2.2.2 m h.1 g h.2.2.1
  have t' : ¬ m' < m := fun g => h.2.2.2 m' h'.1 g h'.2.2.1
  omega
theorem od_ME {C : Int → Prop} {m : Int} (h : od_M C m) : od_E C := ⟨m, ⟨h.1, h.2.1⟩, h.2.2.1⟩
/-- the law's own reading of the condition -/
def od_X (x0 x1 x6 x7 : Int32) (C : Int → Prop) : Prop :=
  (x7 = 0 ∧ ∀ y, C y) ∨ (x7 = 1 ∧ (-9 ≤ x0.toInt ∧ x0.toInt ≤ 9) ∧ (-99 ≤ x1.toInt ∧ x1.toInt ≤ 99) ∧ ((x6 = 0 ∧ ∀ y, C y ↔ x0.toInt * y ≤ x1.toInt) ∨ (x6 = 1 ∧ ∀ y, C y ↔ x0.toInt * y = x1.toInt)))
/-- the law's low -/
def od_W (C : Int → Prop) (x : Int32) : Prop := (x = 100 ∧ ¬ od_E C) ∨ od_M C x.toInt
/-- the law's low behind the values above y -/
def od_I (C : Int → Prop) (x : Int32) (y : Int) : Prop := (x = 100 ∧ ∀ t, y < t → t ≤ 6 → ¬ C t) ∨ (y < x.toInt ∧ x.toInt ≤ 6 ∧ C x.toInt ∧ ∀ t, y < t → t < x.toInt → ¬ C t)
theorem od_IW {C : Int → Prop} {x : Int32} {y : Int} (h : od_I C x y) (hy : y = -7) : od_W C x := by
  rcases h with ⟨h, g⟩ | ⟨h1, h2, h3, h4⟩
  · refine Or.inl ⟨h, fun e => ?_⟩
    obtain ⟨t, ht, hc⟩ := e
    exact g t (by omega) ht.2 hc
  · exact Or.inr ⟨by omega, h2, h3, fun t t1 t2 => h4 t (by omega) t2⟩
theorem od_Ih {C : Int → Prop} {x11 : Int32} {y : Int} (e : x11.toInt = y) (hy : y ≤ 6) (hc : C y) : od_I C x11 (y - 1) := by
  refine Or.inr ⟨by omega, by omega, by rw [e]; exact hc, fun t t1 t2 => ?_⟩
  omega
theorem od_Im {C : Int → Prop} {x : Int32} {y : Int} (h : od_I C x y) (hc : ¬ C y) : od_I C x (y - 1) := by
  rcases h with ⟨h, g⟩ | ⟨h1, h2, h3, h4⟩
  · refine Or.inl ⟨h, fun t t1 t2 => ?_⟩
    by_cases e : t = y
    · rw [e]
      exact hc
    · exact g t (by omega) t2
  · refine Or.inr ⟨by omega, h2, h3, fun t t1 t2 => ?_⟩
    by_cases e : t = y
    · rw [e]
      exact hc
    · exact h4 t (by omega) t2
section
variable {f0 f1 f2 f3 : Int32} {a1 a2 a3 a4 a5 a6 a7 a8 : Nat → Int32} {mc ms kc ks : Nat}
theorem od_264 {post : Int32 → St0 → Prop} (hp : post 1 ()) {C : Int → Prop} (hD : od_D f0 f3 a1 a2 a3 C) {x4 x10 z : Int32} (hW : od_W C x10) : wL_lawOf_264 post mc ms x4 x10 z z kc ks f0 f1 f2 f3 a1 a2 a3 a4 a5 a6 a7 a8 := by
  have e312 : ∀ w : Int32, wL_lawOf_312 post mc ms w w kc ks := fun w => br_t rfl hp
  refine br_t rfl ?_
  by_cases c : x4.toInt < 0 ∨ 2 < x4.toInt
  · refine od_firstOut c (br_c (fun _ => e312 100) (fun _ => od_blt x4.toInt 0 rfl od_0 (fun _ => e312 100) (fun g => od_ble x4.toInt 2 rfl (by decide) (fun g2 => absurd c (by omega)) (fun _ => e312 100))))
  · have c0 : ¬ x4 < 0 := by
      rw [od_lt rfl od_0]
      omega
    have c2 : x4 ≤ 2 := by
      rw [od_le rfl (show (2 : Int32).toInt = 2 by decide)]
      omega
    obtain ⟨p, hp2, ep⟩ := nI_of2 (n := 2) (by decide) c0 c2
    subst ep
    refine od_first hD p hp2 (fun hE g1 g2 b4 b5 b6 b7 b8 => ?_) (fun hE r r1 r2 g1 g2 b4 b5 b6 b7 b8 => ?_)
    · rcases hW with ⟨e, _⟩ | hM
      · exact br_t e (e312 100)
      · exact absurd (od_ME hM) hE
    · rcases hW with ⟨_, nE⟩ | hM
      · exact absurd hE nE
      · have n : ¬ x10 = 100 := by
          rw [od_eq rfl od_100]
          have := hM.2.1
          omega
        refine br_f n (br_f c0 (br_t c2 (pk_eq p 1 (fun e => ?_) (fun e => ?_))))
        · have er : r = x10 := Int32.toInt_inj.mp (od_uq (r1 e) hM)
          rw [er]
          exact e312 x10
        · rw [r2 e]
          exact e312 (-6)
theorem od_end {post : Int32 → St0 → Prop} (hp : post 1 ()) {C : Int → Prop} (hD : od_D f0 f3 a1 a2 a3 C) {x0 x1 x4 x6 x7 x10 x11 : Int32} (h11 : x11.toInt < -6) (hW : od_W C x10) (n : Nat) :
    wL_lawOf_173 post mc ms x0 x1 x4 x6 x7 kc ks f0 f1 f2 f3 a1 a2 a3 a4 a5 a6 a7 a8 (n + 1) x10 x11 := by
  refine od_blt x11.toInt (-6) rfl od_m6 (fun _ => ?_) (fun z => absurd z (by omega))
  rcases hW with ⟨e, nE⟩ | hM
  · have hW' : od_W C x10 := Or.inl ⟨e, nE⟩
    refine od_first hD 1 (by omega) (fun hE g1 g2 b4 b5 b6 b7 b8 => br_t e.symm ?_) (fun hE => absurd hE nE)
    refine od_extreme hD (fun hE g1 g2 b4 b5 b6 b7 b8 => br_t e.symm ?_) (fun r hM => absurd (od_ME hM) nE)
    refine od_possible hD (fun hE g1 g2 b4 b5 b6 b7 b8 => br_t (by rw [e]; decide) (od_264 hp hD hW')) (fun hE => absurd hE nE)
  · have hW' : od_W C x10 := Or.inr hM
    have hE' := od_ME hM
    have n : ¬ 100 ≤ x10 := by
      rw [od_le od_100 rfl]
      have := hM.2.1
      omega
    refine od_first hD 1 (by omega) (fun hE => absurd hE' hE) (fun hE r r1 r2 g1 g2 b4 b5 b6 b7 b8 => br_t (Int32.toInt_inj.mp (od_uq (r1 rfl) hM)) ?_)
    refine od_extreme hD (fun hE => absurd hE' hE) (fun r hr g1 g2 b4 b5 b6 b7 b8 => br_t (Int32.toInt_inj.mp (od_uq hr hM)) ?_)
    refine od_possible hD (fun hE => absurd hE' hE) (fun hE g1 g2 b4 b5 b6 b7 b8 => br_f n (od_264 hp hD hW'))
theorem od_173 {post : Int32 → St0 → Prop} (hp : post 1 ()) {C : Int → Prop} (hD : od_D f0 f3 a1 a2 a3 C) {x0 x1 x4 x6 x7 : Int32} (hX : od_X x0 x1 x6 x7 C) :
    ∀ (n : Nat) (x10 x11 : Int32) (y : Int), x11.toInt = y → -7 ≤ y → y ≤ 6 → y + 7 < n → od_I C x10 y → wL_lawOf_173 post mc ms x0 x1 x4 x6 x7 kc ks f0 f1 f2 f3 a1 a2 a3 a4 a5 a6 a7 a8 n x10 x11 := by
  intro n
  induction n with
  | zero => intro x10 x11 y e h1 h2 hn; omega
  | succ n ih =>
    intro x10 x11 y e h1 h2 hn hI
    by_cases c : y = -7
    · exact od_end hp hD (by omega) (od_IW hI c) n
    · have ed : (x11 + (-1)).toInt = y - 1 := od_av e od_m1 (by omega) (by omega) (by omega) (by omega)
      have hit : C y → wL_lawOf_173 post mc ms x0 x1 x4 x6 x7 kc ks f0 f1 f2 f3 a1 a2 a3 a4 a5 a6 a7 a8 n x11 (x11 + (-1)) := fun hc => ih x11 _ (y - 1) ed (by omega) (by omega) (by omega) (od_Ih e h2 hc)
      have miss : ¬ C y → wL_lawOf_173 post mc ms x0 x1 x4 x6 x7 kc ks f0 f1 f2 f3 a1 a2 a3 a4 a5 a6 a7 a8 n x10 (x11 + (-1)) := fun hc => ih x10 _ (y - 1) ed (by omega) (by omega) (by omega) (od_Im hI hc)
      refine od_blt y (-6) e od_m6 (fun z => absurd z (by omega)) (fun z => ?_)
      rcases hX with ⟨e7, hC⟩ | ⟨e7, ⟨p1, p2⟩, ⟨q1, q2⟩, hC⟩
      · exact br_t e7 (nm_e (hit (hC y)))
      · have em := od_xm (x := x0) p1 p2 e z h2
        have n7 : ¬ x7 = 0 := by
          rw [e7]
          exact od_n0
        rcases hC with ⟨e6, hC⟩ | ⟨e6, hC⟩
        · refine br_f n7 (br_t e6 (od_blt x1.toInt _ rfl em (fun g => nm_e (miss ?_)) (fun g => nm_e (hit ?_))))
          · rw [hC y]
            omega
          · rw [hC y]
            exact g
        · have n6 : ¬ x6 = 0 := by
            rw [e6]
            exact od_n0
          refine br_f n7 (br_f n6 (od_beq _ x1.toInt em rfl (fun g => nm_e (hit ?_)) (fun g => nm_e (miss ?_))))
          · rw [hC y]
            exact g
          · rw [hC y]
            exact g
theorem od_160 {post : Int32 → St0 → Prop} (hp : post 1 ()) {C : Int → Prop} (hD : od_D f0 f3 a1 a2 a3 C) {x0 x1 x4 x6 x7 : Int32} (hX : od_X x0 x1 x6 x7 C) (z : Int32) :
    wL_lawOf_160 post mc ms x0 x1 x4 x6 x7 z z kc ks f0 f1 f2 f3 a1 a2 a3 a4 a5 a6 a7 a8 :=
  br_t rfl ⟨14, od_173 hp hD hX 14 100 6 6 od_6 (by omega) (by omega) (by omega) (Or.inl ⟨rfl, fun t t1 t2 => absurd t1 (by omega)⟩)⟩
theorem od_136o {post : Int32 → St0 → Prop} (hp : post 1 ()) {C : Int → Prop} (hD : od_D f0 f3 a1 a2 a3 C) {x0 x1 x3 x4 x6 x7 : Int32} (hX : od_X x0 x1 x6 x7 C) (h3 : x3.toInt < -6 ∨ 6 < x3.toInt) (z : Int32) :
    wL_lawOf_136 post mc ms x0 x1 x3 x4 x6 x7 0 z kc ks f0 f1 f2 f3 a1 a2 a3 a4 a5 a6 a7 a8 := by
  unfold wL_lawOf_136
  exact od_withOut h3 (br_t rfl (od_160 hp hD hX 0))
theorem od_136t {post : Int32 → St0 → Prop} (hp : post 1 ()) {C : Int → Prop} (hD : od_D f0 f3 a1 a2 a3 C) {x0 x1 x3 x4 x6 x7 : Int32} (hX : od_X x0 x1 x6 x7 C) (h1 : -6 ≤ x3.toInt) (h2 : x3.toInt ≤ 6) (hc : C x3.toInt) :
    wL_lawOf_136 post mc ms x0 x1 x3 x4 x6 x7 1 1 kc ks f0 f1 f2 f3 a1 a2 a3 a4 a5 a6 a7 a8 := by
  unfold wL_lawOf_136
  exact od_with hD h1 h2 (fun g => absurd hc g) (fun _ g1 g2 b4 b5 b6 b7 b8 => br_f od_n0 (br_f od_n0 (od_160 hp hD hX 1)))
theorem od_136f {post : Int32 → St0 → Prop} (hp : post 1 ()) {C : Int → Prop} (hD : od_D f0 f3 a1 a2 a3 C) {x0 x1 x3 x4 x6 x7 : Int32} (hX : od_X x0 x1 x6 x7 C) (h1 : -6 ≤ x3.toInt) (h2 : x3.toInt ≤ 6) (hc : ¬ C x3.toInt) :
    wL_lawOf_136 post mc ms x0 x1 x3 x4 x6 x7 1 0 kc ks f0 f1 f2 f3 a1 a2 a3 a4 a5 a6 a7 a8 := by
  unfold wL_lawOf_136
  exact od_with hD h1 h2 (fun _ g1 g2 b4 b5 b6 b7 b8 => br_f od_n0 (br_t rfl (od_160 hp hD hX 0))) (fun g => absurd g hc)
theorem od_97o {post : Int32 → St0 → Prop} (hp : post 1 ()) {C : Int → Prop} (hD : od_D f0 f3 a1 a2 a3 C) {x0 x1 x3 x4 x6 x7 : Int32} (hX : od_X x0 x1 x6 x7 C) (h3 : x3.toInt < -6 ∨ 6 < x3.toInt) :
    wL_lawOf_97 post mc ms x0 x1 x3 x4 x6 x7 0 kc ks f0 f1 f2 f3 a1 a2 a3 a4 a5 a6 a7 a8 :=
  br_c (fun _ => od_136o hp hD hX h3 1) (fun _ => br_t rfl (od_136o hp hD hX h3 0))
theorem od_97i {post : Int32 → St0 → Prop} (hp : post 1 ()) {C : Int → Prop} (hD : od_D f0 f3 a1 a2 a3 C) {x0 x1 x3 x4 x6 x7 : Int32} (hX : od_X x0 x1 x6 x7 C) (h1 : -6 ≤ x3.toInt) (h2 : x3.toInt ≤ 6) :
    wL_lawOf_97 post mc ms x0 x1 x3 x4 x6 x7 1 kc ks f0 f1 f2 f3 a1 a2 a3 a4 a5 a6 a7 a8 := by
  have hit : C x3.toInt → wL_lawOf_136 post mc ms x0 x1 x3 x4 x6 x7 1 1 kc ks f0 f1 f2 f3 a1 a2 a3 a4 a5 a6 a7 a8 := od_136t hp hD hX h1 h2
  have miss : ¬ C x3.toInt → wL_lawOf_136 post mc ms x0 x1 x3 x4 x6 x7 1 0 kc ks f0 f1 f2 f3 a1 a2 a3 a4 a5 a6 a7 a8 := od_136f hp hD hX h1 h2
  rcases hX with ⟨e7, hC⟩ | ⟨e7, ⟨p1, p2⟩, ⟨q1, q2⟩, hC⟩
  · exact br_t e7 (hit (hC _))
  · have em := od_xm (x := x0) p1 p2 (rfl : x3.toInt = x3.toInt) h1 h2
    have n7 : ¬ x7 = 0 := by
      rw [e7]
      exact od_n0
    rcases hC with ⟨e6, hC⟩ | ⟨e6, hC⟩
    · refine br_f n7 (br_f od_n0 (br_t e6 (od_blt x1.toInt _ rfl em (fun g => miss ?_) (fun g => hit ?_))))
      · rw [hC]
        omega
      · rw [hC]
        exact g
    · have n6 : ¬ x6 = 0 := by
        rw [e6]
        exact od_n0
      refine br_f n7 (br_f od_n0 (br_f n6 (od_beq _ x1.toInt em rfl (fun g => hit ?_) (fun g => miss ?_))))
      · rw [hC]
        exact g
      · rw [hC]
        exact g
theorem od_75 {post : Int32 → St0 → Prop} (hp : post 1 ()) {C : Int → Prop} (hD : od_D f0 f3 a1 a2 a3 C) {x0 x1 x3 x4 x6 x7 z : Int32} (hX : od_X x0 x1 x6 x7 C) :
    wL_lawOf_75 post mc ms x0 x1 x3 x4 x6 x7 z z kc ks f0 f1 f2 f3 a1 a2 a3 a4 a5 a6 a7 a8 :=
  br_t rfl (od_blt x3.toInt (-6) rfl od_m6 (fun g => od_97o hp hD hX (Or.inl g)) (fun g => od_blt 6 x3.toInt od_6 rfl (fun g2 => od_97o hp hD hX (Or.inr g2)) (fun g2 => od_97i hp hD hX g g2)))
theorem od_arNo {post : Int32 → Prop} {u : St0} {x0 x1 : Int32} (h : x0.toInt < -9 ∨ 9 < x0.toInt ∨ x1.toInt < -99 ∨ 99 < x1.toInt) (H : post 0) : wpX_areRight post u 0 x0 0 x1 :=
  br_f (by decide) (br_f (by decide) (od_blt x0.toInt (-9) rfl od_m9 (fun _ => H) (fun g1 => od_blt 9 x0.toInt od_9 rfl (fun _ => H) (fun g2 => br_f (by decide) (br_f (by decide)
    (od_blt x1.toInt (-99) rfl od_m99 (fun _ => H) (fun g3 => od_blt 99 x1.toInt od_99 rfl (fun _ => H) (fun g4 => absurd h (by omega)))))))))
theorem od_arOk {post : Int32 → Prop} {u : St0} {x0 x1 : Int32} (h1 : -9 ≤ x0.toInt) (h2 : x0.toInt ≤ 9) (h3 : -99 ≤ x1.toInt) (h4 : x1.toInt ≤ 99) (H : post 1) : wpX_areRight post u 0 x0 0 x1 :=
  br_f (by decide) (br_f (by decide) (od_blt x0.toInt (-9) rfl od_m9 (fun g => absurd g (by omega)) (fun g1 => od_blt 9 x0.toInt od_9 rfl (fun g => absurd g (by omega)) (fun g2 => br_f (by decide) (br_f (by decide)
    (od_blt x1.toInt (-99) rfl od_m99 (fun g => absurd g (by omega)) (fun g3 => od_blt 99 x1.toInt od_99 rfl (fun g => absurd g (by omega)) (fun g4 => H))))))))
theorem od_51 {post : Int32 → St0 → Prop} (hp : post 1 ()) {x0 x1 x3 x4 x6 : Int32} (h : x0.toInt < -9 ∨ 9 < x0.toInt ∨ x1.toInt < -99 ∨ 99 < x1.toInt) :
    wL_lawOf_52 post mc ms x0 x1 x3 x4 x6 0 kc ks 0 f1 f2 (-1) a1 a2 a3 a4 a5 a6 a7 a8 := by
  unfold wL_lawOf_52
  unfold wpX_add
  exact od_arNo h (br_t rfl (br_t rfl (od_75 hp (C := fun _ => True) ⟨rfl, Or.inl ⟨rfl, fun _ => trivial⟩⟩ (Or.inl ⟨rfl, fun _ => trivial⟩))))
theorem od_52 {post : Int32 → St0 → Prop} (hp : post 1 ()) {x0 x1 x3 x4 x6 : Int32} (h1 : -9 ≤ x0.toInt) (h2 : x0.toInt ≤ 9) (h3 : -99 ≤ x1.toInt) (h4 : x1.toInt ≤ 99) (h6 : x6 = 0 ∨ x6 = 1) :
    wL_lawOf_52 post mc ms x0 x1 x3 x4 x6 1 kc ks 0 f1 f2 (-1) a1 a2 a3 a4 a5 a6 a7 a8 := by
  unfold wL_lawOf_52
  unfold wpX_add
  refine od_arOk h1 h2 h3 h4 (br_f od_n0 (br_t (by decide) ⟨vp_in_iff.mpr (by decide), fun A eA => ⟨vp_in_iff.mpr (by decide), fun B eB => ⟨vp_in_iff.mpr (by decide), fun E eE => ⟨vp_in_iff.mpr (by decide), fun F eF => ⟨vp_in_iff.mpr (by decide), fun G eG => nm_r (show (0 : Int32) + 1 = 1 by decide) (br_f od_n0 ?_)⟩⟩⟩⟩⟩))
  rw [od_z0] at eA
  rw [od_z1] at eB
  rw [od_z2] at eE
  rw [od_zz] at eF eG
  have E0 : E 0 = 0 := by rw [eE, pk_un (by omega), eB, pk_un (by omega), eA, pk_us]
  have E1 : E 1 = x0 := by rw [eE, pk_un (by omega), eB, pk_us]
  have E2 : E 2 = 0 := by rw [eE, pk_us]
  have F0 : F 0 = x1 := by rw [eF, pk_us]
  rcases h6 with h6 | h6
  · have G0 : G 0 = 0 := by
      rw [eG, pk_us, h6]
      rfl
    exact od_75 hp (C := fun y => x0.toInt * y ≤ x1.toInt) ⟨rfl, Or.inr ⟨rfl, E0, E2, by rw [E1]; exact ⟨h1, h2⟩, by rw [F0]; exact ⟨h3, h4⟩, Or.inl ⟨G0, fun y => by rw [E1, F0]⟩⟩⟩ (Or.inr ⟨rfl, ⟨h1, h2⟩, ⟨h3, h4⟩, Or.inl ⟨h6, fun y => Iff.rfl⟩⟩)
  · have G0 : G 0 = 1 := by
      rw [eG, pk_us, h6]
      rfl
    exact od_75 hp (C := fun y => x0.toInt * y = x1.toInt) ⟨rfl, Or.inr ⟨rfl, E0, E2, by rw [E1]; exact ⟨h1, h2⟩, by rw [F0]; exact ⟨h3, h4⟩, Or.inr ⟨by rw [G0]; exact od_n0, fun y => by rw [E1, F0]⟩⟩⟩ (Or.inr ⟨rfl, ⟨h1, h2⟩, ⟨h3, h4⟩, Or.inr ⟨h6, fun y => Iff.rfl⟩⟩)
theorem od_21 {post : Int32 → St0 → Prop} (hp : post 1 ()) {x0 x1 x3 x4 z : Int32} (hz : z = 0 ∨ z = 1) : wL_lawOf_21 post mc ms x0 x1 x3 x4 z kc ks 0 f1 f2 (-1) a1 a2 a3 a4 a5 a6 a7 a8 :=
  od_blt x0.toInt (-9) rfl od_m9 (fun g => od_51 hp (by omega)) (fun g1 => od_blt 9 x0.toInt od_9 rfl (fun g => od_51 hp (by omega)) (fun g2 =>
    od_blt x1.toInt (-99) rfl od_m99 (fun g => od_51 hp (by omega)) (fun g3 => od_blt 99 x1.toInt od_99 rfl (fun g => od_51 hp (by omega)) (fun g4 => od_52 hp g1 g2 g3 g4 hz))))
end
theorem od_lawOf {post : Int32 → St0 → Prop} (hp : post 1 ()) (x0 x1 x2 x3 x4 : Int32) : wpL_lawOf post 20 1000 () x0 x1 x2 x3 x4 := by
  refine ⟨by omega, by omega, 10, 800, by omega, by omega, ?_⟩
  refine ⟨by omega, by omega, by omega, by omega, by omega, by omega, by omega, by omega, by omega, by omega, by omega, by omega, by omega, by omega, by omega, by omega, ?_⟩
  exact br_c (fun _ => od_21 hp (Or.inr rfl)) (fun _ => od_21 hp (Or.inl rfl))
theorem od_cell {post : Int32 → Prop} {L : Nat} {xs : Nat → Int32} {u : St0} (hL : L ≤ 5) (k : Nat) (hk : k < 5) (H : ∀ r, post r) : wpL_cellAt post L xs u (nI k) :=
  pk_le L k (fun _ => H 0) (fun z => ⟨vp_in_nI z (by omega), H _⟩)
theorem i_vc (xs : Nat → Int32) (L : Nat) (hL : L ≤ 5) : wpL_law (fun r => r = 1) L xs := by
  unfold wpL_law
  exact od_cell hL 0 (by omega) (fun x0 => od_cell hL 1 (by omega) (fun x1 => od_cell hL 2 (by omega) (fun x2 => od_cell hL 3 (by omega) (fun x3 => od_cell hL 4 (by omega) (fun x4 => ⟨20, 1000, by omega, by omega, od_lawOf rfl x0 x1 x2 x3 x4⟩)))))
end
