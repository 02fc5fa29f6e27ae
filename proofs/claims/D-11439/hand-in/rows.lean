section
/-! numbers: Int32 against Int -/
theorem hl_bm {z : Int} (h1 : -2147483648 ≤ z) (h2 : z < 2147483648) : z.bmod (2 ^ 32) = z := Int.bmod_eq_of_le (by omega) (by omega)
theorem hl_add {x y : Int32} (h1 : -2147483648 ≤ x.toInt + y.toInt) (h2 : x.toInt + y.toInt < 2147483648) : (x + y).toInt = x.toInt + y.toInt := by
  rw [Int32.toInt_add]
  exact hl_bm h1 h2
theorem hl_sub {x y : Int32} (h1 : -2147483648 ≤ x.toInt - y.toInt) (h2 : x.toInt - y.toInt < 2147483648) : (x - y).toInt = x.toInt - y.toInt := by
  rw [Int32.toInt_sub]
  exact hl_bm h1 h2
theorem hl_mul {x y : Int32} (h1 : -2147483648 ≤ x.toInt * y.toInt) (h2 : x.toInt * y.toInt < 2147483648) : (x * y).toInt = x.toInt * y.toInt := by
  rw [Int32.toInt_mul]
  exact hl_bm h1 h2
theorem hl_eqN {z : Int32} {n : Nat} (h : z.toInt = (n : Int)) (hn : n < 2 ^ 31) : z = nI n := Int32.toInt_inj.mp (by rw [nI_toInt hn]; exact h)
theorem hl_rx {u : Int32} {x : Nat} (hx : x < 41) (h1 : -1000 ≤ u.toInt) (h2 : u.toInt ≤ 1000) : (u - 1 * nI x).toInt = u.toInt - (x : Int) := by
  have e : (nI x).toInt = (x : Int) := nI_toInt (by omega)
  rw [Int32.one_mul, hl_sub (by rw [e]; omega) (by rw [e]; omega), e]
theorem hl_t0 : (0 : Int32).toInt = 0 := rfl
theorem hl_t40 : (40 : Int32).toInt = 40 := rfl
theorem hl_tm1 : (-1 : Int32).toInt = -1 := rfl
section
variable {post : St2 → Prop} {c rd ct u v w : Int32} {a1 a2 a3 a4 a5 a6 a7 : Nat → Int32} {x i m t : Nat}
/-- a condition x ≤ u -/
theorem hl_narX (hx : x < 41) (hi : i < 8) (h1 : a1 i = 1) (h2 : a2 i = 0) (h3 : a3 i = u) (hu1 : -1000 ≤ u.toInt) (hu2 : u.toInt ≤ 1000)
    (H0 : (x : Int) ≤ u.toInt → post (c, rd, ct, a1, a2, a3, a4, a5, a6, a7))
    (H1 : u.toInt < (x : Int) → post (c, rd, ct, a1, a2, a3, a4, upd a5 x (-1), a6, a7)) :
    wpX_narrow post (c, rd, ct, a1, a2, a3, a4, a5, a6, a7) (nI x) (nI i) := by
  unfold wpX_narrow
  dsimp only
  rw [nI_clamp (show i < 2 ^ 31 by omega), nI_clamp (show x < 2 ^ 31 by omega), h1, h2, h3]
  have hr := hl_rx hx hu1 hu2
  refine ⟨pk_in i 8 hi, pk_in i 8 hi, nm_e ⟨pk_in i 8 hi, br_t (by decide) ⟨pk_in i 8 hi, br_t (by decide) (br_c (fun g => H0 ?_) (fun g => ⟨pk_in x 41 hx, nm_e (H1 ?_)⟩))⟩⟩⟩
  · rw [Int32.le_iff_toInt_le, hr, hl_t0] at g
    omega
  · rw [Int32.le_iff_toInt_le, hr, hl_t0] at g
    omega
theorem hl_fd {P : Int32 → Prop} (H : P v) : wpX_floorDiv P () v 1 :=
  br_t (by decide) ⟨by decide, nm_r Int32.div_one (br_t (by rw [Int32.mul_one]; exact Int32.le_refl v) H)⟩
/-- a condition y ≤ v -/
theorem hl_narY (hx : x < 41) (hi : i < 8) (h1 : a1 i = 0) (h2 : a2 i = 1) (h3 : a3 i = v) (h5 : a5 x = w)
    (H0 : w.toInt ≤ v.toInt → post (c, rd, ct, a1, a2, a3, a4, a5, a6, a7))
    (H1 : v.toInt < w.toInt → post (c, rd, ct, a1, a2, a3, a4, upd a5 x v, a6, a7)) :
    wpX_narrow post (c, rd, ct, a1, a2, a3, a4, a5, a6, a7) (nI x) (nI i) := by
  unfold wpX_narrow
  dsimp only
  rw [nI_clamp (show i < 2 ^ 31 by omega), nI_clamp (show x < 2 ^ 31 by omega), h1, h2, h3, h5]
  refine ⟨pk_in i 8 hi, pk_in i 8 hi, nm_r (e' := v) ?_ ⟨pk_in i 8 hi, br_f (by decide) ⟨pk_in i 8 hi, hl_fd ⟨pk_in x 41 hx, br_c (fun g => H0 ?_) (fun g => ⟨pk_in x 41 hx, nm_e (H1 ?_)⟩)⟩⟩⟩⟩
  · rw [Int32.zero_mul, Int32.sub_zero]
  · exact Int32.le_iff_toInt_le.mp g
  · rw [Int32.le_iff_toInt_le] at g
    omega
/-- what the conditions say: m columns, each with 0 .. t -/
def hl_ok (m t : Nat) (c : Int32) (a1 a2 a3 : Nat → Int32) : Prop :=
  ∀ (post : St2 → Prop) (x : Nat) (rd ct : Int32) (a4 a5 a6 a7 : Nat → Int32), x < 41 →
    (∀ b4 b5 : Nat → Int32, b4 x = 0 → (∀ j, j ≠ x → b4 j = a4 j) → (x < m → b5 x = nI t) → (m ≤ x → b5 x < 0) → (∀ j, j ≠ x → b5 j = a5 j) →
      post (c, rd, ct, a1, a2, a3, b4, b5, a6, a7)) →
    wpX_fillColumn post (c, rd, ct, a1, a2, a3, a4, a5, a6, a7) (nI x)
theorem hl_ok0 : hl_ok 41 40 (nI 0) a1 a2 a3 := by
  intro post x rd ct a4 a5 a6 a7 hx H
  unfold wpX_fillColumn
  dsimp only
  rw [nI_clamp (show x < 2 ^ 31 by omega)]
  exact ⟨pk_in x 41 hx, nm_e ⟨pk_in x 41 hx, nm_e ⟨1, pk_le 0 0 (fun _ => H _ _ pk_us (fun j hj => pk_un hj) (fun _ => pk_us) (fun z => absurd z (by omega)) (fun j hj => pk_un hj)) (fun z => absurd z (by omega))⟩⟩⟩
theorem hl_okX (h1 : a1 0 = 1) (h2 : a2 0 = 0) (h3 : a3 0 = u) (hu1 : -1000 ≤ u.toInt) (hu2 : u.toInt ≤ 1000)
    (hA : ∀ x : Nat, x < m → (x : Int) ≤ u.toInt) (hB : ∀ x : Nat, m ≤ x → x < 41 → u.toInt < (x : Int)) : hl_ok m 40 (nI 1) a1 a2 a3 := by
  intro post x rd ct a4 a5 a6 a7 hx H
  unfold wpX_fillColumn
  dsimp only
  rw [nI_clamp (show x < 2 ^ 31 by omega)]
  refine ⟨pk_in x 41 hx, nm_e ⟨pk_in x 41 hx, nm_e ⟨2, pk_le 1 0 (fun z => absurd z (by omega)) (fun _ => ?_)⟩⟩⟩
  refine hl_narX (i := 0) hx (by omega) h1 h2 h3 hu1 hu2 (fun g => nm_r (nI_1 0) ?_) (fun g => nm_r (nI_1 0) ?_)
  · refine pk_le 1 1 (fun _ => H _ _ pk_us (fun j hj => pk_un hj) (fun _ => pk_us) (fun z => absurd (hB x z hx) (by omega)) (fun j hj => pk_un hj)) (fun z => absurd z (by omega))
  · refine pk_le 1 1 (fun _ => H _ _ pk_us (fun j hj => pk_un hj) (fun z => absurd (hA x z) (by omega)) (fun z => ?_) (fun j hj => (pk_un hj).trans (pk_un hj))) (fun z => absurd z (by omega))
    rw [pk_us]
    decide
theorem hl_okY (h1 : a1 0 = 0) (h2 : a2 0 = 1) (h3 : a3 0 = v)
    (hA : ∀ x : Nat, x < m → t ≤ 40 ∧ (t : Int) ≤ v.toInt ∧ (t = 40 ∨ (t : Int) = v.toInt)) (hB : ∀ x : Nat, m ≤ x → x < 41 → v.toInt < 0) : hl_ok m t (nI 1) a1 a2 a3 := by
  intro post x rd ct a4 a5 a6 a7 hx H
  unfold wpX_fillColumn
  dsimp only
  rw [nI_clamp (show x < 2 ^ 31 by omega)]
  refine ⟨pk_in x 41 hx, nm_e ⟨pk_in x 41 hx, nm_e ⟨2, pk_le 1 0 (fun z => absurd z (by omega)) (fun _ => ?_)⟩⟩⟩
  refine hl_narY (i := 0) (w := 40) hx (by omega) h1 h2 h3 pk_us (fun g => nm_r (nI_1 0) ?_) (fun g => nm_r (nI_1 0) ?_)
  · rw [hl_t40] at g
    refine pk_le 1 1 (fun _ => H _ _ pk_us (fun j hj => pk_un hj) (fun z => ?_) (fun z => absurd (hB x z hx) (by omega)) (fun j hj => pk_un hj)) (fun z => absurd z (by omega))
    have h := hA x z
    have e : t = 40 := by omega
    rw [pk_us, e]
    rfl
  · rw [hl_t40] at g
    refine pk_le 1 1 (fun _ => H _ _ pk_us (fun j hj => pk_un hj) (fun z => ?_) (fun z => ?_) (fun j hj => (pk_un hj).trans (pk_un hj))) (fun z => absurd z (by omega))
    · have h := hA x z
      rw [pk_us]
      exact hl_eqN (by omega) (by omega)
    · rw [pk_us, Int32.lt_iff_toInt_lt]
      exact hB x z hx
theorem hl_okXY (h1 : a1 0 = 1) (h2 : a2 0 = 0) (h3 : a3 0 = u) (hu1 : -1000 ≤ u.toInt) (hu2 : u.toInt ≤ 1000) (k1 : a1 1 = 0) (k2 : a2 1 = 1) (k3 : a3 1 = v)
    (hA : ∀ x : Nat, x < m → (x : Int) ≤ u.toInt ∧ t ≤ 40 ∧ (t : Int) ≤ v.toInt ∧ (t = 40 ∨ (t : Int) = v.toInt)) (hB : ∀ x : Nat, m ≤ x → x < 41 → u.toInt < (x : Int) ∨ v.toInt < 0) : hl_ok m t (nI 2) a1 a2 a3 := by
  intro post x rd ct a4 a5 a6 a7 hx H
  unfold wpX_fillColumn
  dsimp only
  rw [nI_clamp (show x < 2 ^ 31 by omega)]
  refine ⟨pk_in x 41 hx, nm_e ⟨pk_in x 41 hx, nm_e ⟨3, pk_le 2 0 (fun z => absurd z (by omega)) (fun _ => ?_)⟩⟩⟩
  refine hl_narX (i := 0) hx (by omega) h1 h2 h3 hu1 hu2 (fun g => nm_r (nI_1 0) ?_) (fun g => nm_r (nI_1 0) ?_)
  · refine pk_le 2 1 (fun z => absurd z (by omega)) (fun _ => ?_)
    refine hl_narY (i := 1) (w := 40) hx (by omega) k1 k2 k3 pk_us (fun g2 => nm_r (nI_1 1) ?_) (fun g2 => nm_r (nI_1 1) ?_)
    · rw [hl_t40] at g2
      refine pk_le 2 2 (fun _ => H _ _ pk_us (fun j hj => pk_un hj) (fun z => ?_) (fun z => absurd (hB x z hx) (by omega)) (fun j hj => pk_un hj)) (fun z => absurd z (by omega))
      have h := hA x z
      have e : t = 40 := by omega
      rw [pk_us, e]
      rfl
    · rw [hl_t40] at g2
      refine pk_le 2 2 (fun _ => H _ _ pk_us (fun j hj => pk_un hj) (fun z => ?_) (fun z => ?_) (fun j hj => (pk_un hj).trans (pk_un hj))) (fun z => absurd z (by omega))
      · have h := hA x z
        rw [pk_us]
        exact hl_eqN (by omega) (by omega)
      · rw [pk_us, Int32.lt_iff_toInt_lt, hl_t0]
        have h := hB x z hx
        omega
  · refine pk_le 2 1 (fun z => absurd z (by omega)) (fun _ => ?_)
    refine hl_narY (i := 1) (w := -1) hx (by omega) k1 k2 k3 pk_us (fun g2 => nm_r (nI_1 1) ?_) (fun g2 => nm_r (nI_1 1) ?_)
    · refine pk_le 2 2 (fun _ => H _ _ pk_us (fun j hj => pk_un hj) (fun z => absurd (hA x z).1 (by omega)) (fun z => ?_) (fun j hj => (pk_un hj).trans (pk_un hj))) (fun z => absurd z (by omega))
      rw [pk_us]
      decide
    · rw [hl_tm1] at g2
      refine pk_le 2 2 (fun _ => H _ _ pk_us (fun j hj => pk_un hj) (fun z => absurd (hA x z).1 (by omega)) (fun z => ?_) (fun j hj => (pk_un hj).trans ((pk_un hj).trans (pk_un hj)))) (fun z => absurd z (by omega))
      rw [pk_us, Int32.lt_iff_toInt_lt, hl_t0]
      omega
end
end
section
section
variable {post : St2 → Prop} {P : Int32 → Prop} {c rd ct x y : Int32} {a1 a2 a3 a4 a5 a6 a7 : Nat → Int32} {m t : Nat}
theorem hl_some1 {i : Nat} (hi : i < 41) (h : ¬ a5 i < a4 i) (H : P 1) : wpX_some P (c, rd, ct, a1, a2, a3, a4, a5, a6, a7) (nI i) := by
  unfold wpX_some
  dsimp only
  rw [nI_clamp (show i < 2 ^ 31 by omega)]
  exact ⟨pk_in i 41 hi, pk_in i 41 hi, br_f h H⟩
theorem hl_some0 {i : Nat} (hi : i < 41) (h : a5 i < a4 i) (H : P 0) : wpX_some P (c, rd, ct, a1, a2, a3, a4, a5, a6, a7) (nI i) := by
  unfold wpX_some
  dsimp only
  rw [nI_clamp (show i < 2 ^ 31 by omega)]
  exact ⟨pk_in i 41 hi, pk_in i 41 hi, br_t h H⟩
theorem hl_turn {p q : Nat} (hp : p < 84) (hq : q < 84) (H : P ((a6 q - a6 p) * (y - a7 p) - (a7 q - a7 p) * (x - a6 p))) :
    wpX_turn P (c, rd, ct, a1, a2, a3, a4, a5, a6, a7) (nI p) (nI q) x y := by
  unfold wpX_turn
  dsimp only
  rw [nI_clamp (show p < 2 ^ 31 by omega), nI_clamp (show q < 2 ^ 31 by omega)]
  exact ⟨pk_in q 84 hq, pk_in p 84 hp, pk_in p 84 hp, pk_in q 84 hq, pk_in p 84 hp, pk_in p 84 hp, H⟩
theorem hl_44 {k : Nat} (hk : k < 84) (H : post (c, rd, nI (k + 1), a1, a2, a3, a4, a5, upd a6 k x, upd a7 k y)) :
    wX_addPoint_44 post x y c rd (nI k) a1 a2 a3 a4 a5 a6 a7 := by
  unfold wX_addPoint_44
  rw [nI_clamp (show k < 2 ^ 31 by omega)]
  exact ⟨pk_in k 84 hk, nm_e ⟨pk_in k 84 hk, nm_e (nm_r (nI_1 k) H)⟩⟩
/-- the chain is short: push -/
theorem hl_ap1 {k b n : Nat} (hk : k < 84) (hb : b ≤ k) (h : k < b + 2) (H : post (c, rd, nI (k + 1), a1, a2, a3, a4, a5, upd a6 k x, upd a7 k y)) :
    wX_addPoint_0 post (nI b) x y c rd a1 a2 a3 a4 a5 a6 a7 (n + 1) (nI k) :=
  pk_lt (k - b) 2 (fun _ => hl_44 hk H) (fun z => absurd z (by omega)) (pk_sub hb)
theorem hl_k2 (q : Nat) : nI (q + 2) - 2 = nI q := (pk_sub (a := q + 2) (b := 2) (by omega)).trans (by rw [Nat.add_sub_cancel])
theorem hl_k1 (q : Nat) : nI (q + 2) - 1 = nI (q + 1) := nI_pred (q + 1)
/-- no left turn: pop -/
theorem hl_ap2 {q b n : Nat} (hq : q + 2 < 84) (hb : b ≤ q) (ht : ¬ 0 < (a6 (q + 1) - a6 q) * (y - a7 q) - (a7 (q + 1) - a7 q) * (x - a6 q))
    (H : wX_addPoint_0 post (nI b) x y c rd a1 a2 a3 a4 a5 a6 a7 n (nI (q + 1))) :
    wX_addPoint_0 post (nI b) x y c rd a1 a2 a3 a4 a5 a6 a7 (n + 1) (nI (q + 2)) := by
  refine pk_lt (q + 2 - b) 2 (fun z => absurd z (by omega)) (fun _ => ?_) (pk_sub (by omega))
  rw [hl_k2, hl_k1]
  exact hl_turn (by omega) (by omega) (br_f ht (nm_e H))
/-- a left turn: push -/
theorem hl_ap3 {q b n : Nat} (hq : q + 2 < 84) (hb : b ≤ q) (ht : 0 < (a6 (q + 1) - a6 q) * (y - a7 q) - (a7 (q + 1) - a7 q) * (x - a6 q))
    (H : post (c, rd, nI (q + 2 + 1), a1, a2, a3, a4, a5, upd a6 (q + 2) x, upd a7 (q + 2) y)) :
    wX_addPoint_0 post (nI b) x y c rd a1 a2 a3 a4 a5 a6 a7 (n + 1) (nI (q + 2)) := by
  refine pk_lt (q + 2 - b) 2 (fun z => absurd z (by omega)) (fun _ => ?_) (pk_sub (by omega))
  rw [hl_k2, hl_k1]
  exact hl_turn (by omega) (by omega) (br_t ht (hl_44 hq H))
theorem hl_z (A B y : Int32) : A * (y - y) - (y - y) * B = 0 := by simp
theorem hl_ring (a b T : Int32) : ((a + b) - (a + b)) * (T - 0) - (T - 0) * (a - (a + b)) = T * b := by grind
theorem hl_pos {r t i : Nat} (ht : 1 ≤ t) (ht' : t ≤ 40) (hi : i < r) (hr : r < 41) : 0 < (nI r - nI r) * (nI t - 0) - (nI t - 0) * (nI i - nI r) := by
  have e : nI r = nI i + nI (r - i) := by rw [nI_add, show i + (r - i) = r by omega]
  have e2 : (nI r - nI r) * (nI t - 0) - (nI t - 0) * (nI i - nI r) = nI (t * (r - i)) := by
    rw [← pk_mul, ← hl_ring (nI i) (nI (r - i)) (nI t), ← e]
  have b1 : 0 < t * (r - i) := Nat.mul_pos (by omega) (by omega)
  have b2 : t * (r - i) ≤ 40 * 40 := Nat.mul_le_mul ht' (by omega)
  rw [e2]
  exact nI_lt (a := 0) b1 (by omega)
/-- the lower chain over k columns: corners (0,0) and (k-1,0) -/
def hl_H (k : Nat) (ct : Int32) (a6 a7 : Nat → Int32) : Prop :=
  (k = 0 → ct = nI 0) ∧ (k = 1 → ct = nI 1 ∧ a6 0 = 0 ∧ a7 0 = 0) ∧ (2 ≤ k → ct = nI 2 ∧ a6 0 = 0 ∧ a7 0 = 0 ∧ a6 1 = nI (k - 1) ∧ a7 1 = 0)
theorem hl_low {k : Nat} (hk : k < 41) (hy : y = 0) (h : hl_H k ct a6 a7)
    (H : ∀ ct' b6 b7, hl_H (k + 1) ct' b6 b7 → post (c, rd, ct', a1, a2, a3, a4, a5, b6, b7)) :
    wpX_addPoint post (c, rd, ct, a1, a2, a3, a4, a5, a6, a7) 0 (nI k) y := by
  unfold wpX_addPoint
  dsimp only
  subst hy
  obtain ⟨h0, h1, h2⟩ := h
  rcases (show k = 0 ∨ k = 1 ∨ 2 ≤ k by omega) with e | e | e
  · have e0 := h0 e
    subst e0
    subst e
    exact ⟨1, hl_ap1 (k := 0) (b := 0) (n := 0) (by omega) (by omega) (by omega) (H _ _ _ ⟨fun z => absurd z (by omega), fun _ => ⟨rfl, pk_us, pk_us⟩, fun z => absurd z (by omega)⟩)⟩
  · obtain ⟨e0, p0, q0⟩ := h1 e
    subst e0
    subst e
    exact ⟨1, hl_ap1 (k := 1) (b := 0) (n := 0) (by omega) (by omega) (by omega) (H _ _ _ ⟨fun z => absurd z (by omega), fun z => absurd z (by omega), fun _ => ⟨rfl, (pk_un (by omega)).trans p0, (pk_un (by omega)).trans q0, pk_us, pk_us⟩⟩)⟩
  · obtain ⟨e0, p0, q0, p1, q1⟩ := h2 e
    subst e0
    refine ⟨2, hl_ap2 (q := 0) (b := 0) (n := 1) (by omega) (by omega) ?_ (hl_ap1 (k := 1) (b := 0) (n := 0) (by omega) (by omega) (by omega) (H _ _ _ ⟨fun z => absurd z (by omega), fun z => absurd z (by omega), fun _ => ⟨rfl, (pk_un (by omega)).trans p0, (pk_un (by omega)).trans q0, pk_us, pk_us⟩⟩))⟩
    rw [show (0 + 1 : Nat) = 1 from rfl, q0, q1, hl_z]
    decide
/-- the first loop of prepare at column i -/
def hl_L1 (m t i : Nat) (x1 ct : Int32) (a4 a5 a6 a7 : Nat → Int32) : Prop :=
  (∀ j, j < i → a4 j = 0 ∧ (j < m → a5 j = nI t) ∧ (m ≤ j → a5 j < 0)) ∧ hl_H (min i m) ct a6 a7 ∧ (min i m = 0 → x1 = -1) ∧ (1 ≤ min i m → x1 = nI (min i m - 1))
theorem hl_p22 (hok : hl_ok m t c a1 a2 a3) (ht : t ≤ 40)
    (HE : ∀ x1 ct a4 a5 a6 a7, hl_L1 m t 41 x1 ct a4 a5 a6 a7 → ((0 ≤ x1 → (∀ z : Int32, z = ct - 1 → (∃ fu75 : Nat, wX_prepare_75 post x1 z fu75 x1 c rd ct a1 a2 a3 a4 a5 a6 a7))) ∧ (¬ 0 ≤ x1 → post (c, rd, ct, a1, a2, a3, a4, a5, a6, a7)))) :
    ∀ (d i : Nat) (x1 ct : Int32) (a4 a5 a6 a7 : Nat → Int32), i + d = 41 → hl_L1 m t i x1 ct a4 a5 a6 a7 → wX_prepare_22 post (d + 1) x1 (nI i) c rd ct a1 a2 a3 a4 a5 a6 a7 := by
  intro d
  induction d with
  | zero =>
    intro i x1 ct a4 a5 a6 a7 hi h
    have e : i = 41 := by omega
    rw [e] at h ⊢
    exact pk_le 41 41 (fun _ => HE x1 ct a4 a5 a6 a7 h) (fun z => absurd z (by omega))
  | succ d ih =>
    intro i x1 ct a4 a5 a6 a7 hi h
    obtain ⟨hc, hh, hx0, hx1⟩ := h
    have hi41 : i < 41 := by omega
    refine pk_le 41 i (fun z => absurd z (by omega)) (fun _ => hok _ i _ _ _ _ _ _ hi41 (fun b4 b5 h4 h4' h5 h5' h5'' => ?_))
    have hc' : ∀ j, j < i + 1 → b4 j = 0 ∧ (j < m → b5 j = nI t) ∧ (m ≤ j → b5 j < 0) := by
      intro j hj
      by_cases e : j = i
      · rw [e]
        exact ⟨h4, h5, h5'⟩
      · rw [h4' j e, h5'' j e]
        exact hc j (by omega)
    by_cases him : i < m
    · refine hl_some1 hi41 ?_ (br_f (by decide) ⟨pk_in i 41 hi41, hl_low (k := i) hi41 ?_ ?_ (fun ct' b6 b7 hH => nm_r (nI_1 i) (ih (i + 1) _ _ _ _ _ _ (by omega) ⟨hc', ?_, ?_, ?_⟩))⟩)
      · rw [h4, h5 him]
        exact nI_pos (by omega)
      · rw [nI_clamp (by omega)]
        exact h4
      · rw [show min i m = i by omega] at hh
        exact hh
      · rw [show min (i + 1) m = i + 1 by omega]
        exact hH
      · intro z
        exact absurd z (by omega)
      · intro _
        rw [show min (i + 1) m - 1 = i by omega]
    · have em : min (i + 1) m = min i m := by omega
      refine hl_some0 hi41 ?_ (br_t rfl (nm_r (nI_1 i) (ih (i + 1) _ _ _ _ _ _ (by omega) ⟨hc', ?_, ?_, ?_⟩)))
      · rw [h4]
        exact h5' (by omega)
      · rw [em]
        exact hh
      · rw [em]
        exact hx0
      · rw [em]
        exact hx1
/-- the second loop's ends -/
theorem hl_ex1 {x1 x2 x3 : Int32} {n : Nat} (hx : x3 < 0) (H : post (c, rd, nI 1, a1, a2, a3, a4, a5, a6, a7)) :
    wX_prepare_75 post x1 x2 (n + 1) x3 c rd (nI 1) a1 a2 a3 a4 a5 a6 a7 :=
  br_t hx (pk_le 1 1 (fun _ => H) (fun z => absurd z (by omega)))
theorem hl_exA {x1 x2 x3 : Int32} {n p : Nat} (hx : x3 < 0) (hp : 1 ≤ p) (hp' : p < 84) (e : a6 p = a6 0) (e' : ¬ a7 p = a7 0) (H : post (c, rd, nI (p + 1), a1, a2, a3, a4, a5, a6, a7)) :
    wX_prepare_75 post x1 x2 (n + 1) x3 c rd (nI (p + 1)) a1 a2 a3 a4 a5 a6 a7 := by
  refine br_t hx (pk_le (p + 1) 1 (fun z => absurd z (by omega)) (fun _ => ?_))
  rw [nI_pred p, nI_clamp (show p < 2 ^ 31 by omega)]
  exact ⟨pk_in p 84 hp', br_t e ⟨pk_in p 84 hp', br_f e' H⟩⟩
theorem hl_exB {x1 x2 x3 : Int32} {n p : Nat} (hx : x3 < 0) (hp : 1 ≤ p) (hp' : p < 84) (e : a6 p = a6 0) (e' : a7 p = a7 0) (H : post (c, rd, nI p, a1, a2, a3, a4, a5, a6, a7)) :
    wX_prepare_75 post x1 x2 (n + 1) x3 c rd (nI (p + 1)) a1 a2 a3 a4 a5 a6 a7 := by
  refine br_t hx (pk_le (p + 1) 1 (fun z => absurd z (by omega)) (fun _ => ?_))
  rw [nI_pred p, nI_clamp (show p < 2 ^ 31 by omega)]
  exact ⟨pk_in p 84 hp', br_t e ⟨pk_in p 84 hp', br_t e' (nm_e H)⟩⟩
/-- the second loop's turns -/
theorem hl_75add {x2 : Int32} {n r i : Nat} (hi : i < 41) (hr : r < 41) (hs : ¬ a5 i < a4 i) (hd : i = r → ¬ a4 i = a5 i)
    (H : wX_prepare_107 post (wX_prepare_75 post (nI r) x2 n) (nI r) x2 (nI i) c rd ct a1 a2 a3 a4 a5 a6 a7) :
    wX_prepare_75 post (nI r) x2 (n + 1) (nI i) c rd ct a1 a2 a3 a4 a5 a6 a7 :=
  br_f (nI_pos (by omega)) (hl_some1 hi hs (br_f (by decide) (pk_eq i r (fun z => ⟨pk_in i 41 hi, pk_in i 41 hi, br_f (by rw [nI_clamp (by omega)]; exact hd z) H⟩) (fun _ => H))))
theorem hl_75skip {x2 : Int32} {n r : Nat} (hr : r < 41) (hs : ¬ a5 r < a4 r) (hd : a4 r = a5 r)
    (H : wX_prepare_75 post (nI r) x2 n (nI r + (-1)) c rd ct a1 a2 a3 a4 a5 a6 a7) :
    wX_prepare_75 post (nI r) x2 (n + 1) (nI r) c rd ct a1 a2 a3 a4 a5 a6 a7 :=
  br_f (nI_pos (by omega)) (hl_some1 hr hs (br_f (by decide) (br_t rfl ⟨pk_in r 41 hr, pk_in r 41 hr, br_t (by rw [nI_clamp (by omega)]; exact hd) (nm_e H)⟩)))
theorem hl_107 {J : Int32 → Int32 → Int32 → Int32 → (Nat → Int32) → (Nat → Int32) → (Nat → Int32) → (Nat → Int32) → (Nat → Int32) → (Nat → Int32) → (Nat → Int32) → Prop} {x1 x2 : Int32} {i : Nat}
    {R : Int32 → (Nat → Int32) → (Nat → Int32) → Prop} (hi : i < 41) (h5 : a5 i = y)
    (H : ∀ Q : St2 → Prop, (∀ ct' b6 b7, R ct' b6 b7 → Q (c, rd, ct', a1, a2, a3, a4, a5, b6, b7)) → wpX_addPoint Q (c, rd, ct, a1, a2, a3, a4, a5, a6, a7) x2 (nI i) y)
    (HJ : ∀ ct' b6 b7, R ct' b6 b7 → J (nI i + (-1)) c rd ct' a1 a2 a3 a4 a5 b6 b7) :
    wX_prepare_107 post J x1 x2 (nI i) c rd ct a1 a2 a3 a4 a5 a6 a7 := by
  unfold wX_prepare_107
  rw [nI_clamp (show i < 2 ^ 31 by omega), h5]
  exact ⟨pk_in i 41 hi, H _ (fun ct' b6 b7 h => nm_e (HJ ct' b6 b7 h))⟩
end
end
section
section
variable {post : St2 → Prop} {c rd ct : Int32} {a1 a2 a3 a4 a5 a6 a7 : Nat → Int32} {m t r : Nat}
/-- the columns, filled -/
def hl_cols (m t : Nat) (a4 a5 : Nat → Int32) : Prop := ∀ j, j < 41 → a4 j = 0 ∧ (j < m → a5 j = nI t) ∧ (m ≤ j → a5 j < 0)
/-- the hull, made -/
def hl_hull (m t : Nat) (ct : Int32) (a6 a7 : Nat → Int32) : Prop :=
  (m = 0 ∧ ct = nI 0) ∨ (m = 1 ∧ t = 0 ∧ ct = nI 1 ∧ a6 0 = 0 ∧ a7 0 = 0) ∨ (m = 1 ∧ 1 ≤ t ∧ ct = nI 2 ∧ a6 0 = 0 ∧ a7 0 = 0 ∧ a6 1 = 0 ∧ a7 1 = nI t) ∨
  (2 ≤ m ∧ t = 0 ∧ ct = nI 2 ∧ a6 0 = 0 ∧ a7 0 = 0 ∧ a6 1 = nI (m - 1) ∧ a7 1 = 0) ∨
  (2 ≤ m ∧ 1 ≤ t ∧ ct = nI 4 ∧ a6 0 = 0 ∧ a7 0 = 0 ∧ a6 1 = nI (m - 1) ∧ a7 1 = 0 ∧ a6 2 = nI (m - 1) ∧ a7 2 = nI t ∧ a6 3 = 0 ∧ a7 3 = nI t)
theorem hl_m0 : nI 0 + (-1) < 0 := by decide
/-- a rectangle: the upper chain down to column i -/
def hl_UA (r t i : Nat) (ct : Int32) (a6 a7 : Nat → Int32) : Prop :=
  (a6 0 = 0 ∧ a7 0 = 0 ∧ a6 1 = nI r ∧ a7 1 = 0) ∧ (i = r + 1 → ct = nI 2) ∧ (i ≤ r → a6 2 = nI r ∧ a7 2 = nI t) ∧ (i = r → ct = nI 3) ∧ (i < r → ct = nI 4 ∧ a6 3 = nI i ∧ a7 3 = nI t)
theorem hl_upA {i : Nat} (hr : r < 41) (ht : 1 ≤ t) (ht' : t ≤ 40) (hi : i ≤ r) (h : hl_UA r t (i + 1) ct a6 a7)
    (H : ∀ ct' b6 b7, hl_UA r t i ct' b6 b7 → post (c, rd, ct', a1, a2, a3, a4, a5, b6, b7)) :
    wpX_addPoint post (c, rd, ct, a1, a2, a3, a4, a5, a6, a7) (nI 1) (nI i) (nI t) := by
  unfold wpX_addPoint
  dsimp only
  obtain ⟨⟨p0, q0, p1, q1⟩, h2, h3, h4, h5⟩ := h
  rcases (show i = r ∨ i + 1 = r ∨ i + 1 < r by omega) with e | e | e
  · have e0 := h2 (by omega)
    subst e0
    subst e
    exact ⟨1, hl_ap1 (k := 2) (b := 1) (n := 0) (by omega) (by omega) (by omega) (H _ _ _ ⟨⟨(pk_un (by omega)).trans p0, (pk_un (by omega)).trans q0, (pk_un (by omega)).trans p1, (pk_un (by omega)).trans q1⟩, fun z => absurd z (by omega), fun _ => ⟨pk_us, pk_us⟩, fun _ => rfl, fun z => absurd z (by omega)⟩)⟩
  · have e0 := h4 (by omega)
    obtain ⟨p2, q2⟩ := h3 (by omega)
    subst e0
    refine ⟨1, hl_ap3 (q := 1) (b := 1) (n := 0) (by omega) (by omega) ?_ (H _ _ _ ⟨⟨(pk_un (by omega)).trans p0, (pk_un (by omega)).trans q0, (pk_un (by omega)).trans p1, (pk_un (by omega)).trans q1⟩, fun z => absurd z (by omega), fun _ => ⟨(pk_un (by omega)).trans p2, (pk_un (by omega)).trans q2⟩, fun z => absurd z (by omega), fun _ => ⟨rfl, pk_us, pk_us⟩⟩)⟩
    rw [show (1 + 1 : Nat) = 2 from rfl, p1, q1, p2, q2]
    exact hl_pos ht ht' (by omega) hr
  · obtain ⟨e0, p3, q3⟩ := h5 (by omega)
    obtain ⟨p2, q2⟩ := h3 (by omega)
    subst e0
    refine ⟨2, hl_ap2 (q := 2) (b := 1) (n := 1) (by omega) (by omega) ?_ (hl_ap3 (q := 1) (b := 1) (n := 0) (by omega) (by omega) ?_ (H _ _ _ ⟨⟨(pk_un (by omega)).trans p0, (pk_un (by omega)).trans q0, (pk_un (by omega)).trans p1, (pk_un (by omega)).trans q1⟩, fun z => absurd z (by omega), fun _ => ⟨(pk_un (by omega)).trans p2, (pk_un (by omega)).trans q2⟩, fun z => absurd z (by omega), fun _ => ⟨rfl, pk_us, pk_us⟩⟩))⟩
    · rw [show (2 + 1 : Nat) = 3 from rfl, q2, q3, hl_z]
      decide
    · rw [show (1 + 1 : Nat) = 2 from rfl, p1, q1, p2, q2]
      exact hl_pos ht ht' (by omega) hr
theorem hl_75A (hr : 1 ≤ r) (hr' : r < 41) (ht : 1 ≤ t) (ht' : t ≤ 40) (hc : hl_cols (r + 1) t a4 a5)
    (H : ∀ b6 b7, hl_hull (r + 1) t (nI 4) b6 b7 → post (c, rd, nI 4, a1, a2, a3, a4, a5, b6, b7)) :
    ∀ (i : Nat) (x3 ct : Int32) (a6 a7 : Nat → Int32), x3 = nI i + (-1) → i ≤ r + 1 → hl_UA r t i ct a6 a7 → wX_prepare_75 post (nI r) (nI 1) (i + 1) x3 c rd ct a1 a2 a3 a4 a5 a6 a7 := by
  intro i
  induction i with
  | zero =>
    intro x3 ct a6 a7 hx hi h
    obtain ⟨⟨p0, q0, p1, q1⟩, h2, h3, h4, h5⟩ := h
    obtain ⟨e0, p3, q3⟩ := h5 (by omega)
    obtain ⟨p2, q2⟩ := h3 (by omega)
    subst e0
    subst hx
    refine hl_exA (p := 3) hl_m0 (by omega) (by omega) (p3.trans p0.symm) ?_ (H _ _ (Or.inr (Or.inr (Or.inr (Or.inr ⟨by omega, ht, rfl, p0, q0, p1, q1, p2, q2, p3, q3⟩)))))
    rw [q3, q0]
    exact nI_ne0 (by omega) (by omega)
  | succ i ih =>
    intro x3 ct a6 a7 hx hi h
    have hx' : x3 = nI i := hx.trans (pk_m1 i)
    subst hx'
    obtain ⟨c4, c5, _⟩ := hc i (by omega)
    have c5' := c5 (by omega)
    refine hl_75add (by omega) hr' ?_ ?_ (hl_107 (R := hl_UA r t i) (by omega) c5' (fun Q hQ => hl_upA hr' ht ht' (by omega) h hQ) (fun ct' b6 b7 hu => ih _ _ _ _ rfl (by omega) hu))
    · rw [c4, c5']
      exact nI_pos (by omega)
    · intro _
      rw [c4, c5']
      intro z
      exact nI_ne0 (n := t) (by omega) (by omega) z.symm
/-- a flat row: the way back down to column i -/
def hl_UB (r i : Nat) (ct : Int32) (a6 a7 : Nat → Int32) : Prop :=
  (a6 0 = 0 ∧ a7 0 = 0 ∧ a6 1 = nI r ∧ a7 1 = 0) ∧ (r ≤ i → ct = nI 2) ∧ (i < r → ct = nI 3 ∧ a6 2 = nI i ∧ a7 2 = 0)
theorem hl_upB {i : Nat} (hi : i < r) (h : hl_UB r (i + 1) ct a6 a7)
    (H : ∀ ct' b6 b7, hl_UB r i ct' b6 b7 → post (c, rd, ct', a1, a2, a3, a4, a5, b6, b7)) :
    wpX_addPoint post (c, rd, ct, a1, a2, a3, a4, a5, a6, a7) (nI 1) (nI i) (nI 0) := by
  unfold wpX_addPoint
  dsimp only
  obtain ⟨⟨p0, q0, p1, q1⟩, h2, h3⟩ := h
  rcases (show r ≤ i + 1 ∨ i + 1 < r by omega) with e | e
  · have e0 := h2 e
    subst e0
    exact ⟨1, hl_ap1 (k := 2) (b := 1) (n := 0) (by omega) (by omega) (by omega) (H _ _ _ ⟨⟨(pk_un (by omega)).trans p0, (pk_un (by omega)).trans q0, (pk_un (by omega)).trans p1, (pk_un (by omega)).trans q1⟩, fun z => absurd z (by omega), fun _ => ⟨rfl, pk_us, pk_us⟩⟩)⟩
  · obtain ⟨e0, p2, q2⟩ := h3 e
    subst e0
    refine ⟨2, hl_ap2 (q := 1) (b := 1) (n := 1) (by omega) (by omega) ?_ (hl_ap1 (k := 2) (b := 1) (n := 0) (by omega) (by omega) (by omega) (H _ _ _ ⟨⟨(pk_un (by omega)).trans p0, (pk_un (by omega)).trans q0, (pk_un (by omega)).trans p1, (pk_un (by omega)).trans q1⟩, fun z => absurd z (by omega), fun _ => ⟨rfl, pk_us, pk_us⟩⟩))⟩
    rw [show (1 + 1 : Nat) = 2 from rfl, q1, q2, nI_0, hl_z]
    decide
theorem hl_75B (hr : 1 ≤ r) (hr' : r < 41) (hc : hl_cols (r + 1) 0 a4 a5)
    (H : ∀ b6 b7, hl_hull (r + 1) 0 (nI 2) b6 b7 → post (c, rd, nI 2, a1, a2, a3, a4, a5, b6, b7)) :
    ∀ (i : Nat) (x3 ct : Int32) (a6 a7 : Nat → Int32), x3 = nI i + (-1) → i ≤ r + 1 → hl_UB r i ct a6 a7 → wX_prepare_75 post (nI r) (nI 1) (i + 1) x3 c rd ct a1 a2 a3 a4 a5 a6 a7 := by
  intro i
  induction i with
  | zero =>
    intro x3 ct a6 a7 hx hi h
    obtain ⟨⟨p0, q0, p1, q1⟩, h2, h3⟩ := h
    obtain ⟨e0, p2, q2⟩ := h3 (by omega)
    subst e0
    subst hx
    exact hl_exB (p := 2) hl_m0 (by omega) (by omega) (p2.trans p0.symm) (q2.trans q0.symm) (H _ _ (Or.inr (Or.inr (Or.inr (Or.inl ⟨by omega, rfl, rfl, p0, q0, p1, q1⟩)))))
  | succ i ih =>
    intro x3 ct a6 a7 hx hi h
    have hx' : x3 = nI i := hx.trans (pk_m1 i)
    subst hx'
    obtain ⟨c4, c5, _⟩ := hc i (by omega)
    have c5' := c5 (by omega)
    have hs : ¬ a5 i < a4 i := by
      rw [c4, c5']
      decide
    by_cases e : i = r
    · subst e
      refine hl_75skip hr' hs (c4.trans c5'.symm) (ih _ _ _ _ rfl (by omega) ?_)
      exact ⟨h.1, fun _ => h.2.1 (by omega), fun z => absurd z (by omega)⟩
    · exact hl_75add (by omega) hr' hs (fun z => absurd z e) (hl_107 (R := hl_UB r i) (by omega) c5' (fun Q hQ => hl_upB (by omega) h hQ) (fun ct' b6 b7 hu => ih _ _ _ _ rfl (by omega) hu))
theorem hl_75C (ht : 1 ≤ t) (ht' : t ≤ 40) (hc : hl_cols 1 t a4 a5) (p0 : a6 0 = 0) (q0 : a7 0 = 0)
    (H : ∀ b6 b7, hl_hull 1 t (nI 2) b6 b7 → post (c, rd, nI 2, a1, a2, a3, a4, a5, b6, b7)) :
    wX_prepare_75 post (nI 0) (nI 0) (1 + 1) (nI 0) c rd (nI 1) a1 a2 a3 a4 a5 a6 a7 := by
  obtain ⟨c4, c5, _⟩ := hc 0 (by omega)
  have c5' := c5 (by omega)
  have nz : ¬ nI t = 0 := nI_ne0 (by omega) (by omega)
  refine hl_75add (i := 0) (r := 0) (by omega) (by omega) ?_ ?_ (hl_107 (R := fun ct' b6 b7 => ct' = nI 2 ∧ b6 0 = 0 ∧ b7 0 = 0 ∧ b6 1 = 0 ∧ b7 1 = nI t) (by omega) c5' (fun Q hQ => ?_) (fun ct' b6 b7 hu => ?_))
  · rw [c4, c5']
    exact nI_pos (by omega)
  · intro _
    rw [c4, c5']
    exact fun z => nz z.symm
  · unfold wpX_addPoint
    dsimp only
    exact ⟨1, hl_ap1 (k := 1) (b := 0) (n := 0) (by omega) (by omega) (by omega) (hQ _ _ _ ⟨rfl, (pk_un (by omega)).trans p0, (pk_un (by omega)).trans q0, pk_us, pk_us⟩)⟩
  · obtain ⟨e0, p0', q0', p1, q1⟩ := hu
    subst e0
    refine hl_exA (p := 1) hl_m0 (by omega) (by omega) (p1.trans p0'.symm) ?_ (H _ _ (Or.inr (Or.inr (Or.inl ⟨rfl, ht, rfl, p0', q0', p1, q1⟩))))
    rw [q1, q0']
    exact nz
theorem hl_75D (hc : hl_cols 1 0 a4 a5) (p0 : a6 0 = 0) (q0 : a7 0 = 0)
    (H : ∀ b6 b7, hl_hull 1 0 (nI 1) b6 b7 → post (c, rd, nI 1, a1, a2, a3, a4, a5, b6, b7)) :
    wX_prepare_75 post (nI 0) (nI 0) (1 + 1) (nI 0) c rd (nI 1) a1 a2 a3 a4 a5 a6 a7 := by
  obtain ⟨c4, c5, _⟩ := hc 0 (by omega)
  have c5' := c5 (by omega)
  refine hl_75skip (r := 0) (by omega) ?_ (c4.trans c5'.symm) (hl_ex1 hl_m0 (H _ _ (Or.inr (Or.inl ⟨rfl, rfl, rfl, p0, q0⟩))))
  rw [c4, c5']
  decide
/-- prepare, when the object isn't ready -/
theorem hl_prep (hok : hl_ok m t c a1 a2 a3) (hm : m ≤ 41) (ht : t ≤ 40)
    (H : ∀ ct b4 b5 b6 b7, hl_cols m t b4 b5 → hl_hull m t ct b6 b7 → post (c, 1, ct, a1, a2, a3, b4, b5, b6, b7)) :
    wpX_prepare post (c, 0, ct, a1, a2, a3, a4, a5, a6, a7) := by
  unfold wpX_prepare
  dsimp only
  refine br_t rfl ⟨41 + 1, hl_p22 hok ht ?_ 41 0 (-1) 0 a4 a5 a6 a7 rfl ⟨fun j hj => absurd hj (by omega), ⟨fun _ => rfl, fun z => absurd z (by omega), fun z => absurd z (by omega)⟩, fun _ => rfl, fun z => absurd z (by omega)⟩⟩
  intro x1 ct a4 a5 a6 a7 h
  obtain ⟨hc, hh, hx0, hx1⟩ := h
  rw [show min 41 m = m by omega] at hh hx0 hx1
  obtain ⟨h0, h1, h2⟩ := hh
  rcases (show m = 0 ∨ m = 1 ∨ 2 ≤ m by omega) with e | e | e
  · have ex := hx0 e
    have ec := h0 e
    subst ex
    subst ec
    exact br_f (by decide) (H _ _ _ _ _ hc (Or.inl ⟨e, rfl⟩))
  · have ex := hx1 (by omega)
    obtain ⟨ec, p0, q0⟩ := h1 e
    subst ec
    subst e
    subst ex
    refine br_t (by decide) (nm_r (nI_pred 0) ⟨1 + 1, ?_⟩)
    rcases (show t = 0 ∨ 1 ≤ t by omega) with g | g
    · subst g
      exact hl_75D hc p0 q0 (fun b6 b7 hb => H _ _ _ _ _ hc hb)
    · exact hl_75C g ht hc p0 q0 (fun b6 b7 hb => H _ _ _ _ _ hc hb)
  · have ex := hx1 (by omega)
    obtain ⟨ec, p0, q0, p1, q1⟩ := h2 e
    obtain ⟨r, er⟩ : ∃ r, m = r + 1 := ⟨m - 1, by omega⟩
    subst er
    rw [show r + 1 - 1 = r by omega] at ex p1
    subst ec
    subst ex
    refine br_t (nI_pos' (by omega)) (nm_r (nI_pred 1) ⟨r + 1 + 1, ?_⟩)
    rcases (show t = 0 ∨ 1 ≤ t by omega) with g | g
    · subst g
      exact hl_75B (by omega) (by omega) hc (fun b6 b7 hb => H _ _ _ _ _ hc hb) (r + 1) (nI r) (nI 2) a6 a7 (pk_m1 r).symm (by omega) ⟨⟨p0, q0, p1, q1⟩, fun _ => rfl, fun z => absurd z (by omega)⟩
    · exact hl_75A (by omega) (by omega) g ht hc (fun b6 b7 hb => H _ _ _ _ _ hc hb) (r + 1) (nI r) (nI 2) a6 a7 (pk_m1 r).symm (by omega) ⟨⟨p0, q0, p1, q1⟩, fun _ => rfl, fun z => absurd z (by omega), fun z => absurd z (by omega), fun z => absurd z (by omega)⟩
/-- prepare, when the object is ready -/
theorem hl_rdy (H : post (c, 1, ct, a1, a2, a3, a4, a5, a6, a7)) : wpX_prepare post (c, 1, ct, a1, a2, a3, a4, a5, a6, a7) := by
  unfold wpX_prepare
  dsimp only
  exact br_f (by decide) H
end
end
section
section
variable {post : Int32 → St2 → Prop} {c ct : Int32} {a1 a2 a3 a4 a5 a6 a7 : Nat → Int32} {m t : Nat}
/-- points: the loop -/
theorem hl_pts (hc : hl_cols m t a4 a5) (ht : t ≤ 40) (H : post (nI (min 41 m * (t + 1))) (c, 1, ct, a1, a2, a3, a4, a5, a6, a7)) :
    ∀ d i : Nat, i + d = 41 → wX_points_8 post c 1 ct a1 a2 a3 a4 a5 a6 a7 (d + 1) (nI (min i m * (t + 1))) (nI i) := by
  intro d
  induction d with
  | zero =>
    intro i hi
    have e : i = 41 := by omega
    rw [e]
    exact pk_le 41 41 (fun _ => H) (fun z => absurd z (by omega))
  | succ d ih =>
    intro i hi
    obtain ⟨c4, c5, c6⟩ := hc i (by omega)
    refine pk_le 41 i (fun z => absurd z (by omega)) (fun _ => ?_)
    by_cases him : i < m
    · have c5' := c5 him
      refine hl_some1 (by omega) ?_ (br_f (by decide) ⟨pk_in i 41 (by omega), pk_in i 41 (by omega), nm_r (e' := nI (min (i + 1) m * (t + 1))) ?_ (nm_r (nI_1 i) (ih (i + 1) (by omega)))⟩)
      · rw [c4, c5']
        exact nI_pos (by omega)
      · rw [nI_clamp (show i < 2 ^ 31 by omega), c4, c5', Int32.sub_zero, nI_1, nI_add, show min i m = i by omega, show min (i + 1) m = i + 1 by omega, Nat.succ_mul]
    · have em : min (i + 1) m = min i m := by omega
      refine hl_some0 (by omega) ?_ (br_t rfl (nm_r (nI_1 i) ?_))
      · rw [c4]
        exact c6 (by omega)
      · rw [← em]
        exact ih (i + 1) (by omega)
theorem hl_pts0 (hc : hl_cols m t a4 a5) (hm : m ≤ 41) (ht : t ≤ 40) (H : post (nI (m * (t + 1))) (c, 1, ct, a1, a2, a3, a4, a5, a6, a7)) :
    ∃ fu : Nat, wX_points_8 post c 1 ct a1 a2 a3 a4 a5 a6 a7 fu 0 0 := by
  have h := hl_pts (post := post) (c := c) (ct := ct) (a1 := a1) (a2 := a2) (a3 := a3) (a6 := a6) (a7 := a7) hc ht (by rw [show min 41 m = m by omega]; exact H) 41 0 rfl
  rw [Nat.zero_min, Nat.zero_mul] at h
  exact ⟨42, h⟩
theorem hl_points1 (hc : hl_cols m t a4 a5) (hm : m ≤ 41) (ht : t ≤ 40) (H : post (nI (m * (t + 1))) (c, 1, ct, a1, a2, a3, a4, a5, a6, a7)) :
    wpX_points post (c, 1, ct, a1, a2, a3, a4, a5, a6, a7) := by
  unfold wpX_points
  dsimp only
  exact hl_rdy (hl_pts0 hc hm ht H)
theorem hl_points0 (hok : hl_ok m t c a1 a2 a3) (hm : m ≤ 41) (ht : t ≤ 40)
    (H : ∀ ct b4 b5 b6 b7, hl_cols m t b4 b5 → hl_hull m t ct b6 b7 → post (nI (m * (t + 1))) (c, 1, ct, a1, a2, a3, b4, b5, b6, b7)) :
    wpX_points post (c, 0, ct, a1, a2, a3, a4, a5, a6, a7) := by
  unfold wpX_points
  dsimp only
  exact hl_prep hok hm ht (fun ct b4 b5 b6 b7 hc hh => hl_pts0 hc hm ht (H ct b4 b5 b6 b7 hc hh))
theorem hl_corners (H : post ct (c, 1, ct, a1, a2, a3, a4, a5, a6, a7)) : wpX_corners post (c, 1, ct, a1, a2, a3, a4, a5, a6, a7) := by
  unfold wpX_corners
  dsimp only
  exact hl_rdy H
/-- corner(2) -/
theorem hl_corner4 (H : post (a6 2 + 64 * a7 2) (c, 1, nI 4, a1, a2, a3, a4, a5, a6, a7)) : wpX_corner post (c, 1, nI 4, a1, a2, a3, a4, a5, a6, a7) 2 := by
  unfold wpX_corner
  dsimp only
  exact hl_rdy (br_f (by decide) (pk_lt 2 4 (fun _ => ⟨pk_in 2 84 (by omega), pk_in 2 84 (by omega), H⟩) (fun z => absurd z (by omega))))
theorem hl_cornerN {k : Nat} (hk : k ≤ 2) (H : post (-3) (c, 1, nI k, a1, a2, a3, a4, a5, a6, a7)) : wpX_corner post (c, 1, nI k, a1, a2, a3, a4, a5, a6, a7) 2 := by
  unfold wpX_corner
  dsimp only
  exact hl_rdy (br_f (by decide) (pk_lt 2 k (fun z => absurd z (by omega)) (fun _ => H)))
/-- area2: one turn -/
theorem hl_ar0 {n k : Nat} {x1 : Int32} (hk : k < 84) (H : post x1 (c, 1, nI k, a1, a2, a3, a4, a5, a6, a7)) : wX_area2_8 post c 1 (nI k) a1 a2 a3 a4 a5 a6 a7 (n + 1) x1 (nI k) :=
  pk_le k k (fun _ => H) (fun z => absurd z (by omega))
theorem hl_ar33 {J : Int32 → Int32 → Prop} {x1 : Int32} {i j : Nat} (hi : i < 84) (hj : j < 84) (H : J (x1 + (a6 i * a7 j - a6 j * a7 i)) (nI (i + 1))) :
    wX_area2_33 post J x1 (nI i) (nI j) c 1 ct a1 a2 a3 a4 a5 a6 a7 := by
  unfold wX_area2_33
  rw [nI_clamp (show i < 2 ^ 31 by omega), nI_clamp (show j < 2 ^ 31 by omega)]
  exact ⟨pk_in i 84 hi, pk_in j 84 hj, pk_in j 84 hj, pk_in i 84 hi, nm_e (nm_r (nI_1 i) H)⟩
theorem hl_ar1 {n i k : Nat} {x1 : Int32} (hi : i + 1 < k) (hk : k < 84) (H : wX_area2_8 post c 1 (nI k) a1 a2 a3 a4 a5 a6 a7 n (x1 + (a6 i * a7 (i + 1) - a6 (i + 1) * a7 i)) (nI (i + 1))) :
    wX_area2_8 post c 1 (nI k) a1 a2 a3 a4 a5 a6 a7 (n + 1) x1 (nI i) := by
  refine pk_le k i (fun z => absurd z (by omega)) (fun _ => ?_)
  rw [nI_1]
  exact pk_le k (i + 1) (fun z => absurd z (by omega)) (fun _ => hl_ar33 (by omega) (by omega) H)
theorem hl_ar2 {n i k : Nat} {x1 : Int32} (hi : i + 1 = k) (hk : k < 84) (H : wX_area2_8 post c 1 (nI k) a1 a2 a3 a4 a5 a6 a7 n (x1 + (a6 i * a7 0 - a6 0 * a7 i)) (nI (i + 1))) :
    wX_area2_8 post c 1 (nI k) a1 a2 a3 a4 a5 a6 a7 (n + 1) x1 (nI i) := by
  refine pk_le k i (fun z => absurd z (by omega)) (fun _ => ?_)
  rw [nI_1]
  exact pk_le k (i + 1) (fun _ => hl_ar33 (j := 0) (by omega) (by omega) H) (fun z => absurd z (by omega))
theorem hl_ring4 (R T : Int32) : 0 + ((0 : Int32) * 0 - R * 0) + (R * T - R * 0) + (R * T - 0 * T) + (0 * 0 - 0 * T) = 2 * R * T := by grind
theorem hl_ring2 (R T : Int32) : 0 + ((0 : Int32) * T - R * 0) + (R * 0 - 0 * T) = 0 := by grind
theorem hl_area {r : Nat} (hm : m = r + 1) (hh : hl_hull m t ct a6 a7) (H : post (2 * nI r * nI t) (c, 1, ct, a1, a2, a3, a4, a5, a6, a7)) :
    wpX_area2 post (c, 1, ct, a1, a2, a3, a4, a5, a6, a7) := by
  unfold wpX_area2
  dsimp only
  refine hl_rdy ?_
  dsimp only
  rcases hh with ⟨e, _⟩ | ⟨e, et, ec, p0, q0⟩ | ⟨e, et, ec, p0, q0, p1, q1⟩ | ⟨e, et, ec, p0, q0, p1, q1⟩ | ⟨e, et, ec, p0, q0, p1, q1, p2, q2, p3, q3⟩
  · exact absurd hm (by omega)
  · subst ec
    refine ⟨1 + 1, hl_ar2 (i := 0) rfl (by omega) (hl_ar0 (by omega) ?_)⟩
    have er : r = 0 := by omega
    rw [p0, q0]
    rw [er, et] at H
    exact H
  · subst ec
    refine ⟨2 + 1, hl_ar1 (i := 0) (by omega) (by omega) (hl_ar2 (i := 1) rfl (by omega) (hl_ar0 (by omega) ?_))⟩
    have er : r = 0 := by omega
    rw [show (0 + 1 : Nat) = 1 from rfl, p0, q0, p1, q1, hl_ring2]
    rw [er, nI_0, Int32.mul_zero, Int32.zero_mul] at H
    exact H
  · subst ec
    refine ⟨2 + 1, hl_ar1 (i := 0) (by omega) (by omega) (hl_ar2 (i := 1) rfl (by omega) (hl_ar0 (by omega) ?_))⟩
    rw [show (0 + 1 : Nat) = 1 from rfl, p0, q0, p1, q1, hl_ring2]
    rw [et, nI_0, Int32.mul_zero] at H
    exact H
  · subst ec
    refine ⟨4 + 1, hl_ar1 (i := 0) (by omega) (by omega) (hl_ar1 (i := 1) (by omega) (by omega) (hl_ar1 (i := 2) (by omega) (by omega) (hl_ar2 (i := 3) rfl (by omega) (hl_ar0 (by omega) ?_))))⟩
    rw [show (0 + 1 : Nat) = 1 from rfl, show (1 + 1 : Nat) = 2 from rfl, show (2 + 1 : Nat) = 3 from rfl, p0, q0, p1, q1, p2, q2, p3, q3, hl_ring4, show m - 1 = r by omega]
    exact H
theorem hl_area0 (hm : m = 0) (hh : hl_hull m t ct a6 a7) (H : post 0 (c, 1, ct, a1, a2, a3, a4, a5, a6, a7)) :
    wpX_area2 post (c, 1, ct, a1, a2, a3, a4, a5, a6, a7) := by
  unfold wpX_area2
  dsimp only
  refine hl_rdy ?_
  dsimp only
  rcases hh with ⟨e, ec⟩ | ⟨e, _⟩ | ⟨e, _⟩ | ⟨e, _⟩ | ⟨e, _⟩
  · subst ec
    exact ⟨0 + 1, hl_ar0 (k := 0) (by omega) H⟩
  all_goals exact absurd hm (by omega)
/-- gcd along an axis -/
theorem hl_g25 {P : Int32 → Prop} {x : Int32} (H : P x) : ∃ fu : Nat, wX_gcd_25 P fu x 0 0 := ⟨0 + 1, br_f (by decide) (br_t (by decide) H)⟩
theorem hl_g25' {P : Int32 → Prop} {n : Nat} (h0 : 1 ≤ n) (hn : n < 2 ^ 31) (H : P (nI n)) : ∃ fu : Nat, wX_gcd_25 P fu 0 (nI n) 0 :=
  ⟨1 + 1, br_f (by decide) (br_f (nI_nle (by omega) hn) ⟨nI_ne0 (by omega) hn, nm_r (e' := 0) (by rw [Int32.zero_div, Int32.zero_mul]; rfl) (nm_e (br_f (by decide) (br_t (by decide) H)))⟩)⟩
theorem hl_neg {n : Nat} (h0 : 1 ≤ n) (hn : n < 2 ^ 31) : ¬ 0 ≤ -nI n := by
  rw [Int32.le_iff_toInt_le, sb_negT hn, hl_t0]
  omega
theorem hl_gX {P : Int32 → Prop} {n : Nat} {x y : Int32} (hn : n < 2 ^ 31) (hx : x = nI n) (hy : y = 0) (H : P (nI n)) : wpX_gcd P () x y := by
  subst hx
  subst hy
  exact br_t (nI_pos' hn) (br_t (by decide) (hl_g25 H))
theorem hl_gXn {P : Int32 → Prop} {n : Nat} {x y : Int32} (h0 : 1 ≤ n) (hn : n < 2 ^ 31) (hx : x = -nI n) (hy : y = 0) (H : P (nI n)) : wpX_gcd P () x y := by
  subst hx
  subst hy
  refine br_f (hl_neg h0 hn) ?_
  rw [Int32.neg_neg]
  exact br_t (by decide) (hl_g25 H)
theorem hl_gY {P : Int32 → Prop} {n : Nat} {x y : Int32} (h0 : 1 ≤ n) (hn : n < 2 ^ 31) (hx : x = 0) (hy : y = nI n) (H : P (nI n)) : wpX_gcd P () x y := by
  subst hx
  subst hy
  exact br_t (by decide) (br_t (nI_pos' hn) (hl_g25' h0 hn H))
theorem hl_gYn {P : Int32 → Prop} {n : Nat} {x y : Int32} (h0 : 1 ≤ n) (hn : n < 2 ^ 31) (hx : x = 0) (hy : y = -nI n) (H : P (nI n)) : wpX_gcd P () x y := by
  subst hx
  subst hy
  exact br_t (by decide) (br_f (hl_neg h0 hn) (nm_r Int32.neg_neg (hl_g25' h0 hn H)))
/-- border: one turn -/
theorem hl_bo0 {n k : Nat} {x1 : Int32} (hk : k < 84) (H : post x1 (c, 1, nI k, a1, a2, a3, a4, a5, a6, a7)) : wX_border_21 post c 1 (nI k) a1 a2 a3 a4 a5 a6 a7 (n + 1) x1 (nI k) :=
  pk_le k k (fun _ => H) (fun z => absurd z (by omega))
theorem hl_bo46 {J : Int32 → Int32 → Prop} {x1 g : Int32} {i j : Nat} (hi : i < 84) (hj : j < 84) (hg : ∀ P : Int32 → Prop, P g → wpX_gcd P () (a6 j - a6 i) (a7 j - a7 i)) (H : J (x1 + g) (nI (i + 1))) :
    wX_border_46 post J x1 (nI i) (nI j) c 1 ct a1 a2 a3 a4 a5 a6 a7 := by
  unfold wX_border_46
  rw [nI_clamp (show i < 2 ^ 31 by omega), nI_clamp (show j < 2 ^ 31 by omega)]
  exact ⟨pk_in j 84 hj, pk_in i 84 hi, pk_in j 84 hj, pk_in i 84 hi, hg _ (nm_e (nm_r (nI_1 i) H))⟩
theorem hl_bo1 {n i k : Nat} {x1 g : Int32} (hi : i + 1 < k) (hk : k < 84) (hg : ∀ P : Int32 → Prop, P g → wpX_gcd P () (a6 (i + 1) - a6 i) (a7 (i + 1) - a7 i)) (H : wX_border_21 post c 1 (nI k) a1 a2 a3 a4 a5 a6 a7 n (x1 + g) (nI (i + 1))) :
    wX_border_21 post c 1 (nI k) a1 a2 a3 a4 a5 a6 a7 (n + 1) x1 (nI i) := by
  refine pk_le k i (fun z => absurd z (by omega)) (fun _ => ?_)
  rw [nI_1]
  exact pk_le k (i + 1) (fun z => absurd z (by omega)) (fun _ => hl_bo46 (by omega) (by omega) hg H)
theorem hl_bo2 {n i k : Nat} {x1 g : Int32} (hi : i + 1 = k) (hk : k < 84) (hg : ∀ P : Int32 → Prop, P g → wpX_gcd P () (a6 0 - a6 i) (a7 0 - a7 i)) (H : wX_border_21 post c 1 (nI k) a1 a2 a3 a4 a5 a6 a7 n (x1 + g) (nI (i + 1))) :
    wX_border_21 post c 1 (nI k) a1 a2 a3 a4 a5 a6 a7 (n + 1) x1 (nI i) := by
  refine pk_le k i (fun z => absurd z (by omega)) (fun _ => ?_)
  rw [nI_1]
  exact pk_le k (i + 1) (fun _ => hl_bo46 (j := 0) (by omega) (by omega) hg H) (fun z => absurd z (by omega))
theorem hl_ringB (R T : Int32) : 0 + R + T + R + T = 2 * (R + T) := by grind
/-- border of a rectangle -/
theorem hl_border4 {r : Nat} (hm : m = r + 1) (hm' : m ≤ 41) (ht : 1 ≤ t) (ht' : t ≤ 40) (hr : 1 ≤ r) (hh : hl_hull m t ct a6 a7) (H : post (2 * (nI r + nI t)) (c, 1, ct, a1, a2, a3, a4, a5, a6, a7)) :
    wpX_border post (c, 1, ct, a1, a2, a3, a4, a5, a6, a7) := by
  unfold wpX_border
  dsimp only
  refine hl_rdy ?_
  dsimp only
  rcases hh with ⟨e, _⟩ | ⟨e, _⟩ | ⟨e, _⟩ | ⟨e, et, _⟩ | ⟨e, et, ec, p0, q0, p1, q1, p2, q2, p3, q3⟩
  · exact absurd hm (by omega)
  · exact absurd hm (by omega)
  · exact absurd hm (by omega)
  · exact absurd et (by omega)
  · subst ec
    rw [show m - 1 = r by omega] at p1 p2
    refine pk_le 3 4 (fun _ => ⟨4 + 1, hl_bo1 (i := 0) (g := nI r) (by omega) (by omega) (fun P hP => ?_) (hl_bo1 (i := 1) (g := nI t) (by omega) (by omega) (fun P hP => ?_) (hl_bo1 (i := 2) (g := nI r) (by omega) (by omega) (fun P hP => ?_) (hl_bo2 (i := 3) (g := nI t) rfl (by omega) (fun P hP => ?_) (hl_bo0 (by omega) ?_))))⟩) (fun z => absurd z (by omega))
    · exact hl_gX (n := r) (by omega) (by rw [show (0 + 1 : Nat) = 1 from rfl, p0, p1, Int32.sub_zero]) (by rw [show (0 + 1 : Nat) = 1 from rfl, q0, q1, Int32.sub_zero]) hP
    · exact hl_gY (n := t) ht (by omega) (by rw [show (1 + 1 : Nat) = 2 from rfl, p1, p2, Int32.sub_self]) (by rw [show (1 + 1 : Nat) = 2 from rfl, q1, q2, Int32.sub_zero]) hP
    · exact hl_gXn (n := r) hr (by omega) (by rw [show (2 + 1 : Nat) = 3 from rfl, p3, p2, Int32.zero_sub]) (by rw [show (2 + 1 : Nat) = 3 from rfl, q2, q3, Int32.sub_self]) hP
    · exact hl_gYn (n := t) ht (by omega) (by rw [p3, p0, Int32.sub_zero]) (by rw [q3, q0, Int32.zero_sub]) hP
    · rw [hl_ringB]
      exact H
/-- border of a point, a segment or nothing -/
theorem hl_borderN {k : Nat} (hk : k ≤ 2) (hc : hl_cols m t a4 a5) (hm : m ≤ 41) (ht : t ≤ 40) (H : post (nI (m * (t + 1))) (c, 1, nI k, a1, a2, a3, a4, a5, a6, a7)) :
    wpX_border post (c, 1, nI k, a1, a2, a3, a4, a5, a6, a7) := by
  unfold wpX_border
  dsimp only
  exact hl_rdy (pk_le 3 k (fun z => absurd z (by omega)) (fun _ => hl_points1 hc hm ht H))
end
end
section
section
variable {post : Int32 → St2 → Prop} {c ct p q f : Int32} {a1 a2 a3 a4 a5 a6 a7 : Nat → Int32} {m t : Nat}
theorem hl_bd1 {P : Int32 → Prop} (h : p < (-100) ∨ 100 < p ∨ q < (-100) ∨ ¬ q ≤ 100) (H : P 1) : wpX_badDirection P () p q :=
  br_c (fun _ => H) (fun g1 => br_c (fun _ => H) (fun g2 => br_c (fun _ => H) (fun g3 => br_f (h.elim (fun z => absurd z g1) (fun h => h.elim (fun z => absurd z g2) (fun h => h.elim (fun z => absurd z g3) id))) H)))
theorem hl_bd0 {P : Int32 → Prop} (h1 : ¬ p < (-100)) (h2 : ¬ 100 < p) (h3 : ¬ q < (-100)) (h4 : q ≤ 100) (H : P 0) : wpX_badDirection P () p q :=
  br_f h1 (br_f h2 (br_f h3 (br_t h4 H)))
theorem hl_bestB (h : p < (-100) ∨ 100 < p ∨ q < (-100) ∨ ¬ q ≤ 100) (H : post (-1) (c, 1, ct, a1, a2, a3, a4, a5, a6, a7)) : wpX_best post (c, 1, ct, a1, a2, a3, a4, a5, a6, a7) p q := by
  unfold wpX_best
  dsimp only
  unfold wpX_bestCorner
  dsimp only
  exact hl_bd1 h (br_f (by decide) (br_f (by decide) H))
theorem hl_bestN (h1 : ¬ p < (-100)) (h2 : ¬ 100 < p) (h3 : ¬ q < (-100)) (h4 : q ≤ 100) (H : post (-3) (c, 1, nI 0, a1, a2, a3, a4, a5, a6, a7)) : wpX_best post (c, 1, nI 0, a1, a2, a3, a4, a5, a6, a7) p q := by
  unfold wpX_best
  dsimp only
  unfold wpX_bestCorner
  dsimp only
  exact hl_bd0 h1 h2 h3 h4 (br_t rfl (hl_rdy (br_t rfl (br_f (by decide) H))))
/-- the loop: the place of a greatest value -/
theorem hl_b29 {k : Nat} (hk : k < 84) (H : ∀ b, b < k → (∀ j, j < k → p * a6 j + q * a7 j ≤ p * a6 b + q * a7 b) → post (nI b) (c, 1, nI k, a1, a2, a3, a4, a5, a6, a7)) :
    ∀ d i b : Nat, i + d = k → b < i → (∀ j, j < i → p * a6 j + q * a7 j ≤ p * a6 b + q * a7 b) → wX_bestCorner_29 post p q c 1 (nI k) a1 a2 a3 a4 a5 a6 a7 (d + 1) (nI b) (nI i) := by
  intro d
  induction d with
  | zero =>
    intro i b hi hb h
    have e : i = k := by omega
    rw [e] at h hb ⊢
    exact pk_le k k (fun _ => H b hb h) (fun z => absurd z (by omega))
  | succ d ih =>
    intro i b hi hb h
    refine pk_le k i (fun z => absurd z (by omega)) (fun _ => ?_)
    rw [nI_clamp (show i < 2 ^ 31 by omega), nI_clamp (show b < 2 ^ 31 by omega)]
    refine ⟨pk_in i 84 (by omega), pk_in i 84 (by omega), pk_in b 84 (by omega), pk_in b 84 (by omega), br_c (fun g => nm_r (nI_1 i) (ih (i + 1) b (by omega) (by omega) ?_)) (fun g => nm_r (nI_1 i) (ih (i + 1) i (by omega) (by omega) ?_))⟩
    · intro j hj
      by_cases e : j = i
      · rw [e]
        exact g
      · exact h j (by omega)
    · intro j hj
      by_cases e : j = i
      · rw [e]
        exact Int32.le_refl _
      · exact Int32.le_trans (h j (by omega)) (Int32.le_of_lt (Int32.not_le.mp g))
theorem hl_bestV {k : Nat} {z : Int32} (hk : 1 ≤ k) (hk' : k < 84) (h1 : ¬ p < (-100)) (h2 : ¬ 100 < p) (h3 : ¬ q < (-100)) (h4 : q ≤ 100)
    (hz : ∀ b, b < k → (∀ j, j < k → p * a6 j + q * a7 j ≤ p * a6 b + q * a7 b) → p * a6 b + q * a7 b = z)
    (H : post z (c, 1, nI k, a1, a2, a3, a4, a5, a6, a7)) : wpX_best post (c, 1, nI k, a1, a2, a3, a4, a5, a6, a7) p q := by
  unfold wpX_best
  dsimp only
  unfold wpX_bestCorner
  dsimp only
  refine hl_bd0 h1 h2 h3 h4 (br_t rfl (hl_rdy ?_))
  dsimp only
  refine br_f (nI_ne0 (by omega) (by omega)) ⟨k - 1 + 1, hl_b29 (by omega) ?_ (k - 1) 1 0 (by omega) (by omega) ?_⟩
  · intro b hb h
    refine br_t (nI_pos' (by omega)) ⟨pk_in b 84 (by omega), pk_in b 84 (by omega), ?_⟩
    dsimp only
    rw [nI_clamp (show b < 2 ^ 31 by omega), hz b hb h]
    exact H
  · intro j hj
    rw [show j = 0 by omega]
    exact Int32.le_refl _
/-- the greatest of 0, P, P + Q, Q -/
theorem hl_mx {V P Q A B : Int32} (p1 : -4000 ≤ P.toInt) (p2 : P.toInt ≤ 4000) (q1 : -4000 ≤ Q.toInt) (q2 : Q.toInt ≤ 4000)
    (hA : (A = 0 ∧ P.toInt ≤ 0) ∨ (A = P ∧ 0 ≤ P.toInt)) (hB : (B = 0 ∧ Q.toInt ≤ 0) ∨ (B = Q ∧ 0 ≤ Q.toInt))
    (hV : V = 0 ∨ V = P ∨ V = P + Q ∨ V = Q) (l0 : 0 ≤ V) (lP : P ≤ V) (lPQ : P + Q ≤ V) (lQ : Q ≤ V) : V = A + B := by
  have ePQ : (P + Q).toInt = P.toInt + Q.toInt := hl_add (by omega) (by omega)
  rw [Int32.le_iff_toInt_le] at l0 lP lPQ lQ
  rw [hl_t0] at l0
  rw [ePQ] at lPQ
  have eA : (A.toInt = 0 ∧ P.toInt ≤ 0) ∨ (A.toInt = P.toInt ∧ 0 ≤ P.toInt) := by
    rcases hA with ⟨e, h⟩ | ⟨e, h⟩
    · exact Or.inl ⟨by rw [e]; rfl, h⟩
    · exact Or.inr ⟨by rw [e], h⟩
  have eB : (B.toInt = 0 ∧ Q.toInt ≤ 0) ∨ (B.toInt = Q.toInt ∧ 0 ≤ Q.toInt) := by
    rcases hB with ⟨e, h⟩ | ⟨e, h⟩
    · exact Or.inl ⟨by rw [e]; rfl, h⟩
    · exact Or.inr ⟨by rw [e], h⟩
  have eV : V.toInt = 0 ∨ V.toInt = P.toInt ∨ V.toInt = P.toInt + Q.toInt ∨ V.toInt = Q.toInt := by
    rcases hV with e | e | e | e
    · exact Or.inl (by rw [e]; rfl)
    · exact Or.inr (Or.inl (by rw [e]))
    · exact Or.inr (Or.inr (Or.inl (by rw [e, ePQ])))
    · exact Or.inr (Or.inr (Or.inr (by rw [e])))
  apply Int32.toInt_inj.mp
  rw [hl_add (by omega) (by omega)]
  omega
theorem hl_pr {a b : Int} (h1 : -100 ≤ a) (h2 : a ≤ 100) (h3 : 0 ≤ b) (h4 : b ≤ 40) : -4000 ≤ a * b ∧ a * b ≤ 4000 ∧ (a ≤ 0 → a * b ≤ 0) ∧ (0 ≤ a → 0 ≤ a * b) := by
  have k1 : a * b ≤ 100 * b := Int.mul_le_mul_of_nonneg_right h2 h3
  have k2 : -100 * b ≤ a * b := Int.mul_le_mul_of_nonneg_right h1 h3
  refine ⟨by omega, by omega, fun h => ?_, fun h => Int.mul_nonneg h h3⟩
  have k3 : a * b ≤ 0 * b := Int.mul_le_mul_of_nonneg_right h h3
  omega
theorem hl_pI {r : Nat} (hr : r ≤ 40) (h1 : ¬ p < (-100)) (h2 : ¬ 100 < p) :
    -4000 ≤ (p * nI r).toInt ∧ (p * nI r).toInt ≤ 4000 ∧ (p ≤ 0 → (p * nI r).toInt ≤ 0) ∧ (¬ p ≤ 0 → 0 ≤ (p * nI r).toInt) := by
  rw [Int32.lt_iff_toInt_lt] at h1 h2
  rw [Int32.le_iff_toInt_le, hl_t0]
  rw [show (-100 : Int32).toInt = -100 from rfl] at h1
  rw [show (100 : Int32).toInt = 100 from rfl] at h2
  have e : (nI r).toInt = (r : Int) := nI_toInt (by omega)
  have h := hl_pr (a := p.toInt) (b := (r : Int)) (by omega) (by omega) (by omega) (by omega)
  have em : (p * nI r).toInt = p.toInt * (r : Int) := by
    rw [hl_mul (by rw [e]; omega) (by rw [e]; omega), e]
  rw [em]
  exact ⟨h.1, h.2.1, h.2.2.1, fun g => h.2.2.2 (by omega)⟩
/-- best over a hull that isn't empty -/
theorem hl_bestH {r : Nat} {A B : Int32} (hm : m = r + 1) (hm' : m ≤ 41) (ht : t ≤ 40) (hh : hl_hull m t ct a6 a7) (h1 : ¬ p < (-100)) (h2 : ¬ 100 < p) (h3 : ¬ q < (-100)) (h4 : q ≤ 100)
    (hA : (A = 0 ∧ p ≤ 0) ∨ (A = p * nI r ∧ ¬ p ≤ 0)) (hB : (B = 0 ∧ q ≤ 0) ∨ (B = q * nI t ∧ ¬ q ≤ 0))
    (H : post (A + B) (c, 1, ct, a1, a2, a3, a4, a5, a6, a7)) : wpX_best post (c, 1, ct, a1, a2, a3, a4, a5, a6, a7) p q := by
  obtain ⟨p1, p2, p3, p4⟩ := hl_pI (r := r) (by omega) h1 h2
  obtain ⟨q1, q2, q3, q4⟩ := hl_pI (p := q) (r := t) ht h3 (fun z => absurd h4 (by rw [Int32.not_le]; exact z))
  have hA' : (A = 0 ∧ (p * nI r).toInt ≤ 0) ∨ (A = p * nI r ∧ 0 ≤ (p * nI r).toInt) := hA.elim (fun h => Or.inl ⟨h.1, p3 h.2⟩) (fun h => Or.inr ⟨h.1, p4 h.2⟩)
  have hB' : (B = 0 ∧ (q * nI t).toInt ≤ 0) ∨ (B = q * nI t ∧ 0 ≤ (q * nI t).toInt) := hB.elim (fun h => Or.inl ⟨h.1, q3 h.2⟩) (fun h => Or.inr ⟨h.1, q4 h.2⟩)
  have key : ∀ V : Int32, (V = 0 ∨ V = p * nI r ∨ V = p * nI r + q * nI t ∨ V = q * nI t) → 0 ≤ V → p * nI r ≤ V → p * nI r + q * nI t ≤ V → q * nI t ≤ V → V = A + B :=
    fun V hV l0 lP lPQ lQ => hl_mx p1 p2 q1 q2 hA' hB' hV l0 lP lPQ lQ
  have v00 : p * 0 + q * 0 = 0 := by simp
  rcases hh with ⟨e, _⟩ | ⟨e, et, ec, p0, q0⟩ | ⟨e, et, ec, p0, q0, p1', q1'⟩ | ⟨e, et, ec, p0, q0, p1', q1'⟩ | ⟨e, et, ec, p0, q0, p1', q1', p2', q2', p3', q3'⟩
  · exact absurd hm (by omega)
  · subst ec
    have er : r = 0 := by omega
    refine hl_bestV (by omega) (by omega) h1 h2 h3 h4 (fun b hb h => ?_) H
    have eb : b = 0 := by omega
    rw [er, et, nI_0] at key
    rw [eb, p0, q0, v00]
    refine key 0 (Or.inl rfl) ?_ ?_ ?_ ?_ <;> simp
  · subst ec
    have er : r = 0 := by omega
    refine hl_bestV (by omega) (by omega) h1 h2 h3 h4 (fun b hb h => ?_) H
    rw [er, nI_0, Int32.mul_zero, Int32.zero_add] at key
    have v1 : p * a6 1 + q * a7 1 = q * nI t := by rw [p1', q1', Int32.mul_zero, Int32.zero_add]
    have l0 := h 0 (by omega)
    have l1 := h 1 (by omega)
    rw [p0, q0, v00] at l0
    rw [v1] at l1
    refine key _ ?_ l0 l0 l1 l1
    rcases (show b = 0 ∨ b = 1 by omega) with eb | eb
    · rw [eb, p0, q0, v00]
      exact Or.inl rfl
    · rw [eb, v1]
      exact Or.inr (Or.inr (Or.inr rfl))
  · subst ec
    refine hl_bestV (by omega) (by omega) h1 h2 h3 h4 (fun b hb h => ?_) H
    rw [et, nI_0, Int32.mul_zero, Int32.add_zero] at key
    have v1 : p * a6 1 + q * a7 1 = p * nI r := by rw [p1', q1', Int32.mul_zero, Int32.add_zero, show m - 1 = r by omega]
    have l0 := h 0 (by omega)
    have l1 := h 1 (by omega)
    rw [p0, q0, v00] at l0
    rw [v1] at l1
    refine key _ ?_ l0 l1 l1 l0
    rcases (show b = 0 ∨ b = 1 by omega) with eb | eb
    · rw [eb, p0, q0, v00]
      exact Or.inl rfl
    · rw [eb, v1]
      exact Or.inr (Or.inl rfl)
  · subst ec
    refine hl_bestV (by omega) (by omega) h1 h2 h3 h4 (fun b hb h => ?_) H
    have v1 : p * a6 1 + q * a7 1 = p * nI r := by rw [p1', q1', Int32.mul_zero, Int32.add_zero, show m - 1 = r by omega]
    have v2 : p * a6 2 + q * a7 2 = p * nI r + q * nI t := by rw [p2', q2', show m - 1 = r by omega]
    have v3 : p * a6 3 + q * a7 3 = q * nI t := by rw [p3', q3', Int32.mul_zero, Int32.zero_add]
    have l0 := h 0 (by omega)
    have l1 := h 1 (by omega)
    have l2 := h 2 (by omega)
    have l3 := h 3 (by omega)
    rw [p0, q0, v00] at l0
    rw [v1] at l1
    rw [v2] at l2
    rw [v3] at l3
    refine key _ ?_ l0 l1 l2 l3
    rcases (show b = 0 ∨ b = 1 ∨ b = 2 ∨ b = 3 by omega) with eb | eb | eb | eb
    · rw [eb, p0, q0, v00]
      exact Or.inl rfl
    · rw [eb, v1]
      exact Or.inr (Or.inl rfl)
    · rw [eb, v2]
      exact Or.inr (Or.inr (Or.inl rfl))
    · rw [eb, v3]
      exact Or.inr (Or.inr (Or.inr rfl))
/-- column -/
theorem hl_column (hc : hl_cols m t a4 a5) (hm : m ≤ 41) (ht : t ≤ 40) (H0 : (f < 0 ∨ nI m ≤ f) → post 0 (c, 1, ct, a1, a2, a3, a4, a5, a6, a7))
    (H1 : ∀ j, j < m → f = nI j → post (nI t + 1) (c, 1, ct, a1, a2, a3, a4, a5, a6, a7)) : wpX_column post (c, 1, ct, a1, a2, a3, a4, a5, a6, a7) f := by
  unfold wpX_column
  dsimp only
  rcases pk_ix f (n := 41) (by omega) with h | h | ⟨j, hj, e⟩
  · exact br_t h (H0 (Or.inl h))
  · have h' : nI m ≤ f := Int32.le_trans (nI_le hm (by omega)) h
    have g : ¬ f < 0 := by
      rw [Int32.not_lt]
      exact Int32.le_trans (show (0 : Int32) ≤ nI 41 by decide) h
    exact br_f g (br_f (by rw [Int32.not_lt]; exact h) (H0 (Or.inr h')))
  · subst e
    obtain ⟨c4, c5, c6⟩ := hc j hj
    refine br_f (nI_pos (by omega)) (pk_lt j 41 (fun _ => hl_rdy ?_) (fun z => absurd z (by omega)))
    dsimp only
    by_cases hjm : j < m
    · have c5' := c5 hjm
      refine hl_some1 hj ?_ (br_f (by decide) ⟨pk_in j 41 hj, pk_in j 41 hj, ?_⟩)
      · rw [c4, c5']
        exact nI_pos (by omega)
      · rw [nI_clamp (show j < 2 ^ 31 by omega), c4, c5', Int32.sub_zero]
        exact H1 j hjm rfl
    · refine hl_some0 hj ?_ (br_t rfl (H0 (Or.inr (nI_le (by omega) (by omega)))))
      rw [c4]
      exact c6 (by omega)
end
end
section
section
variable {post : Int32 → St0 → Prop} {mc ms kc ks : Nat} {c ct f g x5 x6 x7 z0 z1 : Int32} {a1 a2 a3 a4 a5 a6 a7 : Nat → Int32} {m t : Nat}
/-- the law's own numbers against the picture: some points (r, t), or none -/
def hl_D (m t : Nat) (x5 x6 x7 : Int32) : Prop := (x7 = 0 ∧ ∃ r, m = r + 1 ∧ x5 = nI r ∧ x6 = nI t) ∨ (x7 = 1 ∧ m = 0)
theorem hl_354 (H : post 1 ()) (hz : z1 = z0) : wL_lawOf_354 post mc ms z0 z1 kc ks := br_t hz H
theorem hl_309 (H : post 1 ()) (hD : hl_D m t x5 x6 x7) (hm : m ≤ 41) (ht : t ≤ 40) (hc : hl_cols m t a4 a5)
    (hb : ∀ P : Int32 → St2 → Prop, P z0 (c, 1, ct, a1, a2, a3, a4, a5, a6, a7) → wpX_best P (c, 1, ct, a1, a2, a3, a4, a5, a6, a7) f g) :
    wL_lawOf_309 post mc ms f g x5 x6 x7 z0 kc ks c 1 ct a1 a2 a3 a4 a5 a6 a7 := by
  unfold wL_lawOf_309
  refine hb _ (br_t rfl (hl_column hc hm ht (fun h => ?_) (fun j hj e => ?_)))
  · have h0 : wL_lawOf_353 post mc ms 0 kc ks := hl_354 H rfl
    rcases hD with ⟨e7, r, em, e5, e6⟩ | ⟨e7, em⟩
    · subst e7
      subst e5
      refine br_t rfl (br_c (fun _ => h0) (fun g1 => br_c (fun _ => h0) (fun g2 => ?_)))
      exfalso
      rcases h with h | h
      · exact g1 h
      · rw [em, Int32.le_iff_toInt_le, nI_toInt (by omega)] at h
        rw [Int32.lt_iff_toInt_lt, nI_toInt (by omega)] at g2
        omega
    · subst e7
      exact br_f (by decide) h0
  · rcases hD with ⟨e7, r, em, e5, e6⟩ | ⟨e7, em⟩
    · subst e7
      subst e5
      subst e6
      subst e
      exact br_t rfl (br_f (nI_pos (by omega)) (br_f (nI_nlt (by omega) (by omega)) (hl_354 H rfl)))
    · exact absurd hj (by omega)
theorem hl_296 {r : Nat} {A : Int32} (H : post 1 ()) (em : m = r + 1) (hm : m ≤ 41) (ht : t ≤ 40) (hc : hl_cols m t a4 a5) (hh : hl_hull m t ct a6 a7)
    (h1 : ¬ f < (-100)) (h2 : ¬ 100 < f) (h3 : ¬ g < (-100)) (h4 : g ≤ 100) (hA : (A = 0 ∧ f ≤ 0) ∨ (A = f * nI r ∧ ¬ f ≤ 0)) :
    wL_lawOf_296 post mc ms f g (nI r) (nI t) 0 A kc ks c 1 ct a1 a2 a3 a4 a5 a6 a7 := by
  unfold wL_lawOf_296
  have hD : hl_D m t (nI r) (nI t) 0 := Or.inl ⟨rfl, r, em, rfl, rfl⟩
  refine br_c (fun hq => ?_) (fun hq => ?_)
  · exact hl_309 H hD hm ht hc (fun P hP => hl_bestH em hm ht hh h1 h2 h3 h4 hA (Or.inl ⟨rfl, hq⟩) hP)
  · exact hl_309 H hD hm ht hc (fun P hP => hl_bestH em hm ht hh h1 h2 h3 h4 hA (Or.inr ⟨rfl, hq⟩) hP)
theorem hl_258 (H : post 1 ()) (hD : hl_D m t x5 x6 x7) (hm : m ≤ 41) (ht : t ≤ 40) (hc : hl_cols m t a4 a5)
    (hb : f < (-100) ∨ 100 < f ∨ g < (-100) ∨ ¬ g ≤ 100) : wL_lawOf_258 post mc ms f g x5 x6 x7 kc ks c 1 ct a1 a2 a3 a4 a5 a6 a7 := by
  unfold wL_lawOf_258
  unfold wL_lawOf_263
  exact br_f (by decide) (hl_309 H hD hm ht hc (fun P hP => hl_bestB hb hP))
theorem hl_229 (H : post 1 ()) (hD : hl_D m t x5 x6 x7) (hm : m ≤ 41) (ht : t ≤ 40) (hc : hl_cols m t a4 a5) (hh : hl_hull m t ct a6 a7) (hz : z1 = z0) :
    wL_lawOf_229 post mc ms f g x5 x6 x7 z0 z1 kc ks c 1 ct a1 a2 a3 a4 a5 a6 a7 := by
  unfold wL_lawOf_229
  refine br_t hz (br_c (fun h => hl_258 H hD hm ht hc (Or.inl h)) (fun h1 => br_c (fun h => hl_258 H hD hm ht hc (Or.inr (Or.inl h))) (fun h2 => br_c (fun h => hl_258 H hD hm ht hc (Or.inr (Or.inr (Or.inl h)))) (fun h3 => br_c (fun h4 => ?_) (fun h => hl_258 H hD hm ht hc (Or.inr (Or.inr (Or.inr h))))))))
  unfold wL_lawOf_263
  refine br_t rfl ?_
  rcases hD with ⟨e7, r, em, e5, e6⟩ | ⟨e7, em⟩
  · subst e7
    subst e5
    subst e6
    exact br_t rfl (br_c (fun hp => hl_296 H em hm ht hc hh h1 h2 h3 h4 (Or.inl ⟨rfl, hp⟩)) (fun hp => hl_296 H em hm ht hc hh h1 h2 h3 h4 (Or.inr ⟨rfl, hp⟩)))
  · subst e7
    refine br_f (by decide) (hl_309 H (Or.inr ⟨rfl, em⟩) hm ht hc (fun P hP => ?_))
    rcases hh with ⟨e, ec⟩ | ⟨e, _⟩ | ⟨e, _⟩ | ⟨e, _⟩ | ⟨e, _⟩
    · subst ec
      exact hl_bestN h1 h2 h3 h4 hP
    all_goals exact absurd em (by omega)
theorem hl_187 (H : post 1 ()) (hD : hl_D m t x5 x6 x7) (hm : m ≤ 41) (ht : t ≤ 40) (hc : hl_cols m t a4 a5) (hh : hl_hull m t ct a6 a7) (hz : z1 = z0) :
    wL_lawOf_187 post mc ms f g x5 x6 x7 ct z0 z1 kc ks c 1 ct a1 a2 a3 a4 a5 a6 a7 := by
  unfold wL_lawOf_187
  refine br_t hz ?_
  have hh' := hh
  rcases hh' with ⟨e, ec⟩ | ⟨e, et, ec, _⟩ | ⟨e, et, ec, _⟩ | ⟨e, et, ec, _⟩ | ⟨e, et, ec, _⟩
  · subst ec
    rcases hD with ⟨e7, r, em, e5, e6⟩ | ⟨e7, em⟩
    · exact absurd em (by omega)
    · subst e7
      refine hl_borderN (k := 0) (by omega) hc hm ht (br_f (by decide) (br_f (by decide) (hl_229 H (Or.inr ⟨rfl, em⟩) hm ht hc hh ?_)))
      rw [em, Nat.zero_mul]
      rfl
  · subst ec
    have hD' := hD
    rcases hD' with ⟨e7, r, em, e5, e6⟩ | ⟨e7, em⟩
    · refine hl_borderN (k := 1) (by omega) hc hm ht (br_f (by decide) (br_t e7 (hl_229 H hD hm ht hc hh ?_)))
      rw [e5, e6, nI_add, nI_1, em, show r = 0 by omega, show (0 + 1) * (t + 1) = 0 + t + 1 by omega]
    · exact absurd em (by omega)
  · subst ec
    have hD' := hD
    rcases hD' with ⟨e7, r, em, e5, e6⟩ | ⟨e7, em⟩
    · refine hl_borderN (k := 2) (by omega) hc hm ht (br_f (by decide) (br_t e7 (hl_229 H hD hm ht hc hh ?_)))
      rw [e5, e6, nI_add, nI_1, em, show r = 0 by omega, show (0 + 1) * (t + 1) = 0 + t + 1 by omega]
    · exact absurd em (by omega)
  · subst ec
    have hD' := hD
    rcases hD' with ⟨e7, r, em, e5, e6⟩ | ⟨e7, em⟩
    · refine hl_borderN (k := 2) (by omega) hc hm ht (br_f (by decide) (br_t e7 (hl_229 H hD hm ht hc hh ?_)))
      rw [e5, e6, nI_add, nI_1, em, et, show (r + 1) * (0 + 1) = r + 0 + 1 by omega]
    · exact absurd em (by omega)
  · have hD' := hD
    rcases hD' with ⟨e7, r, em, e5, e6⟩ | ⟨e7, em⟩
    · refine hl_border4 (r := r) em hm et ht (by omega) hh (br_t ec (hl_229 H hD hm ht hc hh ?_))
      rw [e5, e6]
    · exact absurd em (by omega)
theorem hl_161 (H : post 1 ()) (hD : hl_D m t x5 x6 x7) (hm : m ≤ 41) (ht : t ≤ 40) (hc : hl_cols m t a4 a5) (hh : hl_hull m t ct a6 a7) (hz : z1 = z0) :
    wL_lawOf_161 post mc ms f g x5 x6 x7 ct z0 z1 kc ks c 1 ct a1 a2 a3 a4 a5 a6 a7 := by
  unfold wL_lawOf_161
  refine br_t hz ?_
  have hD' := hD
  rcases hD' with ⟨e7, r, em, e5, e6⟩ | ⟨e7, em⟩
  · refine hl_area em hh (br_t e7 (hl_187 H hD hm ht hc hh ?_))
    rw [e5, e6]
  · exact hl_area0 em hh (br_f (by rw [e7]; decide) (hl_187 H hD hm ht hc hh rfl))
theorem hl_122 (H : post 1 ()) (hD : hl_D m t x5 x6 x7) (hm : m ≤ 41) (ht : t ≤ 40) (hc : hl_cols m t a4 a5) (hh : hl_hull m t ct a6 a7) (hz : z0 = ct) :
    wL_lawOf_122 post mc ms f g x5 x6 x7 z0 kc ks c 1 ct a1 a2 a3 a4 a5 a6 a7 := by
  subst hz
  unfold wL_lawOf_122
  refine hl_corners (br_t rfl ?_)
  have hh' := hh
  rcases hh' with ⟨e, ec⟩ | ⟨e, et, ec, _⟩ | ⟨e, et, ec, _⟩ | ⟨e, et, ec, _⟩ | ⟨e, et, ec, p0, q0, p1, q1, p2, q2, p3, q3⟩
  · subst ec
    exact hl_cornerN (k := 0) (by omega) (br_f (by decide) (hl_161 H hD hm ht hc hh rfl))
  · subst ec
    exact hl_cornerN (k := 1) (by omega) (br_f (by decide) (hl_161 H hD hm ht hc hh rfl))
  · subst ec
    exact hl_cornerN (k := 2) (by omega) (br_f (by decide) (hl_161 H hD hm ht hc hh rfl))
  · subst ec
    exact hl_cornerN (k := 2) (by omega) (br_f (by decide) (hl_161 H hD hm ht hc hh rfl))
  · subst ec
    refine hl_corner4 (br_t rfl (hl_161 H hD hm ht hc hh ?_))
    rcases hD with ⟨e7, r, em, e5, e6⟩ | ⟨e7, em⟩
    · rw [p2, q2, e5, e6, show m - 1 = r by omega]
    · exact absurd em (by omega)
theorem hl_79 (H : post 1 ()) (hD : hl_D m t x5 x6 x7) (hm : m ≤ 41) (ht : t ≤ 40) (hc : hl_cols m t a4 a5) (hh : hl_hull m t ct a6 a7) (hz : z1 = z0) :
    wL_lawOf_79 post mc ms f g x5 x6 x7 z0 z1 kc ks c 1 ct a1 a2 a3 a4 a5 a6 a7 := by
  unfold wL_lawOf_79
  refine br_t hz ?_
  have hh' := hh
  have hD' := hD
  rcases hD' with ⟨e7, r, em, e5, e6⟩ | ⟨e7, em⟩
  · refine br_t e7 ?_
    rcases hh' with ⟨e, ec⟩ | ⟨e, et, ec, _⟩ | ⟨e, et, ec, _⟩ | ⟨e, et, ec, _⟩ | ⟨e, et, ec, _⟩
    · exact absurd em (by omega)
    · exact br_t (by rw [e5, show r = 0 by omega]; rfl) (br_t (by rw [e6, et]; rfl) (hl_122 H hD hm ht hc hh (by rw [ec]; rfl)))
    · refine br_t (by rw [e5, show r = 0 by omega]; rfl) (br_f (by rw [e6]; exact nI_ne0 (by omega) (by omega)) ?_)
      unfold wL_lawOf_107
      exact br_t (by rw [e5, show r = 0 by omega]; rfl) (hl_122 H hD hm ht hc hh (by rw [ec]; rfl))
    · refine br_f (by rw [e5]; exact nI_ne0 (by omega) (by omega)) ?_
      unfold wL_lawOf_107
      exact br_f (by rw [e5]; exact nI_ne0 (by omega) (by omega)) (br_t (by rw [e6, et]; rfl) (hl_122 H hD hm ht hc hh (by rw [ec]; rfl)))
    · refine br_f (by rw [e5]; exact nI_ne0 (by omega) (by omega)) ?_
      unfold wL_lawOf_107
      exact br_f (by rw [e5]; exact nI_ne0 (by omega) (by omega)) (br_f (by rw [e6]; exact nI_ne0 (by omega) (by omega)) (hl_122 H hD hm ht hc hh (by rw [ec]; rfl)))
  · refine br_f (by rw [e7]; decide) (hl_122 H hD hm ht hc hh ?_)
    rcases hh' with ⟨e, ec⟩ | ⟨e, _⟩ | ⟨e, _⟩ | ⟨e, _⟩ | ⟨e, _⟩
    · rw [ec]
      rfl
    all_goals exact absurd em (by omega)
theorem hl_54 (H : post 1 ()) (hD : hl_D m t x5 x6 x7) (hm : m ≤ 41) (ht : t ≤ 40) (hok : hl_ok m t c a1 a2 a3) :
    wL_lawOf_54 post mc ms f g x5 x6 x7 kc ks c 0 ct a1 a2 a3 a4 a5 a6 a7 := by
  unfold wL_lawOf_54
  refine hl_points0 hok hm ht (fun ct b4 b5 b6 b7 hc hh => ?_)
  have hD' := hD
  rcases hD' with ⟨e7, r, em, e5, e6⟩ | ⟨e7, em⟩
  · refine br_t e7 (hl_79 H hD hm ht hc hh ?_)
    rw [e5, e6, nI_1, nI_1, pk_mul, em]
  · refine br_f (by rw [e7]; decide) (hl_79 H hD hm ht hc hh ?_)
    rw [em, Nat.zero_mul]
    rfl
end
end
section
section
variable {c rd ct p q u v : Int32} {a1 a2 a3 a4 a5 a6 a7 : Nat → Int32}
/-- condition: refused, or stored at place k -/
theorem hl_cond {post : Int32 → St2 → Prop} {k : Nat} (hk : k < 8) (h1 : ¬ p < (-9)) (h2 : ¬ 9 < p) (h3 : ¬ q < (-9)) (h4 : ¬ 9 < q) (h5 : p = 0 → ¬ q = 0)
    (Hb : (u.toInt < -1000 ∨ 1000 < u.toInt) → post (-1) (nI k, rd, ct, a1, a2, a3, a4, a5, a6, a7))
    (Hg : -1000 ≤ u.toInt → u.toInt ≤ 1000 → post (nI (k + 1)) (nI (k + 1), 0, ct, upd a1 k p, upd a2 k q, upd a3 k u, a4, a5, a6, a7)) :
    wpX_condition post (nI k, rd, ct, a1, a2, a3, a4, a5, a6, a7) p q u := by
  have h32 : wX_condition_32 post p q u (nI k) rd ct a1 a2 a3 a4 a5 a6 a7 := by
    unfold wX_condition_32
    rw [nI_clamp (show k < 2 ^ 31 by omega)]
    refine br_c (fun h => br_f (by decide) (Hb (Or.inl ?_))) (fun h => br_c (fun h' => br_t rfl (pk_lt k 8 (fun _ => ⟨pk_in k 8 hk, nm_e ⟨pk_in k 8 hk, nm_e ⟨pk_in k 8 hk, nm_e (nm_r (nI_1 k) (Hg ?_ ?_))⟩⟩⟩) (fun z => absurd z (by omega)))) (fun h' => br_f (by decide) (Hb (Or.inr ?_))))
    · rw [Int32.lt_iff_toInt_lt, show (-1000 : Int32).toInt = -1000 from rfl] at h
      exact h
    · rw [Int32.lt_iff_toInt_lt, show (-1000 : Int32).toInt = -1000 from rfl] at h
      omega
    · rw [Int32.le_iff_toInt_le, show (1000 : Int32).toInt = 1000 from rfl] at h'
      exact h'
    · rw [Int32.le_iff_toInt_le, show (1000 : Int32).toInt = 1000 from rfl] at h'
      omega
  unfold wpX_condition
  dsimp only
  exact br_f h1 (br_f h2 (br_f h3 (br_f h4 (br_c (fun e => br_f (h5 e) h32) (fun _ => h32)))))
/-- what reach says -/
def hl_R (u rr : Int32) : Prop :=
  ((u.toInt < -1000 ∨ 1000 < u.toInt) → rr.toInt = 40) ∧
  (-1000 ≤ u.toInt → u.toInt ≤ 1000 → (rr.toInt = 40 ∧ 40 ≤ u.toInt) ∨ (rr.toInt = u.toInt ∧ 0 ≤ u.toInt ∧ u.toInt ≤ 40) ∨ (rr.toInt = -1 ∧ u.toInt < 0))
theorem hl_reach {P : Int32 → Prop} (H : ∀ rr, hl_R u rr → P rr) : wpL_reach P () u := by
  unfold wpL_reach
  refine br_c (fun h => H _ ?_) (fun h => br_c (fun h' => br_c (fun h'' => H _ ?_) (fun h'' => H _ ?_)) (fun h' => H _ ?_))
  · rw [Int32.lt_iff_toInt_lt, show (-1000 : Int32).toInt = -1000 from rfl] at h
    unfold hl_R
    rw [hl_t40]
    omega
  · rw [Int32.lt_iff_toInt_lt, show (-1000 : Int32).toInt = -1000 from rfl] at h
    rw [Int32.le_iff_toInt_le, hl_t40] at h'
    rw [Int32.le_iff_toInt_le, hl_t0] at h''
    unfold hl_R
    omega
  · rw [Int32.lt_iff_toInt_lt, show (-1000 : Int32).toInt = -1000 from rfl] at h
    rw [Int32.le_iff_toInt_le, hl_t40] at h'
    rw [Int32.le_iff_toInt_le, hl_t0] at h''
    unfold hl_R
    rw [hl_tm1]
    omega
  · rw [Int32.lt_iff_toInt_lt, show (-1000 : Int32).toInt = -1000 from rfl] at h
    rw [Int32.le_iff_toInt_le, hl_t40] at h'
    unfold hl_R
    rw [hl_t40]
    omega
theorem hl_R40 {rr : Int32} (h : hl_R u rr) : rr.toInt ≤ 40 := by
  unfold hl_R at h
  omega
/-- the law behind its two conditions -/
theorem hl_tail {post : Int32 → St0 → Prop} {mc ms kc ks : Nat} {f g : Int32} (H : post 1 ())
    (hok : ∀ (rr tt : Int32) (m t : Nat), hl_R u rr → hl_R v tt → ((rr.toInt < 0 ∨ tt.toInt < 0) → m = 0 ∧ t = 40) → (0 ≤ rr.toInt → 0 ≤ tt.toInt → rr.toInt + 1 = (m : Int) ∧ tt.toInt = (t : Int)) → hl_ok m t c a1 a2 a3) :
    wpL_reach (fun r_83 => (wpL_reach (fun r_84 => (((r_83 < 0 → (wL_lawOf_49 post mc ms f g r_83 r_84 kc ks c 0 ct a1 a2 a3 a4 a5 a6 a7)) ∧ (¬ r_83 < 0 → (((0 ≤ r_84 → (wL_lawOf_54 post mc ms f g r_83 r_84 0 kc ks c 0 ct a1 a2 a3 a4 a5 a6 a7)) ∧ (¬ 0 ≤ r_84 → (wL_lawOf_49 post mc ms f g r_83 r_84 kc ks c 0 ct a1 a2 a3 a4 a5 a6 a7)))))))) () v)) () u := by
  refine hl_reach (fun rr hr => hl_reach (fun tt ht => br_c (fun h => ?_) (fun h => br_c (fun h' => ?_) (fun h' => ?_))))
  · rw [Int32.lt_iff_toInt_lt, hl_t0] at h
    unfold wL_lawOf_49
    exact hl_54 H (Or.inr ⟨rfl, rfl⟩) (by omega) (by omega) (hok rr tt 0 40 hr ht (fun _ => ⟨rfl, rfl⟩) (fun z => absurd z (by omega)))
  · rw [Int32.lt_iff_toInt_lt, hl_t0] at h
    rw [Int32.le_iff_toInt_le, hl_t0] at h'
    have hr40 := hl_R40 hr
    have ht40 := hl_R40 ht
    have e1 : rr = nI rr.toInt.toNat := hl_eqN (by omega) (by omega)
    have e2 : tt = nI tt.toInt.toNat := hl_eqN (by omega) (by omega)
    exact hl_54 (m := rr.toInt.toNat + 1) (t := tt.toInt.toNat) H (Or.inl ⟨rfl, rr.toInt.toNat, rfl, e1, e2⟩) (by omega) (by omega) (hok rr tt _ _ hr ht (fun z => absurd z (by omega)) (fun _ _ => ⟨by omega, by omega⟩))
  · rw [Int32.le_iff_toInt_le, hl_t0] at h'
    unfold wL_lawOf_49
    exact hl_54 H (Or.inr ⟨rfl, rfl⟩) (by omega) (by omega) (hok rr tt 0 40 hr ht (fun _ => ⟨rfl, rfl⟩) (fun _ z => absurd z (by omega)))
theorem hl_lawOf {post : Int32 → St0 → Prop} (H : post 1 ()) (u v f g : Int32) : wpL_lawOf post 8 284 () u v f g := by
  unfold wpL_lawOf
  refine ⟨by omega, by omega, 7, 274, by omega, by omega, ?_⟩
  unfold wpX_init
  dsimp only
  refine ⟨by omega, by omega, by omega, by omega, by omega, by omega, by omega, by omega, by omega, by omega, by omega, by omega, by omega, by omega, ?_⟩
  refine hl_cond (k := 0) (by omega) (by decide) (by decide) (by decide) (by decide) (fun z => absurd z (by decide)) (fun hu => ?_) (fun hu1 hu2 => ?_)
  · refine hl_cond (k := 0) (by omega) (by decide) (by decide) (by decide) (by decide) (fun _ => by decide) (fun hv => hl_tail H ?_) (fun hv1 hv2 => hl_tail H ?_)
    · intro rr tt m t hr ht hn hs
      have er := hr.1 hu
      have et := ht.1 hv
      have h := hs (by omega) (by omega)
      have em : m = 41 := by omega
      have e40 : t = 40 := by omega
      subst em
      subst e40
      exact hl_ok0
    · intro rr tt m t hr ht hn hs
      have er := hr.1 hu
      have et := ht.2 hv1 hv2
      dsimp only
      exact hl_okY (v := v) pk_us pk_us pk_us (fun x hx => by omega) (fun x hx hx' => by omega)
  · refine hl_cond (k := 1) (by omega) (by decide) (by decide) (by decide) (by decide) (fun _ => by decide) (fun hv => hl_tail H ?_) (fun hv1 hv2 => hl_tail H ?_)
    · intro rr tt m t hr ht hn hs
      have er := hr.2 hu1 hu2
      have et := ht.1 hv
      have e40 : t = 40 := by omega
      subst e40
      dsimp only
      exact hl_okX (u := u) pk_us pk_us pk_us hu1 hu2 (fun x hx => by omega) (fun x hx hx' => by omega)
    · intro rr tt m t hr ht hn hs
      have er := hr.2 hu1 hu2
      have et := ht.2 hv1 hv2
      dsimp only
      exact hl_okXY (u := u) (v := v) ((pk_un (show (0 : Nat) ≠ 1 by omega)).trans pk_us) ((pk_un (show (0 : Nat) ≠ 1 by omega)).trans pk_us) ((pk_un (show (0 : Nat) ≠ 1 by omega)).trans pk_us) hu1 hu2 pk_us pk_us pk_us (fun x hx => by omega) (fun x hx hx' => by omega)
theorem hl_cell {P : Int32 → Prop} {xs : Nat → Int32} {L : Nat} (hL : L ≤ 4) (k : Nat) (hk : k < 4) (H : ∀ v, P v) : wpL_cellAt P L xs () (nI k) :=
  pk_le L k (fun _ => H _) (fun z => ⟨pk_in k L z, H _⟩)
end
theorem i_vc (xs : Nat → Int32) (L : Nat) (hL : L ≤ 4) : wpL_law (fun r => r = 1) L xs := by
  unfold wpL_law
  exact hl_cell hL 0 (by omega) (fun u => hl_cell hL 1 (by omega) (fun v => hl_cell hL 2 (by omega) (fun f => hl_cell hL 3 (by omega) (fun g => ⟨8, 284, by omega, by omega, hl_lawOf (post := fun r _ => r = 1) rfl u v f g⟩))))
end
