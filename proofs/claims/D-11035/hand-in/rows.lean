section
/-! the mathematics: sides, areas, coverage, depth, tile order, counting; no program in sight -/
def tr_sd (px py qx qy rx ry : Int32) : Int32 := ((qx - px) * (ry - py)) - ((qy - py) * (rx - px))
def tr_insb (px py qx qy rx ry : Int32) : Bool :=
  decide (0 < tr_sd px py qx qy rx ry) || (decide (tr_sd px py qx qy rx ry = 0) && (decide (qy < py) || (decide (qy = py) && !decide (qx ≤ px))))
def tr_mx (p : Nat) : Int32 := nI (16 * (p % 16) + 8)
def tr_my (p : Nat) : Int32 := nI (16 * (p / 16) + 8)
def tr_E (X Y : Nat → Int32) (j k p : Nat) : Int32 := tr_sd (X j) (Y j) (X k) (Y k) (tr_mx p) (tr_my p)
def tr_I (X Y : Nat → Int32) (j k p : Nat) : Bool := tr_insb (X j) (Y j) (X k) (Y k) (tr_mx p) (tr_my p)
def tr_cov (X Y : Nat → Int32) (p : Nat) : Bool := tr_I X Y 1 2 p && (tr_I X Y 2 0 p && tr_I X Y 0 1 p)
def tr_ar (X Y : Nat → Int32) : Int32 := tr_sd (X 0) (Y 0) (X 1) (Y 1) (X 2) (Y 2)
def tr_dep (X Y D : Nat → Int32) (p : Nat) : Int32 := (((tr_E X Y 1 2 p * D 0) + (tr_E X Y 2 0 p * D 1)) + (tr_E X Y 0 1 p * D 2)) / tr_ar X Y
def tr_cb (v : Int32) : Prop := -64 ≤ v.toInt ∧ v.toInt ≤ 319
def tr_cb3 (X Y : Nat → Int32) : Prop := ∀ i, i < 3 → tr_cb (X i) ∧ tr_cb (Y i)

theorem tr_bm {x : Int} (h1 : -2147483648 ≤ x) (h2 : x < 2147483648) : x.bmod (2 ^ 32) = x := Int.bmod_eq_of_le (by omega) (by omega)
theorem tr_subI {a b : Int32} (h1 : -2147483648 ≤ a.toInt - b.toInt) (h2 : a.toInt - b.toInt < 2147483648) : (a - b).toInt = a.toInt - b.toInt := by
  rw [Int32.toInt_sub]; exact tr_bm h1 h2
theorem tr_addI {a b : Int32} (h1 : -2147483648 ≤ a.toInt + b.toInt) (h2 : a.toInt + b.toInt < 2147483648) : (a + b).toInt = a.toInt + b.toInt := by
  rw [Int32.toInt_add]; exact tr_bm h1 h2
theorem tr_mulI {a b : Int32} (h1 : -2147483648 ≤ a.toInt * b.toInt) (h2 : a.toInt * b.toInt < 2147483648) : (a * b).toInt = a.toInt * b.toInt := by
  rw [Int32.toInt_mul]; exact tr_bm h1 h2
theorem tr_negI {a : Int32} (h1 : -2147483648 < a.toInt) : (-a).toInt = -a.toInt := by
  have := a.toInt_lt
  rw [Int32.toInt_neg]; exact tr_bm (by omega) (by omega)
theorem tr_0I : (0 : Int32).toInt = 0 := by decide
theorem tr_leI {a b : Int32} : a ≤ b ↔ a.toInt ≤ b.toInt := Int32.le_iff_toInt_le
theorem tr_ltI {a b : Int32} : a < b ↔ a.toInt < b.toInt := Int32.lt_iff_toInt_lt
theorem tr_mb {a b A B : Int} (hA : -A ≤ a) (hA' : a ≤ A) (hB : -B ≤ b) (hB' : b ≤ B) : -(A * B) ≤ a * b ∧ a * b ≤ A * B := by
  have h1 : 0 ≤ (A - a) * (B + b) := Int.mul_nonneg (by omega) (by omega)
  have h2 : 0 ≤ (A + a) * (B - b) := Int.mul_nonneg (by omega) (by omega)
  have h3 : 0 ≤ (A - a) * (B - b) := Int.mul_nonneg (by omega) (by omega)
  have h4 : 0 ≤ (A + a) * (B + b) := Int.mul_nonneg (by omega) (by omega)
  simp only [Int.sub_mul, Int.add_mul, Int.mul_sub, Int.mul_add] at h1 h2 h3 h4
  omega
theorem tr_sdI {px py qx qy rx ry : Int32} (h1 : tr_cb px) (h2 : tr_cb py) (h3 : tr_cb qx) (h4 : tr_cb qy) (h5 : tr_cb rx) (h6 : tr_cb ry) :
    (tr_sd px py qx qy rx ry).toInt = (qx.toInt - px.toInt) * (ry.toInt - py.toInt) - (qy.toInt - py.toInt) * (rx.toInt - px.toInt) ∧ -293378 ≤ (tr_sd px py qx qy rx ry).toInt ∧ (tr_sd px py qx qy rx ry).toInt ≤ 293378 := by
  obtain ⟨h1, h1'⟩ := h1
  obtain ⟨h2, h2'⟩ := h2
  obtain ⟨h3, h3'⟩ := h3
  obtain ⟨h4, h4'⟩ := h4
  obtain ⟨h5, h5'⟩ := h5
  obtain ⟨h6, h6'⟩ := h6
  have a1 : (qx - px).toInt = qx.toInt - px.toInt := tr_subI (by omega) (by omega)
  have a2 : (ry - py).toInt = ry.toInt - py.toInt := tr_subI (by omega) (by omega)
  have a3 : (qy - py).toInt = qy.toInt - py.toInt := tr_subI (by omega) (by omega)
  have a4 : (rx - px).toInt = rx.toInt - px.toInt := tr_subI (by omega) (by omega)
  have m1 := tr_mb (a := qx.toInt - px.toInt) (b := ry.toInt - py.toInt) (A := 383) (B := 383) (by omega) (by omega) (by omega) (by omega)
  have m2 := tr_mb (a := qy.toInt - py.toInt) (b := rx.toInt - px.toInt) (A := 383) (B := 383) (by omega) (by omega) (by omega) (by omega)
  have e1 : ((qx - px) * (ry - py)).toInt = (qx.toInt - px.toInt) * (ry.toInt - py.toInt) := by
    rw [tr_mulI (by rw [a1, a2]; omega) (by rw [a1, a2]; omega), a1, a2]
  have e2 : ((qy - py) * (rx - px)).toInt = (qy.toInt - py.toInt) * (rx.toInt - px.toInt) := by
    rw [tr_mulI (by rw [a3, a4]; omega) (by rw [a3, a4]; omega), a3, a4]
  have e3 : (tr_sd px py qx qy rx ry).toInt = (qx.toInt - px.toInt) * (ry.toInt - py.toInt) - (qy.toInt - py.toInt) * (rx.toInt - px.toInt) := by
    unfold tr_sd
    rw [tr_subI (by rw [e1, e2]; omega) (by rw [e1, e2]; omega), e1, e2]
  refine ⟨e3, ?_, ?_⟩
  · rw [e3]; omega
  · rw [e3]; omega
theorem tr_mx_cb (p : Nat) : tr_cb (tr_mx p) := by
  unfold tr_cb tr_mx
  rw [nI_toInt (by omega)]
  omega
theorem tr_my_cb {p : Nat} (hp : p < 256) : tr_cb (tr_my p) := by
  unfold tr_cb tr_my
  rw [nI_toInt (by omega)]
  omega
theorem tr_E_b {X Y : Nat → Int32} {j k p : Nat} (h : tr_cb3 X Y) (hj : j < 3) (hk : k < 3) (hp : p < 256) : -293378 ≤ (tr_E X Y j k p).toInt ∧ (tr_E X Y j k p).toInt ≤ 293378 :=
  (tr_sdI (h j hj).1 (h j hj).2 (h k hk).1 (h k hk).2 (tr_mx_cb p) (tr_my_cb hp)).2
theorem tr_ar_b {X Y : Nat → Int32} (h : tr_cb3 X Y) : -293378 ≤ (tr_ar X Y).toInt ∧ (tr_ar X Y).toInt ≤ 293378 :=
  (tr_sdI (h 0 (by omega)).1 (h 0 (by omega)).2 (h 1 (by omega)).1 (h 1 (by omega)).2 (h 2 (by omega)).1 (h 2 (by omega)).2).2
theorem tr_sum3 (ax ay bx bz cx cy x y : Int32) : (tr_sd bx bz cx cy x y + tr_sd cx cy ax ay x y) + tr_sd ax ay bx bz x y = tr_sd ax ay bx bz cx cy := by
  unfold tr_sd
  grind
theorem tr_sum (X Y : Nat → Int32) (p : Nat) : (tr_E X Y 1 2 p + tr_E X Y 2 0 p) + tr_E X Y 0 1 p = tr_ar X Y := tr_sum3 _ _ _ _ _ _ _ _
theorem tr_rot1 (ax ay bx bz cx cy : Int32) : tr_sd bx bz cx cy ax ay = tr_sd ax ay bx bz cx cy := by
  unfold tr_sd
  grind
theorem tr_swp (ax ay bx bz cx cy : Int32) : tr_sd ax ay cx cy bx bz = -tr_sd ax ay bx bz cx cy := by
  unfold tr_sd
  grind
theorem tr_deg (ax ay cx cy : Int32) : tr_sd ax ay ax ay cx cy = 0 := by
  unfold tr_sd
  grind
/-- the own test of an edge -/
def tr_tk1 (dx dy : Int32) : Bool := decide (dy < 0) || (decide (dy = 0) && !decide (dx ≤ 0))
def tr_c1 (s t : Int32) : Bool := !decide (s < 0) && !(decide (s = 0) && decide (t = 0))
theorem tr_pos (s : Int32) : decide (0 < s) = (!decide (s < 0) && !decide (s = 0)) := by
  by_cases h : s < 0
  · have h' := tr_ltI.mp h
    rw [tr_0I] at h'
    have : ¬ 0 < s := fun z => by have := tr_ltI.mp z; rw [tr_0I] at this; omega
    simp [h, this]
  · by_cases h0 : s = 0
    · subst h0
      decide
    · have h1 : ¬ s.toInt < 0 := fun z => h (tr_ltI.mpr (by rw [tr_0I]; exact z))
      have h2 : ¬ s.toInt = 0 := fun z => h0 (Int32.toInt_inj.mp (by rw [tr_0I]; exact z))
      have : 0 < s := tr_ltI.mpr (by rw [tr_0I]; omega)
      simp [h, h0, this]
theorem tr_notboth {s : Int32} : (decide (s < 0) && decide (s = 0)) = false := by
  by_cases h0 : s = 0
  · subst h0
    decide
  · simp [h0]
theorem tr_c1_ins {px py qx qy rx ry : Int32} (h1 : tr_cb px) (h2 : tr_cb py) (h3 : tr_cb qx) (h4 : tr_cb qy) :
    tr_c1 (tr_sd px py qx qy rx ry) (if tr_tk1 (qx - px) (qy - py) then 1 else 0) = tr_insb px py qx qy rx ry := by
  obtain ⟨h1, h1'⟩ := h1
  obtain ⟨h2, h2'⟩ := h2
  obtain ⟨h3, h3'⟩ := h3
  obtain ⟨h4, h4'⟩ := h4
  have a1 : (qx - px).toInt = qx.toInt - px.toInt := tr_subI (by omega) (by omega)
  have a3 : (qy - py).toInt = qy.toInt - py.toInt := tr_subI (by omega) (by omega)
  have e1 : (qy - py < 0) ↔ qy < py := by
    rw [tr_ltI, tr_ltI, a3, tr_0I]; omega
  have e2 : (qy - py = 0) ↔ qy = py := by
    rw [← Int32.toInt_inj, ← Int32.toInt_inj, a3, tr_0I]; omega
  have e3 : (qx - px ≤ 0) ↔ qx ≤ px := by
    rw [tr_leI, tr_leI, a1, tr_0I]; omega
  unfold tr_c1 tr_insb tr_tk1
  rw [decide_eq_decide.mpr e1, decide_eq_decide.mpr e2, decide_eq_decide.mpr e3, tr_pos]
  generalize tr_sd px py qx qy rx ry = s
  have hb := tr_notboth (s := s)
  revert hb
  generalize decide (s < 0) = b1
  generalize decide (s = 0) = b2
  generalize decide (qy < py) = b3
  generalize decide (qy = py) = b4
  generalize decide (qx ≤ px) = b5
  cases b1 <;> cases b2 <;> cases b3 <;> cases b4 <;> cases b5 <;> decide
theorem tr_ins_nn {px py qx qy rx ry : Int32} (h : tr_insb px py qx qy rx ry = true) : 0 ≤ (tr_sd px py qx qy rx ry).toInt := by
  unfold tr_insb at h
  rw [tr_pos] at h
  by_cases g : tr_sd px py qx qy rx ry < 0
  · have g0 : ¬ tr_sd px py qx qy rx ry = 0 := fun z => by rw [z] at g; exact absurd g (by decide)
    simp [g, g0] at h
  · rw [tr_ltI, tr_0I] at g
    omega
theorem tr_nI_of {x : Int32} (h : 0 ≤ x.toInt) : ∃ n : Nat, x = nI n ∧ (n : Int) = x.toInt := by
  obtain ⟨j, hj, e⟩ := nI_of (x := x) (fun z => by rw [tr_ltI, tr_0I] at z; omega)
  exact ⟨j, e, by rw [e, nI_toInt hj]⟩
theorem tr_covN {X Y : Nat → Int32} {p : Nat} (h : tr_cb3 X Y) (hp : p < 256) (hc : tr_cov X Y p = true) :
    ∃ n0 n1 n2 : Nat, tr_E X Y 1 2 p = nI n0 ∧ tr_E X Y 2 0 p = nI n1 ∧ tr_E X Y 0 1 p = nI n2 ∧ tr_ar X Y = nI (n0 + n1 + n2) ∧ n0 + n1 + n2 ≤ 293378 := by
  unfold tr_cov at hc
  simp only [Bool.and_eq_true] at hc
  obtain ⟨c0, c1, c2⟩ := hc
  obtain ⟨n0, e0, f0⟩ := tr_nI_of (x := tr_E X Y 1 2 p) (tr_ins_nn c0)
  obtain ⟨n1, e1, f1⟩ := tr_nI_of (x := tr_E X Y 2 0 p) (tr_ins_nn c1)
  obtain ⟨n2, e2, f2⟩ := tr_nI_of (x := tr_E X Y 0 1 p) (tr_ins_nn c2)
  have b0 := tr_E_b h (j := 1) (k := 2) (by omega) (by omega) hp
  have b1 := tr_E_b h (j := 2) (k := 0) (by omega) (by omega) hp
  have b2 := tr_E_b h (j := 0) (k := 1) (by omega) (by omega) hp
  have ea : tr_ar X Y = nI (n0 + n1 + n2) := by
    rw [← tr_sum X Y p, e0, e1, e2, nI_add, nI_add]
  have ba := tr_ar_b h
  rw [ea, nI_toInt (by omega)] at ba
  exact ⟨n0, n1, n2, e0, e1, e2, ea, by omega⟩
theorem tr_divle {n0 n1 n2 m0 m1 m2 : Nat} (h0 : m0 ≤ 255) (h1 : m1 ≤ 255) (h2 : m2 ≤ 255) : n0 * m0 + n1 * m1 + n2 * m2 ≤ (n0 + n1 + n2) * 255 := by
  have a0 := Nat.mul_le_mul_left n0 h0
  have a1 := Nat.mul_le_mul_left n1 h1
  have a2 := Nat.mul_le_mul_left n2 h2
  rw [Nat.add_mul, Nat.add_mul]
  omega
theorem tr_wavg {n0 n1 n2 m0 m1 m2 : Nat} (hA : n0 + n1 + n2 ≤ 293378) (hp : 0 < n0 + n1 + n2) (h0 : m0 ≤ 255) (h1 : m1 ≤ 255) (h2 : m2 ≤ 255) :
    ∃ m : Nat, m ≤ 255 ∧ (((nI n0 * nI m0) + (nI n1 * nI m1)) + (nI n2 * nI m2)) / nI (n0 + n1 + n2) = nI m := by
  have hs := tr_divle (n0 := n0) (n1 := n1) (n2 := n2) h0 h1 h2
  refine ⟨(n0 * m0 + n1 * m1 + n2 * m2) / (n0 + n1 + n2), ?_, ?_⟩
  · apply Nat.div_le_of_le_mul
    exact hs
  · rw [pk_mul, pk_mul, pk_mul, nI_add, nI_add]
    exact pk_div (by omega) hp (by omega)
theorem tr_wsame {n0 n1 n2 c : Nat} (hA : n0 + n1 + n2 ≤ 293378) (hp : 0 < n0 + n1 + n2) (hc : c ≤ 255) :
    (((0 + nI n0 * nI c) + (nI n1 * nI c)) + (nI n2 * nI c)) / nI (n0 + n1 + n2) = nI c := by
  have hs := tr_divle (n0 := n0) (n1 := n1) (n2 := n2) hc hc hc
  have e : (((0 + nI n0 * nI c) + (nI n1 * nI c)) + (nI n2 * nI c)) = nI ((n0 + n1 + n2) * c) := by
    rw [pk_mul, pk_mul, pk_mul, show (0 : Int32) + nI (n0 * c) = nI (n0 * c) from by rw [← nI_0, nI_add, Nat.zero_add], nI_add, nI_add, Nat.add_mul, Nat.add_mul]
  rw [e, pk_div (by rw [Nat.add_mul, Nat.add_mul]; omega) hp (by omega), Nat.mul_div_cancel_left c hp]
/-- the depth at a covered pixel -/
theorem tr_depN {X Y D : Nat → Int32} {p : Nat} (h : tr_cb3 X Y) (hp : p < 256) (hc : tr_cov X Y p = true) (ha : ¬ tr_ar X Y ≤ 0) (hD : ∀ i, i < 3 → ∃ m : Nat, m ≤ 255 ∧ D i = nI m) :
    ∃ m : Nat, m ≤ 255 ∧ tr_dep X Y D p = nI m := by
  obtain ⟨n0, n1, n2, e0, e1, e2, ea, hA⟩ := tr_covN h hp hc
  obtain ⟨m0, l0, d0⟩ := hD 0 (by omega)
  obtain ⟨m1, l1, d1⟩ := hD 1 (by omega)
  obtain ⟨m2, l2, d2⟩ := hD 2 (by omega)
  have hpos : 0 < n0 + n1 + n2 := by
    apply Nat.pos_of_ne_zero
    intro z
    rw [ea, z, nI_0] at ha
    exact ha (by decide)
  unfold tr_dep
  rw [e0, e1, e2, ea, d0, d1, d2]
  exact tr_wavg hA hpos l0 l1 l2
theorem tr_or (a b : Nat) : nI a ||| nI b = nI (a ||| b) := by
  apply Int32.toBitVec_inj.1
  show BitVec.ofNat 32 a ||| BitVec.ofNat 32 b = BitVec.ofNat 32 (a ||| b)
  apply BitVec.eq_of_getLsbD_eq
  intro i hi
  simp [hi]
theorem tr_shor {a b : Nat} (hb : b < 256) (ha : a * 256 + b < 2 ^ 32) : (nI a <<< ((8 : Int32) &&& 31)) ||| nI b = nI (a * 256 + b) := by
  rw [pk_shlN _ 8 (by decide) (by omega), tr_or]
  have := Nat.two_pow_add_eq_or_of_lt (i := 8) (b := b) (by omega) a
  rw [show a * 2 ^ 8 = 2 ^ 8 * a from Nat.mul_comm _ _, ← this, show 2 ^ 8 * a + b = a * 256 + b from by omega]
/-! tile order -/
def tr_px (k : Nat) : Nat := 16 * (4 * (k / 64) + k % 16 / 4) + 4 * (k / 16 % 4) + k % 4
theorem tr_px_px {k : Nat} (h : k < 256) : tr_px (tr_px k) = k := by
  have := (by decide +kernel : ∀ k, k < 256 → tr_px (tr_px k) = k)
  exact this k h
theorem tr_px_lt {k : Nat} (h : k < 256) : tr_px k < 256 := by
  unfold tr_px
  omega
theorem tr_px_tile {t v u : Nat} (hv : v < 4) (hu : u < 4) : tr_px (16 * t + 4 * v + u) = 16 * (4 * (t / 4) + v) + 4 * (t % 4) + u := by
  unfold tr_px
  omega
def tr_cn (f : Nat → Bool) : Nat → Nat
  | 0 => 0
  | n + 1 => tr_cn f n + (if f n then 1 else 0)
theorem tr_cn_congr {f g : Nat → Bool} : ∀ n, (∀ p, p < n → f p = g p) → tr_cn f n = tr_cn g n
  | 0, _ => rfl
  | n + 1, h => by
    unfold tr_cn
    rw [tr_cn_congr n (fun p hp => h p (by omega)), h n (by omega)]
theorem tr_cn_one {f g : Nat → Bool} {q : Nat} (hf : f q = false) (hg : g q = true) (h : ∀ p, p ≠ q → f p = g p) : ∀ n, q < n → tr_cn g n = tr_cn f n + 1
  | 0, hq => absurd hq (by omega)
  | n + 1, hq => by
    unfold tr_cn
    by_cases e : q = n
    · subst e
      rw [hf, hg, tr_cn_congr (f := f) (g := g) q (fun p hp => h p (by omega))]
      simp
    · rw [tr_cn_one hf hg h n (by omega), h n (by omega)]
      omega
theorem tr_cn_none {f : Nat → Bool} : ∀ n, (∀ p, p < n → f p = false) → tr_cn f n = 0
  | 0, _ => rfl
  | n + 1, h => by
    unfold tr_cn
    rw [tr_cn_none n (fun p hp => h p (by omega)), h n (by omega)]
    rfl
/-- how many of f's pixels lie among the first k in tile order -/
def tr_H (f : Nat → Bool) (k : Nat) : Nat := tr_cn (fun p => f p && decide (tr_px p < k)) 256
theorem tr_H_0 (f : Nat → Bool) : tr_H f 0 = 0 := tr_cn_none 256 (fun p _ => by simp)
theorem tr_H_256 (f : Nat → Bool) : tr_H f 256 = tr_cn f 256 := tr_cn_congr 256 (fun p hp => by simp [tr_px_lt hp])
theorem tr_dk {k p : Nat} (hk : k < 256) (h : p ≠ tr_px k) (hp : p < 256) : decide (tr_px p < k) = decide (tr_px p < k + 1) := by
  apply decide_eq_decide.mpr
  have : tr_px p ≠ k := fun z => h (by rw [← z, tr_px_px hp])
  omega
theorem tr_H_hit {f : Nat → Bool} {k : Nat} (hk : k < 256) (h : f (tr_px k) = true) : tr_H f (k + 1) = tr_H f k + 1 := by
  unfold tr_H
  rw [tr_cn_congr (g := fun p => if p < 256 then f p && decide (tr_px p < k + 1) else false) 256 (fun p hp => by simp [hp])]
  rw [tr_cn_congr (f := fun p => f p && decide (tr_px p < k)) (g := fun p => if p < 256 then f p && decide (tr_px p < k) else false) 256 (fun p hp => by simp [hp])]
  refine tr_cn_one (q := tr_px k) ?_ ?_ ?_ 256 (tr_px_lt hk)
  · simp [tr_px_px hk]
  · simp [tr_px_px hk, h, tr_px_lt hk]
  · intro p hp
    by_cases g : p < 256
    · simp only [g, if_true]
      rw [tr_dk hk hp g]
    · simp only [g, if_false]
theorem tr_H_miss {f : Nat → Bool} {k : Nat} (hk : k < 256) (h : f (tr_px k) = false) : tr_H f (k + 1) = tr_H f k := by
  unfold tr_H
  refine tr_cn_congr 256 (fun p hp => ?_)
  by_cases e : p = tr_px k
  · subst e
    simp [h]
  · rw [tr_dk hk e hp]
end
section
/-! the small methods -/
theorem tr_in {n : Nat} (N : Nat) (h : n < N) (hN : N < 2 ^ 31 := by omega) : vp_in (nI n) N := vp_in_nI h hN
theorem tr_m3 (a : Nat) : (3 : Int32) * nI a = nI (3 * a) := pk_mul 3 a
theorem tr_m8 (a : Nat) : (8 : Int32) * nI a = nI (8 * a) := pk_mul 8 a
theorem tr_m16 (a : Nat) : (16 : Int32) * nI a = nI (16 * a) := pk_mul 16 a
theorem tr_m4 (a : Nat) : (4 : Int32) * nI a = nI (4 * a) := pk_mul 4 a
theorem tr_i3 (r i d : Nat) (h : i < 1000) (hd : d < 1000) : ((3 : Int32) * nI r) + ((nI i + nI d) - (nI i + nI d) / 3 * 3) = nI (3 * r + (i + d) % 3) := by
  rw [nI_add i d, show nI (i + d) - nI (i + d) / 3 * 3 = nI ((i + d) % 3) from pk_rem (d := 3) (by omega) (by omega) (by omega), tr_m3, nI_add]
theorem tr_u0 {f : Nat → Int32} {i : Nat} {v : Int32} (h : i < 2 ^ 31) : upd f (nI i).toNatClampNeg v i = v := by
  rw [nI_clamp h, pk_us]
theorem tr_u1 {f : Nat → Int32} {i j : Nat} {v : Int32} (h : i < 2 ^ 31) (hj : j ≠ i) : upd f (nI i).toNatClampNeg v j = f j := by
  rw [nI_clamp h, pk_un hj]
theorem tr_isIn {post : Int32 → Prop} {u : St0} {n N : Nat} (h : n < N) (hN : N < 2 ^ 31) (hp : post 1) : wpX_isIn post u (nI n) (nI N) :=
  br_f (nI_pos (by omega)) (br_f (nI_ge h hN) hp)
theorem tr_findF {post : St2 → Prop} {bx ht rc fa : Int32} {a1 a2 a3 a4 a5 a6 a7 a8 a9 a10 a11 a12 a13 a14 a15 a16 a17 a18 a19 a20 a21 a22 a23 a24 a25 a26 : Nat → Int32} {t : Nat} (ht' : t < 16)
    (h : ∀ f, (∀ j, j < 16 → a2 (16 * (4 * (t / 4) + j / 4) + 4 * (t % 4) + j % 4) ≤ f) → post (bx, ht, rc, f, a1, a2, a3, a4, a5, a6, a7, a8, a9, a10, a11, a12, a13, a14, a15, a16, a17, a18, a19, a20, a21, a22, a23, a24, a25, a26)) :
    wpX_findFarthest post (bx, ht, rc, fa, a1, a2, a3, a4, a5, a6, a7, a8, a9, a10, a11, a12, a13, a14, a15, a16, a17, a18, a19, a20, a21, a22, a23, a24, a25, a26) (nI (4 * (t % 4))) (nI (4 * (t / 4))) := by
  refine pk_loop (fun n i s => wX_findFarthest_7 post (nI (4 * (t % 4))) (nI (4 * (t / 4))) bx ht rc a1 a2 a3 a4 a5 a6 a7 a8 a9 a10 a11 a12 a13 a14 a15 a16 a17 a18 a19 a20 a21 a22 a23 a24 a25 a26 n (nI i) s)
    (fun i s => ∀ j, j < i → a2 (16 * (4 * (t / 4) + j / 4) + 4 * (t % 4) + j % 4) ≤ s) 16 0 0 (by omega) (fun j hj => absurd hj (by omega)) ?_ ?_
  · intro n s hI
    exact pk_le 16 16 (fun _ => h s hI) (fun z => absurd z (by omega))
  · intro n i s hi hI hw
    have e : ((16 * (nI (4 * (t / 4)) + (nI i >>> ((2 : Int32) &&& 31)))) + nI (4 * (t % 4))) + (nI i &&& 3) = nI (16 * (4 * (t / 4) + i / 4) + 4 * (t % 4) + i % 4) := by
      rw [pk_shrN (by omega) _ 2 (by decide), pk_andN (by omega) 2 (by decide), nI_add, tr_m16, nI_add, nI_add]
    refine pk_le 16 i (fun z => absurd z (by omega)) (fun _ => ⟨pk_in _ 256 (by omega) e, fun x4 ex => ?_⟩)
    rw [e, nI_clamp (by omega)] at ex
    refine br_c (fun g => nm_r (nI_1 i) (hw s ?_)) (fun g => nm_r (nI_1 i) (hw x4 ?_))
    · intro j hj
      by_cases ej : j = i
      · rw [ej, ← ex]; exact g
      · exact hI j (by omega)
    · intro j hj
      by_cases ej : j = i
      · rw [ej, ← ex]; exact Int32.le_refl _
      · exact Int32.le_trans (hI j (by omega)) (Int32.le_of_lt (Int32.not_le.mp g))
theorem tr_b93 {post : Int32 → Prop} {bx ht rc fa : Int32} {a1 a2 a3 a4 a5 a6 a7 a8 a9 a10 a11 a12 a13 a14 a15 a16 a17 a18 a19 a20 a21 a22 a23 a24 a25 a26 : Nat → Int32} {x2 z0 : Int32} (h1 : (x2 = 3 → ¬ z0 ≤ fa) → post 1) (h0 : post 0) : wX_isBehindAll_93 post x2 z0 bx ht rc fa a1 a2 a3 a4 a5 a6 a7 a8 a9 a10 a11 a12 a13 a14 a15 a16 a17 a18 a19 a20 a21 a22 a23 a24 a25 a26 :=
  br_c (fun e => br_c (fun _ => h0) (fun _ => h1 (fun z => absurd (e.symm.trans z) (by decide)))) (fun _ => br_c (fun _ => h0) (fun g => h1 (fun _ => g)))
theorem tr_b64 {post : Int32 → Prop} {bx ht rc fa : Int32} {a1 a2 a3 a4 a5 a6 a7 a8 a9 a10 a11 a12 a13 a14 a15 a16 a17 a18 a19 a20 a21 a22 a23 a24 a25 a26 : Nat → Int32} {x2 z0 : Int32} {r : Nat} (hr : r < 12) (h1 : (x2 = 3 → ¬ (z0 ≤ fa ∧ a14 (3 * r + 2) ≤ fa)) → post 1) (h0 : post 0) : wX_isBehindAll_64 post (nI r) x2 z0 bx ht rc fa a1 a2 a3 a4 a5 a6 a7 a8 a9 a10 a11 a12 a13 a14 a15 a16 a17 a18 a19 a20 a21 a22 a23 a24 a25 a26 := by
  have e : ((3 : Int32) * nI r) + 2 = nI (3 * r + 2) := by rw [tr_m3]; exact nI_add (3 * r) 2
  unfold wX_isBehindAll_64
  rw [e, nI_clamp (by omega)]
  exact ⟨tr_in 36 (by omega), br_c (fun _ => tr_b93 (fun z => h1 (fun w g => z w g.1)) h0) (fun _ => ⟨tr_in 36 (by omega), tr_b93 (fun z => h1 (fun w g => z w g.2)) h0⟩)⟩
theorem tr_behind {post : Int32 → Prop} {bx ht rc fa : Int32} {a1 a2 a3 a4 a5 a6 a7 a8 a9 a10 a11 a12 a13 a14 a15 a16 a17 a18 a19 a20 a21 a22 a23 a24 a25 a26 : Nat → Int32} {r : Nat} (hr : r < 12)
    (h1 : ¬ a19 (8 * r) = 1 → (a19 (8 * r) = 3 → ¬ (a14 (3 * r) ≤ fa ∧ a14 (3 * r + 1) ≤ fa ∧ a14 (3 * r + 2) ≤ fa)) → post 1) (h0 : post 0) : wpX_isBehindAll post (bx, ht, rc, fa, a1, a2, a3, a4, a5, a6, a7, a8, a9, a10, a11, a12, a13, a14, a15, a16, a17, a18, a19, a20, a21, a22, a23, a24, a25, a26) (nI r) := by
  have e0 : ((8 : Int32) * nI r) + 0 = nI (8 * r) := by rw [tr_m8]; exact nI_add (8 * r) 0
  have e1 : ((3 : Int32) * nI r) + 1 = nI (3 * r + 1) := by rw [tr_m3]; exact nI_add (3 * r) 1
  have e2 : ((3 : Int32) * nI r) = nI (3 * r) := tr_m3 r
  unfold wpX_isBehindAll
  dsimp only
  rw [e0, e1, e2, nI_clamp (show 8 * r < 2 ^ 31 by omega), nI_clamp (show 3 * r + 1 < 2 ^ 31 by omega), nI_clamp (show 3 * r < 2 ^ 31 by omega)]
  refine ⟨tr_in 96 (by omega), nm_e (br_c (fun g => ⟨tr_in 36 (by omega), nm_e ⟨tr_in 36 (by omega), ?_⟩⟩) (fun g => ?_))⟩
  · have n1 : ¬ a19 (8 * r) = 1 := fun z => by rw [z] at g; exact absurd g (by decide)
    exact br_c (fun _ => tr_b64 hr (fun z => h1 n1 (fun w q => z w ⟨q.1, q.2.2⟩)) h0) (fun _ => ⟨tr_in 36 (by omega), tr_b64 hr (fun z => h1 n1 (fun w q => z w ⟨q.2.1, q.2.2⟩)) h0⟩)
  · exact br_c (fun z => h1 (fun w => absurd (z.symm.trans w) (by decide)) (fun w => absurd (z.symm.trans w) (by decide))) (fun _ => h0)
/-! edges -/
def tr_ed1 (px py qx qy s21 s22 s23 s24 : Int32) : Prop :=
  s21 = (-16) * (qy - py) ∧ s22 = 16 * (qx - px) ∧ s23 = (if tr_tk1 (qx - px) (qy - py) then 1 else 0) ∧ s24 = ((qx - px) * (8 - py)) - ((qy - py) * (8 - px))
def tr_edges (X Y a21 a22 a23 a24 : Nat → Int32) : Prop :=
  ∀ j, j < 3 → tr_ed1 (X ((j + 1) % 3)) (Y ((j + 1) % 3)) (X ((j + 2) % 3)) (Y ((j + 2) % 3)) (a21 j) (a22 j) (a23 j) (a24 j)
theorem tr_nb1 : vp_nar .boolean 1 = 1 := by decide
theorem tr_nb0 : vp_nar .boolean 0 = 0 := by decide
theorem tr_takeEdges {post : St2 → Prop} {bx ht rc fa : Int32} {a1 a2 a3 a4 a5 a6 a7 a8 a9 a10 a11 a12 a13 a14 a15 a16 a17 a18 a19 a20 a21 a22 a23 a24 a25 a26 : Nat → Int32} {r : Nat} {X Y : Nat → Int32} (hr : r < 12) (hX : ∀ i, i < 3 → a12 (3 * r + i) = X i) (hY : ∀ i, i < 3 → a13 (3 * r + i) = Y i)
    (h : ∀ b21 b22 b23 b24, tr_edges X Y b21 b22 b23 b24 → post (bx, ht, rc, fa, a1, a2, a3, a4, a5, a6, a7, a8, a9, a10, a11, a12, a13, a14, a15, a16, a17, a18, a19, a20, b21, b22, b23, b24, a25, a26)) :
    wpX_takeEdges post (bx, ht, rc, fa, a1, a2, a3, a4, a5, a6, a7, a8, a9, a10, a11, a12, a13, a14, a15, a16, a17, a18, a19, a20, a21, a22, a23, a24, a25, a26) (nI r) := by
  refine pk_loop (σ := (Nat → Int32) × (Nat → Int32) × (Nat → Int32) × (Nat → Int32)) (fun n i s => wX_takeEdges_2 post (nI r) bx ht rc fa n (nI i) a1 a2 a3 a4 a5 a6 a7 a8 a9 a10 a11 a12 a13 a14 a15 a16 a17 a18 a19 a20 s.1 s.2.1 s.2.2.1 s.2.2.2 a25 a26)
    (fun i s => ∀ j, j < i → tr_ed1 (X ((j + 1) % 3)) (Y ((j + 1) % 3)) (X ((j + 2) % 3)) (Y ((j + 2) % 3)) (s.1 j) (s.2.1 j) (s.2.2.1 j) (s.2.2.2 j)) 3 0 (a21, a22, a23, a24) (by omega) (fun j hj => absurd hj (by omega)) ?_ ?_
  · intro n s hI
    exact pk_le 3 3 (fun _ => h _ _ _ _ hI) (fun z => absurd z (by omega))
  · intro n i s hi hI hw
    have hp : (i + 1) % 3 < 3 := by omega
    have hq : (i + 2) % 3 < 3 := by omega
    have cp : (nI (3 * r + (i + 1) % 3)).toNatClampNeg = 3 * r + (i + 1) % 3 := nI_clamp (by omega)
    have cq : (nI (3 * r + (i + 2) % 3)).toNatClampNeg = 3 * r + (i + 2) % 3 := nI_clamp (by omega)
    have ip : vp_in (nI (3 * r + (i + 1) % 3)) 36 := tr_in 36 (by omega)
    have iq : vp_in (nI (3 * r + (i + 2) % 3)) 36 := tr_in 36 (by omega)
    have ii : vp_in (nI i) 3 := pk_in i 3 hi
    have ci : (nI i).toNatClampNeg = i := nI_clamp (by omega)
    have key : ∀ z0 : Int32, vp_nar .boolean z0 = (if tr_tk1 (X ((i + 2) % 3) - X ((i + 1) % 3)) (Y ((i + 2) % 3) - Y ((i + 1) % 3)) then 1 else 0) →
        wX_takeEdges_107 post (wX_takeEdges_2 post (nI r) bx ht rc fa n) (nI r) (nI i) (nI (3 * r + (i + 1) % 3)) (X ((i + 2) % 3) - X ((i + 1) % 3)) (Y ((i + 2) % 3) - Y ((i + 1) % 3)) z0 (nI i)
          bx ht rc fa a1 a2 a3 a4 a5 a6 a7 a8 a9 a10 a11 a12 a13 a14 a15 a16 a17 a18 a19 a20 (upd s.1 i ((-16) * (Y ((i + 2) % 3) - Y ((i + 1) % 3)))) (upd s.2.1 i (16 * (X ((i + 2) % 3) - X ((i + 1) % 3)))) s.2.2.1 s.2.2.2 a25 a26 := by
      intro z0 hz
      unfold wX_takeEdges_107
      rw [cp, ci, hX _ hp, hY _ hp, hz]
      have nx := hw (upd s.1 i ((-16) * (Y ((i + 2) % 3) - Y ((i + 1) % 3))), upd s.2.1 i (16 * (X ((i + 2) % 3) - X ((i + 1) % 3))), upd s.2.2.1 i (if tr_tk1 (X ((i + 2) % 3) - X ((i + 1) % 3)) (Y ((i + 2) % 3) - Y ((i + 1) % 3)) then 1 else 0), upd s.2.2.2 i (((X ((i + 2) % 3) - X ((i + 1) % 3)) * (8 - Y ((i + 1) % 3))) - ((Y ((i + 2) % 3) - Y ((i + 1) % 3)) * (8 - X ((i + 1) % 3))))) (by
        intro j hj
        dsimp only
        by_cases e : j = i
        · subst e
          rw [pk_us, pk_us, pk_us, pk_us]
          exact ⟨rfl, rfl, rfl, rfl⟩
        · rw [pk_un e, pk_un e, pk_un e, pk_un e]
          exact hI j (by omega))
      exact ⟨ii, nm_e ⟨ip, ip, ii, nm_e (nm_r (nI_1 i) nx)⟩⟩
    refine pk_le 3 i (fun z => absurd z (by omega)) (fun _ => ⟨by decide, nm_r (tr_i3 r i 1 (by omega) (by omega)) ⟨by decide, nm_r (tr_i3 r i 2 (by omega) (by omega)) ?_⟩⟩)
    rw [cp, cq, ci, hX _ hp, hX _ hq, hY _ hp, hY _ hq]
    refine ⟨iq, ip, nm_e ⟨iq, ip, nm_e ⟨ii, nm_e ⟨ii, nm_e ?_⟩⟩⟩⟩
    refine br_c (fun g => key 1 ?_) (fun g => br_c (fun g0 => br_c (fun g1 => key 0 ?_) (fun g1 => key 1 ?_)) (fun g0 => key 0 ?_))
    · rw [tr_nb1]; simp [tr_tk1, g]
    · rw [tr_nb0]; simp [tr_tk1, g, g0, g1]
    · rw [tr_nb1]; simp [tr_tk1, g, g0, g1]
    · rw [tr_nb0]; simp [tr_tk1, g, g0]
/-- the greatest side in a tile, as the renderer reckons it -/
def tr_most (s21 s22 s24 x y : Int32) : Int32 := (((s24 + (s21 * x)) + (s22 * y)) + (if s21 ≤ 0 then 0 else s21 * 3)) + (if s22 ≤ 0 then 0 else s22 * 3)
theorem tr_isOutside {post : Int32 → Prop} {bx ht rc fa : Int32} {a1 a2 a3 a4 a5 a6 a7 a8 a9 a10 a11 a12 a13 a14 a15 a16 a17 a18 a19 a20 a21 a22 a23 a24 a25 a26 : Nat → Int32} {x y : Int32} (h0 : post 0) (h1 : ∀ i, i < 3 → ¬ 0 ≤ tr_most (a21 i) (a22 i) (a24 i) x y → post 1) : wpX_isOutside post (bx, ht, rc, fa, a1, a2, a3, a4, a5, a6, a7, a8, a9, a10, a11, a12, a13, a14, a15, a16, a17, a18, a19, a20, a21, a22, a23, a24, a25, a26) x y := by
  refine pk_loop (σ := Unit) (fun n i _ => wX_isOutside_2 post x y bx ht rc fa a1 a2 a3 a4 a5 a6 a7 a8 a9 a10 a11 a12 a13 a14 a15 a16 a17 a18 a19 a20 a21 a22 a23 a24 a25 a26 n (nI i)) (fun _ _ => True) 3 0 () (by omega) trivial ?_ ?_
  · intro n s _
    exact pk_le 3 3 (fun _ => h0) (fun z => absurd z (by omega))
  · intro n i s hi _ hw
    have ii : vp_in (nI i) 3 := pk_in i 3 hi
    have ci : (nI i).toNatClampNeg = i := nI_clamp (by omega)
    have hm := h1 i hi
    unfold tr_most at hm
    have k82 : ∀ z0 z1 : Int32, (¬ 0 ≤ z1 + z0 → post 1) → wX_isOutside_82 post (wX_isOutside_2 post x y bx ht rc fa a1 a2 a3 a4 a5 a6 a7 a8 a9 a10 a11 a12 a13 a14 a15 a16 a17 a18 a19 a20 a21 a22 a23 a24 a25 a26 n) x y (nI i) z0 z1 bx ht rc fa a1 a2 a3 a4 a5 a6 a7 a8 a9 a10 a11 a12 a13 a14 a15 a16 a17 a18 a19 a20 a21 a22 a23 a24 a25 a26 := by
      intro z0 z1 hz
      exact nm_e (br_c (fun _ => nm_r (nI_1 i) (hw () trivial)) (fun g => hz g))
    have k56 : ∀ z0 z1 : Int32, (¬ 0 ≤ (z1 + z0) + (if a22 i ≤ 0 then 0 else a22 i * 3) → post 1) → wX_isOutside_56 post (wX_isOutside_2 post x y bx ht rc fa a1 a2 a3 a4 a5 a6 a7 a8 a9 a10 a11 a12 a13 a14 a15 a16 a17 a18 a19 a20 a21 a22 a23 a24 a25 a26 n) x y (nI i) z0 z1 bx ht rc fa a1 a2 a3 a4 a5 a6 a7 a8 a9 a10 a11 a12 a13 a14 a15 a16 a17 a18 a19 a20 a21 a22 a23 a24 a25 a26 := by
      intro z0 z1 hz
      unfold wX_isOutside_56
      rw [ci]
      refine nm_e ⟨ii, br_c (fun g => k82 _ _ ?_) (fun g => ⟨ii, k82 _ _ ?_⟩)⟩
      · intro q
        refine hz ?_
        rw [if_pos g]; exact q
      · intro q
        refine hz ?_
        rw [if_neg g]; exact q
    refine pk_le 3 i (fun z => absurd z (by omega)) (fun _ => ?_)
    rw [ci]
    refine ⟨ii, ii, ii, nm_e ⟨ii, br_c (fun g => k56 _ _ ?_) (fun g => ⟨ii, k56 _ _ ?_⟩)⟩⟩
    · intro q
      refine hm ?_
      rw [if_pos g]; exact q
    · intro q
      refine hm ?_
      rw [if_neg g]; exact q
theorem tr_goTo {post : St2 → Prop} {bx ht rc fa : Int32} {a1 a2 a3 a4 a5 a6 a7 a8 a9 a10 a11 a12 a13 a14 a15 a16 a17 a18 a19 a20 a21 a22 a23 a24 a25 a26 : Nat → Int32} {x y : Int32} (h : ∀ b25, (∀ j, j < 3 → b25 j = ((a24 j) + ((a21 j) * x)) + ((a22 j) * y)) → post (bx, ht, rc, fa, a1, a2, a3, a4, a5, a6, a7, a8, a9, a10, a11, a12, a13, a14, a15, a16, a17, a18, a19, a20, a21, a22, a23, a24, b25, a26)) : wpX_goTo post (bx, ht, rc, fa, a1, a2, a3, a4, a5, a6, a7, a8, a9, a10, a11, a12, a13, a14, a15, a16, a17, a18, a19, a20, a21, a22, a23, a24, a25, a26) x y := by
  refine pk_loop (fun n i s => wX_goTo_2 post x y bx ht rc fa n (nI i) a1 a2 a3 a4 a5 a6 a7 a8 a9 a10 a11 a12 a13 a14 a15 a16 a17 a18 a19 a20 a21 a22 a23 a24 s a26) (fun i s => ∀ j, j < i → s j = ((a24 j) + ((a21 j) * x)) + ((a22 j) * y)) 3 0 a25 (by omega) (fun j hj => absurd hj (by omega)) ?_ ?_
  · intro n s hI
    exact pk_le 3 3 (fun _ => h s hI) (fun z => absurd z (by omega))
  · intro n i s hi hI hw
    have ii : vp_in (nI i) 3 := pk_in i 3 hi
    refine pk_le 3 i (fun z => absurd z (by omega)) (fun _ => ⟨ii, ii, ii, ii, nm_e (nm_r (nI_1 i) (hw _ ?_))⟩)
    rw [nI_clamp (by omega)]
    intro j hj
    by_cases e : j = i
    · rw [e, pk_us]
    · rw [pk_un e]; exact hI j (by omega)
theorem tr_goOn {post : St2 → Prop} {bx ht rc fa : Int32} {a1 a2 a3 a4 a5 a6 a7 a8 a9 a10 a11 a12 a13 a14 a15 a16 a17 a18 a19 a20 a21 a22 a23 a24 a25 a26 : Nat → Int32} (h : ∀ b25, (∀ j, j < 3 → b25 j = a25 j + a21 j) → post (bx, ht, rc, fa, a1, a2, a3, a4, a5, a6, a7, a8, a9, a10, a11, a12, a13, a14, a15, a16, a17, a18, a19, a20, a21, a22, a23, a24, b25, a26)) : wpX_goOn post (bx, ht, rc, fa, a1, a2, a3, a4, a5, a6, a7, a8, a9, a10, a11, a12, a13, a14, a15, a16, a17, a18, a19, a20, a21, a22, a23, a24, a25, a26) := by
  refine nm_e (nm_e (nm_e (h _ ?_)))
  intro j hj
  match j, hj with
  | 0, _ => simp [upd]
  | 1, _ => simp [upd]
  | 2, _ => simp [upd]
  | j + 3, hj => omega
theorem tr_isCovered {post : Int32 → Prop} {bx ht rc fa : Int32} {a1 a2 a3 a4 a5 a6 a7 a8 a9 a10 a11 a12 a13 a14 a15 a16 a17 a18 a19 a20 a21 a22 a23 a24 a25 a26 : Nat → Int32} (h1 : (∀ j, j < 3 → tr_c1 (a25 j) (a23 j) = true) → post 1) (h0 : ∀ j, j < 3 → tr_c1 (a25 j) (a23 j) = false → post 0) : wpX_isCovered post (bx, ht, rc, fa, a1, a2, a3, a4, a5, a6, a7, a8, a9, a10, a11, a12, a13, a14, a15, a16, a17, a18, a19, a20, a21, a22, a23, a24, a25, a26) := by
  refine pk_loop (σ := Unit) (fun n i _ => wX_isCovered_2 post bx ht rc fa a1 a2 a3 a4 a5 a6 a7 a8 a9 a10 a11 a12 a13 a14 a15 a16 a17 a18 a19 a20 a21 a22 a23 a24 a25 a26 n (nI i)) (fun i _ => ∀ j, j < i → tr_c1 (a25 j) (a23 j) = true) 3 0 () (by omega) (fun j hj => absurd hj (by omega)) ?_ ?_
  · intro n s hI
    exact pk_le 3 3 (fun _ => h1 hI) (fun z => absurd z (by omega))
  · intro n i s hi hI hw
    have ii : vp_in (nI i) 3 := pk_in i 3 hi
    have ci : (nI i).toNatClampNeg = i := nI_clamp (by omega)
    refine pk_le 3 i (fun z => absurd z (by omega)) (fun _ => ?_)
    rw [ci]
    have nx : tr_c1 (a25 i) (a23 i) = true → ∀ j, j < i + 1 → tr_c1 (a25 j) (a23 j) = true := by
      intro hc j hj
      by_cases e : j = i
      · rw [e]; exact hc
      · exact hI j (by omega)
    refine ⟨ii, br_c (fun g => h0 i hi ?_) (fun g => ⟨ii, br_c (fun g0 => ⟨ii, br_c (fun g1 => h0 i hi ?_) (fun g1 => nm_r (nI_1 i) (hw () (nx ?_)))⟩) (fun g0 => nm_r (nI_1 i) (hw () (nx ?_)))⟩)⟩
    · simp [tr_c1, g]
    · simp [tr_c1, g0, g1]
    · simp [tr_c1, g, g1]
    · simp [tr_c1, g, g0]
end
section
/-! a pixel -/
theorem tr_e8 (r d : Nat) : ((8 : Int32) * nI r) + nI d = nI (8 * r + d) := by rw [tr_m8, nI_add]
theorem tr_e3 (r d : Nat) : ((3 : Int32) * nI r) + nI d = nI (3 * r + d) := by rw [tr_m3, nI_add]
theorem tr_ne0 {x : Int32} (h : ¬ x ≤ 0) : ¬ x = 0 := fun z => h (by rw [z]; decide)
theorem tr_depthOf {post : Int32 → Prop} {bx ht rc fa : Int32} {a1 a2 a3 a4 a5 a6 a7 a8 a9 a10 a11 a12 a13 a14 a15 a16 a17 a18 a19 a20 a21 a22 a23 a24 a25 a26 : Nat → Int32} {r : Nat} (hr : r < 12) (h0 : ¬ a20 r ≤ 0)
    (hp : post ((((a25 0 * a14 (3 * r)) + (a25 1 * a14 (3 * r + 1))) + (a25 2 * a14 (3 * r + 2))) / a20 r)) : wpX_depthOf post (bx, ht, rc, fa, a1, a2, a3, a4, a5, a6, a7, a8, a9, a10, a11, a12, a13, a14, a15, a16, a17, a18, a19, a20, a21, a22, a23, a24, a25, a26) (nI r) := by
  have e1 : ((3 : Int32) * nI r) + 1 = nI (3 * r + 1) := tr_e3 r 1
  have e2 : ((3 : Int32) * nI r) + 2 = nI (3 * r + 2) := tr_e3 r 2
  unfold wpX_depthOf
  dsimp only
  rw [e1, e2, tr_m3, nI_clamp (show 3 * r < 2 ^ 31 by omega), nI_clamp (show 3 * r + 1 < 2 ^ 31 by omega), nI_clamp (show 3 * r + 2 < 2 ^ 31 by omega), nI_clamp (show r < 2 ^ 31 by omega)]
  exact ⟨tr_in 36 (by omega), tr_in 36 (by omega), tr_in 36 (by omega), nm_e ⟨tr_in 12 hr, br_f h0 ⟨tr_in 12 hr, tr_ne0 h0, hp⟩⟩⟩
theorem tr_pass64 {post : Int32 → Prop} {bx ht rc fa : Int32} {a1 a2 a3 a4 a5 a6 a7 a8 a9 a10 a11 a12 a13 a14 a15 a16 a17 a18 a19 a20 a21 a22 a23 a24 a25 a26 : Nat → Int32} {r p : Nat} {d : Int32} (hr : r < 12) (hp : p < 256) (h3 : a19 (8 * r + 3) = 0)
    (K : wX_passes_64 post (nI r) (nI p) d bx ht rc fa a1 a2 a3 a4 a5 a6 a7 a8 a9 a10 a11 a12 a13 a14 a15 a16 a17 a18 a19 a20 a21 a22 a23 a24 a25 a26) : wpX_passes post (bx, ht, rc, fa, a1, a2, a3, a4, a5, a6, a7, a8, a9, a10, a11, a12, a13, a14, a15, a16, a17, a18, a19, a20, a21, a22, a23, a24, a25, a26) (nI r) (nI p) d := by
  have e3 : ((8 : Int32) * nI r) + 3 = nI (8 * r + 3) := tr_e8 r 3
  have e5 : ((8 : Int32) * nI r) + 5 = nI (8 * r + 5) := tr_e8 r 5
  unfold wpX_passes
  dsimp only
  rw [e3, e5, nI_clamp (show 8 * r + 3 < 2 ^ 31 by omega), h3]
  have k38 : ∀ z0 : Int32, wX_passes_38 post (nI r) (nI p) d 0 z0 bx ht rc fa a1 a2 a3 a4 a5 a6 a7 a8 a9 a10 a11 a12 a13 a14 a15 a16 a17 a18 a19 a20 a21 a22 a23 a24 a25 a26 := fun z0 => br_f (by decide) (br_f (by decide) K)
  exact ⟨tr_in 96 (by omega), nm_e ⟨tr_in 256 hp, tr_in 96 (by omega), br_c (fun _ => k38 1) (fun _ => k38 0)⟩⟩
theorem tr_passA {post : Int32 → Prop} {bx ht rc fa : Int32} {a1 a2 a3 a4 a5 a6 a7 a8 a9 a10 a11 a12 a13 a14 a15 a16 a17 a18 a19 a20 a21 a22 a23 a24 a25 a26 : Nat → Int32} {r p : Nat} {d : Int32} (hr : r < 12) (hp : p < 256) (h3 : a19 (8 * r + 3) = 0) (h : a19 (8 * r) = 3) (hd : ¬ a2 p < d)
    (K : post 1) : wpX_passes post (bx, ht, rc, fa, a1, a2, a3, a4, a5, a6, a7, a8, a9, a10, a11, a12, a13, a14, a15, a16, a17, a18, a19, a20, a21, a22, a23, a24, a25, a26) (nI r) (nI p) d := by
  refine tr_pass64 hr hp h3 ?_
  have e0 : ((8 : Int32) * nI r) + 0 = nI (8 * r) := tr_e8 r 0
  unfold wX_passes_64
  rw [e0, nI_clamp (show 8 * r < 2 ^ 31 by omega), h]
  refine ⟨tr_in 96 (by omega), nm_e (br_f (by decide) (br_f (by decide) ?_))⟩
  unfold wX_passes_99
  rw [nI_clamp (show p < 2 ^ 31 by omega)]
  exact br_t rfl ⟨tr_in 256 hp, br_f hd K⟩
theorem tr_passB {post : Int32 → Prop} {bx ht rc fa : Int32} {a1 a2 a3 a4 a5 a6 a7 a8 a9 a10 a11 a12 a13 a14 a15 a16 a17 a18 a19 a20 a21 a22 a23 a24 a25 a26 : Nat → Int32} {r p : Nat} {d : Int32} (hr : r < 12) (hp : p < 256) (h3 : a19 (8 * r + 3) = 0) (h : a19 (8 * r) = 2) (hd : ¬ d < a2 p)
    (K : post 0) : wpX_passes post (bx, ht, rc, fa, a1, a2, a3, a4, a5, a6, a7, a8, a9, a10, a11, a12, a13, a14, a15, a16, a17, a18, a19, a20, a21, a22, a23, a24, a25, a26) (nI r) (nI p) d := by
  refine tr_pass64 hr hp h3 ?_
  have e0 : ((8 : Int32) * nI r) + 0 = nI (8 * r) := tr_e8 r 0
  unfold wX_passes_64
  rw [e0, nI_clamp (show 8 * r < 2 ^ 31 by omega), nI_clamp (show p < 2 ^ 31 by omega), h]
  exact ⟨tr_in 96 (by omega), nm_e (br_f (by decide) (br_t rfl ⟨tr_in 256 hp, br_f hd (br_f (by decide) K)⟩))⟩
theorem tr_passC {post : Int32 → Prop} {bx ht rc fa : Int32} {a1 a2 a3 a4 a5 a6 a7 a8 a9 a10 a11 a12 a13 a14 a15 a16 a17 a18 a19 a20 a21 a22 a23 a24 a25 a26 : Nat → Int32} {r p : Nat} {d : Int32} (hr : r < 12) (hp : p < 256) (h3 : a19 (8 * r + 3) = 0) (h : a19 (8 * r) = 1)
    (K : post 1) : wpX_passes post (bx, ht, rc, fa, a1, a2, a3, a4, a5, a6, a7, a8, a9, a10, a11, a12, a13, a14, a15, a16, a17, a18, a19, a20, a21, a22, a23, a24, a25, a26) (nI r) (nI p) d := by
  refine tr_pass64 hr hp h3 ?_
  have e0 : ((8 : Int32) * nI r) + 0 = nI (8 * r) := tr_e8 r 0
  unfold wX_passes_64
  rw [e0, nI_clamp (show 8 * r < 2 ^ 31 by omega), h]
  exact ⟨tr_in 96 (by omega), nm_e (br_t rfl K)⟩
theorem tr_newMark {post : Int32 → Prop} {bx ht rc fa : Int32} {a1 a2 a3 a4 a5 a6 a7 a8 a9 a10 a11 a12 a13 a14 a15 a16 a17 a18 a19 a20 a21 a22 a23 a24 a25 a26 : Nat → Int32} {r : Nat} {m : Int32} (hr : r < 12) (h : a19 (8 * r + 4) = 2) (K : post ((m + 1) &&& 15)) : wpX_newMark post (bx, ht, rc, fa, a1, a2, a3, a4, a5, a6, a7, a8, a9, a10, a11, a12, a13, a14, a15, a16, a17, a18, a19, a20, a21, a22, a23, a24, a25, a26) (nI r) m := by
  have e4 : ((8 : Int32) * nI r) + 4 = nI (8 * r + 4) := tr_e8 r 4
  have e5 : ((8 : Int32) * nI r) + 5 = nI (8 * r + 5) := tr_e8 r 5
  unfold wpX_newMark
  dsimp only
  rw [e4, e5, nI_clamp (show 8 * r + 4 < 2 ^ 31 by omega), h]
  exact ⟨tr_in 96 (by omega), nm_e ⟨tr_in 96 (by omega), nm_e (br_f (by decide) (br_f (by decide) (br_t rfl K)))⟩⟩
/-- one of red, green and blue: all three corners have one colour -/
theorem tr_partOf {post : Int32 → Prop} {bx ht rc fa : Int32} {a1 a2 a3 a4 a5 a6 a7 a8 a9 a10 a11 a12 a13 a14 a15 a16 a17 a18 a19 a20 a21 a22 a23 a24 a25 a26 : Nat → Int32} {r c n0 n1 n2 : Nat} {x : Int32} {q : Nat} (hr : r < 12) (hc : ∀ i, i < 3 → a15 (3 * r + i) = nI c)
    (hq : (nI c >>> (x &&& 31)) &&& 255 = nI q) (hq' : q ≤ 255) (hA : n0 + n1 + n2 ≤ 293378) (hpos : 0 < n0 + n1 + n2) (ha : a20 r = nI (n0 + n1 + n2))
    (s0 : a25 0 = nI n0) (s1 : a25 1 = nI n1) (s2 : a25 2 = nI n2) (K : post (nI q)) : wpX_partOf post (bx, ht, rc, fa, a1, a2, a3, a4, a5, a6, a7, a8, a9, a10, a11, a12, a13, a14, a15, a16, a17, a18, a19, a20, a21, a22, a23, a24, a25, a26) (nI r) x := by
  have st : ∀ n i y, i < 3 → wX_partOf_5 post (nI r) x bx ht rc fa a1 a2 a3 a4 a5 a6 a7 a8 a9 a10 a11 a12 a13 a14 a15 a16 a17 a18 a19 a20 a21 a22 a23 a24 a25 a26 n (y + (a25 i * nI q)) (nI (i + 1)) → wX_partOf_5 post (nI r) x bx ht rc fa a1 a2 a3 a4 a5 a6 a7 a8 a9 a10 a11 a12 a13 a14 a15 a16 a17 a18 a19 a20 a21 a22 a23 a24 a25 a26 (n + 1) y (nI i) := by
    intro n i y hi hw
    refine pk_le 3 i (fun z => absurd z (by omega)) (fun _ => ?_)
    rw [tr_e3, nI_clamp (show 3 * r + i < 2 ^ 31 by omega), nI_clamp (show i < 2 ^ 31 by omega), hc i hi, hq]
    exact ⟨pk_in i 3 hi, tr_in 36 (by omega), nm_e (nm_r (nI_1 i) hw)⟩
  refine ⟨4, st 3 0 0 (by omega) (st 2 1 _ (by omega) (st 1 2 _ (by omega) ?_))⟩
  rw [s0, s1, s2]
  refine pk_le 3 3 (fun _ => ?_) (fun z => absurd z (by omega))
  rw [nI_clamp (show r < 2 ^ 31 by omega), ha, tr_wsame hA hpos hq']
  have g : ¬ nI (n0 + n1 + n2) ≤ 0 := nI_nle hpos (by omega)
  exact ⟨tr_in 12 hr, br_f g ⟨tr_in 12 hr, tr_ne0 g, K⟩⟩
theorem tr_own {q : Nat} (hq : q ≤ 255) : (nI q * 255) / 255 = nI q := by
  rw [show nI q * 255 = nI (q * 255) from pk_mul q 255, show nI (q * 255) / 255 = nI (q * 255 / 255) from pk_div (d := 255) (by omega) (by omega) (by omega), Nat.mul_div_cancel q (by omega)]
theorem tr_t126 {post : St2 → Prop} {bx ht rc fa : Int32} {a1 a2 a3 a4 a5 a6 a7 a8 a9 a10 a11 a12 a13 a14 a15 a16 a17 a18 a19 a20 a21 a22 a23 a24 a25 a26 : Nat → Int32} {r c n0 n1 n2 p a q n : Nat} {x : Int32} (hr : r < 12) (hp : p < 256) (hc : ∀ i, i < 3 → a15 (3 * r + i) = nI c)
    (hx : ¬ x < 0) (hw : ((16777215 : Int32) >>> (x &&& 31)) &&& 255 = 255) (hq : (nI c >>> (x &&& 31)) &&& 255 = nI q) (hq' : q ≤ 255) (hA : n0 + n1 + n2 ≤ 293378) (hpos : 0 < n0 + n1 + n2) (ha : a20 r = nI (n0 + n1 + n2))
    (s0 : a25 0 = nI n0) (s1 : a25 1 = nI n1) (s2 : a25 2 = nI n2) (hs : a * 256 + q < 2 ^ 32)
    (K : wX_touch_126 post (nI r) (nI p) 0 16777215 bx ht rc fa a1 a2 a3 a4 a5 a6 a7 a8 a9 a10 a11 a12 a13 a14 a15 a16 a17 a18 a19 a20 a21 a22 a23 a24 a25 a26 n (nI (a * 256 + q)) (x + (-8))) :
    wX_touch_126 post (nI r) (nI p) 0 16777215 bx ht rc fa a1 a2 a3 a4 a5 a6 a7 a8 a9 a10 a11 a12 a13 a14 a15 a16 a17 a18 a19 a20 a21 a22 a23 a24 a25 a26 (n + 1) (nI a) x := by
  refine br_f hx (tr_partOf hr hc hq hq' hA hpos ha s0 s1 s2 ?_)
  rw [hw, tr_own hq']
  refine ⟨by decide, nm_e ⟨tr_in 256 hp, nm_e (br_t rfl (nm_r (tr_shor (by omega) hs) (nm_e K)))⟩⟩
theorem tr_touch1 {post : St2 → Prop} {bx ht rc fa : Int32} {a1 a2 a3 a4 a5 a6 a7 a8 a9 a10 a11 a12 a13 a14 a15 a16 a17 a18 a19 a20 a21 a22 a23 a24 a25 a26 : Nat → Int32} {r c n0 n1 n2 p : Nat} {d : Int32} (hr : r < 12) (hp : p < 256) (hc : ∀ i, i < 3 → a15 (3 * r + i) = nI c) (hc' : c < 16777216)
    (hA : n0 + n1 + n2 ≤ 293378) (hpos : 0 < n0 + n1 + n2) (ha : a20 r = nI (n0 + n1 + n2)) (s0 : a25 0 = nI n0) (s1 : a25 1 = nI n1) (s2 : a25 2 = nI n2)
    (hd : (((a25 0 * a14 (3 * r)) + (a25 1 * a14 (3 * r + 1))) + (a25 2 * a14 (3 * r + 2))) / a20 r = d) (hd' : ¬ a2 p < d) (hm : a3 p = 0)
    (r0 : a19 (8 * r) = 3) (r1 : a19 (8 * r + 1) = 1) (r2 : a19 (8 * r + 2) = 0) (r3 : a19 (8 * r + 3) = 0) (r4 : a19 (8 * r + 4) = 2) (r7 : a19 (8 * r + 7) = 0)
    (K : post (bx, (ht + 1), rc, fa, (upd a1 p (nI c)), (upd a2 p d), (upd a3 p 1), a4, a5, a6, a7, a8, a9, a10, a11, a12, a13, a14, a15, a16, a17, a18, a19, a20, a21, a22, a23, a24, a25, a26)) : wpX_touch post (bx, ht, rc, fa, a1, a2, a3, a4, a5, a6, a7, a8, a9, a10, a11, a12, a13, a14, a15, a16, a17, a18, a19, a20, a21, a22, a23, a24, a25, a26) (nI r) (nI p) := by
  have e1 : ((8 : Int32) * nI r) + 1 = nI (8 * r + 1) := tr_e8 r 1
  have e2 : ((8 : Int32) * nI r) + 2 = nI (8 * r + 2) := tr_e8 r 2
  have e7 : ((8 : Int32) * nI r) + 7 = nI (8 * r + 7) := tr_e8 r 7
  have ip : vp_in (nI p) 256 := tr_in 256 hp
  have cp : (nI p).toNatClampNeg = p := nI_clamp (by omega)
  have g0 : ¬ a20 r ≤ 0 := by rw [ha]; exact nI_nle hpos (by omega)
  unfold wpX_touch
  dsimp only
  refine tr_depthOf hr g0 ?_
  rw [hd]
  refine tr_passA hr hp r3 r0 hd' (br_f (by decide) (nm_e ⟨ip, ?_⟩))
  refine tr_newMark hr r4 ⟨ip, ?_⟩
  rw [cp, hm, e1, nI_clamp (show 8 * r + 1 < 2 ^ 31 by omega), r1, show ((0 : Int32) + 1) &&& 15 = 1 from by decide]
  refine nm_e ⟨tr_in 96 (by omega), br_t rfl ⟨ip, nm_e ?_⟩⟩
  unfold wX_touch_66
  rw [e2, e7, nI_clamp (show 8 * r + 2 < 2 ^ 31 by omega), nI_clamp (show 8 * r + 7 < 2 ^ 31 by omega), r2, r7]
  refine ⟨tr_in 96 (by omega), nm_e (br_f (by decide) ⟨tr_in 96 (by omega), br_f (by decide) ⟨4, ?_⟩⟩)⟩
  have w2 : (nI c >>> ((16 : Int32) &&& 31)) &&& 255 = nI (c / 65536) := by
    rw [pk_shrN (by omega) _ 16 (by decide), pk_andN (by omega) 8 (by decide)]
    exact congrArg nI (by omega)
  have w1 : (nI c >>> ((8 : Int32) &&& 31)) &&& 255 = nI (c / 256 % 256) := by
    rw [pk_shrN (by omega) _ 8 (by decide), pk_andN (by omega) 8 (by decide)]
  have w0 : (nI c >>> ((0 : Int32) &&& 31)) &&& 255 = nI (c % 256) := by
    rw [pk_shrN (by omega) _ 0 (by decide), pk_andN (by omega) 8 (by decide)]
    exact congrArg nI (by omega)
  refine tr_t126 (a := 0) (x := 16) (q := c / 65536) hr hp hc (by decide) (by decide) w2 (by omega) hA hpos ha s0 s1 s2 (by omega) ?_
  refine tr_t126 (x := 8) (q := c / 256 % 256) hr hp hc (by decide) (by decide) w1 (by omega) hA hpos ha s0 s1 s2 (by omega) ?_
  refine tr_t126 (x := 0) (q := c % 256) hr hp hc (by decide) (by decide) w0 (by omega) hA hpos ha s0 s1 s2 (by omega) ?_
  refine br_t (by decide) ⟨ip, ?_⟩
  rw [cp, show ((0 * 256 + c / 65536) * 256 + c / 256 % 256) * 256 + c % 256 = c by omega]
  exact nm_e K
theorem tr_touch2 {post : St2 → Prop} {bx ht rc fa : Int32} {a1 a2 a3 a4 a5 a6 a7 a8 a9 a10 a11 a12 a13 a14 a15 a16 a17 a18 a19 a20 a21 a22 a23 a24 a25 a26 : Nat → Int32} {r p : Nat} (hr : r < 12) (hp : p < 256) (ha : ¬ a20 r ≤ 0)
    (hd : ¬ (((a25 0 * a14 (3 * r)) + (a25 1 * a14 (3 * r + 1))) + (a25 2 * a14 (3 * r + 2))) / a20 r < a2 p)
    (r0 : a19 (8 * r) = 2) (r3 : a19 (8 * r + 3) = 0) (K : post (bx, ht, rc, fa, a1, a2, a3, a4, a5, a6, a7, a8, a9, a10, a11, a12, a13, a14, a15, a16, a17, a18, a19, a20, a21, a22, a23, a24, a25, a26)) : wpX_touch post (bx, ht, rc, fa, a1, a2, a3, a4, a5, a6, a7, a8, a9, a10, a11, a12, a13, a14, a15, a16, a17, a18, a19, a20, a21, a22, a23, a24, a25, a26) (nI r) (nI p) := by
  unfold wpX_touch
  dsimp only
  exact tr_depthOf hr ha (tr_passB hr hp r3 r0 hd (br_t rfl K))
theorem tr_touch3 {post : St2 → Prop} {bx ht rc fa : Int32} {a1 a2 a3 a4 a5 a6 a7 a8 a9 a10 a11 a12 a13 a14 a15 a16 a17 a18 a19 a20 a21 a22 a23 a24 a25 a26 : Nat → Int32} {r p : Nat} (hr : r < 12) (hp : p < 256) (ha : ¬ a20 r ≤ 0)
    (r0 : a19 (8 * r) = 1) (r1 : a19 (8 * r + 1) = 0) (r2 : a19 (8 * r + 2) = 4) (r3 : a19 (8 * r + 3) = 0) (r4 : a19 (8 * r + 4) = 2)
    (K : ∀ b3, post (bx, (ht + 1), rc, fa, a1, a2, b3, a4, a5, a6, a7, a8, a9, a10, a11, a12, a13, a14, a15, a16, a17, a18, a19, a20, a21, a22, a23, a24, a25, a26)) : wpX_touch post (bx, ht, rc, fa, a1, a2, a3, a4, a5, a6, a7, a8, a9, a10, a11, a12, a13, a14, a15, a16, a17, a18, a19, a20, a21, a22, a23, a24, a25, a26) (nI r) (nI p) := by
  have e1 : ((8 : Int32) * nI r) + 1 = nI (8 * r + 1) := tr_e8 r 1
  have e2 : ((8 : Int32) * nI r) + 2 = nI (8 * r + 2) := tr_e8 r 2
  have ip : vp_in (nI p) 256 := tr_in 256 hp
  unfold wpX_touch
  dsimp only
  refine tr_depthOf hr ha (tr_passC hr hp r3 r0 (br_f (by decide) (nm_e ⟨ip, tr_newMark hr r4 ⟨ip, fun b3 _ => ?_⟩⟩)))
  rw [e1, nI_clamp (show 8 * r + 1 < 2 ^ 31 by omega), r1]
  refine ⟨tr_in 96 (by omega), br_f (by decide) ?_⟩
  unfold wX_touch_66
  rw [e2, nI_clamp (show 8 * r + 2 < 2 ^ 31 by omega), r2]
  exact ⟨tr_in 96 (by omega), nm_e (br_t rfl (K b3))⟩
end
section
/-! a record in a tile, and all tiles -/
theorem tr_ed_ring (px py qx qy x y : Int32) : ((((qx - px) * (8 - py)) - ((qy - py) * (8 - px))) + (((-16) * (qy - py)) * x)) + ((16 * (qx - px)) * y) = tr_sd px py qx qy (16 * x + 8) (16 * y + 8) := by
  unfold tr_sd
  grind
theorem tr_16p8 (x : Nat) : (16 : Int32) * nI x + 8 = nI (16 * x + 8) := by
  rw [tr_m16]; exact nI_add (16 * x) 8
theorem tr_sideP {X Y a21 a22 a23 a24 : Nat → Int32} (hE : tr_edges X Y a21 a22 a23 a24) {p x y : Nat} (hx : p % 16 = x) (hy : p / 16 = y) {j : Nat} (hj : j < 3) :
    (a24 j + (a21 j * nI x)) + (a22 j * nI y) = tr_E X Y ((j + 1) % 3) ((j + 2) % 3) p := by
  obtain ⟨h1, h2, _, h4⟩ := hE j hj
  unfold tr_E tr_mx tr_my
  rw [h1, h2, h4, tr_ed_ring, tr_16p8, tr_16p8, hx, hy]
theorem tr_c1I {X Y a21 a22 a23 a24 a25 : Nat → Int32} (h3 : tr_cb3 X Y) (hE : tr_edges X Y a21 a22 a23 a24) {p : Nat} (hs : ∀ j, j < 3 → a25 j = tr_E X Y ((j + 1) % 3) ((j + 2) % 3) p) {j : Nat} (hj : j < 3) :
    tr_c1 (a25 j) (a23 j) = tr_I X Y ((j + 1) % 3) ((j + 2) % 3) p := by
  rw [hs j hj, (hE j hj).2.2.1]
  exact tr_c1_ins (h3 _ (by omega)).1 (h3 _ (by omega)).2 (h3 _ (by omega)).1 (h3 _ (by omega)).2
theorem tr_cov_of {X Y : Nat → Int32} {p : Nat} (h : ∀ j, j < 3 → tr_I X Y ((j + 1) % 3) ((j + 2) % 3) p = true) : tr_cov X Y p = true := by
  have h0 : tr_I X Y 1 2 p = true := h 0 (by omega)
  have h1 : tr_I X Y 2 0 p = true := h 1 (by omega)
  have h2 : tr_I X Y 0 1 p = true := h 2 (by omega)
  unfold tr_cov
  rw [h0, h1, h2]
  rfl
theorem tr_cov_no {X Y : Nat → Int32} {p j : Nat} (hj : j < 3) (h : tr_I X Y ((j + 1) % 3) ((j + 2) % 3) p = false) : tr_cov X Y p = false := by
  have hj' : j = 0 ∨ j = 1 ∨ j = 2 := by omega
  rcases hj' with rfl | rfl | rfl
  · have h0 : tr_I X Y 1 2 p = false := h
    unfold tr_cov
    rw [h0]; rfl
  · have h0 : tr_I X Y 2 0 p = false := h
    unfold tr_cov
    rw [h0]; simp
  · have h0 : tr_I X Y 0 1 p = false := h
    unfold tr_cov
    rw [h0]; simp
theorem tr_ins_neg {px py qx qy rx ry : Int32} (h : tr_sd px py qx qy rx ry < 0) : tr_insb px py qx qy rx ry = false := by
  cases e : tr_insb px py qx qy rx ry with
  | false => rfl
  | true =>
    have := tr_ins_nn e
    rw [tr_ltI, tr_0I] at h
    omega
theorem tr_out1 {s : Int32} (h : -7000 ≤ s.toInt) (h' : s.toInt ≤ 7000) {u : Nat} (hu : u < 4) :
    (s * nI u).toInt ≤ (if s ≤ 0 then 0 else s * 3).toInt ∧ -21000 ≤ (s * nI u).toInt ∧ (if s ≤ 0 then 0 else s * 3 : Int32).toInt ≤ 21000 ∧ 0 ≤ (if s ≤ 0 then 0 else s * 3 : Int32).toInt := by
  have hn : (nI u).toInt = (u : Int) := nI_toInt (by omega)
  have h3 : (3 : Int32).toInt = 3 := by decide
  have m3 : (s * 3).toInt = s.toInt * 3 := by
    rw [tr_mulI (by rw [h3]; omega) (by rw [h3]; omega), h3]
  have mu : (s * nI u).toInt = s.toInt * (u : Int) := by
    have : u = 0 ∨ u = 1 ∨ u = 2 ∨ u = 3 := by omega
    rcases this with e | e | e | e <;> subst e <;> rw [tr_mulI (by rw [hn]; omega) (by rw [hn]; omega), hn]
  have hs : (s ≤ 0) ↔ s.toInt ≤ 0 := by rw [tr_leI, tr_0I]
  by_cases g : s ≤ 0
  · have g' := hs.mp g
    rw [if_pos g, mu, tr_0I]
    have : u = 0 ∨ u = 1 ∨ u = 2 ∨ u = 3 := by omega
    rcases this with e | e | e | e <;> subst e <;> omega
  · have g' : ¬ s.toInt ≤ 0 := fun z => g (hs.mpr z)
    rw [if_neg g, mu, m3]
    have : u = 0 ∨ u = 1 ∨ u = 2 ∨ u = 3 := by omega
    rcases this with e | e | e | e <;> subst e <;> omega
theorem tr_out {b s1 s2 : Int32} (hb : -300000 ≤ b.toInt) (hb' : b.toInt ≤ 300000) (h1 : -7000 ≤ s1.toInt) (h1' : s1.toInt ≤ 7000) (h2 : -7000 ≤ s2.toInt) (h2' : s2.toInt ≤ 7000)
    {u v : Nat} (hu : u < 4) (hv : v < 4) (hm : ¬ 0 ≤ (b + (if s1 ≤ 0 then 0 else s1 * 3)) + (if s2 ≤ 0 then 0 else s2 * 3)) : (b + s1 * nI u) + s2 * nI v < 0 := by
  obtain ⟨p1, p2, p3, p4⟩ := tr_out1 h1 h1' hu
  obtain ⟨q1, q2, q3, q4⟩ := tr_out1 h2 h2' hv
  revert hm p1 p2 p3 p4 q1 q2 q3 q4
  generalize (if s1 ≤ 0 then (0 : Int32) else s1 * 3) = m1
  generalize (if s2 ≤ 0 then (0 : Int32) else s2 * 3) = m2
  generalize s1 * nI u = w1
  generalize s2 * nI v = w2
  intro hm p1 p2 p3 p4 q1 q2 q3 q4
  rw [tr_leI, tr_0I, tr_addI (by rw [tr_addI (by omega) (by omega)]; omega) (by rw [tr_addI (by omega) (by omega)]; omega), tr_addI (by omega) (by omega)] at hm
  rw [tr_ltI, tr_0I, tr_addI (by rw [tr_addI (by omega) (by omega)]; omega) (by rw [tr_addI (by omega) (by omega)]; omega), tr_addI (by omega) (by omega)]
  omega
theorem tr_m16I {a b : Int32} (ha : tr_cb a) (hb : tr_cb b) : -7000 ≤ ((-16) * (a - b)).toInt ∧ ((-16) * (a - b)).toInt ≤ 7000 ∧ -7000 ≤ (16 * (a - b)).toInt ∧ (16 * (a - b)).toInt ≤ 7000 := by
  obtain ⟨ha, ha'⟩ := ha
  obtain ⟨hb, hb'⟩ := hb
  have e : (a - b).toInt = a.toInt - b.toInt := tr_subI (by omega) (by omega)
  have e1 : (-16 : Int32).toInt = -16 := by decide
  have e2 : (16 : Int32).toInt = 16 := by decide
  rw [tr_mulI (by rw [e, e1]; omega) (by rw [e, e1]; omega), tr_mulI (a := 16) (by rw [e, e2]; omega) (by rw [e, e2]; omega), e, e1, e2]
  omega
theorem tr_split (b s1 s2 x u y v : Int32) : (b + s1 * (x + u)) + s2 * (y + v) = (((b + s1 * x) + s2 * y) + s1 * u) + s2 * v := by grind
theorem tr_outP {X Y a21 a22 a23 a24 : Nat → Int32} (h3 : tr_cb3 X Y) (hE : tr_edges X Y a21 a22 a23 a24) {t j : Nat} (ht : t < 16) (hj : j < 3)
    (hm : ¬ 0 ≤ tr_most (a21 j) (a22 j) (a24 j) (nI (4 * (t % 4))) (nI (4 * (t / 4)))) : ∀ k, 16 * t ≤ k → k < 16 * t + 16 → tr_cov X Y (tr_px k) = false := by
  intro k hk1 hk2
  obtain ⟨v, u, hv, hu, rfl⟩ : ∃ v u, v < 4 ∧ u < 4 ∧ k = 16 * t + 4 * v + u := ⟨(k - 16 * t) / 4, (k - 16 * t) % 4, by omega, by omega, by omega⟩
  have c1 := h3 ((j + 1) % 3) (by omega)
  have c2 := h3 ((j + 2) % 3) (by omega)
  have b1 := tr_m16I c2.2 c1.2
  have b2 := tr_m16I c2.1 c1.1
  refine tr_cov_no hj (tr_ins_neg ?_)
  have hs := tr_sideP hE (p := tr_px (16 * t + 4 * v + u)) (x := 4 * (t % 4) + u) (y := 4 * (t / 4) + v) (by rw [tr_px_tile hv hu]; omega) (by rw [tr_px_tile hv hu]; omega) hj
  have h0 := tr_sideP hE (p := tr_px (16 * t + 4 * 0 + 0)) (x := 4 * (t % 4)) (y := 4 * (t / 4)) (by rw [tr_px_tile (by omega) (by omega)]; omega) (by rw [tr_px_tile (by omega) (by omega)]; omega) hj
  have hb := tr_E_b h3 (j := (j + 1) % 3) (k := (j + 2) % 3) (p := tr_px (16 * t + 4 * 0 + 0)) (by omega) (by omega) (tr_px_lt (by omega))
  rw [← h0] at hb
  have hg : tr_sd (X ((j + 1) % 3)) (Y ((j + 1) % 3)) (X ((j + 2) % 3)) (Y ((j + 2) % 3)) (tr_mx (tr_px (16 * t + 4 * v + u))) (tr_my (tr_px (16 * t + 4 * v + u))) = (((a24 j + a21 j * nI (4 * (t % 4))) + a22 j * nI (4 * (t / 4))) + a21 j * nI u) + a22 j * nI v := by
    refine hs.symm.trans ?_
    rw [← nI_add, ← nI_add, tr_split]
  rw [hg]
  obtain ⟨f1, f2, _, _⟩ := hE j hj
  exact tr_out (by omega) (by omega) (by rw [f1]; omega) (by rw [f1]; omega) (by rw [f2]; omega) (by rw [f2]; omega) hu hv hm
/-! the row, the rows, the record -/
section
variable {X Y : Nat → Int32} {Q : Nat → Int32 → (Nat → Int32) → (Nat → Int32) → (Nat → Int32) → Prop} {r t : Nat}
def tr_TQ (X Y : Nat → Int32) (Q : Nat → Int32 → (Nat → Int32) → (Nat → Int32) → (Nat → Int32) → Prop) (r : Nat) (bx rc : Int32) (a4 a5 a6 a7 a8 a9 a10 a11 a12 a13 a14 a15 a16 a17 a18 a19 a20 a26 : Nat → Int32) : Prop :=
  ∀ k, k < 256 → tr_cov X Y (tr_px k) = true → ∀ (fa ht : Int32) (a1 a2 a3 a21 a22 a23 a24 a25 : Nat → Int32) (post : St2 → Prop),
    (∀ j, j < 3 → a25 j = tr_E X Y ((j + 1) % 3) ((j + 2) % 3) (tr_px k)) → Q k ht a1 a2 a3 →
    (∀ h' b1 b2 b3, Q (k + 1) h' b1 b2 b3 → post (bx, h', rc, fa, b1, b2, b3, a4, a5, a6, a7, a8, a9, a10, a11, a12, a13, a14, a15, a16, a17, a18, a19, a20, a21, a22, a23, a24, a25, a26)) → wpX_touch post (bx, ht, rc, fa, a1, a2, a3, a4, a5, a6, a7, a8, a9, a10, a11, a12, a13, a14, a15, a16, a17, a18, a19, a20, a21, a22, a23, a24, a25, a26) (nI r) (nI (tr_px k))
def tr_SQ (X Y : Nat → Int32) (Q : Nat → Int32 → (Nat → Int32) → (Nat → Int32) → (Nat → Int32) → Prop) : Prop :=
  ∀ k, k < 256 → tr_cov X Y (tr_px k) = false → ∀ ht a1 a2 a3, Q k ht a1 a2 a3 → Q (k + 1) ht a1 a2 a3
theorem tr_row {post : St2 → Prop} {J : Int32 → Int32 → Int32 → Int32 → Int32 → (Nat → Int32) → (Nat → Int32) → (Nat → Int32) → (Nat → Int32) → (Nat → Int32) → (Nat → Int32) → (Nat → Int32) → (Nat → Int32) → (Nat → Int32) → (Nat → Int32) → (Nat → Int32) → (Nat → Int32) → (Nat → Int32) → (Nat → Int32) → (Nat → Int32) → (Nat → Int32) → (Nat → Int32) → (Nat → Int32) → (Nat → Int32) → (Nat → Int32) → (Nat → Int32) → (Nat → Int32) → (Nat → Int32) → (Nat → Int32) → (Nat → Int32) → (Nat → Int32) → Prop}
    {bx ht rc fa : Int32} {a1 a2 a3 a4 a5 a6 a7 a8 a9 a10 a11 a12 a13 a14 a15 a16 a17 a18 a19 a20 a21 a22 a23 a24 a25 a26 : Nat → Int32} {x2 x3 x5 x8 : Int32} {v : Nat} (ht' : t < 16) (hv : v < 4) (h3 : tr_cb3 X Y) (hE : tr_edges X Y a21 a22 a23 a24)
    (hT : tr_TQ X Y Q r bx rc a4 a5 a6 a7 a8 a9 a10 a11 a12 a13 a14 a15 a16 a17 a18 a19 a20 a26) (hS : tr_SQ X Y Q) (hQ : Q (16 * t + 4 * v) ht a1 a2 a3)
    (hs : ∀ j, j < 3 → a25 j = ((a24 j) + ((a21 j) * nI (4 * (t % 4)))) + ((a22 j) * nI (4 * (t / 4) + v)))
    (HJ : ∀ h' b1 b2 b3 b25, Q (16 * t + 4 * v + 4) h' b1 b2 b3 → J (nI (4 * (t / 4) + v + 1)) bx h' rc fa b1 b2 b3 a4 a5 a6 a7 a8 a9 a10 a11 a12 a13 a14 a15 a16 a17 a18 a19 a20 a21 a22 a23 a24 b25 a26) :
    ∃ n, wX_drawIn_175 post J (nI r) x2 x3 x5 (nI (4 * (t % 4) + 3)) x8 (nI (4 * (t / 4) + v)) n (nI (4 * (t % 4))) bx ht rc fa a1 a2 a3 a4 a5 a6 a7 a8 a9 a10 a11 a12 a13 a14 a15 a16 a17 a18 a19 a20 a21 a22 a23 a24 a25 a26 := by
  refine pk_loop (σ := Int32 × (Nat → Int32) × (Nat → Int32) × (Nat → Int32) × (Nat → Int32))
    (fun n i s => wX_drawIn_175 post J (nI r) x2 x3 x5 (nI (4 * (t % 4) + 3)) x8 (nI (4 * (t / 4) + v)) n (nI i) bx s.1 rc fa s.2.1 s.2.2.1 s.2.2.2.1 a4 a5 a6 a7 a8 a9 a10 a11 a12 a13 a14 a15 a16 a17 a18 a19 a20 a21 a22 a23 a24 s.2.2.2.2 a26)
    (fun i s => 4 * (t % 4) ≤ i ∧ Q (16 * t + 4 * v + (i - 4 * (t % 4))) s.1 s.2.1 s.2.2.1 s.2.2.2.1 ∧ ∀ j, j < 3 → s.2.2.2.2 j = ((a24 j) + ((a21 j) * nI i)) + ((a22 j) * nI (4 * (t / 4) + v)))
    (4 * (t % 4) + 4) (4 * (t % 4)) (ht, a1, a2, a3, a25) (by omega) ⟨Nat.le_refl _, by rw [Nat.sub_self]; exact hQ, hs⟩ ?_ ?_
  · intro n s hI
    refine pk_lt (4 * (t % 4) + 3) (4 * (t % 4) + 4) (fun _ => nm_r (nI_1 _) (HJ _ _ _ _ _ ?_)) (fun z => absurd z (by omega))
    have := hI.2.1
    rw [show 4 * (t % 4) + 4 - 4 * (t % 4) = 4 by omega] at this
    exact this
  · intro n i s hi hI hw
    have hlo := hI.1
    obtain ⟨u, hu, rfl⟩ : ∃ u, u < 4 ∧ i = 4 * (t % 4) + u := ⟨i - 4 * (t % 4), by omega, by omega⟩
    obtain ⟨_, hQi, hsi⟩ := hI
    rw [show 4 * (t % 4) + u - 4 * (t % 4) = u by omega] at hQi
    have hk : 16 * t + 4 * v + u < 256 := by omega
    have hpx := tr_px_tile (t := t) hv hu
    have hsE : ∀ j, j < 3 → s.2.2.2.2 j = tr_E X Y ((j + 1) % 3) ((j + 2) % 3) (tr_px (16 * t + 4 * v + u)) := by
      intro j hj
      rw [hsi j hj]
      exact tr_sideP hE (by rw [hpx]; omega) (by rw [hpx]; omega) hj
    have k202 : ∀ h' b1 b2 b3, Q (16 * t + 4 * v + u + 1) h' b1 b2 b3 → wX_drawIn_202 post J (wX_drawIn_175 post J (nI r) x2 x3 x5 (nI (4 * (t % 4) + 3)) x8 (nI (4 * (t / 4) + v)) n) (nI r) x2 x3 x5 (nI (4 * (t % 4) + 3)) x8 (nI (4 * (t / 4) + v)) (nI (4 * (t % 4) + u)) bx h' rc fa b1 b2 b3 a4 a5 a6 a7 a8 a9 a10 a11 a12 a13 a14 a15 a16 a17 a18 a19 a20 a21 a22 a23 a24 s.2.2.2.2 a26 := by
      intro h' b1 b2 b3 hq
      unfold wX_drawIn_202
      refine tr_goOn (fun b25 hb => nm_r (nI_1 _) (hw (h', b1, b2, b3, b25) ⟨by omega, ?_, ?_⟩))
      · rw [show 16 * t + 4 * v + (4 * (t % 4) + u + 1 - 4 * (t % 4)) = 16 * t + 4 * v + u + 1 by omega]
        exact hq
      · intro j hj
        show b25 j = _
        rw [hb j hj, hsi j hj, ← nI_1 (4 * (t % 4) + u)]
        grind
    have ep : (16 * nI (4 * (t / 4) + v)) + nI (4 * (t % 4) + u) = nI (tr_px (16 * t + 4 * v + u)) := by
      rw [tr_m16, nI_add, hpx]
      exact congrArg nI (by omega)
    refine pk_lt (4 * (t % 4) + 3) (4 * (t % 4) + u) (fun z => absurd z (by omega)) (fun _ => tr_isCovered (fun hc => br_f (by decide) ?_) (fun j hj hc => br_t rfl (k202 _ _ _ _ (hS _ hk (tr_cov_no hj ?_) _ _ _ _ hQi))))
    · rw [ep]
      refine hT _ hk (tr_cov_of (fun j hj => ?_)) _ _ _ _ _ _ _ _ _ _ _ hsE hQi (fun h' b1 b2 b3 hq => k202 h' b1 b2 b3 hq)
      rw [← tr_c1I h3 hE hsE hj]
      exact hc j hj
    · rw [← tr_c1I h3 hE hsE hj]
      exact hc
theorem tr_rows {post : St2 → Prop} {bx ht rc fa : Int32} {a1 a2 a3 a4 a5 a6 a7 a8 a9 a10 a11 a12 a13 a14 a15 a16 a17 a18 a19 a20 a21 a22 a23 a24 a25 a26 : Nat → Int32} (hr : r < 12) (ht' : t < 16) (h3 : tr_cb3 X Y) (hE : tr_edges X Y a21 a22 a23 a24)
    (hT : tr_TQ X Y Q r bx rc a4 a5 a6 a7 a8 a9 a10 a11 a12 a13 a14 a15 a16 a17 a18 a19 a20 a26) (hS : tr_SQ X Y Q) (hQ : Q (16 * t) ht a1 a2 a3)
    (H : ∀ f h' b1 b2 b3 b25, Q (16 * t + 16) h' b1 b2 b3 → post (bx, h', rc, f, b1, b2, b3, a4, a5, a6, a7, a8, a9, a10, a11, a12, a13, a14, a15, a16, a17, a18, a19, a20, a21, a22, a23, a24, b25, a26)) :
    ∃ n, wX_drawIn_156 post (nI r) (nI (4 * (t % 4))) (nI (4 * (t / 4))) (nI (4 * (t % 4))) (nI (4 * (t % 4) + 3)) (nI (4 * (t / 4) + 3)) n (nI (4 * (t / 4))) bx ht rc fa a1 a2 a3 a4 a5 a6 a7 a8 a9 a10 a11 a12 a13 a14 a15 a16 a17 a18 a19 a20 a21 a22 a23 a24 a25 a26 := by
  refine pk_loop (σ := Int32 × (Nat → Int32) × (Nat → Int32) × (Nat → Int32) × (Nat → Int32))
    (fun n i s => wX_drawIn_156 post (nI r) (nI (4 * (t % 4))) (nI (4 * (t / 4))) (nI (4 * (t % 4))) (nI (4 * (t % 4) + 3)) (nI (4 * (t / 4) + 3)) n (nI i) bx s.1 rc fa s.2.1 s.2.2.1 s.2.2.2.1 a4 a5 a6 a7 a8 a9 a10 a11 a12 a13 a14 a15 a16 a17 a18 a19 a20 a21 a22 a23 a24 s.2.2.2.2 a26)
    (fun i s => 4 * (t / 4) ≤ i ∧ Q (16 * t + 4 * (i - 4 * (t / 4))) s.1 s.2.1 s.2.2.1 s.2.2.2.1)
    (4 * (t / 4) + 4) (4 * (t / 4)) (ht, a1, a2, a3, a25) (by omega) ⟨Nat.le_refl _, by rw [Nat.sub_self]; exact hQ⟩ ?_ ?_
  · intro n s hI
    have hq := hI.2
    rw [show 16 * t + 4 * (4 * (t / 4) + 4 - 4 * (t / 4)) = 16 * t + 16 by omega] at hq
    exact pk_lt (4 * (t / 4) + 3) (4 * (t / 4) + 4) (fun _ => ⟨pk_in (8 * r + 1) 96 (by omega) (tr_e8 r 1), br_c (fun _ => tr_findF ht' (fun f _ => H f _ _ _ _ _ hq)) (fun _ => H _ _ _ _ _ _ hq)⟩) (fun z => absurd z (by omega))
  · intro n i s hi hI hw
    have hlo := hI.1
    obtain ⟨v, hv, rfl⟩ : ∃ v, v < 4 ∧ i = 4 * (t / 4) + v := ⟨i - 4 * (t / 4), by omega, by omega⟩
    have hq := hI.2
    rw [show 16 * t + 4 * (4 * (t / 4) + v - 4 * (t / 4)) = 16 * t + 4 * v by omega] at hq
    refine pk_lt (4 * (t / 4) + 3) (4 * (t / 4) + v) (fun z => absurd z (by omega)) (fun _ => tr_goTo (fun b25 hb => tr_row ht' hv h3 hE hT hS hq hb ?_))
    intro h' b1 b2 b3 c25 hq'
    refine hw (h', b1, b2, b3, c25) ⟨by omega, ?_⟩
    rw [show 16 * t + 4 * (4 * (t / 4) + v + 1 - 4 * (t / 4)) = 16 * t + 4 * v + 4 by omega]
    exact hq'
theorem tr_skip (hS : tr_SQ X Y Q) {ht : Int32} {a1 a2 a3 : Nat → Int32} {a : Nat} : ∀ n, a + n ≤ 256 → (∀ k, a ≤ k → k < a + n → tr_cov X Y (tr_px k) = false) → Q a ht a1 a2 a3 → Q (a + n) ht a1 a2 a3
  | 0, _, _, h => h
  | n + 1, hn, hc, h => hS (a + n) (by omega) (hc (a + n) (by omega) (by omega)) _ _ _ _ (tr_skip hS n (by omega) (fun k h1 h2 => hc k h1 (by omega)) h)
theorem tr_drawIn {post : St2 → Prop} {bx ht rc fa : Int32} {a1 a2 a3 a4 a5 a6 a7 a8 a9 a10 a11 a12 a13 a14 a15 a16 a17 a18 a19 a20 a21 a22 a23 a24 a25 a26 : Nat → Int32} (hr : r < 12) (ht' : t < 16) (h3 : tr_cb3 X Y) (hX : ∀ i, i < 3 → a12 (3 * r + i) = X i) (hY : ∀ i, i < 3 → a13 (3 * r + i) = Y i) (hbox : a18 r = 3855)
    (hT : tr_TQ X Y Q r bx rc a4 a5 a6 a7 a8 a9 a10 a11 a12 a13 a14 a15 a16 a17 a18 a19 a20 a26) (hS : tr_SQ X Y Q) (hQ : Q (16 * t) ht a1 a2 a3)
    (hB : ¬ a19 (8 * r) = 1 → (a19 (8 * r) = 3 → ¬ (a14 (3 * r) ≤ fa ∧ a14 (3 * r + 1) ≤ fa ∧ a14 (3 * r + 2) ≤ fa)) → Q (16 * t + 16) ht a1 a2 a3)
    (H : ∀ f h' b1 b2 b3 b21 b22 b23 b24 b25, Q (16 * t + 16) h' b1 b2 b3 → post (bx, h', rc, f, b1, b2, b3, a4, a5, a6, a7, a8, a9, a10, a11, a12, a13, a14, a15, a16, a17, a18, a19, a20, b21, b22, b23, b24, b25, a26)) :
    wpX_drawIn post (bx, ht, rc, fa, a1, a2, a3, a4, a5, a6, a7, a8, a9, a10, a11, a12, a13, a14, a15, a16, a17, a18, a19, a20, a21, a22, a23, a24, a25, a26) (nI r) (nI (4 * (t % 4))) (nI (4 * (t / 4))) := by
  have f112 : wX_drawIn_112 post (nI r) (nI (4 * (t % 4))) (nI (4 * (t / 4))) (nI (4 * (t % 4))) (nI (4 * (t % 4) + 3)) (nI (4 * (t / 4))) (nI (4 * (t / 4) + 3)) bx ht rc fa a1 a2 a3 a4 a5 a6 a7 a8 a9 a10 a11 a12 a13 a14 a15 a16 a17 a18 a19 a20 a21 a22 a23 a24 a25 a26 := by
    refine pk_lt (4 * (t % 4) + 3) (4 * (t % 4)) (fun z => absurd z (by omega)) (fun _ => pk_lt (4 * (t / 4) + 3) (4 * (t / 4)) (fun z => absurd z (by omega)) (fun _ => ?_))
    refine tr_behind hr (fun g1 g2 => br_f (by decide) (H _ _ _ _ _ _ _ _ _ _ (hB g1 g2))) (br_t rfl ?_)
    refine tr_takeEdges hr hX hY (fun b21 b22 b23 b24 hE => ?_)
    refine tr_isOutside (br_t rfl ?_) (fun j hj hm => br_f (by decide) ?_)
    · exact tr_rows hr ht' h3 hE hT hS hQ (fun f h' b1 b2 b3 b25 hq => H _ _ _ _ _ _ _ _ _ _ hq)
    · exact H _ _ _ _ _ _ _ _ _ _ (tr_skip hS 16 (by omega) (tr_outP h3 hE ht' hj hm) hQ)
  have s3 : ∀ a : Nat, (nI a + 4) - 1 = nI (a + 3) := fun a => by
    rw [show nI a + 4 = nI (a + 4) from nI_add a 4, show nI (a + 4) - 1 = nI (a + 3) from nI_pred (a + 3)]
  have f84 : wX_drawIn_84 post (nI r) (nI (4 * (t % 4))) (nI (4 * (t / 4))) 3855 (nI (4 * (t % 4))) (nI (4 * (t % 4) + 3)) (nI (4 * (t / 4))) bx ht rc fa a1 a2 a3 a4 a5 a6 a7 a8 a9 a10 a11 a12 a13 a14 a15 a16 a17 a18 a19 a20 a21 a22 a23 a24 a25 a26 := by
    unfold wX_drawIn_84
    rw [s3]
    exact pk_le (4 * (t / 4) + 3) 15 (fun _ => f112) (fun z => absurd z (by omega)) rfl (by decide)
  have f60 : wX_drawIn_60 post (nI r) (nI (4 * (t % 4))) (nI (4 * (t / 4))) 3855 (nI (4 * (t % 4))) (nI (4 * (t % 4) + 3)) bx ht rc fa a1 a2 a3 a4 a5 a6 a7 a8 a9 a10 a11 a12 a13 a14 a15 a16 a17 a18 a19 a20 a21 a22 a23 a24 a25 a26 := by
    unfold wX_drawIn_60
    exact pk_le 0 (4 * (t / 4)) (fun _ => f84) (fun z => absurd z (by omega)) (by decide)
  have f26 : wX_drawIn_26 post (nI r) (nI (4 * (t % 4))) (nI (4 * (t / 4))) 3855 (nI (4 * (t % 4))) bx ht rc fa a1 a2 a3 a4 a5 a6 a7 a8 a9 a10 a11 a12 a13 a14 a15 a16 a17 a18 a19 a20 a21 a22 a23 a24 a25 a26 := by
    unfold wX_drawIn_26
    rw [s3]
    exact pk_le (4 * (t % 4) + 3) 15 (fun _ => f60) (fun z => absurd z (by omega)) rfl (by decide)
  unfold wpX_drawIn
  dsimp only
  rw [nI_clamp (show r < 2 ^ 31 by omega), hbox]
  exact ⟨tr_in 12 hr, nm_e (pk_le 0 (4 * (t % 4)) (fun _ => f26) (fun z => absurd z (by omega)) (by decide))⟩
end
theorem tr_flush {post : St2 → Prop} {bx ht fa : Int32} {a1 a2 a3 a4 a5 a6 a7 a8 a9 a10 a11 a12 a13 a14 a15 a16 a17 a18 a19 a20 a21 a22 a23 a24 a25 a26 : Nat → Int32} {N : Nat} (hN : 0 < N) (hN' : N ≤ 12) (J : Nat → Int32 → (Nat → Int32) → (Nat → Int32) → (Nat → Int32) → Prop)
    (Inv : Nat → Nat → Int32 → Int32 → (Nat → Int32) → (Nat → Int32) → (Nat → Int32) → Prop)
    (h0 : J 0 ht a1 a2 a3)
    (hF : ∀ t, t < 16 → ∀ f h b1 b2 b3, J t h b1 b2 b3 → (∀ j, j < 16 → b2 (16 * (4 * (t / 4) + j / 4) + 4 * (t % 4) + j % 4) ≤ f) → Inv t 0 f h b1 b2 b3)
    (hD : ∀ t r, t < 16 → r < N → ∀ (f h : Int32) (b1 b2 b3 b21 b22 b23 b24 b25 : Nat → Int32) (ψ : St2 → Prop), Inv t r f h b1 b2 b3 →
      (∀ f' h' c1 c2 c3 c21 c22 c23 c24 c25, Inv t (r + 1) f' h' c1 c2 c3 → ψ (bx, h', (nI N), f', c1, c2, c3, a4, a5, a6, a7, a8, a9, a10, a11, a12, a13, a14, a15, a16, a17, a18, a19, a20, c21, c22, c23, c24, c25, a26)) →
      wpX_drawIn ψ (bx, h, (nI N), f, b1, b2, b3, a4, a5, a6, a7, a8, a9, a10, a11, a12, a13, a14, a15, a16, a17, a18, a19, a20, b21, b22, b23, b24, b25, a26) (nI r) (nI (4 * (t % 4))) (nI (4 * (t / 4))))
    (hE : ∀ t, t < 16 → ∀ f h b1 b2 b3, Inv t N f h b1 b2 b3 → J (t + 1) h b1 b2 b3)
    (hP : ∀ f h b1 b2 b3 b21 b22 b23 b24 b25, J 16 h b1 b2 b3 → post (bx, h, 0, f, b1, b2, b3, a4, a5, a6, a7, a8, a9, a10, a11, a12, a13, a14, a15, a16, a17, a18, a19, a20, b21, b22, b23, b24, b25, a26)) :
    wpX_flush post (bx, ht, (nI N), fa, a1, a2, a3, a4, a5, a6, a7, a8, a9, a10, a11, a12, a13, a14, a15, a16, a17, a18, a19, a20, a21, a22, a23, a24, a25, a26) := by
  unfold wpX_flush
  dsimp only
  refine br_f (nI_ne0 hN (by omega)) ?_
  refine pk_loop (σ := Int32 × Int32 × (Nat → Int32) × (Nat → Int32) × (Nat → Int32) × (Nat → Int32) × (Nat → Int32) × (Nat → Int32) × (Nat → Int32) × (Nat → Int32))
    (fun n t s => wX_flush_10 post n (nI t) bx s.2.1 (nI N) s.1 s.2.2.1 s.2.2.2.1 s.2.2.2.2.1 a4 a5 a6 a7 a8 a9 a10 a11 a12 a13 a14 a15 a16 a17 a18 a19 a20 s.2.2.2.2.2.1 s.2.2.2.2.2.2.1 s.2.2.2.2.2.2.2.1 s.2.2.2.2.2.2.2.2.1 s.2.2.2.2.2.2.2.2.2 a26)
    (fun t s => J t s.2.1 s.2.2.1 s.2.2.2.1 s.2.2.2.2.1) 16 0 (fa, ht, a1, a2, a3, a21, a22, a23, a24, a25) (by omega) h0 ?_ ?_
  · intro n s hI
    exact pk_le 16 16 (fun _ => hP _ _ _ _ _ _ _ _ _ _ hI) (fun z => absurd z (by omega))
  · intro n t s ht' hI hw
    have e1 : 4 * (nI t &&& 3) = nI (4 * (t % 4)) := by
      rw [pk_andN (by omega) 2 (by decide), tr_m4]
    have e2 : 4 * (nI t >>> ((2 : Int32) &&& 31)) = nI (4 * (t / 4)) := by
      rw [pk_shrN (by omega) _ 2 (by decide), tr_m4]
    refine pk_le 16 t (fun z => absurd z (by omega)) (fun _ => nm_r e1 (nm_r e2 (tr_findF ht' (fun f hf => ?_))))
    refine pk_loop (σ := Int32 × Int32 × (Nat → Int32) × (Nat → Int32) × (Nat → Int32) × (Nat → Int32) × (Nat → Int32) × (Nat → Int32) × (Nat → Int32) × (Nat → Int32))
      (fun m r s => wX_flush_37 post (wX_flush_10 post n) (nI t) (nI (4 * (t % 4))) (nI (4 * (t / 4))) m (nI r) bx s.2.1 (nI N) s.1 s.2.2.1 s.2.2.2.1 s.2.2.2.2.1 a4 a5 a6 a7 a8 a9 a10 a11 a12 a13 a14 a15 a16 a17 a18 a19 a20 s.2.2.2.2.2.1 s.2.2.2.2.2.2.1 s.2.2.2.2.2.2.2.1 s.2.2.2.2.2.2.2.2.1 s.2.2.2.2.2.2.2.2.2 a26)
      (fun r s => Inv t r s.1 s.2.1 s.2.2.1 s.2.2.2.1 s.2.2.2.2.1) N 0 (f, s.2.1, s.2.2.1, s.2.2.2.1, s.2.2.2.2.1, s.2.2.2.2.2.1, s.2.2.2.2.2.2.1, s.2.2.2.2.2.2.2.1, s.2.2.2.2.2.2.2.2.1, s.2.2.2.2.2.2.2.2.2) (by omega) (hF t ht' _ _ _ _ _ hI hf) ?_ ?_
    · intro m q hq
      exact pk_le N N (fun _ => nm_r (nI_1 t) (hw q (hE t ht' _ _ _ _ _ hq))) (fun z => absurd z (by omega))
    · intro m r q hr hq hw2
      refine pk_le N r (fun z => absurd z (by omega)) (fun _ => hD t r ht' hr _ _ _ _ _ _ _ _ _ _ _ hq (fun f' h' c1 c2 c3 c21 c22 c23 c24 c25 hi => nm_r (nI_1 r) (hw2 (f', h', c1, c2, c3, c21, c22, c23, c24, c25) hi)))
end
section
/-! choose, write -/
theorem tr_sideOf {post : Int32 → Prop} {u : St0} {p0 p1 p2 p3 p4 p5 ar : Int32} (h : tr_sd p0 p1 p2 p3 p4 p5 = ar) (K : post ar) : wpX_sideOf post u p0 p1 p2 p3 p4 p5 := by
  subst h
  exact K
theorem tr_c1' : (1 : Int32).toNatClampNeg = 1 := by decide
theorem tr_c2' : (2 : Int32).toNatClampNeg = 2 := by decide
theorem tr_choose {post : Int32 → St2 → Prop} {bx ht rc fa : Int32} {a1 a2 a3 a4 a5 a6 a7 a8 a9 a10 a11 a12 a13 a14 a15 a16 a17 a18 a19 a20 a21 a22 a23 a24 a25 a26 : Nat → Int32} {a b c : Nat} {ar : Int32} (ha : a < 6) (hb : b < 6) (hc : c < 6)
    (har : tr_sd (a5 a) (a6 a) (a5 b) (a6 b) (a5 c) (a6 c) = ar)
    (hP : 0 ≤ ar → ∀ b26 : Nat → Int32, b26 0 = nI a → b26 1 = nI b → b26 2 = nI c → post ar (bx, ht, rc, fa, a1, a2, a3, a4, a5, a6, a7, a8, a9, a10, a11, a12, a13, a14, a15, a16, a17, a18, a19, a20, a21, a22, a23, a24, a25, b26))
    (hN : ¬ 0 ≤ ar → a11 6 = 1 → post 0 (bx, ht, rc, fa, a1, a2, a3, a4, a5, a6, a7, a8, a9, a10, a11, a12, a13, a14, a15, a16, a17, a18, a19, a20, a21, a22, a23, a24, a25, a26))
    (hM : ¬ 0 ≤ ar → ¬ a11 6 = 1 → ∀ b26 : Nat → Int32, b26 0 = nI a → b26 1 = nI c → b26 2 = nI b → post (-ar) (bx, ht, rc, fa, a1, a2, a3, a4, a5, a6, a7, a8, a9, a10, a11, a12, a13, a14, a15, a16, a17, a18, a19, a20, a21, a22, a23, a24, a25, b26)) :
    wpX_choose post (bx, ht, rc, fa, a1, a2, a3, a4, a5, a6, a7, a8, a9, a10, a11, a12, a13, a14, a15, a16, a17, a18, a19, a20, a21, a22, a23, a24, a25, a26) (nI (36 * a + 6 * b + c)) := by
  have e1 : nI (36 * a + 6 * b + c) / 36 = nI a := by
    rw [show nI (36 * a + 6 * b + c) / 36 = nI ((36 * a + 6 * b + c) / 36) from pk_div (d := 36) (by omega) (by omega) (by omega)]
    exact congrArg nI (by omega)
  have e2 : (nI (36 * a + 6 * b + c) / 6) - (nI (36 * a + 6 * b + c) / 6) / 6 * 6 = nI b := by
    rw [show nI (36 * a + 6 * b + c) / 6 = nI ((36 * a + 6 * b + c) / 6) from pk_div (d := 6) (by omega) (by omega) (by omega),
      show nI ((36 * a + 6 * b + c) / 6) - nI ((36 * a + 6 * b + c) / 6) / 6 * 6 = nI ((36 * a + 6 * b + c) / 6 % 6) from pk_rem (d := 6) (by omega) (by omega) (by omega)]
    exact congrArg nI (by omega)
  have e3 : nI (36 * a + 6 * b + c) - nI (36 * a + 6 * b + c) / 6 * 6 = nI c := by
    rw [show nI (36 * a + 6 * b + c) - nI (36 * a + 6 * b + c) / 6 * 6 = nI ((36 * a + 6 * b + c) % 6) from pk_rem (d := 6) (by omega) (by omega) (by omega)]
    exact congrArg nI (by omega)
  have ia : vp_in (nI a) 6 := tr_in 6 ha
  have ib : vp_in (nI b) 6 := tr_in 6 hb
  have ic : vp_in (nI c) 6 := tr_in 6 hc
  have i1 : vp_in 1 3 := pk_in 1 3 (by omega)
  have i2 : vp_in 2 3 := pk_in 2 3 (by omega)
  have f120 : ∀ (x5 z0 : Int32) (b26 : Nat → Int32), (0 ≤ x5 → post x5 (bx, ht, rc, fa, a1, a2, a3, a4, a5, a6, a7, a8, a9, a10, a11, a12, a13, a14, a15, a16, a17, a18, a19, a20, a21, a22, a23, a24, a25, (upd b26 2 z0))) → (¬ 0 ≤ x5 → post (-x5) (bx, ht, rc, fa, a1, a2, a3, a4, a5, a6, a7, a8, a9, a10, a11, a12, a13, a14, a15, a16, a17, a18, a19, a20, a21, a22, a23, a24, a25, (upd b26 2 z0))) → wX_choose_120 post x5 z0 2 bx ht rc fa a1 a2 a3 a4 a5 a6 a7 a8 a9 a10 a11 a12 a13 a14 a15 a16 a17 a18 a19 a20 a21 a22 a23 a24 a25 b26 := by
    intro x5 z0 b26 k1 k2
    exact ⟨i2, nm_r (congrArg (fun z => upd b26 z z0) tr_c2') (br_c k1 k2)⟩
  have h80 : ∀ x5 : Int32, x5 = ar → (0 ≤ ar ∨ ¬ a11 6 = 1) → wX_choose_80 post (nI a) (nI b) (nI c) x5 bx ht rc fa a1 a2 a3 a4 a5 a6 a7 a8 a9 a10 a11 a12 a13 a14 a15 a16 a17 a18 a19 a20 a21 a22 a23 a24 a25 a26 := by
    intro x5 e hq
    subst e
    refine nm_e (br_c (fun g => ⟨i1, nm_r (congrArg (fun z => upd _ z _) tr_c1') (br_t g (f120 _ _ _ (fun _ => ?_) (fun z => absurd g z)))⟩)
      (fun g => ⟨i1, nm_r (congrArg (fun z => upd _ z _) tr_c1') (br_f g (f120 _ _ _ (fun z => absurd z g) (fun _ => ?_)))⟩))
    · exact hP g _ (by simp [upd]) (by simp [upd]) (by simp [upd])
    · exact hM g (hq.resolve_left g) _ (by simp [upd]) (by simp [upd]) (by simp [upd])
  unfold wpX_choose
  dsimp only
  refine ⟨by decide, nm_r e1 ⟨by decide, by decide, nm_r e2 ⟨by decide, nm_r e3 ⟨ia, ia, ib, ib, ic, ic, ?_⟩⟩⟩⟩
  rw [nI_clamp (show a < 2 ^ 31 by omega), nI_clamp (show b < 2 ^ 31 by omega), nI_clamp (show c < 2 ^ 31 by omega)]
  exact tr_sideOf har (br_c (fun g => h80 _ rfl (Or.inl g)) (fun g => br_c (fun g1 => hN g g1) (fun g1 => h80 _ rfl (Or.inr g1))))
/-- what a record holds -/
def tr_rec (r : Nat) (X Y D : Nat → Int32) (c ar : Int32) (rl a12 a13 a14 a15 a18 a19 a20 : Nat → Int32) : Prop :=
  (∀ i, i < 3 → a12 (3 * r + i) = X i) ∧ (∀ i, i < 3 → a13 (3 * r + i) = Y i) ∧ (∀ i, i < 3 → a14 (3 * r + i) = D i) ∧ (∀ i, i < 3 → a15 (3 * r + i) = c) ∧
    a18 r = 3855 ∧ (∀ k, k < 8 → a19 (8 * r + k) = rl k) ∧ a20 r = ar
/-- what stands below a record's places stays -/
def tr_keep (r : Nat) (a12 a13 a14 a15 a18 a19 a20 b12 b13 b14 b15 b18 b19 b20 : Nat → Int32) : Prop :=
  (∀ j, j < 3 * r → b12 j = a12 j ∧ b13 j = a13 j ∧ b14 j = a14 j ∧ b15 j = a15 j) ∧ (∀ j, j < r → b18 j = a18 j ∧ b20 j = a20 j) ∧ (∀ j, j < 8 * r → b19 j = a19 j)
theorem tr_keep_rec {r q : Nat} {X Y D : Nat → Int32} {c ar : Int32} {rl a12 a13 a14 a15 a18 a19 a20 b12 b13 b14 b15 b18 b19 b20 : Nat → Int32} (hq : q < r)
    (k : tr_keep r a12 a13 a14 a15 a18 a19 a20 b12 b13 b14 b15 b18 b19 b20) (h : tr_rec q X Y D c ar rl a12 a13 a14 a15 a18 a19 a20) : tr_rec q X Y D c ar rl b12 b13 b14 b15 b18 b19 b20 := by
  obtain ⟨k1, k2, k3⟩ := k
  obtain ⟨h1, h2, h3, h4, h5, h6, h7⟩ := h
  refine ⟨fun i hi => ?_, fun i hi => ?_, fun i hi => ?_, fun i hi => ?_, ?_, fun i hi => ?_, ?_⟩
  · rw [(k1 _ (by omega)).1]; exact h1 i hi
  · rw [(k1 _ (by omega)).2.1]; exact h2 i hi
  · rw [(k1 _ (by omega)).2.2.1]; exact h3 i hi
  · rw [(k1 _ (by omega)).2.2.2]; exact h4 i hi
  · rw [(k2 _ hq).1]; exact h5
  · rw [k3 _ (by omega)]; exact h6 i hi
  · rw [(k2 _ hq).2]; exact h7
theorem tr_write {post : St2 → Prop} {ht rc fa : Int32} {a1 a2 a3 a4 a5 a6 a7 a8 a9 a10 a11 a12 a13 a14 a15 a16 a17 a18 a19 a20 a21 a22 a23 a24 a25 a26 : Nat → Int32} {r : Nat} {X Y D : Nat → Int32} {c ar : Int32} {K : Nat → Nat} (hr : r < 12) (hK : ∀ i, i < 3 → K i < 6 ∧ a26 i = nI (K i))
    (hX : ∀ i, i < 3 → a5 (K i) = X i ∧ a6 (K i) = Y i ∧ a7 (K i) = D i ∧ a8 (K i) = c)
    (h : ∀ b12 b13 b14 b15 b16 b17 b18 b19 b20 : Nat → Int32, tr_rec r X Y D c ar a11 b12 b13 b14 b15 b18 b19 b20 → tr_keep r a12 a13 a14 a15 a18 a19 a20 b12 b13 b14 b15 b18 b19 b20 →
      post (3855, ht, rc, fa, a1, a2, a3, a4, a5, a6, a7, a8, a9, a10, a11, b12, b13, b14, b15, b16, b17, b18, b19, b20, a21, a22, a23, a24, a25, a26)) :
    wpX_write post (3855, ht, rc, fa, a1, a2, a3, a4, a5, a6, a7, a8, a9, a10, a11, a12, a13, a14, a15, a16, a17, a18, a19, a20, a21, a22, a23, a24, a25, a26) (nI r) ar := by
  refine pk_loop (σ := (Nat → Int32) × (Nat → Int32) × (Nat → Int32) × (Nat → Int32) × (Nat → Int32) × (Nat → Int32))
    (fun n i s => wX_write_2 post (nI r) ar 3855 ht rc fa n (nI i) a1 a2 a3 a4 a5 a6 a7 a8 a9 a10 a11 s.1 s.2.1 s.2.2.1 s.2.2.2.1 s.2.2.2.2.1 s.2.2.2.2.2 a18 a19 a20 a21 a22 a23 a24 a25 a26)
    (fun i s => (∀ j, j < i → s.1 (3 * r + j) = X j ∧ s.2.1 (3 * r + j) = Y j ∧ s.2.2.1 (3 * r + j) = D j ∧ s.2.2.2.1 (3 * r + j) = c) ∧ (∀ j, j < 3 * r → s.1 j = a12 j ∧ s.2.1 j = a13 j ∧ s.2.2.1 j = a14 j ∧ s.2.2.2.1 j = a15 j))
    3 0 (a12, a13, a14, a15, a16, a17) (by omega) ⟨fun j hj => absurd hj (by omega), fun j hj => ⟨rfl, rfl, rfl, rfl⟩⟩ ?_ ?_
  · intro n s hI
    have ir : vp_in (nI r) 12 := tr_in 12 hr
    have cr : (nI r).toNatClampNeg = r := nI_clamp (by omega)
    refine pk_le 3 3 (fun _ => ?_) (fun z => absurd z (by omega))
    rw [cr]
    refine ⟨ir, nm_e ⟨ir, nm_e ?_⟩⟩
    refine pk_loop (fun n k q => wX_write_142 post (nI r) 3855 ht rc fa n (nI k) a1 a2 a3 a4 a5 a6 a7 a8 a9 a10 a11 s.1 s.2.1 s.2.2.1 s.2.2.2.1 s.2.2.2.2.1 s.2.2.2.2.2 (upd a18 r 3855) q (upd a20 r ar) a21 a22 a23 a24 a25 a26)
      (fun k q => (∀ j, j < k → q (8 * r + j) = a11 j) ∧ ∀ j, j < 8 * r → q j = a19 j) 8 0 a19 (by omega) ⟨fun j hj => absurd hj (by omega), fun j hj => rfl⟩ ?_ ?_
    · intro m q hq
      refine pk_le 8 8 (fun _ => h _ _ _ _ _ _ _ _ _ ?_ ?_) (fun z => absurd z (by omega))
      · exact ⟨fun i hi => (hI.1 i hi).1, fun i hi => (hI.1 i hi).2.1, fun i hi => (hI.1 i hi).2.2.1, fun i hi => (hI.1 i hi).2.2.2, pk_us, hq.1, pk_us⟩
      · exact ⟨hI.2, fun j hj => ⟨pk_un (by omega), pk_un (by omega)⟩, hq.2⟩
    · intro m k q hk hq hw
      refine pk_le 8 k (fun z => absurd z (by omega)) (fun _ => ?_)
      rw [tr_e8, nI_clamp (show 8 * r + k < 2 ^ 31 by omega), nI_clamp (show k < 2 ^ 31 by omega)]
      refine ⟨tr_in 8 hk, tr_in 96 (by omega), nm_e (nm_r (nI_1 k) (hw _ ⟨fun j hj => ?_, fun j hj => ?_⟩))⟩
      · by_cases e : j = k
        · rw [e, pk_us]
        · rw [pk_un (by omega)]; exact hq.1 j (by omega)
      · rw [pk_un (by omega)]; exact hq.2 j hj
  · intro n i s hi hI hw
    obtain ⟨hk, ek⟩ := hK i hi
    obtain ⟨x1, x2, x3, x4⟩ := hX i hi
    have ii : vp_in (nI i) 3 := tr_in 3 hi
    have ik : vp_in (nI (K i)) 6 := tr_in 6 hk
    have ij : vp_in (nI (3 * r + i)) 36 := tr_in 36 (by omega)
    refine pk_le 3 i (fun z => absurd z (by omega)) (fun _ => ?_)
    rw [nI_clamp (show i < 2 ^ 31 by omega), ek, tr_e3, nI_clamp (show 3 * r + i < 2 ^ 31 by omega)]
    refine ⟨ii, nm_e ?_⟩
    rw [nI_clamp (show K i < 2 ^ 31 by omega), x1, x2, x3, x4]
    refine ⟨ik, ij, nm_e ⟨ik, ij, nm_e ⟨ik, ij, nm_e ⟨ik, ij, nm_e ⟨ik, ij, nm_e ⟨ik, ij, nm_e (nm_r (nI_1 i) (hw (upd s.1 (3 * r + i) (X i), upd s.2.1 (3 * r + i) (Y i), upd s.2.2.1 (3 * r + i) (D i), upd s.2.2.2.1 (3 * r + i) c, upd s.2.2.2.2.1 (3 * r + i) (a9 (K i)), upd s.2.2.2.2.2 (3 * r + i) (a10 (K i))) ⟨fun j hj => ?_, fun j hj => ?_⟩))⟩⟩⟩⟩⟩⟩
    · dsimp only
      by_cases e : j = i
      · subst e
        rw [pk_us, pk_us, pk_us, pk_us]
        exact ⟨rfl, rfl, rfl, rfl⟩
      · rw [pk_un (by omega), pk_un (by omega), pk_un (by omega), pk_un (by omega)]
        exact hI.1 j (by omega)
    · dsimp only
      rw [pk_un (by omega), pk_un (by omega), pk_un (by omega), pk_un (by omega)]
      exact hI.2 j hj
/-! the triangle turned so that its area isn't below 0 -/
def tr_J (bk : Bool) (i : Nat) : Nat := if i = 0 then 1 else if (i == 1) == bk then 5 else 3
theorem tr_J_lt (bk : Bool) (i : Nat) : tr_J bk i < 6 := by
  unfold tr_J
  split
  · omega
  · split <;> omega
def tr_cor (bk : Bool) (X Y D : Nat → Int32) (c : Int32) (a5 a6 a7 a8 : Nat → Int32) : Prop :=
  ∀ i, i < 3 → a5 (tr_J bk i) = X i ∧ a6 (tr_J bk i) = Y i ∧ a7 (tr_J bk i) = D i ∧ a8 (tr_J bk i) = c
def tr_rot (s : Nat) (X : Nat → Int32) : Nat → Int32 := fun i => X ((s + i) % 3)
/-- three corners: the first is s, the others in turn, or (o) against it -/
def tr_code (bk o : Bool) (s : Nat) : Nat := 36 * tr_J bk ((s + 0) % 3) + 6 * tr_J bk ((s + (if o then 2 else 1)) % 3) + tr_J bk ((s + (if o then 1 else 2)) % 3)
theorem tr_arR (X Y : Nat → Int32) {s : Nat} (hs : s < 3) : tr_sd (X ((s + 0) % 3)) (Y ((s + 0) % 3)) (X ((s + 1) % 3)) (Y ((s + 1) % 3)) (X ((s + 2) % 3)) (Y ((s + 2) % 3)) = tr_ar X Y := by
  match s, hs with
  | 0, _ => rfl
  | 1, _ => exact tr_rot1 (X 0) (Y 0) (X 1) (Y 1) (X 2) (Y 2)
  | 2, _ => exact (tr_rot1 (X 1) (Y 1) (X 2) (Y 2) (X 0) (Y 0)).trans (tr_rot1 (X 0) (Y 0) (X 1) (Y 1) (X 2) (Y 2))
  | s + 3, hs => omega
theorem tr_covR (X Y : Nat → Int32) {s : Nat} (hs : s < 3) (p : Nat) : tr_cov (tr_rot s X) (tr_rot s Y) p = tr_cov X Y p := by
  match s, hs with
  | 0, _ => rfl
  | 1, _ =>
    show (tr_I X Y 2 0 p && (tr_I X Y 0 1 p && tr_I X Y 1 2 p)) = (tr_I X Y 1 2 p && (tr_I X Y 2 0 p && tr_I X Y 0 1 p))
    cases tr_I X Y 2 0 p <;> cases tr_I X Y 0 1 p <;> cases tr_I X Y 1 2 p <;> rfl
  | 2, _ =>
    show (tr_I X Y 0 1 p && (tr_I X Y 1 2 p && tr_I X Y 2 0 p)) = (tr_I X Y 1 2 p && (tr_I X Y 2 0 p && tr_I X Y 0 1 p))
    cases tr_I X Y 2 0 p <;> cases tr_I X Y 0 1 p <;> cases tr_I X Y 1 2 p <;> rfl
  | s + 3, hs => omega
theorem tr_addR (a b c : Int32) : (b + c) + a = (a + b) + c := by grind
theorem tr_depR (X Y D : Nat → Int32) {s : Nat} (hs : s < 3) (p : Nat) :
    (((tr_E (tr_rot s X) (tr_rot s Y) 1 2 p * tr_rot s D 0) + (tr_E (tr_rot s X) (tr_rot s Y) 2 0 p * tr_rot s D 1)) + (tr_E (tr_rot s X) (tr_rot s Y) 0 1 p * tr_rot s D 2)) / tr_ar X Y = tr_dep X Y D p := by
  unfold tr_dep
  refine congrArg (fun z => z / tr_ar X Y) ?_
  match s, hs with
  | 0, _ => rfl
  | 1, _ => exact tr_addR (tr_E X Y 1 2 p * D 0) (tr_E X Y 2 0 p * D 1) (tr_E X Y 0 1 p * D 2)
  | 2, _ => exact (tr_addR (tr_E X Y 0 1 p * D 2) (tr_E X Y 1 2 p * D 0) (tr_E X Y 2 0 p * D 1)).symm
  | s + 3, hs => omega
theorem tr_cbR {X Y : Nat → Int32} (h : tr_cb3 X Y) (s : Nat) : tr_cb3 (tr_rot s X) (tr_rot s Y) := fun i _ => h _ (Nat.mod_lt _ (by omega))
theorem tr_negz {x : Int32} (h : x = 0) : -x = 0 := by rw [h]; decide
theorem tr_chooseO {post : Int32 → St2 → Prop} {bx ht rc fa : Int32} {a1 a2 a3 a4 a5 a6 a7 a8 a9 a10 a11 a12 a13 a14 a15 a16 a17 a18 a19 a20 a21 a22 a23 a24 a25 a26 : Nat → Int32} {X Y D : Nat → Int32} {c : Int32} {bk o : Bool} {s : Nat} (hs : s < 3) (h3 : tr_cb3 X Y) (hc : tr_cor bk X Y D c a5 a6 a7 a8) (ha : 0 ≤ tr_ar X Y)
    (hz : (tr_ar X Y = 0 ∨ (o = true ∧ a11 6 = 1)) → ∀ b26, post 0 (bx, ht, rc, fa, a1, a2, a3, a4, a5, a6, a7, a8, a9, a10, a11, a12, a13, a14, a15, a16, a17, a18, a19, a20, a21, a22, a23, a24, a25, b26))
    (hp : ¬ tr_ar X Y ≤ 0 → ¬ (o = true ∧ a11 6 = 1) → ∀ b26 : Nat → Int32, (∀ i, i < 3 → b26 i = nI (tr_J bk ((s + i) % 3))) → post (tr_ar X Y) (bx, ht, rc, fa, a1, a2, a3, a4, a5, a6, a7, a8, a9, a10, a11, a12, a13, a14, a15, a16, a17, a18, a19, a20, a21, a22, a23, a24, a25, b26)) :
    wpX_choose post (bx, ht, rc, fa, a1, a2, a3, a4, a5, a6, a7, a8, a9, a10, a11, a12, a13, a14, a15, a16, a17, a18, a19, a20, a21, a22, a23, a24, a25, a26) (nI (tr_code bk o s)) := by
  have hb := tr_ar_b h3
  have hc0 := hc ((s + 0) % 3) (by omega)
  have hc1 := hc ((s + 1) % 3) (by omega)
  have hc2 := hc ((s + 2) % 3) (by omega)
  have hv := tr_arR X Y hs
  have ez : tr_ar X Y ≤ 0 → tr_ar X Y = 0 := fun z => Int32.le_antisymm z ha
  cases o with
  | false =>
    refine tr_choose (a := tr_J bk ((s + 0) % 3)) (b := tr_J bk ((s + 1) % 3)) (c := tr_J bk ((s + 2) % 3)) (ar := tr_ar X Y) (tr_J_lt _ _) (tr_J_lt _ _) (tr_J_lt _ _) ?_ ?_ (fun z => absurd ha z) (fun z => absurd ha z)
    · rw [hc0.1, hc0.2.1, hc1.1, hc1.2.1, hc2.1, hc2.2.1]; exact hv
    · intro _ b26 e0 e1 e2
      by_cases g : tr_ar X Y ≤ 0
      · rw [ez g]
        exact hz (Or.inl (ez g)) b26
      · refine hp g (fun z => absurd z.1 (by decide)) b26 (fun i hi => ?_)
        match i, hi with
        | 0, _ => exact e0
        | 1, _ => exact e1
        | 2, _ => exact e2
        | i + 3, hi => omega
  | true =>
    refine tr_choose (a := tr_J bk ((s + 0) % 3)) (b := tr_J bk ((s + 2) % 3)) (c := tr_J bk ((s + 1) % 3)) (ar := -tr_ar X Y) (tr_J_lt _ _) (tr_J_lt _ _) (tr_J_lt _ _) ?_ ?_ ?_ ?_
    · rw [hc0.1, hc0.2.1, hc1.1, hc1.2.1, hc2.1, hc2.2.1, tr_swp]; exact congrArg (fun z => -z) hv
    · intro g b26 _ _ _
      have g0 : tr_ar X Y = 0 := by
        rw [tr_leI, tr_0I, tr_negI (by omega)] at g
        rw [tr_leI, tr_0I] at ha
        exact Int32.toInt_inj.mp (by rw [tr_0I]; omega)
      rw [tr_negz g0]
      exact hz (Or.inl g0) b26
    · intro _ h6
      exact hz (Or.inr ⟨rfl, h6⟩) a26
    · intro g h6 b26 e0 e1 e2
      rw [Int32.neg_neg]
      refine hp (fun z => g ?_) (fun z => h6 z.2) b26 (fun i hi => ?_)
      · rw [tr_negz (ez z)]; exact Int32.le_refl 0
      · match i, hi with
        | 0, _ => exact e0
        | 1, _ => exact e1
        | 2, _ => exact e2
        | i + 3, hi => omega
theorem tr_code_lt (bk o : Bool) {s : Nat} (hs : s < 3) : tr_code bk o s < 216 := by
  unfold tr_code
  have h0 := tr_J_lt bk ((s + 0) % 3)
  have h1 := tr_J_lt bk ((s + (if o then 2 else 1)) % 3)
  have h2 := tr_J_lt bk ((s + (if o then 1 else 2)) % 3)
  omega
theorem tr_drawO {post : Int32 → St2 → Prop} {ht fa : Int32} {a1 a2 a3 a4 a5 a6 a7 a8 a9 a10 a11 a12 a13 a14 a15 a16 a17 a18 a19 a20 a21 a22 a23 a24 a25 a26 : Nat → Int32} {X Y D : Nat → Int32} {c : Int32} {bk o : Bool} {s N : Nat} (hN : N < 12) (hs : s < 3) (h3 : tr_cb3 X Y) (hc : tr_cor bk X Y D c a5 a6 a7 a8) (ha : 0 ≤ tr_ar X Y)
    (hz : (tr_ar X Y = 0 ∨ (o = true ∧ a11 6 = 1)) → ∀ b26, post 0 (3855, ht, (nI N), fa, a1, a2, a3, a4, a5, a6, a7, a8, a9, a10, a11, a12, a13, a14, a15, a16, a17, a18, a19, a20, a21, a22, a23, a24, a25, b26))
    (hp : ¬ tr_ar X Y ≤ 0 → ¬ (o = true ∧ a11 6 = 1) → ∀ b12 b13 b14 b15 b16 b17 b18 b19 b20 b26 : Nat → Int32, tr_rec N (tr_rot s X) (tr_rot s Y) (tr_rot s D) c (tr_ar X Y) a11 b12 b13 b14 b15 b18 b19 b20 →
      tr_keep N a12 a13 a14 a15 a18 a19 a20 b12 b13 b14 b15 b18 b19 b20 → post 0 (3855, ht, (nI (N + 1)), fa, a1, a2, a3, a4, a5, a6, a7, a8, a9, a10, a11, b12, b13, b14, b15, b16, b17, b18, b19, b20, a21, a22, a23, a24, a25, b26)) :
    wpX_draw post (3855, ht, (nI N), fa, a1, a2, a3, a4, a5, a6, a7, a8, a9, a10, a11, a12, a13, a14, a15, a16, a17, a18, a19, a20, a21, a22, a23, a24, a25, a26) (nI (tr_code bk o s)) := by
  unfold wpX_draw
  dsimp only
  refine tr_isIn (N := 216) (tr_code_lt bk o hs) (by omega) (br_f (by decide) ?_)
  refine tr_chooseO hs h3 hc ha (fun q b26 => br_t rfl (hz q b26)) (fun g q b26 hb => br_f (tr_ne0 g) ?_)
  refine pk_eq N 12 (fun z => absurd z (by omega)) (fun _ => ?_)
  unfold wX_draw_37
  refine tr_write (X := tr_rot s X) (Y := tr_rot s Y) (D := tr_rot s D) (c := c) (K := fun i => tr_J bk ((s + i) % 3)) hN (fun i hi => ⟨tr_J_lt _ _, hb i hi⟩) (fun i hi => hc _ (by omega)) ?_
  intro b12 b13 b14 b15 b16 b17 b18 b19 b20 k1 k2
  exact nm_r (nI_1 N) (hp g q _ _ _ _ _ _ _ _ _ _ k1 k2)
end
section
/-! covered, digest, looking, clearing, rules, corners, the constructor -/
theorem tr_covRow {post : Int32 → St2 → Prop} {J : Int32 → Int32 → Int32 → Int32 → Int32 → Int32 → (Nat → Int32) → (Nat → Int32) → (Nat → Int32) → (Nat → Int32) → (Nat → Int32) → (Nat → Int32) → (Nat → Int32) → (Nat → Int32) → (Nat → Int32) → (Nat → Int32) → (Nat → Int32) → (Nat → Int32) → (Nat → Int32) → (Nat → Int32) → (Nat → Int32) → (Nat → Int32) → (Nat → Int32) → (Nat → Int32) → (Nat → Int32) → (Nat → Int32) → (Nat → Int32) → (Nat → Int32) → (Nat → Int32) → (Nat → Int32) → (Nat → Int32) → (Nat → Int32) → Prop}
    {bx ht rc fa : Int32} {a1 a2 a3 a4 a5 a6 a7 a8 a9 a10 a11 a12 a13 a14 a15 a16 a17 a18 a19 a20 a21 a22 a23 a24 a25 a26 : Nat → Int32} {X Y : Nat → Int32} {y : Nat} (hy : y < 16) (h3 : tr_cb3 X Y) (hE : tr_edges X Y a21 a22 a23 a24)
    (hs : ∀ j, j < 3 → a25 j = ((a24 j) + ((a21 j) * nI 0)) + ((a22 j) * nI y))
    (HJ : ∀ b25, J (nI (tr_cn (tr_cov X Y) (16 * y + 16))) (nI (y + 1)) bx ht rc fa a1 a2 a3 a4 a5 a6 a7 a8 a9 a10 a11 a12 a13 a14 a15 a16 a17 a18 a19 a20 a21 a22 a23 a24 b25 a26) :
    ∃ n, wX_covered_61 post J (nI y) n (nI (tr_cn (tr_cov X Y) (16 * y))) (nI 0) bx ht rc fa a1 a2 a3 a4 a5 a6 a7 a8 a9 a10 a11 a12 a13 a14 a15 a16 a17 a18 a19 a20 a21 a22 a23 a24 a25 a26 := by
  refine pk_loop (fun n i q => wX_covered_61 post J (nI y) n (nI (tr_cn (tr_cov X Y) (16 * y + i))) (nI i) bx ht rc fa a1 a2 a3 a4 a5 a6 a7 a8 a9 a10 a11 a12 a13 a14 a15 a16 a17 a18 a19 a20 a21 a22 a23 a24 q a26)
    (fun i q => ∀ j, j < 3 → q j = ((a24 j) + ((a21 j) * nI i)) + ((a22 j) * nI y)) 16 0 a25 (by omega) hs ?_ ?_
  · intro n q hI
    exact pk_le 16 16 (fun _ => nm_r (nI_1 y) (HJ q)) (fun z => absurd z (by omega))
  · intro n i q hi hI hw
    have hsE : ∀ j, j < 3 → q j = tr_E X Y ((j + 1) % 3) ((j + 2) % 3) (16 * y + i) := by
      intro j hj
      rw [hI j hj]
      exact tr_sideP hE (by omega) (by omega) hj
    have k81 : ∀ z0 : Int32, nI (tr_cn (tr_cov X Y) (16 * y + i)) + z0 = nI (tr_cn (tr_cov X Y) (16 * y + (i + 1))) →
        wX_covered_81 post J (wX_covered_61 post J (nI y) n) (nI y) (nI i) z0 (nI (tr_cn (tr_cov X Y) (16 * y + i))) bx ht rc fa a1 a2 a3 a4 a5 a6 a7 a8 a9 a10 a11 a12 a13 a14 a15 a16 a17 a18 a19 a20 a21 a22 a23 a24 q a26 := by
      intro z0 hz
      unfold wX_covered_81
      refine nm_r hz (tr_goOn (fun b25 hb => nm_r (nI_1 i) (hw b25 (fun j hj => ?_))))
      rw [hb j hj, hI j hj, ← nI_1 i]
      grind
    have hcn : tr_cn (tr_cov X Y) (16 * y + (i + 1)) = tr_cn (tr_cov X Y) (16 * y + i) + (if tr_cov X Y (16 * y + i) then 1 else 0) := rfl
    refine pk_le 16 i (fun z => absurd z (by omega)) (fun _ => tr_isCovered (fun hc => br_f (by decide) (k81 1 ?_)) (fun j hj hc => br_t rfl (k81 0 ?_)))
    · have : tr_cov X Y (16 * y + i) = true := tr_cov_of (fun j hj => by rw [← tr_c1I h3 hE hsE hj]; exact hc j hj)
      rw [hcn, this]
      exact nI_1 _
    · have : tr_cov X Y (16 * y + i) = false := tr_cov_no hj (by rw [← tr_c1I h3 hE hsE hj]; exact hc)
      rw [hcn, this]
      exact nI_add _ 0
theorem tr_covRows {post : Int32 → St2 → Prop} {bx ht rc fa : Int32} {a1 a2 a3 a4 a5 a6 a7 a8 a9 a10 a11 a12 a13 a14 a15 a16 a17 a18 a19 a20 a21 a22 a23 a24 a25 a26 : Nat → Int32} {X Y : Nat → Int32} (h3 : tr_cb3 X Y) (hE : tr_edges X Y a21 a22 a23 a24)
    (H : ∀ b25, post (nI (tr_cn (tr_cov X Y) 256)) (bx, ht, rc, fa, a1, a2, a3, a4, a5, a6, a7, a8, a9, a10, a11, a12, a13, a14, a15, a16, a17, a18, a19, a20, a21, a22, a23, a24, b25, a26)) : ∃ n, wX_covered_44 post n 0 0 bx ht rc fa a1 a2 a3 a4 a5 a6 a7 a8 a9 a10 a11 a12 a13 a14 a15 a16 a17 a18 a19 a20 a21 a22 a23 a24 a25 a26 := by
  refine pk_loop (fun n y q => wX_covered_44 post n (nI (tr_cn (tr_cov X Y) (16 * y))) (nI y) bx ht rc fa a1 a2 a3 a4 a5 a6 a7 a8 a9 a10 a11 a12 a13 a14 a15 a16 a17 a18 a19 a20 a21 a22 a23 a24 q a26) (fun _ _ => True) 16 0 a25 (by omega) trivial ?_ ?_
  · intro n q _
    exact pk_le 16 16 (fun _ => H q) (fun z => absurd z (by omega))
  · intro n y q hy _ hw
    exact pk_le 16 y (fun z => absurd z (by omega)) (fun _ => tr_goTo (fun b25 hb => tr_covRow hy h3 hE hb (fun c25 => hw c25 trivial)))
theorem tr_coveredO {post : Int32 → St2 → Prop} {ht fa : Int32} {a1 a2 a3 a4 a5 a6 a7 a8 a9 a10 a11 a12 a13 a14 a15 a16 a17 a18 a19 a20 a21 a22 a23 a24 a25 a26 : Nat → Int32} {X Y D : Nat → Int32} {c : Int32} {bk o : Bool} {s : Nat} (hs : s < 3) (h3 : tr_cb3 X Y) (hc : tr_cor bk X Y D c a5 a6 a7 a8) (ha : 0 ≤ tr_ar X Y)
    (hz : (tr_ar X Y = 0 ∨ (o = true ∧ a11 6 = 1)) → ∀ b26, post 0 (3855, ht, 0, fa, a1, a2, a3, a4, a5, a6, a7, a8, a9, a10, a11, a12, a13, a14, a15, a16, a17, a18, a19, a20, a21, a22, a23, a24, a25, b26))
    (hp : ¬ tr_ar X Y ≤ 0 → ¬ (o = true ∧ a11 6 = 1) → ∀ b12 b13 b14 b15 b16 b17 b18 b19 b20 b21 b22 b23 b24 b25 b26 : Nat → Int32,
      post (nI (tr_cn (tr_cov X Y) 256)) (3855, ht, 0, fa, a1, a2, a3, a4, a5, a6, a7, a8, a9, a10, a11, b12, b13, b14, b15, b16, b17, b18, b19, b20, b21, b22, b23, b24, b25, b26)) :
    wpX_covered post (3855, ht, 0, fa, a1, a2, a3, a4, a5, a6, a7, a8, a9, a10, a11, a12, a13, a14, a15, a16, a17, a18, a19, a20, a21, a22, a23, a24, a25, a26) (nI (tr_code bk o s)) := by
  unfold wpX_covered
  dsimp only
  refine tr_isIn (N := 216) (tr_code_lt bk o hs) (by omega) (br_f (by decide) ?_)
  refine tr_chooseO hs h3 hc ha (fun q b26 => br_t rfl (hz q b26)) (fun g q b26 hb => br_f (tr_ne0 g) (br_t rfl ?_))
  refine tr_write (r := 0) (X := tr_rot s X) (Y := tr_rot s Y) (D := tr_rot s D) (c := c) (K := fun i => tr_J bk ((s + i) % 3)) (by omega) (fun i hi => ⟨tr_J_lt _ _, hb i hi⟩) (fun i hi => hc _ (by omega)) ?_
  intro b12 b13 b14 b15 b16 b17 b18 b19 b20 k1 k2
  refine tr_takeEdges (r := 0) (X := tr_rot s X) (Y := tr_rot s Y) (by omega) k1.1 k1.2.1 ?_
  intro b21 b22 b23 b24 hE
  have e := tr_cn_congr (f := tr_cov (tr_rot s X) (tr_rot s Y)) (g := tr_cov X Y) 256 (fun p _ => tr_covR X Y hs p)
  refine tr_covRows (post := post) (X := tr_rot s X) (Y := tr_rot s Y) (tr_cbR h3 s) hE (fun b25 => ?_)
  have hk := hp g q b12 b13 b14 b15 b16 b17 b18 b19 b20 b21 b22 b23 b24 b25 b26
  rw [← e] at hk
  exact hk
/-- what is covered, 0 area counted as nothing -/
def tr_cv (X Y : Nat → Int32) (p : Nat) : Bool := !decide (tr_ar X Y ≤ 0) && tr_cov X Y p
theorem tr_cv_pos {X Y : Nat → Int32} (h : ¬ tr_ar X Y ≤ 0) (p : Nat) : tr_cv X Y p = tr_cov X Y p := by
  unfold tr_cv
  simp [h]
theorem tr_cv_zero {X Y : Nat → Int32} (h : tr_ar X Y ≤ 0) (p : Nat) : tr_cv X Y p = false := by
  unfold tr_cv
  simp [h]
theorem tr_coveredV {post : Int32 → St2 → Prop} {ht fa : Int32} {a1 a2 a3 a4 a5 a6 a7 a8 a9 a10 a11 a12 a13 a14 a15 a16 a17 a18 a19 a20 a21 a22 a23 a24 a25 a26 : Nat → Int32} {X Y D : Nat → Int32} {c : Int32} {bk o : Bool} {s : Nat} (hs : s < 3) (h3 : tr_cb3 X Y) (hc : tr_cor bk X Y D c a5 a6 a7 a8) (ha : 0 ≤ tr_ar X Y)
    {v : Int32} (hv1 : (o = true ∧ a11 6 = 1) → v = 0) (hv2 : ¬ (o = true ∧ a11 6 = 1) → v = nI (tr_cn (tr_cv X Y) 256))
    (H : ∀ b12 b13 b14 b15 b16 b17 b18 b19 b20 b21 b22 b23 b24 b25 b26 : Nat → Int32,
      post v (3855, ht, 0, fa, a1, a2, a3, a4, a5, a6, a7, a8, a9, a10, a11, b12, b13, b14, b15, b16, b17, b18, b19, b20, b21, b22, b23, b24, b25, b26)) :
    wpX_covered post (3855, ht, 0, fa, a1, a2, a3, a4, a5, a6, a7, a8, a9, a10, a11, a12, a13, a14, a15, a16, a17, a18, a19, a20, a21, a22, a23, a24, a25, a26) (nI (tr_code bk o s)) := by
  refine tr_coveredO hs h3 hc ha (fun q b26 => ?_) (fun g q b12 b13 b14 b15 b16 b17 b18 b19 b20 b21 b22 b23 b24 b25 b26 => ?_)
  · have e : v = 0 := by
      by_cases w : o = true ∧ a11 6 = 1
      · exact hv1 w
      · have g : tr_ar X Y ≤ 0 := Int32.le_of_eq (q.resolve_right w)
        rw [hv2 w, tr_cn_none 256 (fun p _ => tr_cv_zero g p), nI_0]
    have := H a12 a13 a14 a15 a16 a17 a18 a19 a20 a21 a22 a23 a24 a25 b26
    rw [e] at this
    exact this
  · have := H b12 b13 b14 b15 b16 b17 b18 b19 b20 b21 b22 b23 b24 b25 b26
    rw [hv2 q, tr_cn_congr 256 (fun p _ => tr_cv_pos g p)] at this
    exact this
/-- two corners one -/
theorem tr_covered47 {post : Int32 → St2 → Prop} {bx ht rc fa : Int32} {a1 a2 a3 a4 a5 a6 a7 a8 a9 a10 a11 a12 a13 a14 a15 a16 a17 a18 a19 a20 a21 a22 a23 a24 a25 a26 : Nat → Int32} (H : ∀ b26, post 0 (bx, ht, rc, fa, a1, a2, a3, a4, a5, a6, a7, a8, a9, a10, a11, a12, a13, a14, a15, a16, a17, a18, a19, a20, a21, a22, a23, a24, a25, b26)) : wpX_covered post (bx, ht, rc, fa, a1, a2, a3, a4, a5, a6, a7, a8, a9, a10, a11, a12, a13, a14, a15, a16, a17, a18, a19, a20, a21, a22, a23, a24, a25, a26) 47 := by
  unfold wpX_covered
  dsimp only
  refine tr_isIn (n := 47) (N := 216) (by omega) (by omega) (br_f (by decide) ?_)
  exact tr_choose (a := 1) (b := 1) (c := 5) (ar := 0) (by omega) (by omega) (by omega) (tr_deg _ _ _ _) (fun _ b26 _ _ _ => br_t rfl (H b26)) (fun z => absurd (Int32.le_refl 0) z) (fun z => absurd (Int32.le_refl 0) z)
def tr_dg (a1 a2 a3 : Nat → Int32) : Nat → Int32
  | 0 => 0
  | n + 1 => tr_dg a1 a2 a3 n + ((nI n + 1) * (((a1 n) + (3 * (a2 n))) + (7 * (a3 n))))
theorem tr_digest {post : Int32 → St2 → Prop} {bx ht fa : Int32} {a1 a2 a3 a4 a5 a6 a7 a8 a9 a10 a11 a12 a13 a14 a15 a16 a17 a18 a19 a20 a21 a22 a23 a24 a25 a26 : Nat → Int32} (H : post (tr_dg a1 a2 a3 256) (bx, ht, 0, fa, a1, a2, a3, a4, a5, a6, a7, a8, a9, a10, a11, a12, a13, a14, a15, a16, a17, a18, a19, a20, a21, a22, a23, a24, a25, a26)) : wpX_digest post (bx, ht, 0, fa, a1, a2, a3, a4, a5, a6, a7, a8, a9, a10, a11, a12, a13, a14, a15, a16, a17, a18, a19, a20, a21, a22, a23, a24, a25, a26) := by
  unfold wpX_digest
  dsimp only
  refine br_t rfl ?_
  refine pk_loop (σ := Unit) (fun n i _ => wX_digest_8 post bx ht 0 fa a1 a2 a3 a4 a5 a6 a7 a8 a9 a10 a11 a12 a13 a14 a15 a16 a17 a18 a19 a20 a21 a22 a23 a24 a25 a26 n (tr_dg a1 a2 a3 i) (nI i)) (fun _ _ => True) 256 0 () (by omega) trivial ?_ ?_
  · intro n _ _
    exact pk_le 256 256 (fun _ => H) (fun z => absurd z (by omega))
  · intro n i _ hi _ hw
    have ii : vp_in (nI i) 256 := tr_in 256 hi
    refine pk_le 256 i (fun z => absurd z (by omega)) (fun _ => ?_)
    rw [nI_clamp (show i < 2 ^ 31 by omega)]
    exact ⟨ii, ii, ii, nm_e (nm_r (nI_1 i) (hw () trivial))⟩
theorem tr_isPixel {post : Int32 → Prop} {u : St0} {x y : Nat} (hx : x < 16) (hy : y < 16) (K : post 1) : wpX_isPixel post u (nI x) (nI y) :=
  tr_isIn (N := 16) hx (by omega) (br_f (by decide) (tr_isIn (N := 16) hy (by omega) (br_f (by decide) K)))
theorem tr_idx {x y : Nat} : (16 * nI y) + nI x = nI (16 * y + x) := by rw [tr_m16, nI_add]
/-- F: what stands when all is drawn -/
def tr_ready (F : St2 → Prop) (u : St2) : Prop := ∀ ψ : St2 → Prop, (∀ v, F v → ψ v) → wpX_flush ψ u
theorem tr_mark {post : Int32 → St2 → Prop} {F : St2 → Prop} {u : St2} {x y : Nat} (hx : x < 16) (hy : y < 16) (hu : tr_ready F u)
    (H : ∀ (bx ht rc fa : Int32) (a1 a2 a3 a4 a5 a6 a7 a8 a9 a10 a11 a12 a13 a14 a15 a16 a17 a18 a19 a20 a21 a22 a23 a24 a25 a26 : Nat → Int32), F (bx, ht, rc, fa, a1, a2, a3, a4, a5, a6, a7, a8, a9, a10, a11, a12, a13, a14, a15, a16, a17, a18, a19, a20, a21, a22, a23, a24, a25, a26) → post (a3 (16 * y + x)) (bx, ht, rc, fa, a1, a2, a3, a4, a5, a6, a7, a8, a9, a10, a11, a12, a13, a14, a15, a16, a17, a18, a19, a20, a21, a22, a23, a24, a25, a26)) : wpX_mark post u (nI x) (nI y) := by
  obtain ⟨bx, ht, rc, fa, a1, a2, a3, a4, a5, a6, a7, a8, a9, a10, a11, a12, a13, a14, a15, a16, a17, a18, a19, a20, a21, a22, a23, a24, a25, a26⟩ := u
  unfold wpX_mark
  dsimp only
  refine hu _ (fun v hv => ?_)
  obtain ⟨bx, ht, rc, fa, a1, a2, a3, a4, a5, a6, a7, a8, a9, a10, a11, a12, a13, a14, a15, a16, a17, a18, a19, a20, a21, a22, a23, a24, a25, a26⟩ := v
  dsimp only
  refine tr_isPixel hx hy (br_f (by decide) ?_)
  rw [tr_idx, nI_clamp (show 16 * y + x < 2 ^ 31 by omega)]
  exact ⟨tr_in 256 (by omega), H _ _ _ _ _ _ _ _ _ _ _ _ _ _ _ _ _ _ _ _ _ _ _ _ _ _ _ _ _ _ hv⟩
theorem tr_depth {post : Int32 → St2 → Prop} {F : St2 → Prop} {u : St2} {x y : Nat} (hx : x < 16) (hy : y < 16) (hu : tr_ready F u)
    (H : ∀ (bx ht rc fa : Int32) (a1 a2 a3 a4 a5 a6 a7 a8 a9 a10 a11 a12 a13 a14 a15 a16 a17 a18 a19 a20 a21 a22 a23 a24 a25 a26 : Nat → Int32), F (bx, ht, rc, fa, a1, a2, a3, a4, a5, a6, a7, a8, a9, a10, a11, a12, a13, a14, a15, a16, a17, a18, a19, a20, a21, a22, a23, a24, a25, a26) → post (a2 (16 * y + x)) (bx, ht, rc, fa, a1, a2, a3, a4, a5, a6, a7, a8, a9, a10, a11, a12, a13, a14, a15, a16, a17, a18, a19, a20, a21, a22, a23, a24, a25, a26)) : wpX_depth post u (nI x) (nI y) := by
  obtain ⟨bx, ht, rc, fa, a1, a2, a3, a4, a5, a6, a7, a8, a9, a10, a11, a12, a13, a14, a15, a16, a17, a18, a19, a20, a21, a22, a23, a24, a25, a26⟩ := u
  unfold wpX_depth
  dsimp only
  refine hu _ (fun v hv => ?_)
  obtain ⟨bx, ht, rc, fa, a1, a2, a3, a4, a5, a6, a7, a8, a9, a10, a11, a12, a13, a14, a15, a16, a17, a18, a19, a20, a21, a22, a23, a24, a25, a26⟩ := v
  dsimp only
  refine tr_isPixel hx hy (br_f (by decide) ?_)
  rw [tr_idx, nI_clamp (show 16 * y + x < 2 ^ 31 by omega)]
  exact ⟨tr_in 256 (by omega), H _ _ _ _ _ _ _ _ _ _ _ _ _ _ _ _ _ _ _ _ _ _ _ _ _ _ _ _ _ _ hv⟩
theorem tr_colour {post : Int32 → St2 → Prop} {F : St2 → Prop} {u : St2} {x y : Nat} (hx : x < 16) (hy : y < 16) (hu : tr_ready F u)
    (H : ∀ (bx ht rc fa : Int32) (a1 a2 a3 a4 a5 a6 a7 a8 a9 a10 a11 a12 a13 a14 a15 a16 a17 a18 a19 a20 a21 a22 a23 a24 a25 a26 : Nat → Int32), F (bx, ht, rc, fa, a1, a2, a3, a4, a5, a6, a7, a8, a9, a10, a11, a12, a13, a14, a15, a16, a17, a18, a19, a20, a21, a22, a23, a24, a25, a26) → post (a1 (16 * y + x)) (bx, ht, rc, fa, a1, a2, a3, a4, a5, a6, a7, a8, a9, a10, a11, a12, a13, a14, a15, a16, a17, a18, a19, a20, a21, a22, a23, a24, a25, a26)) : wpX_colour post u (nI x) (nI y) := by
  obtain ⟨bx, ht, rc, fa, a1, a2, a3, a4, a5, a6, a7, a8, a9, a10, a11, a12, a13, a14, a15, a16, a17, a18, a19, a20, a21, a22, a23, a24, a25, a26⟩ := u
  unfold wpX_colour
  dsimp only
  refine hu _ (fun v hv => ?_)
  obtain ⟨bx, ht, rc, fa, a1, a2, a3, a4, a5, a6, a7, a8, a9, a10, a11, a12, a13, a14, a15, a16, a17, a18, a19, a20, a21, a22, a23, a24, a25, a26⟩ := v
  dsimp only
  refine tr_isPixel hx hy (br_f (by decide) ?_)
  rw [tr_idx, nI_clamp (show 16 * y + x < 2 ^ 31 by omega)]
  exact ⟨tr_in 256 (by omega), H _ _ _ _ _ _ _ _ _ _ _ _ _ _ _ _ _ _ _ _ _ _ _ _ _ _ _ _ _ _ hv⟩
theorem tr_hits {post : Int32 → St2 → Prop} {F : St2 → Prop} {u : St2} (hu : tr_ready F u)
    (H : ∀ (bx ht rc fa : Int32) (a1 a2 a3 a4 a5 a6 a7 a8 a9 a10 a11 a12 a13 a14 a15 a16 a17 a18 a19 a20 a21 a22 a23 a24 a25 a26 : Nat → Int32), F (bx, ht, rc, fa, a1, a2, a3, a4, a5, a6, a7, a8, a9, a10, a11, a12, a13, a14, a15, a16, a17, a18, a19, a20, a21, a22, a23, a24, a25, a26) → post ht (bx, ht, rc, fa, a1, a2, a3, a4, a5, a6, a7, a8, a9, a10, a11, a12, a13, a14, a15, a16, a17, a18, a19, a20, a21, a22, a23, a24, a25, a26)) : wpX_hits post u := by
  obtain ⟨bx, ht, rc, fa, a1, a2, a3, a4, a5, a6, a7, a8, a9, a10, a11, a12, a13, a14, a15, a16, a17, a18, a19, a20, a21, a22, a23, a24, a25, a26⟩ := u
  unfold wpX_hits
  dsimp only
  refine hu _ (fun v hv => ?_)
  obtain ⟨bx, ht, rc, fa, a1, a2, a3, a4, a5, a6, a7, a8, a9, a10, a11, a12, a13, a14, a15, a16, a17, a18, a19, a20, a21, a22, a23, a24, a25, a26⟩ := v
  exact H _ _ _ _ _ _ _ _ _ _ _ _ _ _ _ _ _ _ _ _ _ _ _ _ _ _ _ _ _ _ hv
theorem tr_clear {post : Int32 → St2 → Prop} {bx ht fa : Int32} {a1 a2 a3 a4 a5 a6 a7 a8 a9 a10 a11 a12 a13 a14 a15 a16 a17 a18 a19 a20 a21 a22 a23 a24 a25 a26 : Nat → Int32} (H : ∀ b1 b2 b3 : Nat → Int32, (∀ p, p < 256 → b1 p = 1 ∧ b2 p = 255 ∧ b3 p = 0) → post 0 (bx, ht, 0, fa, b1, b2, b3, a4, a5, a6, a7, a8, a9, a10, a11, a12, a13, a14, a15, a16, a17, a18, a19, a20, a21, a22, a23, a24, a25, a26)) : wpX_clear post (bx, ht, 0, fa, a1, a2, a3, a4, a5, a6, a7, a8, a9, a10, a11, a12, a13, a14, a15, a16, a17, a18, a19, a20, a21, a22, a23, a24, a25, a26) 1 255 0 := by
  unfold wpX_clear
  dsimp only
  refine tr_isIn (n := 1) (N := 16777216) (by omega) (by omega) (br_f (by decide) (tr_isIn (n := 255) (N := 256) (by omega) (by omega) (br_f (by decide) (tr_isIn (n := 0) (N := 16) (by omega) (by omega) (br_f (by decide) (br_t rfl ?_))))))
  refine pk_loop (σ := (Nat → Int32) × (Nat → Int32) × (Nat → Int32)) (fun n i s => wX_clear_37 post 1 255 0 bx ht 0 fa n (nI i) s.1 s.2.1 s.2.2 a4 a5 a6 a7 a8 a9 a10 a11 a12 a13 a14 a15 a16 a17 a18 a19 a20 a21 a22 a23 a24 a25 a26) (fun i s => ∀ p, p < i → s.1 p = 1 ∧ s.2.1 p = 255 ∧ s.2.2 p = 0) 256 0 (a1, a2, a3) (by omega) (fun p hp => absurd hp (by omega)) ?_ ?_
  · intro n s hI
    exact pk_le 256 256 (fun _ => H _ _ _ hI) (fun z => absurd z (by omega))
  · intro n i s hi hI hw
    have ii : vp_in (nI i) 256 := tr_in 256 hi
    refine pk_le 256 i (fun z => absurd z (by omega)) (fun _ => ?_)
    rw [nI_clamp (show i < 2 ^ 31 by omega)]
    refine ⟨ii, nm_e ⟨ii, nm_e ⟨ii, nm_e (nm_r (nI_1 i) (hw (upd s.1 i 1, upd s.2.1 i 255, upd s.2.2 i 0) (fun p hp => ?_)))⟩⟩⟩
    dsimp only
    by_cases e : p = i
    · rw [e, pk_us, pk_us, pk_us]
      exact ⟨rfl, rfl, rfl⟩
    · rw [pk_un e, pk_un e, pk_un e]
      exact hI p (by omega)
theorem tr_rule {post : Int32 → St2 → Prop} {bx ht rc fa : Int32} {a1 a2 a3 a4 a5 a6 a7 a8 a9 a10 a11 a12 a13 a14 a15 a16 a17 a18 a19 a20 a21 a22 a23 a24 a25 a26 : Nat → Int32} {w v m : Nat} (hw : w < 8) (hv : v ≤ m) (hm : m < 16) (hM : ∀ ψ : Int32 → Prop, ψ (nI m) → wpX_mostOf ψ () (nI w))
    (H : post (a11 w) (bx, ht, rc, fa, a1, a2, a3, a4, a5, a6, a7, a8, a9, a10, (upd a11 w (nI v)), a12, a13, a14, a15, a16, a17, a18, a19, a20, a21, a22, a23, a24, a25, a26)) : wpX_rule post (bx, ht, rc, fa, a1, a2, a3, a4, a5, a6, a7, a8, a9, a10, a11, a12, a13, a14, a15, a16, a17, a18, a19, a20, a21, a22, a23, a24, a25, a26) (nI w) (nI v) := by
  unfold wpX_rule
  dsimp only
  rw [nI_clamp (show w < 2 ^ 31 by omega)]
  refine tr_isIn (N := 8) hw (by omega) (br_f (by decide) (br_f (nI_pos (by omega)) (hM _ (br_t (nI_le hv (by omega)) ⟨tr_in 8 hw, nm_e ⟨tr_in 8 hw, nm_e H⟩⟩))))
theorem tr_most0 (ψ : Int32 → Prop) (h : ψ (nI 3)) : wpX_mostOf ψ () (nI 0) := br_t rfl h
theorem tr_most4 (ψ : Int32 → Prop) (h : ψ (nI 3)) : wpX_mostOf ψ () (nI 4) := br_f (by decide) (br_t rfl h)
theorem tr_most2 (ψ : Int32 → Prop) (h : ψ (nI 4)) : wpX_mostOf ψ () (nI 2) := br_f (by decide) (br_f (by decide) (br_t rfl h))
theorem tr_most1 (ψ : Int32 → Prop) (h : ψ (nI 1)) : wpX_mostOf ψ () (nI 1) := br_f (by decide) (br_f (by decide) (br_f (by decide) (br_f (by decide) (br_f (by decide) h))))
theorem tr_most6 (ψ : Int32 → Prop) (h : ψ (nI 1)) : wpX_mostOf ψ () (nI 6) := br_f (by decide) (br_f (by decide) (br_f (by decide) (br_f (by decide) (br_f (by decide) h))))
/-- a corner is set: x, y by way of the place -/
theorem tr_corner {post : Int32 → St2 → Prop} {bx ht rc fa : Int32} {a1 a2 a3 a4 a5 a6 a7 a8 a9 a10 a11 a12 a13 a14 a15 a16 a17 a18 a19 a20 a21 a22 a23 a24 a25 a26 : Nat → Int32} {k d : Nat} {c : Nat} {x y : Int32} (hk : k < 6) (hd : d < 256) (hc : c < 16777216) (hx : tr_cb x) (hy : tr_cb y)
    (H : post 0 (bx, ht, rc, fa, a1, a2, a3, a4, (upd a5 k x), (upd a6 k y), (upd a7 k (nI d)), (upd a8 k (nI c)), a9, a10, a11, a12, a13, a14, a15, a16, a17, a18, a19, a20, a21, a22, a23, a24, a25, a26)) : wpX_corner post (bx, ht, rc, fa, a1, a2, a3, a4, a5, a6, a7, a8, a9, a10, a11, a12, a13, a14, a15, a16, a17, a18, a19, a20, a21, a22, a23, a24, a25, a26) (nI k) (((384 * (y + 64)) + x) + 64) (nI d) (nI c) := by
  obtain ⟨hx, hx'⟩ := hx
  obtain ⟨hy, hy'⟩ := hy
  have ik : vp_in (nI k) 6 := tr_in 6 hk
  have ck : (nI k).toNatClampNeg = k := nI_clamp (by omega)
  have e64 : (64 : Int32).toInt = 64 := by decide
  obtain ⟨m, em, fm⟩ := tr_nI_of (x := x + 64) (by rw [tr_addI (by rw [e64]; omega) (by rw [e64]; omega), e64]; omega)
  obtain ⟨n, en, fn⟩ := tr_nI_of (x := y + 64) (by rw [tr_addI (by rw [e64]; omega) (by rw [e64]; omega), e64]; omega)
  rw [tr_addI (by rw [e64]; omega) (by rw [e64]; omega), e64] at fm fn
  have hm : m < 384 := by omega
  have hn : n < 384 := by omega
  have ep : ((384 * (y + 64)) + x) + 64 = nI (384 * n + m) := by
    rw [show ((384 * (y + 64)) + x) + 64 = 384 * (y + 64) + (x + 64) from by grind, em, en, show (384 : Int32) * nI n = nI (384 * n) from pk_mul 384 n, nI_add]
  have e1 : (nI (384 * n + m) - nI (384 * n + m) / 384 * 384) - 64 = x := by
    rw [show nI (384 * n + m) - nI (384 * n + m) / 384 * 384 = nI ((384 * n + m) % 384) from pk_rem (d := 384) (by omega) (by omega) (by omega), show (384 * n + m) % 384 = m by omega, ← em]
    grind
  have e2 : (nI (384 * n + m) / 384) - 64 = y := by
    rw [show nI (384 * n + m) / 384 = nI ((384 * n + m) / 384) from pk_div (d := 384) (by omega) (by omega) (by omega), show (384 * n + m) / 384 = n by omega, ← en]
    grind
  unfold wpX_corner
  dsimp only
  rw [ep, e1, e2, ck]
  refine tr_isIn (N := 6) hk (by omega) (br_f (by decide) (tr_isIn (N := 147456) (by omega) (by omega) (br_f (by decide) (tr_isIn (N := 256) hd (by omega) (br_f (by decide) (tr_isIn (N := 16777216) hc (by omega) (br_f (by decide) ?_)))))))
  exact ⟨by decide, ik, nm_e ⟨by decide, ik, nm_e ⟨ik, nm_e ⟨ik, nm_e H⟩⟩⟩⟩
theorem tr_setRules {post : St2 → Prop} {bx ht rc fa : Int32} {a1 a2 a3 a4 a5 a6 a7 a8 a9 a10 a11 a12 a13 a14 a15 a16 a17 a18 a19 a20 a21 a22 a23 a24 a25 a26 : Nat → Int32} (H : ∀ b11 : Nat → Int32, (∀ k, k < 8 → b11 k = (if k = 0 then 2 else if k = 1 then 1 else 0)) → post (3855, ht, rc, fa, a1, a2, a3, a4, a5, a6, a7, a8, a9, a10, b11, a12, a13, a14, a15, a16, a17, a18, a19, a20, a21, a22, a23, a24, a25, a26)) : wpX_setRules post (bx, ht, rc, fa, a1, a2, a3, a4, a5, a6, a7, a8, a9, a10, a11, a12, a13, a14, a15, a16, a17, a18, a19, a20, a21, a22, a23, a24, a25, a26) := by
  refine pk_loop (fun n i s => wX_setRules_9 post 3855 ht rc fa n (nI i) a1 a2 a3 a4 a5 a6 a7 a8 a9 a10 s a12 a13 a14 a15 a16 a17 a18 a19 a20 a21 a22 a23 a24 a25 a26) (fun i s => ∀ k, k < i → s k = 0) 8 0 a11 (by omega) (fun p hp => absurd hp (by omega)) ?_ ?_
  · intro n s hI
    refine pk_le 8 8 (fun _ => nm_e (nm_e (H _ (fun k hk => ?_)))) (fun z => absurd z (by omega))
    have := hI k hk
    simp only [upd]
    by_cases e1 : k = 1
    · simp [e1]
    · by_cases e0 : k = 0
      · simp [e0]
      · simp [e0, e1, this]
  · intro n i s hi hI hw
    refine pk_le 8 i (fun z => absurd z (by omega)) (fun _ => ⟨tr_in 8 hi, nm_e (nm_r (nI_1 i) (hw _ (fun k hk => ?_)))⟩)
    rw [nI_clamp (show i < 2 ^ 31 by omega)]
    by_cases e : k = i
    · rw [e, pk_us]
    · rw [pk_un e]; exact hI k (by omega)
theorem tr_init {post : St2 → Prop} (H : ∀ (fa : Int32) (a1 a2 a3 a4 a5 a6 a7 a8 a9 a10 a11 a12 a13 a14 a15 a16 a17 a18 a19 a20 a21 a22 a23 a24 a25 a26 : Nat → Int32), (∀ k, k < 8 → a11 k = (if k = 0 then 2 else if k = 1 then 1 else 0)) → post (3855, 0, 0, fa, a1, a2, a3, a4, a5, a6, a7, a8, a9, a10, a11, a12, a13, a14, a15, a16, a17, a18, a19, a20, a21, a22, a23, a24, a25, a26)) : wpX_init post 26 1230 (0, 0, 0, 0) := by
  unfold wpX_init
  dsimp only
  repeat (refine ⟨by decide, ?_⟩)
  refine pk_loop (fun n i s => wX_init_211 post 26 1230 26 1230 0 0 0 0 n (nI i) (fun _ => 0) s (fun _ => 0) (fun _ => 0) (fun _ => 0) (fun _ => 0) (fun _ => 0) (fun _ => 0) (fun _ => 0) (fun _ => 0) (fun _ => 0) (fun _ => 0) (fun _ => 0) (fun _ => 0) (fun _ => 0) (fun _ => 0) (fun _ => 0) (fun _ => 0) (fun _ => 0) (fun _ => 0) (fun _ => 0) (fun _ => 0) (fun _ => 0) (fun _ => 0) (fun _ => 0) (fun _ => 0)) (fun _ _ => True) 256 0 (fun _ => 0) (by omega) trivial ?_ ?_
  · intro n s _
    exact pk_le 256 256 (fun _ => tr_setRules (fun b11 h11 => H _ _ _ _ _ _ _ _ _ _ _ _ _ _ _ _ _ _ _ _ _ _ _ _ _ _ _ h11)) (fun z => absurd z (by omega))
  · intro n i s hi _ hw
    exact pk_le 256 i (fun z => absurd z (by omega)) (fun _ => ⟨tr_in 256 hi, nm_e (nm_r (nI_1 i) (hw _ trivial))⟩)
/-- a coordinate -/
theorem tr_place {post : Int32 → Prop} {u : St0} {x how : Int32} (H : ∀ v, tr_cb v → post v) : wpL_place post u x how := by
  obtain ⟨j, hj, ej⟩ := pk_andE x (m := 511) 9 (by decide)
  refine nm_r ej (br_c (fun _ => ⟨by decide, H _ ?_⟩) (fun _ => br_c (fun _ => ⟨by decide, H _ ?_⟩) (fun _ => ⟨by decide, H _ ?_⟩)))
  · rw [show nI j - nI j / 17 * 17 = nI (j % 17) from pk_rem (d := 17) (by omega) (by omega) (by omega), tr_m16]
    unfold tr_cb
    rw [nI_toInt (by omega)]
    omega
  · rw [show nI j - nI j / 35 * 35 = nI (j % 35) from pk_rem (d := 35) (by omega) (by omega) (by omega), tr_m8]
    unfold tr_cb
    rw [nI_toInt (by omega)]
    omega
  · rw [show nI j - nI j / 384 * 384 = nI (j % 384) from pk_rem (d := 384) (by omega) (by omega) (by omega)]
    unfold tr_cb
    rw [show nI (j % 384) - 64 = nI (j % 384) - nI 64 from rfl, pk_sub_toInt (by omega) (by omega)]
    omega
end
section
/-! the three ways of drawing that the law asks for -/
def tr_pend (N : Nat) (X Y D : Nat → Int32) (c h : Int32) (A1 A2 A3 A5 A6 A7 A8 A11 : Nat → Int32) (u : St2) : Prop := match u with
  | (bx, ht, rc, fa, a1, a2, a3, a4, a5, a6, a7, a8, a9, a10, a11, a12, a13, a14, a15, a16, a17, a18, a19, a20, a21, a22, a23, a24, a25, a26) => bx = 3855 ∧ ht = h ∧ a1 = A1 ∧ a2 = A2 ∧ a3 = A3 ∧ a5 = A5 ∧ a6 = A6 ∧ a7 = A7 ∧ a8 = A8 ∧ a11 = A11 ∧
    ((tr_ar X Y = 0 ∧ rc = 0) ∨ (¬ tr_ar X Y ≤ 0 ∧ rc = nI N ∧ ∀ r, r < N → ∃ s, s < 3 ∧ tr_rec r (tr_rot s X) (tr_rot s Y) (tr_rot s D) c (tr_ar X Y) A11 a12 a13 a14 a15 a18 a19 a20))
theorem tr_pos0 {x : Int32} (h : 0 ≤ x) : x = 0 ∨ ¬ x ≤ 0 := by
  by_cases g : x ≤ 0
  · exact Or.inl (Int32.le_antisymm g h)
  · exact Or.inr g
theorem tr_pend0 {ht fa : Int32} {a1 a2 a3 a4 a5 a6 a7 a8 a9 a10 a11 a12 a13 a14 a15 a16 a17 a18 a19 a20 a21 a22 a23 a24 a25 a26 : Nat → Int32} {X Y D : Nat → Int32} {c : Int32} (ha : 0 ≤ tr_ar X Y) : tr_pend 0 X Y D c ht a1 a2 a3 a5 a6 a7 a8 a11 (3855, ht, 0, fa, a1, a2, a3, a4, a5, a6, a7, a8, a9, a10, a11, a12, a13, a14, a15, a16, a17, a18, a19, a20, a21, a22, a23, a24, a25, a26) := by
  refine ⟨rfl, rfl, rfl, rfl, rfl, rfl, rfl, rfl, rfl, rfl, ?_⟩
  rcases tr_pos0 ha with z | z
  · exact Or.inl ⟨z, rfl⟩
  · exact Or.inr ⟨z, rfl, fun r hr => absurd hr (by omega)⟩
theorem tr_drawP {post : Int32 → St2 → Prop} {X Y D : Nat → Int32} {c h : Int32} {A1 A2 A3 A5 A6 A7 A8 A11 : Nat → Int32} {u : St2} {bk o : Bool} {s N : Nat} (hN : N < 12) (hs : s < 3) (h3 : tr_cb3 X Y)
    (hc : tr_cor bk X Y D c A5 A6 A7 A8) (ha : 0 ≤ tr_ar X Y) (h6 : ¬ (o = true ∧ A11 6 = 1)) (hu : tr_pend N X Y D c h A1 A2 A3 A5 A6 A7 A8 A11 u)
    (H : ∀ v, tr_pend (N + 1) X Y D c h A1 A2 A3 A5 A6 A7 A8 A11 v → post 0 v) : wpX_draw post u (nI (tr_code bk o s)) := by
  obtain ⟨bx, ht, rc, fa, a1, a2, a3, a4, a5, a6, a7, a8, a9, a10, a11, a12, a13, a14, a15, a16, a17, a18, a19, a20, a21, a22, a23, a24, a25, a26⟩ := u
  obtain ⟨rfl, rfl, rfl, rfl, rfl, rfl, rfl, rfl, rfl, rfl, hq⟩ := hu
  rcases hq with ⟨z, rfl⟩ | ⟨g, rfl, hrec⟩
  · refine tr_drawO (N := 0) (by omega) hs h3 hc ha (fun _ b26 => H _ ?_) (fun g => absurd (Int32.le_of_eq z) g)
    exact ⟨rfl, rfl, rfl, rfl, rfl, rfl, rfl, rfl, rfl, rfl, Or.inl ⟨z, rfl⟩⟩
  · refine tr_drawO hN hs h3 hc ha (fun q => absurd (q.resolve_right h6) (tr_ne0 g)) (fun _ _ b12 b13 b14 b15 b16 b17 b18 b19 b20 b26 k1 k2 => H _ ?_)
    refine ⟨rfl, rfl, rfl, rfl, rfl, rfl, rfl, rfl, rfl, rfl, Or.inr ⟨g, rfl, fun r hr => ?_⟩⟩
    by_cases e : r = N
    · subst e
      exact ⟨s, hs, k1⟩
    · obtain ⟨s', hs', h'⟩ := hrec r (by omega)
      exact ⟨s', hs', tr_keep_rec (by omega) k2 h'⟩
/-! way 1: everything passes, marks, depth and colour are written -/
def tr_P1 (f : Nat → Bool) (c : Int32) (dp : Nat → Int32) (k : Nat) (ht : Int32) (a1 a2 a3 : Nat → Int32) : Prop :=
  ht = nI (tr_H f k) ∧ ∀ p, p < 256 → a1 p = (if f p && decide (tr_px p < k) then c else 1) ∧ a2 p = (if f p && decide (tr_px p < k) then dp p else 255) ∧ a3 p = (if f p && decide (tr_px p < k) then 1 else 0)
theorem tr_P1_miss {f : Nat → Bool} {c : Int32} {dp : Nat → Int32} {k : Nat} {ht : Int32} {a1 a2 a3 : Nat → Int32} (hk : k < 256) (hf : f (tr_px k) = false) (h : tr_P1 f c dp k ht a1 a2 a3) : tr_P1 f c dp (k + 1) ht a1 a2 a3 := by
  refine ⟨by rw [tr_H_miss hk hf]; exact h.1, fun p hp => ?_⟩
  have e : (f p && decide (tr_px p < k + 1)) = (f p && decide (tr_px p < k)) := by
    by_cases e : p = tr_px k
    · subst e
      rw [hf]; rfl
    · rw [tr_dk hk e hp]
  rw [e]
  exact h.2 p hp
theorem tr_P1_hit {f : Nat → Bool} {c : Int32} {dp : Nat → Int32} {k : Nat} {ht : Int32} {a1 a2 a3 : Nat → Int32} (hk : k < 256) (hf : f (tr_px k) = true) (h : tr_P1 f c dp k ht a1 a2 a3) :
    tr_P1 f c dp (k + 1) (ht + 1) (upd a1 (tr_px k) c) (upd a2 (tr_px k) (dp (tr_px k))) (upd a3 (tr_px k) 1) := by
  refine ⟨by rw [tr_H_hit hk hf, h.1, nI_1], fun p hp => ?_⟩
  by_cases e : p = tr_px k
  · subst e
    rw [pk_us, pk_us, pk_us, hf, tr_px_px hk]
    simp
  · rw [pk_un e, pk_un e, pk_un e, ← tr_dk hk e hp]
    exact h.2 p hp
theorem tr_P1_new {f : Nat → Bool} {c : Int32} {dp : Nat → Int32} {k : Nat} {ht : Int32} {a1 a2 a3 : Nat → Int32} {p : Nat} (hp : p < 256) (hk : ¬ tr_px p < k) (h : tr_P1 f c dp k ht a1 a2 a3) : a2 p = 255 ∧ a3 p = 0 := by
  have := h.2 p hp
  simp only [hk, decide_false, Bool.and_false] at this
  exact ⟨this.2.1, this.2.2⟩
theorem tr_TQ1 {r c s : Nat} {X Y D : Nat → Int32} {bx rc : Int32} {a4 a5 a6 a7 a8 a9 a10 a11 a12 a13 a14 a15 a16 a17 a18 a19 a20 a26 rl : Nat → Int32} (hr : r < 12) (hs : s < 3) (h3 : tr_cb3 X Y) (ha : ¬ tr_ar X Y ≤ 0) (hD : ∀ i, i < 3 → ∃ m : Nat, m ≤ 255 ∧ D i = nI m) (hc' : c < 16777216)
    (R : tr_rec r (tr_rot s X) (tr_rot s Y) (tr_rot s D) (nI c) (tr_ar X Y) rl a12 a13 a14 a15 a18 a19 a20)
    (r0 : rl 0 = 3) (r1 : rl 1 = 1) (r2 : rl 2 = 0) (r3 : rl 3 = 0) (r4 : rl 4 = 2) (r7 : rl 7 = 0) :
    tr_TQ (tr_rot s X) (tr_rot s Y) (tr_P1 (tr_cov X Y) (nI c) (tr_dep X Y D)) r bx rc a4 a5 a6 a7 a8 a9 a10 a11 a12 a13 a14 a15 a16 a17 a18 a19 a20 a26 := by
  intro k hk hcov fa ht a1 a2 a3 a21 a22 a23 a24 a25 post hE hQ K
  obtain ⟨q1, q2, q3, q4, q5, q6, q7⟩ := R
  have hpl := tr_px_lt hk
  obtain ⟨n0, n1, n2, e0, e1, e2, ea, hA⟩ := tr_covN (tr_cbR h3 s) hpl hcov
  have ea' : tr_ar X Y = nI (n0 + n1 + n2) := (tr_arR X Y hs).symm.trans ea
  have hpos : 0 < n0 + n1 + n2 := by
    apply Nat.pos_of_ne_zero
    intro z
    rw [ea', z, nI_0] at ha
    exact ha (by decide)
  have s0 : a25 0 = tr_E (tr_rot s X) (tr_rot s Y) 1 2 (tr_px k) := hE 0 (by omega)
  have s1 : a25 1 = tr_E (tr_rot s X) (tr_rot s Y) 2 0 (tr_px k) := hE 1 (by omega)
  have s2 : a25 2 = tr_E (tr_rot s X) (tr_rot s Y) 0 1 (tr_px k) := hE 2 (by omega)
  have d0 : a14 (3 * r) = tr_rot s D 0 := q3 0 (by omega)
  have d1 : a14 (3 * r + 1) = tr_rot s D 1 := q3 1 (by omega)
  have d2 : a14 (3 * r + 2) = tr_rot s D 2 := q3 2 (by omega)
  rw [tr_covR X Y hs] at hcov
  have hd : (((a25 0 * a14 (3 * r)) + (a25 1 * a14 (3 * r + 1))) + (a25 2 * a14 (3 * r + 2))) / a20 r = tr_dep X Y D (tr_px k) := by
    rw [s0, s1, s2, d0, d1, d2, q7]
    exact tr_depR X Y D hs (tr_px k)
  have hnew := tr_P1_new hpl (by rw [tr_px_px hk]; omega) hQ
  obtain ⟨m, hm, em⟩ := tr_depN h3 hpl hcov ha hD
  refine tr_touch1 (c := c) (d := tr_dep X Y D (tr_px k)) hr hpl q4 hc' hA hpos (q7.trans ea') (s0.trans e0) (s1.trans e1) (s2.trans e2) hd ?_ hnew.2 ((q6 0 (by omega)).trans r0) ((q6 1 (by omega)).trans r1) ((q6 2 (by omega)).trans r2) ((q6 3 (by omega)).trans r3) ((q6 4 (by omega)).trans r4) ((q6 7 (by omega)).trans r7) (K _ _ _ _ (tr_P1_hit hk hcov hQ))
  rw [hnew.1, em]
  exact nI_nlt (a := 255) (b := m) (by omega) (by omega)
theorem tr_SQ1 {s : Nat} {X Y : Nat → Int32} {c : Int32} {dp : Nat → Int32} (hs : s < 3) : tr_SQ (tr_rot s X) (tr_rot s Y) (tr_P1 (tr_cov X Y) c dp) := by
  intro k hk hcov ht a1 a2 a3 h
  rw [tr_covR X Y hs] at hcov
  exact tr_P1_miss hk hcov h
def tr_Fin (X Y D : Nat → Int32) (c : Int32) (A5 A6 A7 A8 A11 : Nat → Int32) (u : St2) : Prop := match u with
  | (bx, ht, rc, fa, a1, a2, a3, a4, a5, a6, a7, a8, a9, a10, a11, a12, a13, a14, a15, a16, a17, a18, a19, a20, a21, a22, a23, a24, a25, a26) => bx = 3855 ∧ rc = 0 ∧ ht = nI (tr_cn (tr_cv X Y) 256) ∧ a5 = A5 ∧ a6 = A6 ∧ a7 = A7 ∧ a8 = A8 ∧ a11 = A11 ∧
    ∀ p, p < 256 → a1 p = (if tr_cv X Y p then c else 1) ∧ a2 p = (if tr_cv X Y p then tr_dep X Y D p else 255) ∧ a3 p = (if tr_cv X Y p then 1 else 0)
theorem tr_ready_Fin {X Y D : Nat → Int32} {c : Int32} {A5 A6 A7 A8 A11 : Nat → Int32} {u : St2} (h : tr_Fin X Y D c A5 A6 A7 A8 A11 u) : tr_ready (tr_Fin X Y D c A5 A6 A7 A8 A11) u := by
  intro ψ hψ
  have hu := hψ u h
  obtain ⟨bx, ht, rc, fa, a1, a2, a3, a4, a5, a6, a7, a8, a9, a10, a11, a12, a13, a14, a15, a16, a17, a18, a19, a20, a21, a22, a23, a24, a25, a26⟩ := u
  obtain ⟨_, rfl, _⟩ := h
  exact br_t rfl hu
theorem tr_ready1 {X Y D : Nat → Int32} {c : Nat} {A1 A2 A3 A5 A6 A7 A8 A11 : Nat → Int32} {u : St2} (h3 : tr_cb3 X Y) (hD : ∀ i, i < 3 → ∃ m : Nat, m ≤ 255 ∧ D i = nI m) (hc' : c < 16777216)
    (hA : ∀ p, p < 256 → A1 p = 1 ∧ A2 p = 255 ∧ A3 p = 0) (r0 : A11 0 = 3) (r1 : A11 1 = 1) (r2 : A11 2 = 0) (r3 : A11 3 = 0) (r4 : A11 4 = 2) (r7 : A11 7 = 0)
    (hu : tr_pend 1 X Y D (nI c) 0 A1 A2 A3 A5 A6 A7 A8 A11 u) : tr_ready (tr_Fin X Y D (nI c) A5 A6 A7 A8 A11) u := by
  obtain ⟨bx, ht, rc, fa, a1, a2, a3, a4, a5, a6, a7, a8, a9, a10, a11, a12, a13, a14, a15, a16, a17, a18, a19, a20, a21, a22, a23, a24, a25, a26⟩ := u
  obtain ⟨rfl, rfl, rfl, rfl, rfl, rfl, rfl, rfl, rfl, rfl, hq⟩ := hu
  rcases hq with ⟨z, rfl⟩ | ⟨g, rfl, hrec⟩
  · have g : tr_ar X Y ≤ 0 := Int32.le_of_eq z
    refine tr_ready_Fin ⟨rfl, rfl, ?_, rfl, rfl, rfl, rfl, rfl, fun p hp => ?_⟩
    · rw [tr_cn_none 256 (fun p _ => tr_cv_zero g p), nI_0]
    · rw [tr_cv_zero g p]
      exact hA p hp
  · obtain ⟨s, hs, R⟩ := hrec 0 (by omega)
    intro ψ hψ
    refine tr_flush (N := 1) (by omega) (by omega) (fun t => tr_P1 (tr_cov X Y) (nI c) (tr_dep X Y D) (16 * t))
      (fun t r f h b1 b2 b3 => (r = 0 → tr_P1 (tr_cov X Y) (nI c) (tr_dep X Y D) (16 * t) h b1 b2 b3 ∧ ∀ j, j < 16 → b2 (16 * (4 * (t / 4) + j / 4) + 4 * (t % 4) + j % 4) ≤ f) ∧ (r = 1 → tr_P1 (tr_cov X Y) (nI c) (tr_dep X Y D) (16 * t + 16) h b1 b2 b3)) ?_ ?_ ?_ ?_ ?_
    · refine ⟨by rw [tr_H_0, nI_0], fun p hp => ?_⟩
      have := hA p hp
      simp only [Nat.mul_zero, Nat.not_lt_zero, decide_false, Bool.and_false]
      exact this
    · intro t ht' f h b1 b2 b3 hJ hf
      exact ⟨fun _ => ⟨hJ, hf⟩, fun z => absurd z (by omega)⟩
    · intro t r ht' hr f h b1 b2 b3 b21 b22 b23 b24 b25 φ hI K
      obtain rfl : r = 0 := by omega
      obtain ⟨hQ, hf⟩ := hI.1 rfl
      refine tr_drawIn (X := tr_rot s X) (Y := tr_rot s Y) (Q := tr_P1 (tr_cov X Y) (nI c) (tr_dep X Y D)) (by omega) ht' (tr_cbR h3 s) R.1 R.2.1 R.2.2.2.2.1
        (tr_TQ1 (by omega) hs h3 g hD hc' R r0 r1 r2 r3 r4 r7) (tr_SQ1 hs) hQ ?_ ?_
      · intro _ hb
        exfalso
        have hp0 := tr_px_tile (t := t) (v := 0) (u := 0) (by omega) (by omega)
        have hl : tr_px (16 * t + 4 * 0 + 0) < 256 := tr_px_lt (by omega)
        have h255 := (tr_P1_new hl (by rw [tr_px_px (by omega)]; omega) hQ).1
        have hf0 := hf 0 (by omega)
        rw [show 16 * (4 * (t / 4) + 0 / 4) + 4 * (t % 4) + 0 % 4 = tr_px (16 * t + 4 * 0 + 0) by rw [hp0], h255] at hf0
        have hle : ∀ i, i < 3 → a14 (3 * 0 + i) ≤ f := by
          intro i hi
          rw [R.2.2.1 i hi]
          obtain ⟨m, hm, em⟩ := hD ((s + i) % 3) (by omega)
          show D ((s + i) % 3) ≤ f
          rw [em]
          exact Int32.le_trans (nI_le (b := 255) hm (by omega)) hf0
        exact hb ((R.2.2.2.2.2.1 0 (by omega)).trans r0) ⟨hle 0 (by omega), hle 1 (by omega), hle 2 (by omega)⟩
      · intro f' h' c1 c2 c3 c21 c22 c23 c24 c25 hq'
        exact K _ _ _ _ _ _ _ _ _ _ ⟨fun z => absurd z (by omega), fun _ => hq'⟩
    · intro t ht' f h b1 b2 b3 hI
      exact hI.2 rfl
    · intro f h b1 b2 b3 b21 b22 b23 b24 b25 hJ
      refine hψ _ ⟨rfl, rfl, ?_, rfl, rfl, rfl, rfl, rfl, fun p hp => ?_⟩
      · rw [hJ.1, tr_H_256]
        exact congrArg nI (tr_cn_congr 256 (fun p _ => (tr_cv_pos g p).symm))
      · have := hJ.2 p hp
        rw [decide_eq_true (show tr_px p < 16 * 16 from tr_px_lt hp), Bool.and_true] at this
        rw [tr_cv_pos g p]
        exact this
/-! way 2: nothing passes -/
def tr_Same (h : Int32) (A1 A2 A3 A5 A6 A7 A8 A11 : Nat → Int32) (u : St2) : Prop := match u with
  | (bx, ht, rc, fa, a1, a2, a3, a4, a5, a6, a7, a8, a9, a10, a11, a12, a13, a14, a15, a16, a17, a18, a19, a20, a21, a22, a23, a24, a25, a26) => bx = 3855 ∧ rc = 0 ∧ ht = h ∧ a1 = A1 ∧ a2 = A2 ∧ a3 = A3 ∧ a5 = A5 ∧ a6 = A6 ∧ a7 = A7 ∧ a8 = A8 ∧ a11 = A11
theorem tr_ready2 {X Y D : Nat → Int32} {c h : Int32} {N : Nat} {A1 A2 A3 A5 A6 A7 A8 A11 : Nat → Int32} {u : St2} (hN : 0 < N) (hN' : N ≤ 12) (h3 : tr_cb3 X Y)
    (hd : ∀ p, p < 256 → tr_cv X Y p = true → A2 p = tr_dep X Y D p) (r0 : A11 0 = 2) (r3 : A11 3 = 0)
    (hu : tr_pend N X Y D c h A1 A2 A3 A5 A6 A7 A8 A11 u) : tr_ready (tr_Same h A1 A2 A3 A5 A6 A7 A8 A11) u := by
  obtain ⟨bx, ht, rc, fa, a1, a2, a3, a4, a5, a6, a7, a8, a9, a10, a11, a12, a13, a14, a15, a16, a17, a18, a19, a20, a21, a22, a23, a24, a25, a26⟩ := u
  obtain ⟨rfl, rfl, rfl, rfl, rfl, rfl, rfl, rfl, rfl, rfl, hq⟩ := hu
  intro ψ hψ
  rcases hq with ⟨z, rfl⟩ | ⟨g, rfl, hrec⟩
  · exact br_t rfl (hψ _ ⟨rfl, rfl, rfl, rfl, rfl, rfl, rfl, rfl, rfl, rfl, rfl⟩)
  · refine tr_flush hN hN' (fun _ h b1 b2 b3 => h = ht ∧ b1 = a1 ∧ b2 = a2 ∧ b3 = a3) (fun _ _ _ h b1 b2 b3 => h = ht ∧ b1 = a1 ∧ b2 = a2 ∧ b3 = a3) ⟨rfl, rfl, rfl, rfl⟩ (fun t _ f h b1 b2 b3 hJ _ => hJ) ?_ (fun t _ f h b1 b2 b3 hI => hI) ?_
    · intro t r ht' hr f h b1 b2 b3 b21 b22 b23 b24 b25 φ hI K
      obtain ⟨s, hs, R⟩ := hrec r hr
      refine tr_drawIn (X := tr_rot s X) (Y := tr_rot s Y) (Q := fun _ h b1 b2 b3 => h = ht ∧ b1 = a1 ∧ b2 = a2 ∧ b3 = a3) (by omega) ht' (tr_cbR h3 s) R.1 R.2.1 R.2.2.2.2.1 ?_ (fun k _ _ h b1 b2 b3 hq => hq) hI (fun _ _ => hI) (fun f' h' c1 c2 c3 c21 c22 c23 c24 c25 hq' => K _ _ _ _ _ _ _ _ _ _ hq')
      intro k hk hcov f2 h2 d1 d2 d3 e21 e22 e23 e24 e25 φ2 hE hQ K2
      obtain ⟨rfl, rfl, rfl, rfl⟩ := hQ
      obtain ⟨q1, q2, q3, q4, q5, q6, q7⟩ := R
      rw [tr_covR X Y hs] at hcov
      have s0 : e25 0 = tr_E (tr_rot s X) (tr_rot s Y) 1 2 (tr_px k) := hE 0 (by omega)
      have s1 : e25 1 = tr_E (tr_rot s X) (tr_rot s Y) 2 0 (tr_px k) := hE 1 (by omega)
      have s2 : e25 2 = tr_E (tr_rot s X) (tr_rot s Y) 0 1 (tr_px k) := hE 2 (by omega)
      have d0 : a14 (3 * r) = tr_rot s D 0 := q3 0 (by omega)
      have d1 : a14 (3 * r + 1) = tr_rot s D 1 := q3 1 (by omega)
      have d2 : a14 (3 * r + 2) = tr_rot s D 2 := q3 2 (by omega)
      refine tr_touch2 (by omega) (tr_px_lt hk) (by rw [q7]; exact g) ?_ ((q6 0 (by omega)).trans r0) ((q6 3 (by omega)).trans r3) (K2 _ _ _ _ ⟨rfl, rfl, rfl, rfl⟩)
      rw [s0, s1, s2, d0, d1, d2, q7, tr_depR X Y D hs, hd _ (tr_px_lt hk) ((tr_cv_pos g _).trans hcov)]
      exact Int32.lt_irrefl
    · intro f h b1 b2 b3 b21 b22 b23 b24 b25 hJ
      obtain ⟨rfl, rfl, rfl, rfl⟩ := hJ
      exact hψ _ ⟨rfl, rfl, rfl, rfl, rfl, rfl, rfl, rfl, rfl, rfl, rfl⟩
/-! way 3: everything passes, hits and marks alone change -/
def tr_More (h : Int32) (A2 : Nat → Int32) (u : St2) : Prop := match u with
  | (bx, ht, rc, fa, a1, a2, a3, a4, a5, a6, a7, a8, a9, a10, a11, a12, a13, a14, a15, a16, a17, a18, a19, a20, a21, a22, a23, a24, a25, a26) => bx = 3855 ∧ rc = 0 ∧ ht = h ∧ a2 = A2
theorem tr_ready3 {X Y D : Nat → Int32} {c h : Int32} {A1 A2 A3 A5 A6 A7 A8 A11 : Nat → Int32} {u : St2} (h3 : tr_cb3 X Y)
    (r0 : A11 0 = 1) (r1 : A11 1 = 0) (r2 : A11 2 = 4) (r3 : A11 3 = 0) (r4 : A11 4 = 2)
    (hu : tr_pend 1 X Y D c h A1 A2 A3 A5 A6 A7 A8 A11 u) : tr_ready (tr_More (h + nI (tr_cn (tr_cv X Y) 256)) A2) u := by
  obtain ⟨bx, ht, rc, fa, a1, a2, a3, a4, a5, a6, a7, a8, a9, a10, a11, a12, a13, a14, a15, a16, a17, a18, a19, a20, a21, a22, a23, a24, a25, a26⟩ := u
  obtain ⟨rfl, rfl, rfl, rfl, rfl, rfl, rfl, rfl, rfl, rfl, hq⟩ := hu
  intro ψ hψ
  rcases hq with ⟨z, rfl⟩ | ⟨g, rfl, hrec⟩
  · have g : tr_ar X Y ≤ 0 := Int32.le_of_eq z
    refine br_t rfl (hψ _ ⟨rfl, rfl, ?_, rfl⟩)
    rw [tr_cn_none 256 (fun p _ => tr_cv_zero g p), nI_0]
    grind
  · obtain ⟨s, hs, R⟩ := hrec 0 (by omega)
    refine tr_flush (N := 1) (by omega) (by omega) (fun t h b1 b2 b3 => h = ht + nI (tr_H (tr_cov X Y) (16 * t)) ∧ b2 = a2)
      (fun t r _ h b1 b2 b3 => (r = 0 → h = ht + nI (tr_H (tr_cov X Y) (16 * t)) ∧ b2 = a2) ∧ (r = 1 → h = ht + nI (tr_H (tr_cov X Y) (16 * t + 16)) ∧ b2 = a2)) ?_ ?_ ?_ ?_ ?_
    · refine ⟨?_, rfl⟩
      rw [tr_H_0, nI_0]
      grind
    · intro t ht' f h b1 b2 b3 hJ hf
      exact ⟨fun _ => hJ, fun z => absurd z (by omega)⟩
    · intro t r ht' hr f h b1 b2 b3 b21 b22 b23 b24 b25 φ hI K
      obtain rfl : r = 0 := by omega
      have hQ := hI.1 rfl
      refine tr_drawIn (X := tr_rot s X) (Y := tr_rot s Y) (Q := fun k h b1 b2 b3 => h = ht + nI (tr_H (tr_cov X Y) k) ∧ b2 = a2) (by omega) ht' (tr_cbR h3 s) R.1 R.2.1 R.2.2.2.2.1 ?_ ?_ hQ (fun z => absurd ((R.2.2.2.2.2.1 0 (by omega)).trans r0) z) ?_
      · intro k hk hcov f2 h2 d1 d2 d3 e21 e22 e23 e24 e25 φ2 hE hQ K2
        obtain ⟨rfl, rfl⟩ := hQ
        obtain ⟨q1, q2, q3, q4, q5, q6, q7⟩ := R
        rw [tr_covR X Y hs] at hcov
        refine tr_touch3 (by omega) (tr_px_lt hk) (by rw [q7]; exact g) ((q6 0 (by omega)).trans r0) ((q6 1 (by omega)).trans r1) ((q6 2 (by omega)).trans r2) ((q6 3 (by omega)).trans r3) ((q6 4 (by omega)).trans r4) (fun b3 => K2 _ _ _ _ ⟨?_, rfl⟩)
        rw [tr_H_hit hk hcov, ← nI_1]
        grind
      · intro k hk hcov h b1 b2 b3 hq
        rw [tr_covR X Y hs] at hcov
        exact ⟨by rw [tr_H_miss hk hcov]; exact hq.1, hq.2⟩
      · intro f' h' c1 c2 c3 c21 c22 c23 c24 c25 hq'
        exact K _ _ _ _ _ _ _ _ _ _ ⟨fun z => absurd z (by omega), fun _ => hq'⟩
    · intro t ht' f h b1 b2 b3 hI
      exact hI.2 rfl
    · intro f h b1 b2 b3 b21 b22 b23 b24 b25 hJ
      obtain ⟨rfl, rfl⟩ := hJ
      refine hψ _ ⟨rfl, rfl, ?_, rfl⟩
      rw [tr_H_256, tr_cn_congr 256 (fun p _ => (tr_cv_pos g p).symm)]
end
section
/-! the law -/
theorem tr_side {post : Int32 → Prop} {u : St0} {p0 p1 p2 p3 p4 p5 : Int32} (K : post (tr_sd p0 p1 p2 p3 p4 p5)) : wpL_side post u p0 p1 p2 p3 p4 p5 := K
theorem tr_inside {post : Int32 → Prop} {u : St0} {p0 p1 p2 p3 p4 p5 : Int32} (h1 : tr_insb p0 p1 p2 p3 p4 p5 = true → post 1) (h0 : tr_insb p0 p1 p2 p3 p4 p5 = false → post 0) : wpL_inside post u p0 p1 p2 p3 p4 p5 := by
  unfold tr_insb at h1 h0
  refine tr_side (br_c (fun g => h1 ?_) (fun g => br_c (fun g0 => br_c (fun g1 => h1 ?_) (fun g1 => br_c (fun g2 => br_c (fun g3 => h0 ?_) (fun g3 => h1 ?_)) (fun g2 => h0 ?_))) (fun g0 => h0 ?_)))
  · simp [g]
  · simp [g0, g1]
  · rw [decide_eq_false g, decide_eq_true g0, decide_eq_false g1, decide_eq_true g2, decide_eq_true g3]; rfl
  · rw [decide_eq_false g, decide_eq_true g0, decide_eq_false g1, decide_eq_true g2, decide_eq_false g3]; rfl
  · simp [g0, g1, g2]
  · simp [g, g0]
theorem tr_coveredW {post : Int32 → St2 → Prop} {ht fa : Int32} {a1 a2 a3 a4 a5 a6 a7 a8 a9 a10 a11 a12 a13 a14 a15 a16 a17 a18 a19 a20 a21 a22 a23 a24 a25 a26 : Nat → Int32} {X Y D : Nat → Int32} {c p : Int32} {bk o : Bool} {s : Nat} (hp : p = nI (tr_code bk o s)) (hs : s < 3) (h3 : tr_cb3 X Y) (hc : tr_cor bk X Y D c a5 a6 a7 a8) (ha : 0 ≤ tr_ar X Y)
    {v : Int32} (hv1 : (o = true ∧ a11 6 = 1) → v = 0) (hv2 : ¬ (o = true ∧ a11 6 = 1) → v = nI (tr_cn (tr_cv X Y) 256))
    (H : ∀ b12 b13 b14 b15 b16 b17 b18 b19 b20 b21 b22 b23 b24 b25 b26 : Nat → Int32,
      post v (3855, ht, 0, fa, a1, a2, a3, a4, a5, a6, a7, a8, a9, a10, a11, b12, b13, b14, b15, b16, b17, b18, b19, b20, b21, b22, b23, b24, b25, b26)) :
    wpX_covered post (3855, ht, 0, fa, a1, a2, a3, a4, a5, a6, a7, a8, a9, a10, a11, a12, a13, a14, a15, a16, a17, a18, a19, a20, a21, a22, a23, a24, a25, a26) p := by
  subst hp
  exact tr_coveredV hs h3 hc ha hv1 hv2 H
theorem tr_drawW {post : Int32 → St2 → Prop} {X Y D : Nat → Int32} {c h p : Int32} {A1 A2 A3 A5 A6 A7 A8 A11 : Nat → Int32} {u : St2} {bk o : Bool} {s N : Nat} (hp : p = nI (tr_code bk o s)) (hN : N < 12) (hs : s < 3) (h3 : tr_cb3 X Y)
    (hc : tr_cor bk X Y D c A5 A6 A7 A8) (ha : 0 ≤ tr_ar X Y) (h6 : ¬ (o = true ∧ A11 6 = 1)) (hu : tr_pend N X Y D c h A1 A2 A3 A5 A6 A7 A8 A11 u)
    (H : ∀ v, tr_pend (N + 1) X Y D c h A1 A2 A3 A5 A6 A7 A8 A11 v → post 0 v) : wpX_draw post u p := by
  subst hp
  exact tr_drawP hN hs h3 hc ha h6 hu H
theorem tr_ready_More {h : Int32} {A2 : Nat → Int32} {u : St2} (hu : tr_More h A2 u) : tr_ready (tr_More h A2) u := by
  intro ψ hψ
  have hv := hψ u hu
  obtain ⟨bx, ht, rc, fa, a1, a2, a3, a4, a5, a6, a7, a8, a9, a10, a11, a12, a13, a14, a15, a16, a17, a18, a19, a20, a21, a22, a23, a24, a25, a26⟩ := u
  obtain ⟨_, rfl, _⟩ := hu
  exact br_t rfl hv
/-- the last draw -/
theorem tr_draw3 {post : Int32 → St2 → Prop} {ht fa : Int32} {a1 a2 a3 a4 a5 a6 a7 a8 a9 a10 a11 a12 a13 a14 a15 a16 a17 a18 a19 a20 a21 a22 a23 a24 a25 a26 : Nat → Int32} {X Y D : Nat → Int32} {c p x21 : Int32} {bk : Bool} (hp : p = nI (tr_code bk bk 0)) (h3 : tr_cb3 X Y) (hc : tr_cor bk X Y D c a5 a6 a7 a8) (ha : 0 ≤ tr_ar X Y)
    (r0 : a11 0 = 1) (r1 : a11 1 = 0) (r2 : a11 2 = 4) (r3 : a11 3 = 0) (r4 : a11 4 = 2) (r6 : a11 6 = 1) (hx : x21 = if bk then 0 else nI (tr_cn (tr_cv X Y) 256))
    (H : ∀ v, tr_ready (tr_More (ht + x21) a2) v → post 0 v) : wpX_draw post (3855, ht, 0, fa, a1, a2, a3, a4, a5, a6, a7, a8, a9, a10, a11, a12, a13, a14, a15, a16, a17, a18, a19, a20, a21, a22, a23, a24, a25, a26) p := by
  cases bk with
  | true =>
    subst hp
    refine tr_drawO (N := 0) (by omega) (by omega) h3 hc ha (fun _ b26 => H _ (tr_ready_More ⟨rfl, rfl, ?_, rfl⟩)) (fun _ z => absurd ⟨rfl, r6⟩ z)
    subst hx
    show ht = ht + 0
    grind
  | false =>
    refine tr_drawW (N := 0) hp (by omega) (by omega) h3 hc ha (fun z => absurd z.1 (by decide)) (tr_pend0 ha) (fun v hv => H v ?_)
    have := tr_ready3 h3 r0 r1 r2 r3 r4 hv
    rw [hx]
    exact this
theorem tr_law744 {post : Int32 → St0 → Prop} {mc ms kc ks : Nat} {ht fa : Int32} {a1 a2 a3 a4 a5 a6 a7 a8 a9 a10 a11 a12 a13 a14 a15 a16 a17 a18 a19 a20 a21 a22 a23 a24 a25 a26 : Nat → Int32} {X Y D : Nat → Int32} {c x21 z0 : Int32} {bk : Bool} (h3 : tr_cb3 X Y) (hc : tr_cor bk X Y D c a5 a6 a7 a8) (ha : 0 ≤ tr_ar X Y)
    (r3 : a11 3 = 0) (r4 : a11 4 = 2) (r6 : a11 6 = 1) (h2 : ¬ 255 < a2 0) (hx : x21 = if bk then 0 else nI (tr_cn (tr_cv X Y) 256)) (hz : z0 = if bk then nI (tr_cn (tr_cv X Y) 256) else 0)
    (K : post 1 ()) : wL_lawOf_744 post mc ms 59 ht x21 z0 kc ks 3855 ht 0 fa a1 a2 a3 a4 a5 a6 a7 a8 a9 a10 a11 a12 a13 a14 a15 a16 a17 a18 a19 a20 a21 a22 a23 a24 a25 a26 := by
  have e59 : (59 : Int32) = nI (tr_code bk bk 0) := by cases bk <;> decide
  have e69 : (69 : Int32) = nI (tr_code bk (!bk) 0) := by cases bk <;> decide
  unfold wL_lawOf_744
  refine tr_coveredW e59 (by omega) h3 hc ha (v := x21) ?_ ?_ (fun b12 b13 b14 b15 b16 b17 b18 b19 b20 b21 b22 b23 b24 b25 b26 => br_t rfl ?_)
  · intro q
    rw [hx, q.1]; rfl
  · intro q
    cases bk with
    | true => exact absurd ⟨rfl, r6⟩ q
    | false => exact hx
  refine tr_coveredW e69 (by omega) h3 hc ha (v := z0) ?_ ?_ (fun d12 d13 d14 d15 d16 d17 d18 d19 d20 d21 d22 d23 d24 d25 d26 => br_t rfl ?_)
  · intro q
    cases bk with
    | true => exact absurd q.1 (by decide)
    | false => exact hz
  · intro q
    cases bk with
    | true => exact hz
    | false => exact absurd ⟨rfl, r6⟩ q
  refine tr_rule (w := 0) (v := 1) (m := 3) (by omega) (by omega) (by omega) tr_most0 ?_
  refine tr_rule (w := 2) (v := 4) (m := 4) (by omega) (by omega) (by omega) tr_most2 ?_
  refine tr_rule (w := 1) (v := 0) (m := 1) (by omega) (by omega) (by omega) tr_most1 ?_
  refine tr_draw3 (bk := bk) (x21 := x21) e59 h3 hc ha rfl rfl rfl r3 r4 r6 hx (fun v hv => ?_)
  obtain ⟨bx, ht, rc, fa, a1, a2, a3, a4, a5, a6, a7, a8, a9, a10, a11, a12, a13, a14, a15, a16, a17, a18, a19, a20, a21, a22, a23, a24, a25, a26⟩ := v
  refine tr_hits hv ?_
  intro bx ht rc fa a1 a2 a3 a4 a5 a6 a7 a8 a9 a10 a11 a12 a13 a14 a15 a16 a17 a18 a19 a20 a21 a22 a23 a24 a25 a26 hF
  have hF' := tr_ready_More hF
  obtain ⟨_, _, rfl, rfl⟩ := hF
  refine br_t rfl (tr_depth (x := 0) (y := 0) (by omega) (by omega) hF' ?_)
  intro bx ht rc fa a1 a2 a3 a4 a5 a6 a7 a8 a9 a10 a11 a12 a13 a14 a15 a16 a17 a18 a19 a20 a21 a22 a23 a24 a25 a26 hG
  obtain ⟨_, _, _, rfl⟩ := hG
  exact br_f h2 K
end
section
/-! the law's loop over the pixels, and what stands behind it -/
theorem tr_law726 {post : Int32 → St0 → Prop} {mc ms kc ks : Nat} {ht fa : Int32} {a1 a2 a3 a4 a5 a6 a7 a8 a9 a10 a11 a12 a13 a14 a15 a16 a17 a18 a19 a20 a21 a22 a23 a24 a25 a26 : Nat → Int32} {X Y D : Nat → Int32} {c x17 z0 : Int32} {bk : Bool} (h3 : tr_cb3 X Y) (hc : tr_cor bk X Y D c a5 a6 a7 a8) (ha : 0 ≤ tr_ar X Y) (hbk : bk = true → ¬ tr_ar X Y ≤ 0)
    (r3 : a11 3 = 0) (r4 : a11 4 = 2) (r6 : a11 6 = 1) (h2 : ¬ 255 < a2 0) (h17 : x17 = if bk then 1 else 0) (hht : ht = nI (tr_cn (tr_cv X Y) 256)) (hx : z0 = if bk then 0 else nI (tr_cn (tr_cv X Y) 256))
    (K : post 1 ()) : wL_lawOf_726 post mc ms (tr_ar X Y) x17 59 ht z0 kc ks 3855 ht 0 fa a1 a2 a3 a4 a5 a6 a7 a8 a9 a10 a11 a12 a13 a14 a15 a16 a17 a18 a19 a20 a21 a22 a23 a24 a25 a26 := by
  unfold wL_lawOf_726
  have f : ∀ w : Int32, w = (if bk then nI (tr_cn (tr_cv X Y) 256) else 0) → wL_lawOf_744 post mc ms 59 ht z0 w kc ks 3855 ht 0 fa a1 a2 a3 a4 a5 a6 a7 a8 a9 a10 a11 a12 a13 a14 a15 a16 a17 a18 a19 a20 a21 a22 a23 a24 a25 a26 := fun w hw => tr_law744 h3 hc ha r3 r4 r6 h2 hx hw K
  refine br_c (fun g => f ht ?_) (fun g => br_c (fun g1 => f 0 ?_) (fun g1 => f ht ?_))
  · cases bk with
    | true => exact hht
    | false =>
      rw [hht, tr_cn_none 256 (fun p _ => tr_cv_zero (Int32.le_of_eq g) p)]
      rfl
  · cases bk with
    | true =>
      rw [h17] at g1
      exact absurd g1 (by decide)
    | false => rfl
  · cases bk with
    | true => exact hht
    | false => exact absurd h17 g1
theorem tr_law503 {post : Int32 → St0 → Prop} {mc ms kc ks i : Nat} {J : Int32 → Int32 → Int32 → Int32 → Int32 → Int32 → (Nat → Int32) → (Nat → Int32) → (Nat → Int32) → (Nat → Int32) → (Nat → Int32) → (Nat → Int32) → (Nat → Int32) → (Nat → Int32) → (Nat → Int32) → (Nat → Int32) → (Nat → Int32) → (Nat → Int32) → (Nat → Int32) → (Nat → Int32) → (Nat → Int32) → (Nat → Int32) → (Nat → Int32) → (Nat → Int32) → (Nat → Int32) → (Nat → Int32) → (Nat → Int32) → (Nat → Int32) → (Nat → Int32) → (Nat → Int32) → (Nat → Int32) → (Nat → Int32) → Prop} {bx ht rc fa : Int32} {a1 a2 a3 a4 a5 a6 a7 a8 a9 a10 a11 a12 a13 a14 a15 a16 a17 a18 a19 a20 a21 a22 a23 a24 a25 a26 : Nat → Int32} {X Y D : Nat → Int32} {c x6 x7 x8 x9 x10 x11 x12 x13 x14 x16 x17 x18 x19 x23 x24 : Int32} {A5 A6 A7 A8 A11 : Nat → Int32} (hi : i < 256)
    (h23 : x23 = if tr_cv X Y i then 1 else 0) (h24 : x24 = if tr_cv X Y i then tr_dep X Y D i else 255)
    (hu : tr_ready (tr_Fin X Y D c A5 A6 A7 A8 A11) (bx, ht, rc, fa, a1, a2, a3, a4, a5, a6, a7, a8, a9, a10, a11, a12, a13, a14, a15, a16, a17, a18, a19, a20, a21, a22, a23, a24, a25, a26)) (HJ : ∀ (bx ht rc fa : Int32) (a1 a2 a3 a4 a5 a6 a7 a8 a9 a10 a11 a12 a13 a14 a15 a16 a17 a18 a19 a20 a21 a22 a23 a24 a25 a26 : Nat → Int32), tr_Fin X Y D c A5 A6 A7 A8 A11 (bx, ht, rc, fa, a1, a2, a3, a4, a5, a6, a7, a8, a9, a10, a11, a12, a13, a14, a15, a16, a17, a18, a19, a20, a21, a22, a23, a24, a25, a26) → J x19 (nI (i + 1)) bx ht rc fa a1 a2 a3 a4 a5 a6 a7 a8 a9 a10 a11 a12 a13 a14 a15 a16 a17 a18 a19 a20 a21 a22 a23 a24 a25 a26) :
    wL_lawOf_503 post mc ms J x6 x7 x8 x9 x10 x11 x12 x13 x14 c x16 x17 x18 x19 (nI i) x23 x24 kc ks bx ht rc fa a1 a2 a3 a4 a5 a6 a7 a8 a9 a10 a11 a12 a13 a14 a15 a16 a17 a18 a19 a20 a21 a22 a23 a24 a25 a26 := by
  have er : nI i - nI i / 16 * 16 = nI (i % 16) := pk_rem (d := 16) (by omega) (by omega) (by omega)
  have ed : nI i / 16 = nI (i / 16) := pk_div (d := 16) (by omega) (by omega) (by omega)
  have ei : 16 * (i / 16) + i % 16 = i := by omega
  unfold wL_lawOf_503
  rw [er, ed]
  refine ⟨by decide, by decide, tr_mark (by omega) (by omega) hu ?_⟩
  clear hu
  intro bx ht rc fa a1 a2 a3 a4 a5 a6 a7 a8 a9 a10 a11 a12 a13 a14 a15 a16 a17 a18 a19 a20 a21 a22 a23 a24 a25 a26 hF
  rw [ei]
  have hm : a3 i = x23 := by
    obtain ⟨_, _, _, _, _, _, _, _, hp⟩ := hF
    exact (hp i hi).2.2.trans h23.symm
  have k : ∀ z, z = x23 → wL_lawOf_528 post mc ms J x6 x7 x8 x9 x10 x11 x12 x13 x14 c x16 x17 x18 x19 (nI i) x23 x24 z (a3 i) kc ks bx ht rc fa a1 a2 a3 a4 a5 a6 a7 a8 a9 a10 a11 a12 a13 a14 a15 a16 a17 a18 a19 a20 a21 a22 a23 a24 a25 a26 := by
    intro z hz
    unfold wL_lawOf_528
    rw [er, ed]
    refine br_t (hm.trans hz.symm) ⟨by decide, by decide, tr_depth (by omega) (by omega) (tr_ready_Fin hF) ?_⟩
    clear hF hm
    intro bx ht rc fa a1 a2 a3 a4 a5 a6 a7 a8 a9 a10 a11 a12 a13 a14 a15 a16 a17 a18 a19 a20 a21 a22 a23 a24 a25 a26 hF
    rw [ei]
    have hd : a2 i = x24 := by
      obtain ⟨_, _, _, _, _, _, _, _, hp⟩ := hF
      exact (hp i hi).2.1.trans h24.symm
    refine br_t hd ⟨by decide, by decide, tr_colour (by omega) (by omega) (tr_ready_Fin hF) ?_⟩
    clear hF hd
    intro bx ht rc fa a1 a2 a3 a4 a5 a6 a7 a8 a9 a10 a11 a12 a13 a14 a15 a16 a17 a18 a19 a20 a21 a22 a23 a24 a25 a26 hF
    rw [ei]
    have hc : a1 i = if tr_cv X Y i then c else 1 := by
      obtain ⟨_, _, _, _, _, _, _, _, hp⟩ := hF
      exact (hp i hi).1
    refine br_c (fun g => br_t ?_ (nm_r (nI_1 i) (HJ _ _ _ _ _ _ _ _ _ _ _ _ _ _ _ _ _ _ _ _ _ _ _ _ _ _ _ _ _ _ hF))) (fun g => br_t ?_ (nm_r (nI_1 i) (HJ _ _ _ _ _ _ _ _ _ _ _ _ _ _ _ _ _ _ _ _ _ _ _ _ _ _ _ _ _ _ hF)))
    · cases e : tr_cv X Y i with
      | false => rw [hc, e]; rfl
      | true =>
        rw [e] at h23
        exact absurd (h23.symm.trans g) (by decide)
    · cases e : tr_cv X Y i with
      | true => rw [hc, e]; rfl
      | false =>
        rw [e] at h23
        exact absurd h23 g
  refine br_c (fun g => k 0 g.symm) (fun g => k 1 ?_)
  cases e : tr_cv X Y i with
  | true => rw [h23, e]; rfl
  | false =>
    rw [e] at h23
    exact absurd h23 g
theorem tr_law414 {post : Int32 → St0 → Prop} {mc ms kc ks i : Nat} {J : Int32 → Int32 → Int32 → Int32 → Int32 → Int32 → (Nat → Int32) → (Nat → Int32) → (Nat → Int32) → (Nat → Int32) → (Nat → Int32) → (Nat → Int32) → (Nat → Int32) → (Nat → Int32) → (Nat → Int32) → (Nat → Int32) → (Nat → Int32) → (Nat → Int32) → (Nat → Int32) → (Nat → Int32) → (Nat → Int32) → (Nat → Int32) → (Nat → Int32) → (Nat → Int32) → (Nat → Int32) → (Nat → Int32) → (Nat → Int32) → (Nat → Int32) → (Nat → Int32) → (Nat → Int32) → (Nat → Int32) → (Nat → Int32) → Prop} {bx ht rc fa : Int32} {a1 a2 a3 a4 a5 a6 a7 a8 a9 a10 a11 a12 a13 a14 a15 a16 a17 a18 a19 a20 a21 a22 a23 a24 a25 a26 : Nat → Int32} {X Y D : Nat → Int32} {c x17 x18 z : Int32} {A5 A6 A7 A8 A11 : Nat → Int32} (hi : i < 256)
    (hz : z = if tr_cv X Y i then 1 else 0)
    (hu : tr_ready (tr_Fin X Y D c A5 A6 A7 A8 A11) (bx, ht, rc, fa, a1, a2, a3, a4, a5, a6, a7, a8, a9, a10, a11, a12, a13, a14, a15, a16, a17, a18, a19, a20, a21, a22, a23, a24, a25, a26)) (HJ : ∀ (bx ht rc fa : Int32) (a1 a2 a3 a4 a5 a6 a7 a8 a9 a10 a11 a12 a13 a14 a15 a16 a17 a18 a19 a20 a21 a22 a23 a24 a25 a26 : Nat → Int32), tr_Fin X Y D c A5 A6 A7 A8 A11 (bx, ht, rc, fa, a1, a2, a3, a4, a5, a6, a7, a8, a9, a10, a11, a12, a13, a14, a15, a16, a17, a18, a19, a20, a21, a22, a23, a24, a25, a26) → J (nI (tr_cn (tr_cv X Y) (i + 1))) (nI (i + 1)) bx ht rc fa a1 a2 a3 a4 a5 a6 a7 a8 a9 a10 a11 a12 a13 a14 a15 a16 a17 a18 a19 a20 a21 a22 a23 a24 a25 a26) :
    wL_lawOf_414 post mc ms J (X 0) (Y 0) (X 1) (Y 1) (X 2) (Y 2) (D 0) (D 1) (D 2) c (tr_ar X Y) x17 x18 (nI (tr_cn (tr_cv X Y) i)) (nI i) (tr_mx i) (tr_my i) z kc ks bx ht rc fa a1 a2 a3 a4 a5 a6 a7 a8 a9 a10 a11 a12 a13 a14 a15 a16 a17 a18 a19 a20 a21 a22 a23 a24 a25 a26 := by
  have hcn : tr_cn (tr_cv X Y) (i + 1) = tr_cn (tr_cv X Y) i + (if tr_cv X Y i then 1 else 0) := rfl
  have k : ∀ y : Int32, y = nI (tr_cn (tr_cv X Y) (i + 1)) → wL_lawOf_430 post mc ms J (X 0) (Y 0) (X 1) (Y 1) (X 2) (Y 2) (D 0) (D 1) (D 2) c (tr_ar X Y) x17 x18 (nI i) (tr_mx i) (tr_my i) z y kc ks bx ht rc fa a1 a2 a3 a4 a5 a6 a7 a8 a9 a10 a11 a12 a13 a14 a15 a16 a17 a18 a19 a20 a21 a22 a23 a24 a25 a26 := by
    intro y hy
    subst hy
    unfold wL_lawOf_430
    refine br_c (fun g => tr_law503 hi hz ?_ hu HJ) (fun g => tr_side (tr_side (tr_side ⟨?_, nm_r (show _ = tr_dep X Y D i from rfl) (tr_law503 hi hz ?_ hu HJ)⟩)))
    · cases e : tr_cv X Y i with
      | false => rfl
      | true =>
        rw [e] at hz
        exact absurd (hz.symm.trans g) (by decide)
    · cases e : tr_cv X Y i with
      | false =>
        rw [e] at hz
        exact absurd hz g
      | true =>
        intro q
        rw [tr_cv_zero (Int32.le_of_eq q)] at e
        exact absurd e (by decide)
    · cases e : tr_cv X Y i with
      | false =>
        rw [e] at hz
        exact absurd hz g
      | true => rfl
  unfold wL_lawOf_414
  refine br_c (fun g => k _ ?_) (fun g => k _ ?_)
  · rw [hcn]
    cases e : tr_cv X Y i with
    | false => rfl
    | true =>
      rw [e] at hz
      exact absurd (hz.symm.trans g) (by decide)
  · rw [hcn]
    cases e : tr_cv X Y i with
    | false =>
      rw [e] at hz
      exact absurd hz g
    | true => exact nI_1 _
theorem tr_le255 {X Y D : Nat → Int32} (h3 : tr_cb3 X Y) (hD : ∀ i, i < 3 → ∃ m : Nat, m ≤ 255 ∧ D i = nI m) {p : Nat} (hp : p < 256) {x : Int32} (hx : x = if tr_cv X Y p then tr_dep X Y D p else 255) : ¬ 255 < x := by
  cases e : tr_cv X Y p with
  | false =>
    rw [hx, e]
    exact Int32.lt_irrefl
  | true =>
    have g : ¬ tr_ar X Y ≤ 0 := fun z => by rw [tr_cv_zero z] at e; exact absurd e (by decide)
    rw [tr_cv_pos g] at e
    obtain ⟨m, hm, em⟩ := tr_depN h3 hp e g hD
    rw [hx, tr_cv_pos g, e]
    show ¬ 255 < tr_dep X Y D p
    rw [em]
    exact nI_nlt (a := 255) (b := m) (by omega) (by omega)
/-- behind the loop -/
theorem tr_lawEnd {post : Int32 → St0 → Prop} {mc ms kc ks n : Nat} {bx ht rc fa : Int32} {a1 a2 a3 a4 a5 a6 a7 a8 a9 a10 a11 a12 a13 a14 a15 a16 a17 a18 a19 a20 a21 a22 a23 a24 a25 a26 : Nat → Int32} {X Y D : Nat → Int32} {c x17 x6 x7 x8 x9 x10 x11 x12 x13 x14 x15 : Int32} {A5 A6 A7 A8 A11 : Nat → Int32} {bk : Bool} (h3 : tr_cb3 X Y) (hc : tr_cor bk X Y D c A5 A6 A7 A8) (ha : 0 ≤ tr_ar X Y) (hbk : bk = true → ¬ tr_ar X Y ≤ 0)
    (hD : ∀ i, i < 3 → ∃ m : Nat, m ≤ 255 ∧ D i = nI m) (r3 : A11 3 = 0) (r4 : A11 4 = 2) (r6 : A11 6 = 0) (h17 : x17 = if bk then 1 else 0)
    (hu : tr_ready (tr_Fin X Y D c A5 A6 A7 A8 A11) (bx, ht, rc, fa, a1, a2, a3, a4, a5, a6, a7, a8, a9, a10, a11, a12, a13, a14, a15, a16, a17, a18, a19, a20, a21, a22, a23, a24, a25, a26)) (K : post 1 ()) :
    wL_lawOf_316 post mc ms x6 x7 x8 x9 x10 x11 x12 x13 x14 x15 (tr_ar X Y) x17 59 kc ks (n + 1) (nI (tr_cn (tr_cv X Y) 256)) (nI 256) bx ht rc fa a1 a2 a3 a4 a5 a6 a7 a8 a9 a10 a11 a12 a13 a14 a15 a16 a17 a18 a19 a20 a21 a22 a23 a24 a25 a26 := by
  have e59 : (59 : Int32) = nI (tr_code bk bk 0) := by cases bk <;> decide
  have e139 : (139 : Int32) = nI (tr_code bk bk (if bk then 2 else 1)) := by cases bk <;> decide
  have e199 : (199 : Int32) = nI (tr_code bk (!bk) (if bk then 1 else 2)) := by cases bk <;> decide
  have l1 : (if bk then 2 else 1) < 3 := by cases bk <;> decide
  have l2 : (if bk then 1 else 2) < 3 := by cases bk <;> decide
  have n6 : ∀ o : Bool, ¬ (o = true ∧ A11 6 = 1) := fun o q => by rw [r6] at q; exact absurd q.2 (by decide)
  refine pk_le 256 256 (fun _ => tr_hits hu ?_) (fun z => absurd z (by omega))
  clear hu
  intro bx ht rc fa a1 a2 a3 a4 a5 a6 a7 a8 a9 a10 a11 a12 a13 a14 a15 a16 a17 a18 a19 a20 a21 a22 a23 a24 a25 a26 hF
  obtain ⟨rfl, rfl, rfl, rfl, rfl, rfl, rfl, rfl, hp⟩ := hF
  have h2 := tr_le255 h3 hD (p := 0) (by omega) (hp 0 (by omega)).2.1
  have hdep : ∀ p, p < 256 → tr_cv X Y p = true → a2 p = tr_dep X Y D p := by
    intro p hl e
    have := (hp p hl).2.1
    rw [e] at this
    exact this
  clear hp
  refine br_t rfl (tr_coveredW e59 (by omega) h3 hc ha (fun q => absurd q (n6 _)) (fun _ => rfl) ?_)
  intro b12 b13 b14 b15 b16 b17 b18 b19 b20 b21 b22 b23 b24 b25 b26
  refine br_t rfl (tr_coveredW e139 l1 h3 hc ha (fun q => absurd q (n6 _)) (fun _ => rfl) ?_)
  intro c12 c13 c14 c15 c16 c17 c18 c19 c20 c21 c22 c23 c24 c25 c26
  refine br_t rfl (tr_coveredW e199 l2 h3 hc ha (fun q => absurd q (n6 _)) (fun _ => rfl) ?_)
  intro d12 d13 d14 d15 d16 d17 d18 d19 d20 d21 d22 d23 d24 d25 d26
  refine br_t rfl (tr_covered47 (fun e26 => br_t rfl (tr_digest ?_)))
  refine tr_rule (w := 0) (v := 2) (m := 3) (by omega) (by omega) (by omega) tr_most0 ?_
  refine tr_drawW (N := 0) (A11 := upd a11 0 (nI 2)) e59 (by omega) (by omega) h3 hc ha (n6 _) (tr_pend0 ha) (fun v hv => ?_)
  obtain ⟨_, _, _, _, _, _, _, _, _, _, _, _, _, _, _, _, _, _, _, _, _, _, _, _, _, _, _, _, _, _⟩ := v
  refine br_t rfl (tr_drawW (N := 1) (A11 := upd a11 0 (nI 2)) e199 (by omega) l2 h3 hc ha (n6 _) hv (fun w hw => ?_))
  obtain ⟨_, _, _, _, _, _, _, _, _, _, _, _, _, _, _, _, _, _, _, _, _, _, _, _, _, _, _, _, _, _⟩ := w
  refine br_t rfl (tr_hits (tr_ready2 (N := 2) (A11 := upd a11 0 (nI 2)) (by omega) (by omega) h3 hdep rfl r3 hw) ?_)
  clear hv hw
  intro f_bx f_ht f_rc f_fa f1 f2 f3 f4 f5 f6 f7 f8 f9 f10 f11 f12 f13 f14 f15 f16 f17 f18 f19 f20 f21 f22 f23 f24 f25 f26 hS
  obtain ⟨rfl, rfl, rfl, rfl, rfl, rfl, rfl, rfl, rfl, rfl, rfl⟩ := hS
  refine br_t rfl (tr_digest (br_t rfl ?_))
  refine tr_rule (w := 6) (v := 1) (m := 1) (by omega) (by omega) (by omega) tr_most6 ?_
  refine br_c (fun g => tr_law726 (c := c) (D := D) h3 hc ha hbk r3 r4 rfl h2 h17 rfl ?_ K) (fun g => tr_law726 (c := c) (D := D) h3 hc ha hbk r3 r4 rfl h2 h17 rfl ?_ K)
  · cases bk with
    | true =>
      rw [h17] at g
      exact absurd g (by decide)
    | false => rfl
  · cases bk with
    | true => rfl
    | false => exact absurd h17 g
theorem tr_lawLoop {post : Int32 → St0 → Prop} {mc ms kc ks : Nat} {bx ht rc fa : Int32} {a1 a2 a3 a4 a5 a6 a7 a8 a9 a10 a11 a12 a13 a14 a15 a16 a17 a18 a19 a20 a21 a22 a23 a24 a25 a26 : Nat → Int32} {X Y D : Nat → Int32} {c x17 : Int32} {A5 A6 A7 A8 A11 : Nat → Int32} {bk : Bool} (h3 : tr_cb3 X Y) (hc : tr_cor bk X Y D c A5 A6 A7 A8) (ha : 0 ≤ tr_ar X Y) (hbk : bk = true → ¬ tr_ar X Y ≤ 0)
    (hD : ∀ i, i < 3 → ∃ m : Nat, m ≤ 255 ∧ D i = nI m) (r3 : A11 3 = 0) (r4 : A11 4 = 2) (r6 : A11 6 = 0) (h17 : x17 = if bk then 1 else 0)
    (hu : tr_ready (tr_Fin X Y D c A5 A6 A7 A8 A11) (bx, ht, rc, fa, a1, a2, a3, a4, a5, a6, a7, a8, a9, a10, a11, a12, a13, a14, a15, a16, a17, a18, a19, a20, a21, a22, a23, a24, a25, a26)) (K : post 1 ()) :
    ∃ n, wL_lawOf_316 post mc ms (X 0) (Y 0) (X 1) (Y 1) (X 2) (Y 2) (D 0) (D 1) (D 2) c (tr_ar X Y) x17 59 kc ks n 0 0 bx ht rc fa a1 a2 a3 a4 a5 a6 a7 a8 a9 a10 a11 a12 a13 a14 a15 a16 a17 a18 a19 a20 a21 a22 a23 a24 a25 a26 := by
  refine pk_loop (σ := St2) (fun n i s => wL_lawOf_316 post mc ms (X 0) (Y 0) (X 1) (Y 1) (X 2) (Y 2) (D 0) (D 1) (D 2) c (tr_ar X Y) x17 59 kc ks n (nI (tr_cn (tr_cv X Y) i)) (nI i) s.1 s.2.1 s.2.2.1 s.2.2.2.1 s.2.2.2.2.1 s.2.2.2.2.2.1 s.2.2.2.2.2.2.1 s.2.2.2.2.2.2.2.1 s.2.2.2.2.2.2.2.2.1 s.2.2.2.2.2.2.2.2.2.1 s.2.2.2.2.2.2.2.2.2.2.1 s.2.2.2.2.2.2.2.2.2.2.2.1 s.2.2.2.2.2.2.2.2.2.2.2.2.1 s.2.2.2.2.2.2.2.2.2.2.2.2.2.1 s.2.2.2.2.2.2.2.2.2.2.2.2.2.2.1 s.2.2.2.2.2.2.2.2.2.2.2.2.2.2.2.1 s.2.2.2.2.2.2.2.2.2.2.2.2.2.2.2.2.1 s.2.2.2.2.2.2.2.2.2.2.2.2.2.2.2.2.2.1 s.2.2.2.2.2.2.2.2.2.2.2.2.2.2.2.2.2.2.1 s.2.2.2.2.2.2.2.2.2.2.2.2.2.2.2.2.2.2.2.1 s.2.2.2.2.2.2.2.2.2.2.2.2.2.2.2.2.2.2.2.2.1 s.2.2.2.2.2.2.2.2.2.2.2.2.2.2.2.2.2.2.2.2.2.1 s.2.2.2.2.2.2.2.2.2.2.2.2.2.2.2.2.2.2.2.2.2.2.1 s.2.2.2.2.2.2.2.2.2.2.2.2.2.2.2.2.2.2.2.2.2.2.2.1 s.2.2.2.2.2.2.2.2.2.2.2.2.2.2.2.2.2.2.2.2.2.2.2.2.1 s.2.2.2.2.2.2.2.2.2.2.2.2.2.2.2.2.2.2.2.2.2.2.2.2.2.1 s.2.2.2.2.2.2.2.2.2.2.2.2.2.2.2.2.2.2.2.2.2.2.2.2.2.2.1 s.2.2.2.2.2.2.2.2.2.2.2.2.2.2.2.2.2.2.2.2.2.2.2.2.2.2.2.1 s.2.2.2.2.2.2.2.2.2.2.2.2.2.2.2.2.2.2.2.2.2.2.2.2.2.2.2.2.1 s.2.2.2.2.2.2.2.2.2.2.2.2.2.2.2.2.2.2.2.2.2.2.2.2.2.2.2.2.2)
    (fun i s => tr_ready (tr_Fin X Y D c A5 A6 A7 A8 A11) s) 256 0 (bx, ht, rc, fa, a1, a2, a3, a4, a5, a6, a7, a8, a9, a10, a11, a12, a13, a14, a15, a16, a17, a18, a19, a20, a21, a22, a23, a24, a25, a26) (by omega) hu ?_ ?_
  · intro n s hI
    obtain ⟨bx, ht, rc, fa, a1, a2, a3, a4, a5, a6, a7, a8, a9, a10, a11, a12, a13, a14, a15, a16, a17, a18, a19, a20, a21, a22, a23, a24, a25, a26⟩ := s
    exact tr_lawEnd h3 hc ha hbk hD r3 r4 r6 h17 hI K
  · intro n i s hi hI hw
    obtain ⟨bx, ht, rc, fa, a1, a2, a3, a4, a5, a6, a7, a8, a9, a10, a11, a12, a13, a14, a15, a16, a17, a18, a19, a20, a21, a22, a23, a24, a25, a26⟩ := s
    have hJ : ∀ (bx ht rc fa : Int32) (a1 a2 a3 a4 a5 a6 a7 a8 a9 a10 a11 a12 a13 a14 a15 a16 a17 a18 a19 a20 a21 a22 a23 a24 a25 a26 : Nat → Int32), tr_Fin X Y D c A5 A6 A7 A8 A11 (bx, ht, rc, fa, a1, a2, a3, a4, a5, a6, a7, a8, a9, a10, a11, a12, a13, a14, a15, a16, a17, a18, a19, a20, a21, a22, a23, a24, a25, a26) → wL_lawOf_316 post mc ms (X 0) (Y 0) (X 1) (Y 1) (X 2) (Y 2) (D 0) (D 1) (D 2) c (tr_ar X Y) x17 59 kc ks n (nI (tr_cn (tr_cv X Y) (i + 1))) (nI (i + 1)) bx ht rc fa a1 a2 a3 a4 a5 a6 a7 a8 a9 a10 a11 a12 a13 a14 a15 a16 a17 a18 a19 a20 a21 a22 a23 a24 a25 a26 :=
      fun bx ht rc fa a1 a2 a3 a4 a5 a6 a7 a8 a9 a10 a11 a12 a13 a14 a15 a16 a17 a18 a19 a20 a21 a22 a23 a24 a25 a26 hF => hw (bx, ht, rc, fa, a1, a2, a3, a4, a5, a6, a7, a8, a9, a10, a11, a12, a13, a14, a15, a16, a17, a18, a19, a20, a21, a22, a23, a24, a25, a26) (tr_ready_Fin hF)
    have er : (16 * (nI i - nI i / 16 * 16)) + 8 = tr_mx i := by
      rw [show nI i - nI i / 16 * 16 = nI (i % 16) from pk_rem (d := 16) (by omega) (by omega) (by omega), tr_16p8]
      rfl
    have ed : (16 * (nI i / 16)) + 8 = tr_my i := by
      rw [show nI i / 16 = nI (i / 16) from pk_div (d := 16) (by omega) (by omega) (by omega), tr_16p8]
      rfl
    have k : ∀ z, z = (if tr_cv X Y i then 1 else 0) → wL_lawOf_414 post mc ms (wL_lawOf_316 post mc ms (X 0) (Y 0) (X 1) (Y 1) (X 2) (Y 2) (D 0) (D 1) (D 2) c (tr_ar X Y) x17 59 kc ks n) (X 0) (Y 0) (X 1) (Y 1) (X 2) (Y 2) (D 0) (D 1) (D 2) c (tr_ar X Y) x17 59 (nI (tr_cn (tr_cv X Y) i)) (nI i) (tr_mx i) (tr_my i) z kc ks bx ht rc fa a1 a2 a3 a4 a5 a6 a7 a8 a9 a10 a11 a12 a13 a14 a15 a16 a17 a18 a19 a20 a21 a22 a23 a24 a25 a26 :=
      fun z hz => tr_law414 hi hz hI hJ
    have k0 : tr_cv X Y i = false → wL_lawOf_413 post mc ms (wL_lawOf_316 post mc ms (X 0) (Y 0) (X 1) (Y 1) (X 2) (Y 2) (D 0) (D 1) (D 2) c (tr_ar X Y) x17 59 kc ks n) (X 0) (Y 0) (X 1) (Y 1) (X 2) (Y 2) (D 0) (D 1) (D 2) c (tr_ar X Y) x17 59 (nI (tr_cn (tr_cv X Y) i)) (nI i) (tr_mx i) (tr_my i) kc ks bx ht rc fa a1 a2 a3 a4 a5 a6 a7 a8 a9 a10 a11 a12 a13 a14 a15 a16 a17 a18 a19 a20 a21 a22 a23 a24 a25 a26 := by
      intro e
      unfold wL_lawOf_413
      exact k 0 (by rw [e]; rfl)
    refine pk_le 256 i (fun z => absurd z (by omega)) (fun _ => ⟨by decide, nm_r er ⟨by decide, nm_r ed (br_c (fun g => k0 (tr_cv_zero g i)) (fun g => ?_))⟩⟩)
    have n1 : tr_I X Y 1 2 i = false → tr_cv X Y i = false := fun e => by rw [tr_cv_pos g]; exact tr_cov_no (j := 0) (by omega) e
    have n2 : tr_I X Y 2 0 i = false → tr_cv X Y i = false := fun e => by rw [tr_cv_pos g]; exact tr_cov_no (j := 1) (by omega) e
    have n3 : tr_I X Y 0 1 i = false → tr_cv X Y i = false := fun e => by rw [tr_cv_pos g]; exact tr_cov_no (j := 2) (by omega) e
    refine tr_inside (fun e1 => br_f (by decide) (tr_inside (fun e2 => br_f (by decide) (tr_inside (fun e3 => br_f (by decide) (k 1 ?_)) (fun e => br_t rfl (k0 (n3 e))))) (fun e => br_t rfl (k0 (n2 e))))) (fun e => br_t rfl (k0 (n1 e)))
    have : tr_cv X Y i = true := by
      rw [tr_cv_pos g]
      unfold tr_cov tr_I
      rw [e1, e2, e3]
      rfl
    rw [this]
    rfl
end
section
theorem tr_law267 {post : Int32 → St0 → Prop} {mc ms kc ks c : Nat} {fa : Int32} {a1 a2 a3 a4 a5 a6 a7 a8 a9 a10 a11 a12 a13 a14 a15 a16 a17 a18 a19 a20 a21 a22 a23 a24 a25 a26 : Nat → Int32} {X Y D : Nat → Int32} {x17 : Int32} {bk : Bool} (h3 : tr_cb3 X Y) (hc : tr_cor bk X Y D (nI c) a5 a6 a7 a8) (ha : 0 ≤ tr_ar X Y) (hbk : bk = true → ¬ tr_ar X Y ≤ 0)
    (hD : ∀ i, i < 3 → ∃ m : Nat, m ≤ 255 ∧ D i = nI m) (hc' : c < 16777216) (h11 : ∀ k, k < 8 → a11 k = (if k = 0 then 2 else if k = 1 then 1 else 0)) (h17 : x17 = if bk then 1 else 0) (K : post 1 ()) :
    wL_lawOf_267 post mc ms (X 0) (Y 0) (X 1) (Y 1) (X 2) (Y 2) (D 0) (D 1) (D 2) (nI c) (tr_ar X Y) x17 kc ks 3855 0 0 fa a1 a2 a3 a4 a5 a6 a7 a8 a9 a10 a11 a12 a13 a14 a15 a16 a17 a18 a19 a20 a21 a22 a23 a24 a25 a26 := by
  have e59 : (59 : Int32) = nI (tr_code bk bk 0) := by cases bk <;> decide
  have q1 : a11 1 = 1 := h11 1 (by omega)
  have q2 : a11 2 = 0 := h11 2 (by omega)
  have q3 : a11 3 = 0 := h11 3 (by omega)
  have q6 : a11 6 = 0 := h11 6 (by omega)
  have q7 : a11 7 = 0 := h11 7 (by omega)
  unfold wL_lawOf_267
  refine tr_clear (fun b1 b2 b3 hb => ?_)
  refine tr_rule (w := 0) (v := 3) (m := 3) (by omega) (by omega) (by omega) tr_most0 ?_
  refine tr_rule (w := 4) (v := 2) (m := 3) (by omega) (by omega) (by omega) tr_most4 ?_
  refine tr_drawW (N := 0) (A11 := upd (upd a11 0 (nI 3)) 4 (nI 2)) e59 (by omega) (by omega) h3 hc ha (fun q => absurd (q6.symm.trans q.2) (by decide)) (tr_pend0 ha) (fun v hv => ?_)
  obtain ⟨_, _, _, _, _, _, _, _, _, _, _, _, _, _, _, _, _, _, _, _, _, _, _, _, _, _, _, _, _, _⟩ := v
  refine br_t rfl ?_
  exact tr_lawLoop (A11 := upd (upd a11 0 (nI 3)) 4 (nI 2)) h3 hc ha hbk hD q3 rfl q6 h17 (tr_ready1 (A11 := upd (upd a11 0 (nI 3)) 4 (nI 2)) h3 hD hc' hb rfl q1 q2 q3 rfl q7 hv) K
def tr_v3 (a b c : Int32) : Nat → Int32
  | 0 => a
  | 1 => b
  | _ => c
theorem tr_cb_v3 {a b c d e f : Int32} (h1 : tr_cb a) (h2 : tr_cb b) (h3 : tr_cb c) (h4 : tr_cb d) (h5 : tr_cb e) (h6 : tr_cb f) : tr_cb3 (tr_v3 a c e) (tr_v3 b d f) := by
  intro i hi
  match i, hi with
  | 0, _ => exact ⟨h1, h2⟩
  | 1, _ => exact ⟨h3, h4⟩
  | 2, _ => exact ⟨h5, h6⟩
  | i + 3, hi => omega
theorem tr_v3_D {a b c : Nat} (h1 : a ≤ 255) (h2 : b ≤ 255) (h3 : c ≤ 255) : ∀ i, i < 3 → ∃ m : Nat, m ≤ 255 ∧ tr_v3 (nI a) (nI b) (nI c) i = nI m := by
  intro i hi
  match i, hi with
  | 0, _ => exact ⟨a, h1, rfl⟩
  | 1, _ => exact ⟨b, h2, rfl⟩
  | 2, _ => exact ⟨c, h3, rfl⟩
  | i + 3, hi => omega
theorem tr_lawOf {post : Int32 → St0 → Prop} {p0 p1 p2 p3 : Int32} (K : post 1 ()) : wpL_lawOf post 27 1260 () p0 p1 p2 p3 := by
  obtain ⟨da, hda, eda⟩ := pk_andE p2 (m := 255) 8 (by decide)
  obtain ⟨db, hdb, edb⟩ := pk_andE (p2 >>> ((8 : Int32) &&& 31)) (m := 255) 8 (by decide)
  obtain ⟨dc, hdc, edc⟩ := pk_andE (p2 >>> ((16 : Int32) &&& 31)) (m := 255) 8 (by decide)
  obtain ⟨cl, hcl, ecl⟩ := pk_andE (p3 >>> ((8 : Int32) &&& 31)) (m := 16777215) 24 (by decide)
  refine ⟨by decide, by decide, 26, 1230, by decide, by decide, tr_init ?_⟩
  intro fa a1 a2 a3 a4 a5 a6 a7 a8 a9 a10 a11 a12 a13 a14 a15 a16 a17 a18 a19 a20 a21 a22 a23 a24 a25 a26 h11
  refine ⟨by decide, nm_e ?_⟩
  refine tr_place (fun ax hax => tr_place (fun ay hay => tr_place (fun bx hbx => tr_place (fun by1 hby => tr_place (fun cx hcx => tr_place (fun cy hcy => ?_))))))
  refine nm_r eda (nm_r edb (nm_r edc (nm_r ecl ?_)))
  refine tr_corner (k := 1) (by omega) (by omega) (by omega) hax hay ?_
  refine tr_corner (k := 3) (by omega) (by omega) (by omega) hbx hby ?_
  refine tr_corner (k := 5) (by omega) (by omega) (by omega) hcx hcy ?_
  have hb := (tr_sdI hax hay hbx hby hcx hcy).2
  refine tr_side (br_c (fun g => ?_) (fun g => ?_))
  · refine br_t rfl ?_
    refine tr_law267 (bk := false) (X := tr_v3 ax bx cx) (Y := tr_v3 ay by1 cy) (D := tr_v3 (nI da) (nI db) (nI dc)) (tr_cb_v3 hax hay hbx hby hcx hcy) ?_ g (fun z => absurd z (by decide)) (tr_v3_D (by omega) (by omega) (by omega)) (by omega) h11 rfl K
    intro i hi
    match i, hi with
    | 0, _ => exact ⟨rfl, rfl, rfl, rfl⟩
    | 1, _ => exact ⟨rfl, rfl, rfl, rfl⟩
    | 2, _ => exact ⟨rfl, rfl, rfl, rfl⟩
    | i + 3, hi => omega
  · have hneg : (-tr_sd ax ay bx by1 cx cy).toInt = -(tr_sd ax ay bx by1 cx cy).toInt := tr_negI (by omega)
    have hn : (tr_sd ax ay bx by1 cx cy).toInt < 0 := by
      rw [tr_leI, tr_0I] at g
      omega
    have e : -tr_sd ax ay bx by1 cx cy = tr_ar (tr_v3 ax cx bx) (tr_v3 ay cy by1) := (tr_swp ax ay bx by1 cx cy).symm
    refine br_f (by decide) (nm_r e ?_)
    rw [e] at hneg
    refine tr_law267 (bk := true) (X := tr_v3 ax cx bx) (Y := tr_v3 ay cy by1) (D := tr_v3 (nI da) (nI dc) (nI db)) (tr_cb_v3 hax hay hcx hcy hbx hby) ?_ (by rw [tr_leI, tr_0I, hneg]; omega) (fun _ z => by rw [tr_leI, tr_0I, hneg] at z; omega) (tr_v3_D (by omega) (by omega) (by omega)) (by omega) h11 rfl K
    intro i hi
    match i, hi with
    | 0, _ => exact ⟨rfl, rfl, rfl, rfl⟩
    | 1, _ => exact ⟨rfl, rfl, rfl, rfl⟩
    | 2, _ => exact ⟨rfl, rfl, rfl, rfl⟩
    | i + 3, hi => omega
theorem tr_cellAt {post : Int32 → Prop} {L k : Nat} {xs : Nat → Int32} {u : St0} (hL : L ≤ 4) (hk : k < 4) (H : ∀ v, post v) : wpL_cellAt post L xs u (nI k) :=
  pk_le L k (fun _ => H 0) (fun z => ⟨pk_in k L z, H _⟩)
theorem i_vc (xs : Nat → Int32) (L : Nat) (hL : L ≤ 4) : wpL_law (fun r => r = 1) L xs := by
  unfold wpL_law
  refine tr_cellAt (k := 0) hL (by omega) (fun v0 => tr_cellAt (k := 1) hL (by omega) (fun v1 => tr_cellAt (k := 2) hL (by omega) (fun v2 => tr_cellAt (k := 3) hL (by omega) (fun v3 => ?_))))
  exact ⟨27, 1260, by decide, by decide, tr_lawOf rfl⟩
end
