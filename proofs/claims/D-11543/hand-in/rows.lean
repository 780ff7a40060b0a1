section
/-! ints as whole numbers -/
/-- x is the whole number v, at most B from nought -/
def om_v (x : Int32) (v B : Int) : Prop := x.toInt = v ∧ -B ≤ v ∧ v ≤ B
theorem om_w {x : Int32} {v B C : Int} (h : om_v x v B) (hc : B ≤ C) : om_v x v C := ⟨h.1, by have := h.2.1; omega, by have := h.2.2; omega⟩
theorem om_r {x : Int32} {v w B : Int} (h : om_v x v B) (e : v = w) : om_v x w B := e ▸ h
theorem om_add {x y : Int32} {v w B C : Int} (h : om_v x v B) (k : om_v y w C) (hb : B + C ≤ 2147483647) : om_v (x + y) (v + w) (B + C) := by
  obtain ⟨rfl, h1, h2⟩ := h
  obtain ⟨rfl, k1, k2⟩ := k
  refine ⟨?_, by omega, by omega⟩
  rw [Int32.toInt_add]
  exact Int.bmod_eq_of_le (by omega) (by omega)
theorem om_sub {x y : Int32} {v w B C : Int} (h : om_v x v B) (k : om_v y w C) (hb : B + C ≤ 2147483647) : om_v (x - y) (v - w) (B + C) := by
  obtain ⟨rfl, h1, h2⟩ := h
  obtain ⟨rfl, k1, k2⟩ := k
  refine ⟨?_, by omega, by omega⟩
  rw [Int32.toInt_sub]
  exact Int.bmod_eq_of_le (by omega) (by omega)
theorem om_neg {x : Int32} {v B : Int} (h : om_v x v B) (hb : B ≤ 2147483647) : om_v (-x) (-v) B := by
  obtain ⟨rfl, h1, h2⟩ := h
  refine ⟨?_, by omega, by omega⟩
  rw [Int32.toInt_neg]
  exact Int.bmod_eq_of_le (by omega) (by omega)
theorem om_mb {v w B C : Int} (h1 : -B ≤ v) (h2 : v ≤ B) (k1 : -C ≤ w) (k2 : w ≤ C) : -(B * C) ≤ v * w ∧ v * w ≤ B * C := by
  have e1 := Int.mul_nonneg (show 0 ≤ B - v by omega) (show 0 ≤ C + w by omega)
  have e2 := Int.mul_nonneg (show 0 ≤ B + v by omega) (show 0 ≤ C - w by omega)
  have e3 := Int.mul_nonneg (show 0 ≤ B - v by omega) (show 0 ≤ C - w by omega)
  have e4 := Int.mul_nonneg (show 0 ≤ B + v by omega) (show 0 ≤ C + w by omega)
  simp only [Int.sub_mul, Int.mul_add, Int.mul_sub, Int.add_mul] at e1 e2 e3 e4
  constructor <;> omega
theorem om_mul {x y : Int32} {v w B C : Int} (h : om_v x v B) (k : om_v y w C) (hb : B * C ≤ 2147483647) : om_v (x * y) (v * w) (B * C) := by
  obtain ⟨rfl, h1, h2⟩ := h
  obtain ⟨rfl, k1, k2⟩ := k
  obtain ⟨e1, e2⟩ := om_mb h1 h2 k1 k2
  refine ⟨?_, e1, e2⟩
  rw [Int32.toInt_mul]
  exact Int.bmod_eq_of_le (by omega) (by omega)
theorem om_tn (n : Nat) (h : n < 2 ^ 31) : (nI n).toInt = (n : Int) := nI_toInt h
theorem om_nv {n : Nat} {B : Int} (h : (n : Int) ≤ B) (hb : B ≤ 2147483647) : om_v (nI n) n B := ⟨nI_toInt (by omega), by omega, h⟩
theorem om_eqI {x y : Int32} {v : Int} (h : x.toInt = v) (k : y.toInt = v) : x = y := Int32.toInt_inj.mp (h.trans k.symm)
theorem om_le {x y : Int32} {v w B C : Int} (h : om_v x v B) (k : om_v y w C) : x ≤ y ↔ v ≤ w := by
  rw [Int32.le_iff_toInt_le, h.1, k.1]
theorem om_lt {x y : Int32} {v w B C : Int} (h : om_v x v B) (k : om_v y w C) : x < y ↔ v < w := by
  rw [Int32.lt_iff_toInt_lt, h.1, k.1]
theorem om_eq {x y : Int32} {v w B C : Int} (h : om_v x v B) (k : om_v y w C) : x = y ↔ v = w := by
  rw [← Int32.toInt_inj, h.1, k.1]
theorem om_0 : om_v 0 0 0 := ⟨by decide, by decide, by decide⟩
theorem om_1 : om_v 1 1 1 := ⟨by decide, by decide, by decide⟩
theorem om_m1 : om_v (-1) (-1) 1 := ⟨by decide, by decide, by decide⟩
theorem om_6 : om_v 6 6 6 := ⟨by decide, by decide, by decide⟩
theorem om_m6 : om_v (-6) (-6) 6 := ⟨by decide, by decide, by decide⟩
theorem om_100 : om_v 100 100 100 := ⟨by decide, by decide, by decide⟩
/-! places -/
theorem om_3 (m : Nat) : (3 : Int32) * nI m = nI (3 * m) := pk_mul 3 m
theorem om_31 (m : Nat) : (3 : Int32) * nI m + 1 = nI (3 * m + 1) := by rw [om_3, nI_1]
theorem om_32 (m : Nat) : (3 : Int32) * nI m + 2 = nI (3 * m + 2) := by rw [om_3]; exact nI_add _ 2
theorem om_c3 {m : Nat} (h : m < 100000) : ((3 : Int32) * nI m).toNatClampNeg = 3 * m := pk_cl (3 * m) (om_3 m)
theorem om_c31 {m : Nat} (h : m < 100000) : ((3 : Int32) * nI m + 1).toNatClampNeg = 3 * m + 1 := pk_cl (3 * m + 1) (om_31 m)
theorem om_c32 {m : Nat} (h : m < 100000) : ((3 : Int32) * nI m + 2).toNatClampNeg = 3 * m + 2 := pk_cl (3 * m + 2) (om_32 m)
theorem om_c {m : Nat} (h : m < 100000) : (nI m).toNatClampNeg = m := nI_clamp (by omega)
/-! division -/
theorem om_tdiv {x g : Int32} {v w : Int} (h : om_v x v 10000) (k : om_v g w 10000) : om_v (x / g) (v.tdiv w) 10000 := by
  have e := Int.natAbs_tdiv_le_natAbs v w
  obtain ⟨h0, h1, h2⟩ := h
  obtain ⟨k0, k1, k2⟩ := k
  refine ⟨?_, by omega, by omega⟩
  rw [Int32.toInt_div, h0, k0]
  exact Int.bmod_eq_of_le (by omega) (by omega)
theorem om_trem {x g : Int32} {v w : Int} (h : om_v x v 10000) (k : om_v g w 10000) : om_v (x - x / g * g) (v - v.tdiv w * w) 200000000 :=
  om_w (om_sub h (om_mul (om_tdiv h k) k (by decide)) (by decide)) (by decide)
theorem om_fd1 {v w : Int} (hw : 0 < w) (h : 0 ≤ v - v.tdiv w * w) : v.tdiv w = v / w := by
  rw [Int.tdiv_eq_ediv] at h ⊢
  have e1 := Int.emod_lt_of_pos v hw
  have e2 := Int.emod_def v w
  have e3 : w * (v / w) = v / w * w := Int.mul_comm _ _
  by_cases c : 0 ≤ v ∨ w ∣ v
  · rw [if_pos c]; omega
  · rw [if_neg c, Int.sign_eq_one_of_pos hw, Int.add_mul] at h
    omega
theorem om_fd2 {v w : Int} (hw : 0 < w) (h : ¬ 0 ≤ v - v.tdiv w * w) : v.tdiv w - 1 = v / w := by
  rw [Int.tdiv_eq_ediv] at h ⊢
  have e1 := Int.emod_nonneg v (show w ≠ 0 by omega)
  have e2 := Int.emod_def v w
  have e3 : w * (v / w) = v / w * w := Int.mul_comm _ _
  by_cases c : 0 ≤ v ∨ w ∣ v
  · rw [if_pos c, Int.add_mul] at h; omega
  · rw [if_neg c, Int.sign_eq_one_of_pos hw]; omega
theorem om_edb {v w B : Int} (hw : 0 < w) (h1 : -B ≤ v) (h2 : v ≤ B) : -B ≤ v / w ∧ v / w ≤ B := by
  have e1 := Int.mul_nonneg (show 0 ≤ B by omega) (show 0 ≤ w - 1 by omega)
  rw [Int.mul_sub] at e1
  constructor
  · rw [Int.le_ediv_iff_mul_le hw, Int.neg_mul]; omega
  · have : v / w < B + 1 := by
      rw [Int.ediv_lt_iff_lt_mul hw, Int.add_mul]; omega
    omega
theorem om_floor {post : Int32 → Prop} {x g : Int32} {v w B : Int} (h : om_v x v B) (hB : B ≤ 10000) (k : om_v g w 10000) (hw : 0 < w) (H : ∀ r, om_v r (v / w) B → post r) : wpX_floorDivide post () x g := by
  have h' : om_v x v 10000 := om_w h hB
  have hg : ¬ g = 0 := fun z => by rw [om_eq k om_0] at z; omega
  have q := om_tdiv h' k
  have b := om_edb hw h.2.1 h.2.2
  refine ⟨hg, nm_e ⟨hg, ?_⟩⟩
  rw [om_le om_0 (om_trem h' k)]
  refine ⟨fun z => H _ ⟨?_, b.1, b.2⟩, fun z => H _ ⟨?_, b.1, b.2⟩⟩
  · rw [← om_fd1 hw z]; exact q.1
  · rw [← om_fd2 hw z]; exact (om_sub q om_1 (by decide)).1
/-! the common divisor -/
theorem om_amount {post : Int32 → Prop} {x : Int32} {v : Int} (h : om_v x v 10000) (H : post (nI v.natAbs)) : wpX_amount post () x := by
  obtain ⟨h0, h1, h2⟩ := h
  have e : (nI v.natAbs).toInt = (v.natAbs : Int) := nI_toInt (by omega)
  refine ⟨fun z => ?_, fun z => ?_⟩
  · rw [om_le om_0 ⟨h0, h1, h2⟩] at z
    rw [om_eqI (x := x) (y := nI v.natAbs) h0 (by omega)]; exact H
  · rw [om_le om_0 ⟨h0, h1, h2⟩] at z
    rw [om_eqI (x := -x) (y := nI v.natAbs) (om_neg (x := x) ⟨h0, h1, h2⟩ (by decide)).1 (by omega)]; exact H
theorem om_half {a b k : Nat} (h0 : 0 < a) (h : a ≤ b) (hk : a * b < 2 ^ (k + 1)) : b % a * a < 2 ^ k := by
  have e1 := Nat.div_add_mod b a
  have e2 : 1 ≤ b / a := Nat.div_pos h h0
  have e3 := Nat.mod_lt b h0
  have e4 : a * 1 ≤ a * (b / a) := Nat.mul_le_mul_left a e2
  have e5 : 2 * (b % a) ≤ b := by omega
  have e6 : 2 * (b % a) * a ≤ b * a := Nat.mul_le_mul_right a e5
  rw [Nat.mul_assoc, Nat.mul_comm b a] at e6
  rw [Nat.pow_succ] at hk
  omega
theorem om_dl {post : Int32 → Prop} {X Y : Nat} (H : ∀ g : Nat, 0 < g → g ≤ 10000 → g ∣ X → g ∣ Y → post (nI g)) : ∀ k a b s n : Nat, a ≤ b → 0 < b → b ≤ 10000 → a * b < 2 ^ k → s + k ≤ 39 → k < n → (∀ g : Nat, g ∣ a → g ∣ b → g ∣ X ∧ g ∣ Y) → wX_divisorOf_13 post n (nI a) (nI b) (nI s) := by
  intro k
  induction k with
  | zero =>
    intro a b s n h1 h2 h3 h4 h5 h6 h7
    obtain ⟨n, rfl⟩ : ∃ m, n = m + 1 := ⟨n - 1, by omega⟩
    have ha : a = 0 := by
      rcases Nat.eq_zero_or_pos a with z | z
      · exact z
      · have := Nat.mul_pos z h2; omega
    subst ha
    have hd := h7 b (Nat.dvd_zero b) (Nat.dvd_refl b)
    exact pk_le 40 s (fun z => absurd z (by omega)) (fun _ => pk_le 0 0 (fun _ => H b h2 h3 hd.1 hd.2) (fun z => absurd z (by omega)))
  | succ k ih =>
    intro a b s n h1 h2 h3 h4 h5 h6 h7
    obtain ⟨n, rfl⟩ : ∃ m, n = m + 1 := ⟨n - 1, by omega⟩
    refine pk_le 40 s (fun z => absurd z (by omega)) (fun _ => pk_le a 0 (fun z => ?_) (fun z => ?_))
    · have ha : a = 0 := by omega
      subst ha
      have hd := h7 b (Nat.dvd_zero b) (Nat.dvd_refl b)
      exact H b h2 h3 hd.1 hd.2
    · refine ⟨nI_ne0 z (by omega), nm_r (pk_rem (by omega) z (by omega)) (nm_r (nI_1 s) (ih _ _ _ _ (Nat.le_of_lt (Nat.mod_lt b z)) z (by omega) (om_half z h1 h4) (by omega) (by omega) ?_))⟩
      intro g g1 g2
      exact h7 g g2 ((Nat.dvd_mod_iff g2).mp g1)
theorem om_gcd {post : Int32 → Prop} {x y : Int32} {v w : Int} (hx : om_v x v 10000) (hy : om_v y w 10000) (hn : v ≠ 0 ∨ w ≠ 0) (H : ∀ g : Nat, 0 < g → g ≤ 10000 → (g : Int) ∣ v → (g : Int) ∣ w → post (nI g)) : wpX_divisorOf post () x y := by
  unfold wpX_divisorOf
  refine om_amount hx (om_amount hy ?_)
  have H' : ∀ g : Nat, 0 < g → g ≤ 10000 → g ∣ v.natAbs → g ∣ w.natAbs → post (nI g) := fun g a b c d => H g a b (Int.ofNat_dvd_left.mpr c) (Int.ofNat_dvd_left.mpr d)
  have bx : v.natAbs ≤ 10000 := by have := hx.2; omega
  have bw : w.natAbs ≤ 10000 := by have := hy.2; omega
  have ne : v.natAbs ≠ 0 ∨ w.natAbs ≠ 0 := by omega
  revert H' bx bw ne
  generalize v.natAbs = a
  generalize w.natAbs = b
  intro H' ba bb ne
  have pr : ∀ c d : Nat, c ≤ 10000 → d ≤ 10000 → c * d < 2 ^ 27 := fun c d hc hd => Nat.lt_of_le_of_lt (Nat.mul_le_mul hc hd) (by decide)
  by_cases h : a ≤ b
  · exact ⟨40, om_dl H' 27 a b 0 40 h (by omega) bb (pr a b ba bb) (by omega) (by omega) (fun g a b => ⟨a, b⟩)⟩
  · refine ⟨41, pk_le 40 0 (fun z => absurd z (by omega)) (fun _ => pk_le a 0 (fun z => absurd z (by omega)) (fun z => ⟨nI_ne0 z (by omega), nm_r (pk_rem (by omega) z (by omega)) (nm_r (nI_1 0) ?_)⟩))⟩
    rw [Nat.mod_eq_of_lt (by omega)]
    exact om_dl H' 27 b a 1 40 (by omega) (by omega) ba (pr b a bb ba) (by omega) (by omega) (fun g a b => ⟨b, a⟩)
end
section
/-! the few rows -/
/-- m rows of two factors: their bounds, and what they say together -/
def om_few (m : Nat) (a6 a7 : Nat → Int32) (T : Int → Int → Prop) : Prop :=
  (∀ r, r < m → om_v (a6 (3 * r)) (a6 (3 * r)).toInt 200 ∧ om_v (a6 (3 * r + 1)) (a6 (3 * r + 1)).toInt 200 ∧ om_v (a7 r) (a7 r).toInt 2000) ∧
  (∀ x y : Int, T x y ↔ ∀ r, r < m → (a6 (3 * r)).toInt * x + (a6 (3 * r + 1)).toInt * y ≤ (a7 r).toInt)
theorem om_few_c {m : Nat} {a6 a7 : Nat → Int32} {T T' : Int → Int → Prop} (h : om_few m a6 a7 T) (e : ∀ x y, T' x y ↔ T x y) : om_few m a6 a7 T' :=
  ⟨h.1, fun x y => (e x y).trans (h.2 x y)⟩
theorem om_few_0 {a6 a7 : Nat → Int32} {T : Int → Int → Prop} (h : ∀ x y, T x y) : om_few 0 a6 a7 T :=
  ⟨fun r hr => absurd hr (by omega), fun x y => ⟨fun _ r hr => absurd hr (by omega), fun _ => h x y⟩⟩
theorem om_lts {r m : Nat} (h : r < m + 1) : r < m ∨ r = m := by omega
theorem om_few_add {m : Nat} {a6 a7 : Nat → Int32} {T : Int → Int → Prop} {p q e : Int32} (h : om_few m a6 a7 T) (hp : om_v p p.toInt 200) (hq : om_v q q.toInt 200) (he : om_v e e.toInt 2000) :
    om_few (m + 1) (upd (upd a6 (3 * m) p) (3 * m + 1) q) (upd a7 m e) (fun x y => T x y ∧ p.toInt * x + q.toInt * y ≤ e.toInt) := by
  have o1 : ∀ r, r < m → upd (upd a6 (3 * m) p) (3 * m + 1) q (3 * r) = a6 (3 * r) := fun r hr => by rw [pk_un (by omega), pk_un (by omega)]
  have o2 : ∀ r, r < m → upd (upd a6 (3 * m) p) (3 * m + 1) q (3 * r + 1) = a6 (3 * r + 1) := fun r hr => by rw [pk_un (by omega), pk_un (by omega)]
  have o3 : ∀ r, r < m → upd a7 m e r = a7 r := fun r hr => pk_un (by omega)
  have n1 : upd (upd a6 (3 * m) p) (3 * m + 1) q (3 * m) = p := by rw [pk_un (by omega), pk_us]
  have n2 : upd (upd a6 (3 * m) p) (3 * m + 1) q (3 * m + 1) = q := pk_us
  have n3 : upd a7 m e m = e := pk_us
  constructor
  · intro r hr
    rcases om_lts hr with z | z
    · rw [o1 r z, o2 r z, o3 r z]; exact h.1 r z
    · rw [z, n1, n2, n3]; exact ⟨hp, hq, he⟩
  · intro x y
    dsimp only
    rw [h.2 x y]
    constructor
    · rintro ⟨k1, k2⟩ r hr
      rcases om_lts hr with z | z
      · rw [o1 r z, o2 r z, o3 r z]; exact k1 r z
      · rw [z, n1, n2, n3]; exact k2
    · intro k
      refine ⟨fun r hr => ?_, ?_⟩
      · have t := k r (by omega)
        rwa [o1 r hr, o2 r hr, o3 r hr] at t
      · have t := k m (by omega)
        rwa [n1, n2, n3] at t
theorem om_few_set {m i : Nat} {a6 a7 : Nat → Int32} {T : Int → Int → Prop} {p q e e' : Int32} (h : om_few m a6 a7 T) (hi : i < m) (h1 : a6 (3 * i) = p) (h2 : a6 (3 * i + 1) = q) (he : om_v e' e'.toInt 2000) (l1 : e'.toInt ≤ (a7 i).toInt) (l2 : e'.toInt ≤ e.toInt) (ho : e' = a7 i ∨ e' = e) :
    om_few m a6 (upd a7 i e') (fun x y => T x y ∧ p.toInt * x + q.toInt * y ≤ e.toInt) := by
  constructor
  · intro r hr
    by_cases z : r = i
    · have t := h.1 i hi
      rw [z, pk_us]; exact ⟨t.1, t.2.1, he⟩
    · rw [pk_un z]; exact h.1 r hr
  · intro x y
    dsimp only
    rw [h.2 x y]
    constructor
    · rintro ⟨k1, k2⟩ r hr
      by_cases z : r = i
      · rw [z, pk_us, h1, h2]
        rcases ho with o | o
        · have t := k1 i hi
          rw [h1, h2] at t
          rw [o]; exact t
        · rw [o]; exact k2
      · rw [pk_un z]; exact k1 r hr
    · intro k
      have ki := k i hi
      rw [pk_us, h1, h2] at ki
      refine ⟨fun r hr => ?_, Int.le_trans ki l2⟩
      by_cases z : r = i
      · rw [z, h1, h2]; exact Int.le_trans ki l1
      · have t := k r hr
        rwa [pk_un z] at t
/-- an answer about few rows: 0 and nothing meets them, or 1 and they are held -/
def om_res (r : Int32) (m : Nat) (a6 a7 : Nat → Int32) (T : Int → Int → Prop) : Prop := (r = 0 ∧ ∀ x y, ¬ T x y) ∨ (r = 1 ∧ om_few m a6 a7 T)
theorem om_res_c {r : Int32} {m : Nat} {a6 a7 : Nat → Int32} {T T' : Int → Int → Prop} (h : om_res r m a6 a7 T) (e : ∀ x y, T' x y ↔ T x y) : om_res r m a6 a7 T' := by
  rcases h with ⟨h1, h2⟩ | ⟨h1, h2⟩
  · exact Or.inl ⟨h1, fun x y t => h2 x y ((e x y).mp t)⟩
  · exact Or.inr ⟨h1, om_few_c h2 e⟩
/-! the rows of three factors -/
def om_A (a4 : Nat → Int32) (r : Nat) : Int := (a4 (3 * r)).toInt
def om_B (a4 : Nat → Int32) (r : Nat) : Int := (a4 (3 * r + 1)).toInt
def om_C (a4 : Nat → Int32) (r : Nat) : Int := (a4 (3 * r + 2)).toInt
def om_D (a5 : Nat → Int32) (r : Nat) : Int := (a5 r).toInt
def om_row (n : Nat) (a4 a5 : Nat → Int32) : Prop := n ≤ 25 ∧ ∀ r, r < n → om_v (a4 (3 * r)) (om_A a4 r) 9 ∧ om_v (a4 (3 * r + 1)) (om_B a4 r) 9 ∧ om_v (a4 (3 * r + 2)) (om_C a4 r) 9 ∧ om_v (a5 r) (om_D a5 r) 100
def om_R (n : Nat) (a4 a5 : Nat → Int32) (x y z : Int) : Prop := ∀ r, r < n → om_A a4 r * x + om_B a4 r * y + om_C a4 r * z ≤ om_D a5 r
/-- a lower row and an upper one, z taken out; nw 1: the narrow way -/
def om_pr (nw : Int) (a4 a5 : Nat → Int32) (l u : Nat) (x y : Int) : Prop :=
  (om_C a4 u * om_A a4 l + -om_C a4 l * om_A a4 u) * x + (om_C a4 u * om_B a4 l + -om_C a4 l * om_B a4 u) * y ≤ om_C a4 u * om_D a5 l + -om_C a4 l * om_D a5 u - nw * ((om_C a4 u - 1) * (-om_C a4 l - 1))
def om_T1 (nw : Int) (n : Nat) (a4 a5 : Nat → Int32) (r : Nat) (x y : Int) : Prop :=
  (om_C a4 r = 0 → om_A a4 r * x + om_B a4 r * y ≤ om_D a5 r) ∧ (om_C a4 r < 0 → ∀ u, u < n → 0 < om_C a4 u → om_pr nw a4 a5 r u x y)
def om_T (nw : Int) (n : Nat) (a4 a5 : Nat → Int32) (i : Nat) (x y : Int) : Prop := ∀ r, r < i → om_T1 nw n a4 a5 r x y
theorem om_pw {f g A B D A' B' D' x y z : Int} (hf : 0 < f) (hg : 0 < g) (h1 : A * x + B * y + -g * z ≤ D) (h2 : A' * x + B' * y + f * z ≤ D') : (f * A + g * A') * x + (f * B + g * B') * y ≤ f * D + g * D' := by
  have e1 := Int.mul_le_mul_of_nonneg_left h1 (Int.le_of_lt hf)
  have e2 := Int.mul_le_mul_of_nonneg_left h2 (Int.le_of_lt hg)
  have e : (f * A + g * A') * x + (f * B + g * B') * y = f * (A * x + B * y + -g * z) + g * (A' * x + B' * y + f * z) := by grind
  rw [e]
  omega
theorem om_dk1 {f g L U z : Int} (hf : 0 < f) (hg : 0 < g) (h : f * L + (f - 1) * (g - 1) ≤ g * U) (hz : g * z ≤ L + g - 1) : f * z ≤ U := by
  by_cases c : U < f * z
  · exfalso
    have c' : U + 1 ≤ f * z := by omega
    have e1 := Int.mul_le_mul_of_nonneg_left c' (Int.le_of_lt hg)
    have e2 := Int.mul_le_mul_of_nonneg_left hz (Int.le_of_lt hf)
    have e3 : g * (f * z) = f * (g * z) := by grind
    have e4 : f * (L + g - 1) = f * L + f * g - f := by grind
    have e5 : (f - 1) * (g - 1) = f * g - f - g + 1 := by grind
    have e6 : g * (U + 1) = g * U + g := by grind
    omega
  · omega
theorem om_ceil (L : Int) {g : Int} (hg : 0 < g) : ∃ z, L ≤ g * z ∧ g * z ≤ L + g - 1 := by
  refine ⟨(L + g - 1) / g, ?_⟩
  have e1 := Int.emod_nonneg (L + g - 1) (show g ≠ 0 by omega)
  have e2 := Int.emod_lt_of_pos (L + g - 1) hg
  have e3 := Int.emod_def (L + g - 1) g
  omega
theorem om_mx {n : Nat} (C L : Nat → Int) {l : Nat} (hl : l < n) (hc : C l < 0) : ∀ i, i ≤ n → ∃ z u, u < n ∧ C u < 0 ∧ -C u * z ≤ L u + -C u - 1 ∧ ∀ r, r < i → C r < 0 → L r ≤ -C r * z := by
  intro i
  induction i with
  | zero =>
    intro _
    obtain ⟨z, z1, z2⟩ := om_ceil (L l) (show 0 < -C l by omega)
    exact ⟨z, l, hl, hc, z2, fun r hr => absurd hr (by omega)⟩
  | succ i ih =>
    intro hi
    obtain ⟨z, u, u1, u2, u3, u4⟩ := ih (by omega)
    by_cases c : C i < 0 ∧ ¬ L i ≤ -C i * z
    · obtain ⟨c1, c2⟩ := c
      obtain ⟨z', z1, z2⟩ := om_ceil (L i) (show 0 < -C i by omega)
      have hz : z < z' := by
        have t : -C i * z < -C i * z' := by omega
        exact Int.lt_of_mul_lt_mul_left t (by omega)
      refine ⟨z', i, by omega, c1, z2, fun r hr cr => ?_⟩
      rcases om_lts hr with k | k
      · have t := u4 r k cr
        have t2 := Int.mul_le_mul_of_nonneg_left (Int.le_of_lt hz) (show 0 ≤ -C r by omega)
        omega
      · rw [k]; exact z1
    · refine ⟨z, u, u1, u2, u3, fun r hr cr => ?_⟩
      rcases om_lts hr with k | k
      · exact u4 r k cr
      · rw [k] at cr ⊢
        by_cases d : L i ≤ -C i * z
        · exact d
        · exact absurd ⟨cr, d⟩ c
theorem om_dark {n : Nat} {a4 a5 : Nat → Int32} {x y : Int} (hl : ∃ l, l < n ∧ om_C a4 l < 0) (hT : om_T 1 n a4 a5 n x y) : ∃ z, om_R n a4 a5 x y z := by
  obtain ⟨l, l1, l2⟩ := hl
  obtain ⟨z, u, u1, u2, u3, u4⟩ := om_mx (om_C a4) (fun r => om_A a4 r * x + om_B a4 r * y - om_D a5 r) l1 l2 n (Nat.le_refl n)
  refine ⟨z, fun r hr => ?_⟩
  have tr := hT r hr
  rcases Int.lt_trichotomy (om_C a4 r) 0 with c | c | c
  · have t := u4 r hr c
    rw [Int.neg_mul] at t
    omega
  · have t := tr.1 c
    rw [c, Int.zero_mul]
    omega
  · have p := (hT u u1).2 u2 r hr c
    unfold om_pr at p
    have t := om_dk1 (f := om_C a4 r) (g := -om_C a4 u) (L := om_A a4 u * x + om_B a4 u * y - om_D a5 u) (U := om_D a5 r - om_A a4 r * x - om_B a4 r * y) (z := z) c (by omega) (by
      have e : om_C a4 r * (om_A a4 u * x + om_B a4 u * y - om_D a5 u) + (om_C a4 r - 1) * (-om_C a4 u - 1) - -om_C a4 u * (om_D a5 r - om_A a4 r * x - om_B a4 r * y) = ((om_C a4 r * om_A a4 u + -om_C a4 u * om_A a4 r) * x + (om_C a4 r * om_B a4 u + -om_C a4 u * om_B a4 r) * y) - (om_C a4 r * om_D a5 u + -om_C a4 u * om_D a5 r - 1 * ((om_C a4 r - 1) * (-om_C a4 u - 1))) := by grind
      omega) u3
    omega
theorem om_wide {n : Nat} {a4 a5 : Nat → Int32} {x y z : Int} (h : om_R n a4 a5 x y z) : om_T 0 n a4 a5 n x y := by
  intro r hr
  refine ⟨fun c => ?_, fun c u hu cu => ?_⟩
  · have t := h r hr
    rw [c, Int.zero_mul] at t
    omega
  · have t := h r hr
    have t2 := h u hu
    have k := om_pw (f := om_C a4 u) (g := -om_C a4 r) (z := z) cu (by omega) (by rw [Int.neg_neg]; exact t) t2
    unfold om_pr
    rw [Int.zero_mul]
    omega
theorem om_ex {n : Nat} {a4 a5 : Nat → Int32} {x y : Int} (h : (∀ r, r < n → -om_C a4 r ≤ 1) ∨ (∀ r, r < n → om_C a4 r ≤ 1)) (t : om_T 0 n a4 a5 n x y) : om_T 1 n a4 a5 n x y := by
  intro r hr
  refine ⟨(t r hr).1, fun c u hu cu => ?_⟩
  have k := (t r hr).2 c u hu cu
  unfold om_pr at k ⊢
  have e : (om_C a4 u - 1) * (-om_C a4 r - 1) = 0 := by
    rcases h with h | h
    · have := h r hr
      rw [show -om_C a4 r - 1 = 0 by omega, Int.mul_zero]
    · have := h u hu
      rw [show om_C a4 u - 1 = 0 by omega, Int.zero_mul]
  rw [e] at k ⊢
  rw [Int.mul_zero] at k ⊢
  exact k
/-! how many -/
def om_up (a4 : Nat → Int32) : Nat → Nat
  | 0 => 0
  | i + 1 => om_up a4 i + (if 0 < om_C a4 i then 1 else 0)
def om_lw (a4 : Nat → Int32) : Nat → Nat
  | 0 => 0
  | i + 1 => om_lw a4 i + (if om_C a4 i < 0 then 1 else 0)
def om_ze (a4 : Nat → Int32) : Nat → Nat
  | 0 => 0
  | i + 1 => om_ze a4 i + (if om_C a4 i = 0 then 1 else 0)
theorem om_sum (a4 : Nat → Int32) (i : Nat) : om_up a4 i + om_lw a4 i + om_ze a4 i = i := by
  induction i with
  | zero => rfl
  | succ i ih =>
    unfold om_up om_lw om_ze
    rcases Int.lt_trichotomy (om_C a4 i) 0 with c | c | c
    · rw [if_neg (by omega), if_pos c, if_neg (by omega)]; omega
    · rw [if_neg (by omega), if_neg (by omega), if_pos c]; omega
    · rw [if_pos c, if_neg (by omega), if_neg (by omega)]; omega
theorem om_upm (a4 : Nat → Int32) {i j : Nat} (h : i ≤ j) : om_up a4 i ≤ om_up a4 j := by
  induction j with
  | zero => rw [show i = 0 by omega]; exact Nat.le_refl _
  | succ j ih =>
    by_cases e : i = j + 1
    · rw [e]; exact Nat.le_refl _
    · exact Nat.le_trans (ih (by omega)) (Nat.le_add_right _ _)
theorem om_lwm (a4 : Nat → Int32) {i j : Nat} (h : i ≤ j) : om_lw a4 i ≤ om_lw a4 j := by
  induction j with
  | zero => rw [show i = 0 by omega]; exact Nat.le_refl _
  | succ j ih =>
    by_cases e : i = j + 1
    · rw [e]; exact Nat.le_refl _
    · exact Nat.le_trans (ih (by omega)) (Nat.le_add_right _ _)
theorem om_zem (a4 : Nat → Int32) {i j : Nat} (h : i ≤ j) : om_ze a4 i ≤ om_ze a4 j := by
  induction j with
  | zero => rw [show i = 0 by omega]; exact Nat.le_refl _
  | succ j ih =>
    by_cases e : i = j + 1
    · rw [e]; exact Nat.le_refl _
    · exact Nat.le_trans (ih (by omega)) (Nat.le_add_right _ _)
theorem om_cnt1 : ∀ L, L < 26 → ∀ U, U < 26 → L + U ≤ 25 → 25 - L - U + L * U ≤ 160 := by decide +kernel
theorem om_cnt {L U Z : Nat} (h : L + U + Z ≤ 25) : Z + L * U ≤ 160 := by
  have t := om_cnt1 L (by omega) U (by omega) (by omega)
  omega
theorem om_cnt2 {a4 : Nat → Int32} {n i : Nat} (hn : n ≤ 25) (hi : i ≤ n) : om_ze a4 i + om_lw a4 i * om_up a4 n ≤ 160 := by
  have s := om_sum a4 n
  have t := om_cnt (L := om_lw a4 n) (U := om_up a4 n) (Z := om_ze a4 n) (by omega)
  have k := Nat.mul_le_mul_right (om_up a4 n) (om_lwm a4 hi)
  have k2 := om_zem a4 hi
  omega
end
section
/-! putFew -/
theorem om_sv {x : Int32} {v B : Int} (h : om_v x v B) : om_v x x.toInt B := ⟨rfl, by rw [h.1]; exact h.2.1, by rw [h.1]; exact h.2.2⟩
theorem om_pf48 {post : Int32 → St2 → Prop} {p q e h n w : Int32} {m : Nat} {a1 a2 a3 a4 a5 a6 a7 a8 : Nat → Int32} {T : Int → Int → Prop} (hm : m < 160) (hf : om_few m a6 a7 T) (hp : om_v p p.toInt 200) (hq : om_v q q.toInt 200) (he : om_v e e.toInt 2000)
    (H : ∀ (m' : Nat) (a6' a7' : Nat → Int32), m' ≤ m + 1 → om_few m' a6' a7' (fun x y => T x y ∧ p.toInt * x + q.toInt * y ≤ e.toInt) → post 1 (h, n, nI m', w, a1, a2, a3, a4, a5, a6', a7', a8)) :
    ∃ fu, wX_putFew_48 post p q e h n (nI m) w a1 a2 a3 a4 a5 a6 a7 a8 fu 0 :=
  pk_loop (σ := Unit) (fun k i _ => wX_putFew_48 post p q e h n (nI m) w a1 a2 a3 a4 a5 a6 a7 a8 k (nI i)) (fun _ _ => True) m 0 () (by omega) trivial
    (fun k _ _ => by
      refine pk_le m m (fun _ => ?_) (fun z => absurd z (by omega))
      refine ⟨pk_in (3 * m) 480 (by omega) (om_3 m), ?_⟩
      rintro _ rfl
      refine ⟨pk_in (3 * m + 1) 480 (by omega) (om_31 m), ?_⟩
      rintro _ rfl
      refine ⟨pk_in m 160 hm, ?_⟩
      rintro _ rfl _ rfl
      rw [om_c3 (by omega), om_c31 (by omega), om_c (by omega), nI_1]
      exact H _ _ _ (Nat.le_refl _) (om_few_add hf hp hq he))
    (fun k i _ hi _ hw => by
      refine pk_le m i (fun z => absurd z (by omega)) (fun _ => ?_)
      refine ⟨pk_in (3 * i) 480 (by omega) (om_3 i), ?_⟩
      rw [om_c3 (m := i) (by omega), om_c31 (m := i) (by omega), om_c (m := i) (by omega)]
      refine ⟨fun e1 => ⟨pk_in (3 * i + 1) 480 (by omega) (om_31 i), ⟨fun e2 => ⟨pk_in i 160 (by omega), ⟨fun e3 => ⟨pk_in i 160 (by omega), pk_in i 160 (by omega), ?_⟩, fun e3 => ⟨pk_in i 160 (by omega), ?_⟩⟩⟩, fun _ => nm_r (nI_1 i) (hw () trivial)⟩⟩, fun _ => nm_r (nI_1 i) (hw () trivial)⟩
      · rintro _ rfl
        exact H m _ _ (by omega) (om_few_set hf hi e1 e2 (hf.1 i hi).2.2 (Int.le_refl _) (Int32.le_iff_toInt_le.mp e3) (Or.inl rfl))
      · rintro _ rfl
        rw [Int32.le_iff_toInt_le] at e3
        exact H m _ _ (by omega) (om_few_set hf hi e1 e2 he (by omega) (Int.le_refl _) (Or.inr rfl)))
theorem om_exq {x : Int32} {g : Nat} {P : Int} (h : om_v x ((g : Int) * P) 200) (g0 : 0 < g) (g1 : g ≤ 10000) : om_v (x / nI g) P 200 := by
  have e := om_tdiv (om_w h (by decide)) (om_nv (n := g) (B := 10000) (by omega) (by decide))
  have k := Int.natAbs_tdiv_le_natAbs ((g : Int) * P) g
  rw [Int.mul_tdiv_cancel_left P (by omega)] at e k
  have h1 := h.2.1
  have h2 := h.2.2
  exact ⟨e.1, by omega, by omega⟩
theorem om_pf18 {post : Int32 → St2 → Prop} {h n w p0 p1 p2 : Int32} {m : Nat} {a1 a2 a3 a4 a5 a6 a7 a8 : Nat → Int32} {T : Int → Int → Prop} {A B D : Int} (hm : m < 160) (hf : om_few m a6 a7 T) (h0 : om_v p0 A 200) (h1 : om_v p1 B 200) (h2 : om_v p2 D 2000) (hn : A ≠ 0 ∨ B ≠ 0)
    (H : ∀ (m' : Nat) (a6' a7' : Nat → Int32), m' ≤ m + 1 → om_few m' a6' a7' (fun x y => T x y ∧ A * x + B * y ≤ D) → post 1 (h, n, nI m', w, a1, a2, a3, a4, a5, a6', a7', a8)) :
    wX_putFew_18 post p0 p1 p2 h n (nI m) w a1 a2 a3 a4 a5 a6 a7 a8 := by
  unfold wX_putFew_18
  refine om_gcd (om_w h0 (by decide)) (om_w h1 (by decide)) hn (fun g g0 g1 gA gB => ?_)
  have gv : om_v (nI g) g 10000 := om_nv (by omega) (by decide)
  have g' : (0 : Int) < g := by omega
  have hz : ¬ nI g = 0 := nI_ne0 g0 (by omega)
  obtain ⟨P, rfl⟩ := gA
  obtain ⟨Q, rfl⟩ := gB
  have hP := om_exq h0 g0 g1
  have hQ := om_exq h1 g0 g1
  refine ⟨hz, nm_e ⟨hz, nm_e ?_⟩⟩
  refine om_floor h2 (by decide) gv g' (fun r hr => ?_)
  refine om_pf48 hm hf (om_sv hP) (om_sv hQ) (om_sv hr) (fun m' a6' a7' k1 k2 => H m' a6' a7' k1 (om_few_c k2 (fun x y => ?_)))
  have e : (g : Int) * P * x + (g : Int) * Q * y = (P * x + Q * y) * (g : Int) := by grind
  rw [hP.1, hQ.1, hr.1, Int.le_ediv_iff_mul_le g', e]
theorem om_putFew {post : Int32 → St2 → Prop} {h n w p0 p1 p2 : Int32} {m : Nat} {a1 a2 a3 a4 a5 a6 a7 a8 : Nat → Int32} {T : Int → Int → Prop} {A B D : Int} (hm : m < 160) (hf : om_few m a6 a7 T) (h0 : om_v p0 A 200) (h1 : om_v p1 B 200) (h2 : om_v p2 D 2000)
    (H : ∀ (r : Int32) (m' : Nat) (a6' a7' : Nat → Int32), m' ≤ m + 1 → om_res r m' a6' a7' (fun x y => T x y ∧ A * x + B * y ≤ D) → post r (h, n, nI m', w, a1, a2, a3, a4, a5, a6', a7', a8)) :
    wpX_putFew post (h, n, nI m, w, a1, a2, a3, a4, a5, a6, a7, a8) p0 p1 p2 := by
  have K : (A ≠ 0 ∨ B ≠ 0) → wX_putFew_18 post p0 p1 p2 h n (nI m) w a1 a2 a3 a4 a5 a6 a7 a8 := fun hn => om_pf18 hm hf h0 h1 h2 hn (fun m' a6' a7' k1 k2 => H 1 m' a6' a7' k1 (Or.inr ⟨rfl, k2⟩))
  refine ⟨fun c0 => ⟨fun c1 => ⟨fun c2 => ?_, fun c2 => ?_⟩, fun c1 => K (Or.inr (fun z => c1 ((om_eq h1 om_0).mpr z)))⟩, fun c0 => K (Or.inl (fun z => c0 ((om_eq h0 om_0).mpr z)))⟩
  · rw [om_eq h0 om_0] at c0
    rw [om_eq h1 om_0] at c1
    rw [om_lt h2 om_0] at c2
    refine H 0 m a6 a7 (by omega) (Or.inl ⟨rfl, fun x y t => ?_⟩)
    have t2 := t.2
    rw [c0, c1, Int.zero_mul, Int.zero_mul] at t2
    omega
  · rw [om_eq h0 om_0] at c0
    rw [om_eq h1 om_0] at c1
    rw [om_lt h2 om_0] at c2
    refine H 1 m a6 a7 (by omega) (Or.inr ⟨rfl, om_few_c hf (fun x y => ⟨fun t => t.1, fun t => ⟨t, ?_⟩⟩)⟩)
    rw [c0, c1, Int.zero_mul, Int.zero_mul]
    omega
/-! pairUp -/
theorem om_up1 {a4 : Nat → Int32} {i : Nat} (h : 0 < om_C a4 i) : om_up a4 (i + 1) = om_up a4 i + 1 := by
  show om_up a4 i + (if 0 < om_C a4 i then 1 else 0) = _
  rw [if_pos h]
theorem om_pu {post : Int32 → St2 → Prop} {h w nar g : Int32} {n l m0 : Nat} {a1 a2 a3 a4 a5 a8 : Nat → Int32} {T : Int → Int → Prop} {nw : Int} (hr : om_row n a4 a5) (hl : l < n) (hg : om_v g (-om_C a4 l) 9) (hnw : (nar = 0 ∧ nw = 0) ∨ (¬ nar = 0 ∧ nw = 1)) (hm : m0 + om_up a4 n ≤ 160)
    (H : ∀ (r : Int32) (m' : Nat) (a6' a7' : Nat → Int32), m' ≤ m0 + om_up a4 n → om_res r m' a6' a7' (fun x y => T x y ∧ ∀ u, u < n → 0 < om_C a4 u → om_pr nw a4 a5 l u x y) → post r (h, nI n, nI m', w, a1, a2, a3, a4, a5, a6', a7', a8)) :
    ∀ (d i m : Nat) (a6 a7 : Nat → Int32), i + d = n → m ≤ m0 + om_up a4 i → om_few m a6 a7 (fun x y => T x y ∧ ∀ u, u < i → 0 < om_C a4 u → om_pr nw a4 a5 l u x y) → wX_pairUp_3 post (nI l) g nar (d + 1) (nI i) h (nI n) (nI m) w a1 a2 a3 a4 a5 a6 a7 a8 := by
  have n25 := hr.1
  intro d
  induction d with
  | zero =>
    intro i m a6 a7 hi hm' hf
    have e : i = n := by omega
    rw [e] at hm' hf ⊢
    exact pk_le n n (fun _ => H 1 m a6 a7 hm' (Or.inr ⟨rfl, hf⟩)) (fun z => absurd z (by omega))
  | succ d ih =>
    intro i m a6 a7 hi hm' hf
    have hin : i < n := by omega
    obtain ⟨b1, b2, b3, b4⟩ := hr.2 i hin
    obtain ⟨c1, c2, c3, c4⟩ := hr.2 l hl
    refine pk_le n i (fun z => absurd z (by omega)) (fun _ => ⟨pk_in (3 * i + 2) 75 (by omega) (om_32 i), ?_⟩)
    rintro _ rfl
    rw [om_c32 (m := i) (by omega), om_c3 (m := l) (by omega), om_c3 (m := i) (by omega), om_c31 (m := l) (by omega), om_c31 (m := i) (by omega), om_c (m := l) (by omega), om_c (m := i) (by omega)]
    refine ⟨fun z => nm_r (nI_1 i) (ih (i + 1) m a6 a7 (by omega) (Nat.le_trans hm' (Nat.add_le_add_left (om_upm a4 (by omega)) m0)) (om_few_c hf (fun x y => ?_))), fun z => ?_⟩
    · rw [om_le b3 om_0] at z
      refine ⟨fun t => ⟨t.1, fun u hu => t.2 u (by omega)⟩, fun t => ⟨t.1, fun u hu cu => ?_⟩⟩
      rcases om_lts hu with k | k
      · exact t.2 u k cu
      · rw [k] at cu; omega
    · rw [om_le b3 om_0] at z
      have hci : 0 < om_C a4 i := by omega
      have u1 := om_up1 hci
      have u2 : om_up a4 (i + 1) ≤ om_up a4 n := om_upm a4 (by omega)
      have K : ∀ z0 : Int32, om_v z0 (nw * ((om_C a4 i - 1) * (-om_C a4 l - 1))) 100 → wX_pairUp_119 post (wX_pairUp_3 post (nI l) g nar (d + 1)) (nI l) g nar (nI i) (a4 (3 * i + 2) * a4 (3 * l) + g * a4 (3 * i)) (a4 (3 * i + 2) * a4 (3 * l + 1) + g * a4 (3 * i + 1)) z0 (a4 (3 * i + 2) * a5 l + g * a5 i) h (nI n) (nI m) w a1 a2 a3 a4 a5 a6 a7 a8 := by
        intro z0 hz0
        unfold wX_pairUp_119
        refine nm_e ?_
        refine om_putFew (by omega) hf (om_w (om_add (om_mul b3 c1 (by decide)) (om_mul hg b1 (by decide)) (by decide)) (by decide)) (om_w (om_add (om_mul b3 c2 (by decide)) (om_mul hg b2 (by decide)) (by decide)) (by decide)) (om_w (om_sub (om_add (om_mul b3 c4 (by decide)) (om_mul hg b4 (by decide)) (by decide)) hz0 (by decide)) (by decide)) ?_
        intro r m' a6' a7' k1 k2
        rcases k2 with ⟨rfl, k2⟩ | ⟨rfl, k2⟩
        · exact ⟨fun _ => H 0 m' a6' a7' (by omega) (Or.inl ⟨rfl, fun x y t => k2 x y ⟨⟨t.1, fun u hu => t.2 u (by omega)⟩, t.2 i hin hci⟩⟩), fun z => absurd rfl z⟩
        · refine ⟨fun z => absurd z (by decide), fun _ => nm_r (nI_1 i) (ih (i + 1) m' a6' a7' (by omega) (by omega) (om_few_c k2 (fun x y => ?_)))⟩
          refine ⟨fun t => ⟨⟨t.1, fun u hu => t.2 u (by omega)⟩, t.2 i (by omega) hci⟩, fun t => ⟨t.1.1, fun u hu cu => ?_⟩⟩
          rcases om_lts hu with k | k
          · exact t.1.2 u k cu
          · rw [k]; exact t.2
      refine ⟨pk_in (3 * l) 75 (by omega) (om_3 l), pk_in (3 * i) 75 (by omega) (om_3 i), nm_e ⟨pk_in (3 * l + 1) 75 (by omega) (om_31 l), pk_in (3 * i + 1) 75 (by omega) (om_31 i), nm_e ⟨pk_in l 25 (by omega), pk_in i 25 (by omega), ?_⟩⟩⟩
      rcases hnw with ⟨w1, w2⟩ | ⟨w1, w2⟩
      · exact br_t w1 (K 0 (om_w (om_r om_0 (by rw [w2, Int.zero_mul])) (by decide)))
      · exact br_f w1 (K _ (om_w (om_r (om_mul (om_sub b3 om_1 (by decide)) (om_sub hg om_1 (by decide)) (by decide)) (by rw [w2, Int.one_mul])) (by decide)))
theorem om_pairUp {post : Int32 → St2 → Prop} {h w nar g : Int32} {n l m : Nat} {a1 a2 a3 a4 a5 a6 a7 a8 : Nat → Int32} {T : Int → Int → Prop} {nw : Int} (hr : om_row n a4 a5) (hl : l < n) (hg : om_v g (-om_C a4 l) 9) (hnw : (nar = 0 ∧ nw = 0) ∨ (¬ nar = 0 ∧ nw = 1)) (hm : m + om_up a4 n ≤ 160) (hf : om_few m a6 a7 T)
    (H : ∀ (r : Int32) (m' : Nat) (a6' a7' : Nat → Int32), m' ≤ m + om_up a4 n → om_res r m' a6' a7' (fun x y => T x y ∧ ∀ u, u < n → 0 < om_C a4 u → om_pr nw a4 a5 l u x y) → post r (h, nI n, nI m', w, a1, a2, a3, a4, a5, a6', a7', a8)) :
    wpX_pairUp post (h, nI n, nI m, w, a1, a2, a3, a4, a5, a6, a7, a8) (nI l) g nar :=
  ⟨n + 1, om_pu hr hl hg hnw hm H n 0 m a6 a7 (by omega) (by omega) (om_few_c hf (fun x y => ⟨fun t => t.1, fun t => ⟨t, fun u hu => absurd hu (by omega)⟩⟩))⟩
/-! makeFew -/
theorem om_nb {x : Int32} (h : x = 0 ∨ x = 1) : narrow .boolean (.int x) = .int x := by
  rcases h with rfl | rfl <;> rfl
theorem om_Ts {nw : Int} {n i : Nat} {a4 a5 : Nat → Int32} {x y : Int} : om_T nw n a4 a5 (i + 1) x y ↔ om_T nw n a4 a5 i x y ∧ om_T1 nw n a4 a5 i x y := by
  refine ⟨fun t => ⟨fun r hr => t r (by omega), t i (by omega)⟩, fun t r hr => ?_⟩
  rcases om_lts hr with k | k
  · exact t.1 r k
  · rw [k]; exact t.2
theorem om_r01 {r : Int32} {m : Nat} {a6 a7 : Nat → Int32} {T : Int → Int → Prop} (h : om_res r m a6 a7 T) : r = 0 ∨ r = 1 := by
  rcases h with ⟨h, _⟩ | ⟨h, _⟩
  · exact Or.inl h
  · exact Or.inr h
theorem om_mf {post : Int32 → St2 → Prop} {h w nar : Int32} {n : Nat} {a1 a2 a3 a4 a5 a8 : Nat → Int32} {nw : Int} (hr : om_row n a4 a5) (hnw : (nar = 0 ∧ nw = 0) ∨ (¬ nar = 0 ∧ nw = 1))
    (H : ∀ (r : Int32) (m' : Nat) (a6' a7' : Nat → Int32), m' ≤ 160 → om_res r m' a6' a7' (om_T nw n a4 a5 n) → post r (h, nI n, nI m', w, a1, a2, a3, a4, a5, a6', a7', a8)) :
    ∀ (d i m : Nat) (a6 a7 : Nat → Int32) (x2 : Int32), i + d = n → m ≤ om_ze a4 i + om_lw a4 i * om_up a4 n → om_res x2 m a6 a7 (om_T nw n a4 a5 i) → wX_makeFew_9 post nar (d + 1) x2 (nI i) h (nI n) (nI m) w a1 a2 a3 a4 a5 a6 a7 a8 := by
  have n25 := hr.1
  intro d
  induction d with
  | zero =>
    intro i m a6 a7 x2 hi hm hf
    have e : i = n := by omega
    rw [e] at hm hf ⊢
    have c2 := om_cnt2 (a4 := a4) n25 (Nat.le_refl n)
    exact pk_le n n (fun _ => ⟨om_nb (om_r01 hf), H x2 m a6 a7 (by omega) hf⟩) (fun z => absurd z (by omega))
  | succ d ih =>
    intro i m a6 a7 x2 hi hm hf
    have hin : i < n := by omega
    obtain ⟨b1, b2, b3, b4⟩ := hr.2 i hin
    have cn := om_cnt2 (a4 := a4) n25 (Nat.le_of_lt hin)
    have cs := om_cnt2 (a4 := a4) n25 (show i + 1 ≤ n by omega)
    refine pk_le n i (fun z => absurd z (by omega)) (fun _ => ⟨fun z => ⟨om_nb (Or.inl z), H x2 m a6 a7 (by omega) ?_⟩, fun z => ⟨pk_in (3 * i + 2) 75 (by omega) (om_32 i), ?_⟩⟩)
    · rcases hf with ⟨_, k⟩ | ⟨k, _⟩
      · exact Or.inl ⟨z, fun x y t => k x y (fun r hr => t r (by omega))⟩
      · rw [k] at z; exact absurd z (by decide)
    have hf' : om_few m a6 a7 (om_T nw n a4 a5 i) := by
      rcases hf with ⟨k, _⟩ | ⟨_, k⟩
      · exact absurd k z
      · exact k
    have x21 : x2 = 1 := by
      rcases hf with ⟨k, _⟩ | ⟨k, _⟩
      · exact absurd k z
      · exact k
    rintro _ rfl
    rw [om_c32 (m := i) (by omega), om_c3 (m := i) (by omega), om_c31 (m := i) (by omega), om_c (m := i) (by omega)]
    refine ⟨fun c => ⟨pk_in (3 * i) 75 (by omega) (om_3 i), pk_in (3 * i + 1) 75 (by omega) (om_31 i), pk_in i 25 (by omega), ?_⟩, fun c => ⟨fun c' => ?_, fun c' => ?_⟩⟩
    · rw [om_eq b3 om_0] at c
      have z1 : om_ze a4 (i + 1) = om_ze a4 i + 1 := by
        show om_ze a4 i + (if om_C a4 i = 0 then 1 else 0) = _
        rw [if_pos c]
      have l1 : om_lw a4 (i + 1) = om_lw a4 i := by
        show om_lw a4 i + (if om_C a4 i < 0 then 1 else 0) = _
        rw [if_neg (by omega)]; rfl
      rw [z1, l1] at cs
      refine om_putFew (by omega) hf' (om_w b1 (by decide)) (om_w b2 (by decide)) (om_w b4 (by decide)) ?_
      intro r m' a6' a7' k1 k2
      refine nm_r (nI_1 i) (ih (i + 1) m' a6' a7' r (by omega) (by rw [z1, l1]; omega) (om_res_c k2 (fun x y => ?_)))
      rw [om_Ts]
      refine ⟨fun t => ⟨t.1, t.2.1 c⟩, fun t => ⟨t.1, fun _ => t.2, fun c2 => absurd c2 (by omega)⟩⟩
    · rw [om_eq b3 om_0] at c
      rw [om_le om_0 b3] at c'
      have z1 : om_ze a4 (i + 1) = om_ze a4 i := by
        show om_ze a4 i + (if om_C a4 i = 0 then 1 else 0) = _
        rw [if_neg c]; rfl
      have l1 : om_lw a4 (i + 1) = om_lw a4 i := by
        show om_lw a4 i + (if om_C a4 i < 0 then 1 else 0) = _
        rw [if_neg (by omega)]; rfl
      refine nm_r (nI_1 i) (ih (i + 1) m a6 a7 x2 (by omega) (by rw [z1, l1]; omega) (Or.inr ⟨x21, om_few_c hf' (fun x y => ?_)⟩))
      rw [om_Ts]
      exact ⟨fun t => t.1, fun t => ⟨t, fun c2 => absurd c2 c, fun c2 => absurd c2 (by omega)⟩⟩
    · rw [om_eq b3 om_0] at c
      rw [om_le om_0 b3] at c'
      have z1 : om_ze a4 (i + 1) = om_ze a4 i := by
        show om_ze a4 i + (if om_C a4 i = 0 then 1 else 0) = _
        rw [if_neg c]; rfl
      have l1 : om_lw a4 (i + 1) = om_lw a4 i + 1 := by
        show om_lw a4 i + (if om_C a4 i < 0 then 1 else 0) = _
        rw [if_pos (by omega)]
      rw [z1, l1, Nat.add_mul, Nat.one_mul] at cs
      refine om_pairUp hr hin (om_neg b3 (by decide)) hnw (by omega) hf' ?_
      intro r m' a6' a7' k1 k2
      refine nm_r (nI_1 i) (ih (i + 1) m' a6' a7' r (by omega) (by rw [z1, l1, Nat.add_mul, Nat.one_mul]; omega) (om_res_c k2 (fun x y => ?_)))
      rw [om_Ts]
      exact ⟨fun t => ⟨t.1, t.2.2 (by omega)⟩, fun t => ⟨t.1, fun c2 => absurd c2 c, fun _ => t.2⟩⟩
theorem om_makeFew {post : Int32 → St2 → Prop} {h w nar f : Int32} {n : Nat} {a1 a2 a3 a4 a5 a6 a7 a8 : Nat → Int32} (nw : Int) (hr : om_row n a4 a5) (hnw : (nar = 0 ∧ nw = 0) ∨ (¬ nar = 0 ∧ nw = 1))
    (H : ∀ (r : Int32) (m' : Nat) (a6' a7' : Nat → Int32), m' ≤ 160 → om_res r m' a6' a7' (om_T nw n a4 a5 n) → post r (h, nI n, nI m', w, a1, a2, a3, a4, a5, a6', a7', a8)) :
    wpX_makeFew post (h, nI n, f, w, a1, a2, a3, a4, a5, a6, a7, a8) nar :=
  ⟨n + 1, om_mf hr hnw H n 0 0 a6 a7 1 (by omega) (by omega) (Or.inr ⟨rfl, om_few_0 (fun x y r hr => absurd hr (by omega))⟩)⟩
/-! makeFewFor -/
def om_Z (a4 a5 : Nat → Int32) (z : Int) (i : Nat) (x y : Int) : Prop := ∀ r, r < i → om_A a4 r * x + om_B a4 r * y ≤ om_D a5 r - om_C a4 r * z
theorem om_mff {post : Int32 → St2 → Prop} {h w zz : Int32} {n : Nat} {a1 a2 a3 a4 a5 a8 : Nat → Int32} {z : Int} (hr : om_row n a4 a5) (hz : om_v zz z 6)
    (H : ∀ (r : Int32) (m' : Nat) (a6' a7' : Nat → Int32), m' ≤ 160 → om_res r m' a6' a7' (om_Z a4 a5 z n) → post r (h, nI n, nI m', w, a1, a2, a3, a4, a5, a6', a7', a8)) :
    ∀ (d i m : Nat) (a6 a7 : Nat → Int32) (x2 : Int32), i + d = n → m ≤ i → om_res x2 m a6 a7 (om_Z a4 a5 z i) → wX_makeFewFor_9 post zz (d + 1) x2 (nI i) h (nI n) (nI m) w a1 a2 a3 a4 a5 a6 a7 a8 := by
  have n25 := hr.1
  intro d
  induction d with
  | zero =>
    intro i m a6 a7 x2 hi hm hf
    have e : i = n := by omega
    rw [e] at hm hf ⊢
    exact pk_le n n (fun _ => ⟨om_nb (om_r01 hf), H x2 m a6 a7 (by omega) hf⟩) (fun z => absurd z (by omega))
  | succ d ih =>
    intro i m a6 a7 x2 hi hm hf
    have hin : i < n := by omega
    obtain ⟨b1, b2, b3, b4⟩ := hr.2 i hin
    refine pk_le n i (fun z => absurd z (by omega)) (fun _ => ⟨fun c => ⟨om_nb (Or.inl c), H x2 m a6 a7 (by omega) ?_⟩, fun c => ⟨pk_in (3 * i) 75 (by omega) (om_3 i), pk_in (3 * i + 1) 75 (by omega) (om_31 i), pk_in i 25 (by omega), pk_in (3 * i + 2) 75 (by omega) (om_32 i), ?_⟩⟩)
    · rcases hf with ⟨_, k⟩ | ⟨k, _⟩
      · exact Or.inl ⟨c, fun x y t => k x y (fun r hr => t r (by omega))⟩
      · rw [k] at c; exact absurd c (by decide)
    have hf' : om_few m a6 a7 (om_Z a4 a5 z i) := by
      rcases hf with ⟨k, _⟩ | ⟨_, k⟩
      · exact absurd k c
      · exact k
    rw [om_c32 (m := i) (by omega), om_c3 (m := i) (by omega), om_c31 (m := i) (by omega), om_c (m := i) (by omega)]
    refine om_putFew (by omega) hf' (om_w b1 (by decide)) (om_w b2 (by decide)) (om_w (om_sub b4 (om_mul b3 hz (by decide)) (by decide)) (by decide)) ?_
    intro r m' a6' a7' k1 k2
    refine nm_r (nI_1 i) (ih (i + 1) m' a6' a7' r (by omega) (by omega) (om_res_c k2 (fun x y => ?_)))
    refine ⟨fun t => ⟨fun r hr => t r (by omega), t i (by omega)⟩, fun t r hr => ?_⟩
    rcases om_lts hr with k | k
    · exact t.1 r k
    · rw [k]; exact t.2
theorem om_makeFewFor {post : Int32 → St2 → Prop} {h w zz f : Int32} {n : Nat} {a1 a2 a3 a4 a5 a6 a7 a8 : Nat → Int32} {z : Int} (hr : om_row n a4 a5) (hz : om_v zz z 6)
    (H : ∀ (r : Int32) (m' : Nat) (a6' a7' : Nat → Int32), m' ≤ 160 → om_res r m' a6' a7' (om_Z a4 a5 z n) → post r (h, nI n, nI m', w, a1, a2, a3, a4, a5, a6', a7', a8)) :
    wpX_makeFewFor post (h, nI n, f, w, a1, a2, a3, a4, a5, a6, a7, a8) zz :=
  ⟨n + 1, om_mff hr hz H n 0 0 a6 a7 1 (by omega) (by omega) (Or.inr ⟨rfl, om_few_0 (fun x y r hr => absurd hr (by omega))⟩)⟩
end
section
/-! leavesRoom -/
def om_hi (a6 a7 : Nat → Int32) (x : Int) (i : Nat) (y : Int) : Prop := ∀ r, r < i → (a6 (3 * r)).toInt * x + (a6 (3 * r + 1)).toInt * y ≤ (a7 r).toInt
theorem om_his {a6 a7 : Nat → Int32} {x : Int} {i : Nat} {y : Int} : om_hi a6 a7 x (i + 1) y ↔ om_hi a6 a7 x i y ∧ (a6 (3 * i)).toInt * x + (a6 (3 * i + 1)).toInt * y ≤ (a7 i).toInt := by
  refine ⟨fun t => ⟨fun r hr => t r (by omega), t i (by omega)⟩, fun t r hr => ?_⟩
  rcases om_lts hr with k | k
  · exact t.1 r k
  · rw [k]; exact t.2
def om_st (a6 a7 : Nat → Int32) (x : Int) (i : Nat) (l h : Int) : Prop := ∀ y : Int, (l ≤ y ∧ y ≤ h) ↔ (-6 ≤ y ∧ y ≤ 6 ∧ om_hi a6 a7 x i y)
theorem om_sts {a6 a7 : Nat → Int32} {x : Int} {i : Nat} {l h l' h' : Int} (k : om_st a6 a7 x i l h) (e : ∀ y : Int, (l' ≤ y ∧ y ≤ h') ↔ ((l ≤ y ∧ y ≤ h) ∧ (a6 (3 * i)).toInt * x + (a6 (3 * i + 1)).toInt * y ≤ (a7 i).toInt)) : om_st a6 a7 x (i + 1) l' h' := by
  intro y
  rw [e y, k y, om_his]
  exact ⟨fun t => ⟨t.1.1, t.1.2.1, t.1.2.2, t.2⟩, fun t => ⟨⟨t.1, t.2.1, t.2.2.1⟩, t.2.2.2⟩⟩
theorem om_lr {post : Int32 → Prop} {xx h n w : Int32} {m : Nat} {a1 a2 a3 a4 a5 a6 a7 a8 : Nat → Int32} {T : Int → Int → Prop} {x : Int} (hm : m ≤ 160) (hf : om_few m a6 a7 T) (hx : om_v xx x 6)
    (H1 : (∃ y, -6 ≤ y ∧ y ≤ 6 ∧ T x y) → post 1) (H0 : (¬ ∃ y, -6 ≤ y ∧ y ≤ 6 ∧ T x y) → post 0) :
    ∀ (d i : Nat) (lo hi : Int32) (lv hv : Int), i + d = m → om_v lo lv 5000 → om_v hi hv 5000 → om_st a6 a7 x i lv hv → wX_leavesRoom_9 post xx h n (nI m) w a1 a2 a3 a4 a5 a6 a7 a8 (d + 1) lo hi (nI i) := by
  intro d
  induction d with
  | zero =>
    intro i lo hi lv hv hi' h1 h2 hs
    have e : i = m := by omega
    rw [e] at hs ⊢
    refine pk_le m m (fun _ => ⟨fun c => H0 ?_, fun c => H1 ?_⟩) (fun z => absurd z (by omega))
    · rw [om_lt h2 h1] at c
      rintro ⟨y, y1, y2, y3⟩
      have t := (hs y).mpr ⟨y1, y2, (hf.2 x y).mp y3⟩
      omega
    · rw [om_lt h2 h1] at c
      have t := (hs lv).mp ⟨Int.le_refl _, by omega⟩
      exact ⟨lv, t.1, t.2.1, (hf.2 x lv).mpr t.2.2⟩
  | succ d ih =>
    intro i lo hi lv hv hi' h1 h2 hs
    have him : i < m := by omega
    obtain ⟨b1, b2, b3⟩ := hf.1 i him
    refine pk_le m i (fun z => absurd z (by omega)) (fun _ => ⟨pk_in (3 * i + 1) 480 (by omega) (om_31 i), nm_e ⟨pk_in i 160 (by omega), pk_in (3 * i) 480 (by omega) (om_3 i), nm_e ?_⟩⟩)
    rw [om_c3 (m := i) (by omega), om_c31 (m := i) (by omega), om_c (m := i) (by omega)]
    have hrest : om_v (a7 i - a6 (3 * i) * xx) ((a7 i).toInt - (a6 (3 * i)).toInt * x) 3200 := om_w (om_sub b3 (om_mul b1 hx (by decide)) (by decide)) (by decide)
    have J : ∀ (lo' hi' : Int32) (lv' hv' : Int), om_v lo' lv' 5000 → om_v hi' hv' 5000 → (∀ y : Int, (lv' ≤ y ∧ y ≤ hv') ↔ ((lv ≤ y ∧ y ≤ hv) ∧ (a6 (3 * i)).toInt * x + (a6 (3 * i + 1)).toInt * y ≤ (a7 i).toInt)) → ∀ k, k = nI i + 1 → wX_leavesRoom_9 post xx h n (nI m) w a1 a2 a3 a4 a5 a6 a7 a8 (d + 1) lo' hi' k :=
      fun lo' hi' lv' hv' k1 k2 k3 => nm_r (nI_1 i) (ih (i + 1) lo' hi' lv' hv' (by omega) k1 k2 (om_sts hs k3))
    have K : (a6 (3 * i + 1) = 0 → 0 ≤ (a7 i).toInt - (a6 (3 * i)).toInt * x) → wX_leavesRoom_64 post (wX_leavesRoom_9 post xx h n (nI m) w a1 a2 a3 a4 a5 a6 a7 a8 (d + 1)) xx lo hi (nI i) (a6 (3 * i + 1)) (a7 i - a6 (3 * i) * xx) h n (nI m) w a1 a2 a3 a4 a5 a6 a7 a8 := by
      intro h0
      unfold wX_leavesRoom_64
      refine ⟨fun c => ⟨fun c2 => J lo hi lv hv h1 h2 ?_, fun c2 => ?_⟩, fun c => ?_⟩
      · rw [om_le b2 om_0] at c
        rw [om_le om_0 b2] at c2
        have q0 : (a6 (3 * i + 1)).toInt = 0 := by omega
        have r0 := h0 ((om_eq b2 om_0).mpr q0)
        intro y
        rw [q0, Int.zero_mul]
        omega
      · rw [om_le om_0 b2] at c2
        refine om_floor hrest (by decide) (om_w (om_neg b2 (by decide)) (by decide)) (by omega) (fun r hr => ?_)
        have hq : (0 : Int) < -(a6 (3 * i + 1)).toInt := by omega
        have D : ∀ y : Int, -(((a7 i).toInt - (a6 (3 * i)).toInt * x) / -(a6 (3 * i + 1)).toInt) ≤ y ↔ (a6 (3 * i)).toInt * x + (a6 (3 * i + 1)).toInt * y ≤ (a7 i).toInt := by
          intro y
          have t := Int.le_ediv_iff_mul_le (a := -y) (b := (a7 i).toInt - (a6 (3 * i)).toInt * x) hq
          rw [Int.neg_mul_neg, Int.mul_comm y] at t
          omega
        have hn := om_neg hr (by decide)
        refine nm_e ⟨fun c3 => J lo hi lv hv h1 h2 ?_, fun c3 => J (-r) hi _ hv (om_w hn (by decide)) h2 ?_⟩
        · rw [om_le hn h1] at c3
          intro y
          rw [← D y]
          omega
        · rw [om_le hn h1] at c3
          intro y
          rw [← D y]
          omega
      · rw [om_le b2 om_0] at c
        refine om_floor hrest (by decide) (om_w b2 (by decide)) (by omega) (fun r hr => ?_)
        have hq : (0 : Int) < (a6 (3 * i + 1)).toInt := by omega
        have D : ∀ y : Int, y ≤ ((a7 i).toInt - (a6 (3 * i)).toInt * x) / (a6 (3 * i + 1)).toInt ↔ (a6 (3 * i)).toInt * x + (a6 (3 * i + 1)).toInt * y ≤ (a7 i).toInt := by
          intro y
          have t := Int.le_ediv_iff_mul_le (a := y) (b := (a7 i).toInt - (a6 (3 * i)).toInt * x) hq
          rw [Int.mul_comm y] at t
          omega
        refine ⟨fun c3 => J lo hi lv hv h1 h2 ?_, fun c3 => J lo r lv _ h1 (om_w hr (by decide)) ?_⟩
        · rw [om_le h2 hr] at c3
          intro y
          rw [← D y]
          omega
        · rw [om_le h2 hr] at c3
          intro y
          rw [← D y]
          omega
    refine ⟨fun c => ⟨fun c2 => K (fun _ => ?_), fun c2 => H0 ?_⟩, fun c => K (fun z => absurd z c)⟩
    · rw [om_le om_0 hrest] at c2
      exact c2
    · rw [om_le om_0 hrest] at c2
      rw [om_eq b2 om_0] at c
      rintro ⟨y, y1, y2, y3⟩
      have t := (hf.2 x y).mp y3 i him
      rw [c, Int.zero_mul] at t
      omega
theorem om_leavesRoom {post : Int32 → Prop} {xx h n w : Int32} {m : Nat} {a1 a2 a3 a4 a5 a6 a7 a8 : Nat → Int32} {T : Int → Int → Prop} {x : Int} (hm : m ≤ 160) (hf : om_few m a6 a7 T) (hx : om_v xx x 6)
    (H1 : (∃ y, -6 ≤ y ∧ y ≤ 6 ∧ T x y) → post 1) (H0 : (¬ ∃ y, -6 ≤ y ∧ y ≤ 6 ∧ T x y) → post 0) :
    wpX_leavesRoom post (h, n, nI m, w, a1, a2, a3, a4, a5, a6, a7, a8) xx :=
  ⟨m + 1, om_lr hm hf hx H1 H0 m 0 (-6) 6 (-6) 6 (by omega) (om_w om_m6 (by decide)) (om_w om_6 (by decide)) (fun y => ⟨fun t => ⟨t.1, t.2, fun r hr => absurd hr (by omega)⟩, fun t => ⟨t.1, t.2.1⟩⟩)⟩
/-! planeSolvable -/
def om_pl (T : Int → Int → Prop) : Prop := ∃ x y, -6 ≤ x ∧ x ≤ 6 ∧ -6 ≤ y ∧ y ≤ 6 ∧ T x y
theorem om_ps {post : Int32 → Prop} {h n w : Int32} {m : Nat} {a1 a2 a3 a4 a5 a6 a7 a8 : Nat → Int32} {T : Int → Int → Prop} (hm : m ≤ 160) (hf : om_few m a6 a7 T) (H1 : om_pl T → post 1) (H0 : ¬ om_pl T → post 0) :
    ∀ (d : Nat) (xx : Int32) (x : Int), om_v xx x 7 → x + d = 7 → -6 ≤ x → (∀ x', -6 ≤ x' → x' < x → ¬ ∃ y, -6 ≤ y ∧ y ≤ 6 ∧ T x' y) → wX_planeSolvable_3 post h n (nI m) w a1 a2 a3 a4 a5 a6 a7 a8 (d + 1) xx := by
  intro d
  induction d with
  | zero =>
    intro xx x hx hd h6 hn
    refine ⟨fun _ => H0 ?_, fun c => absurd ((om_lt om_6 hx).mpr (by omega)) c⟩
    rintro ⟨x', y, x1, x2, y1, y2, t⟩
    exact hn x' x1 (by omega) ⟨y, y1, y2, t⟩
  | succ d ih =>
    intro xx x hx hd h6 hn
    refine ⟨fun c => absurd ((om_lt om_6 hx).mp c) (by omega), fun _ => ?_⟩
    refine om_leavesRoom hm hf (x := x) ⟨hx.1, by omega, by omega⟩ (fun ex => ⟨fun z => absurd z (by decide), fun _ => ?_⟩) (fun nex => ⟨fun _ => nm_e (ih (xx + 1) (x + 1) ⟨(om_add hx om_1 (by decide)).1, by omega, by omega⟩ (by omega) (by omega) ?_), fun z => absurd rfl z⟩)
    · obtain ⟨y, y1, y2, t⟩ := ex
      exact H1 ⟨x, y, by omega, by omega, y1, y2, t⟩
    · intro x' x1 x2
      by_cases e : x' = x
      · rw [e]; exact nex
      · exact hn x' x1 (by omega)
theorem om_planeSolvable {post : Int32 → Prop} {h n w : Int32} {m : Nat} {a1 a2 a3 a4 a5 a6 a7 a8 : Nat → Int32} {T : Int → Int → Prop} (hm : m ≤ 160) (hf : om_few m a6 a7 T) (H1 : om_pl T → post 1) (H0 : ¬ om_pl T → post 0) :
    wpX_planeSolvable post (h, n, nI m, w, a1, a2, a3, a4, a5, a6, a7, a8) :=
  ⟨14, om_ps hm hf H1 H0 13 (-6) (-6) (om_w om_m6 (by decide)) (by decide) (by decide) (fun x' h1 h2 => absurd h1 (by omega))⟩
/-! isExact -/
def om_exa (n : Nat) (a4 : Nat → Int32) : Prop := (∀ r, r < n → -om_C a4 r ≤ 1) ∨ (∀ r, r < n → om_C a4 r ≤ 1)
theorem om_ix {post : Int32 → Prop} {h f w : Int32} {n : Nat} {a1 a2 a3 a4 a5 a6 a7 a8 : Nat → Int32} (hr : om_row n a4 a5) (H : ∀ r : Int32, r = 0 ∨ (r = 1 ∧ om_exa n a4) → post r) :
    ∀ (d i : Nat) (lo hi : Int32), i + d = n → (∀ r, r < i → -om_C a4 r ≤ lo.toInt) → (∀ r, r < i → om_C a4 r ≤ hi.toInt) → wX_isExact_6 post h (nI n) f w a1 a2 a3 a4 a5 a6 a7 a8 (d + 1) lo hi (nI i) := by
  have n25 := hr.1
  have t1 : (1 : Int32).toInt = 1 := by decide
  intro d
  induction d with
  | zero =>
    intro i lo hi hi' h1 h2
    have e : i = n := by omega
    rw [e] at h1 h2 ⊢
    refine pk_le n n (fun _ => ⟨fun c => H 1 (Or.inr ⟨rfl, Or.inl ?_⟩), fun _ => ⟨fun c => H 1 (Or.inr ⟨rfl, Or.inr ?_⟩), fun _ => H 0 (Or.inl rfl)⟩⟩) (fun z => absurd z (by omega))
    · rw [c, t1] at h1; exact h1
    · rw [c, t1] at h2; exact h2
  | succ d ih =>
    intro i lo hi hi' h1 h2
    have hin : i < n := by omega
    obtain ⟨b1, b2, b3, b4⟩ := hr.2 i hin
    refine pk_le n i (fun z => absurd z (by omega)) (fun _ => ⟨pk_in (3 * i + 2) 75 (by omega) (om_32 i), nm_e ?_⟩)
    rw [om_c32 (m := i) (by omega)]
    have K : ∀ z0 : Int32, (∀ r, r < i + 1 → -om_C a4 r ≤ z0.toInt) → wX_isExact_40 post (wX_isExact_6 post h (nI n) f w a1 a2 a3 a4 a5 a6 a7 a8 (d + 1)) hi (nI i) (a4 (3 * i + 2)) z0 h (nI n) f w a1 a2 a3 a4 a5 a6 a7 a8 := by
      intro z0 k
      unfold wX_isExact_40
      refine ⟨fun c => nm_r (nI_1 i) (ih (i + 1) z0 hi (by omega) k ?_), fun c => nm_r (nI_1 i) (ih (i + 1) z0 _ (by omega) k ?_)⟩
      · rw [Int32.le_iff_toInt_le] at c
        intro r hr
        rcases om_lts hr with k | k
        · exact h2 r k
        · rw [k]; exact c
      · rw [Int32.le_iff_toInt_le] at c
        intro r hr
        rcases om_lts hr with k | k
        · have := h2 r k; omega
        · rw [k]; exact Int.le_refl _
    have en := (om_neg b3 (by decide)).1
    refine ⟨fun c => K lo (fun r hr => ?_), fun c => K _ (fun r hr => ?_)⟩
    · rw [Int32.le_iff_toInt_le, en] at c
      rcases om_lts hr with k | k
      · exact h1 r k
      · rw [k]; exact c
    · rw [Int32.le_iff_toInt_le, en] at c
      rw [en]
      rcases om_lts hr with k | k
      · have := h1 r k; omega
      · rw [k]; exact Int.le_refl _
theorem om_isExact {post : Int32 → Prop} {h f w : Int32} {n : Nat} {a1 a2 a3 a4 a5 a6 a7 a8 : Nat → Int32} (hr : om_row n a4 a5) (H : ∀ r : Int32, r = 0 ∨ (r = 1 ∧ om_exa n a4) → post r) :
    wpX_isExact post (h, nI n, f, w, a1, a2, a3, a4, a5, a6, a7, a8) :=
  ⟨n + 1, om_ix hr H n 0 1 1 (by omega) (fun r hr => absurd hr (by omega)) (fun r hr => absurd hr (by omega))⟩
/-! solvable -/
def om_sol (R : Int → Int → Int → Prop) : Prop := ∃ x y z, R x y z
def om_ans (r : Int32) (P : Prop) : Prop := (r = 1 ∧ P) ∨ (r = 0 ∧ ¬ P)
def om_bxd (R : Int → Int → Int → Prop) : Prop := ∀ x y z, R x y z → -6 ≤ x ∧ x ≤ 6 ∧ -6 ≤ y ∧ y ≤ 6 ∧ -6 ≤ z ∧ z ≤ 6
theorem om_RZ {n : Nat} {a4 a5 : Nat → Int32} {x y z : Int} : om_R n a4 a5 x y z ↔ om_Z a4 a5 z n x y :=
  ⟨fun t r hr => by have := t r hr; omega, fun t r hr => by have := t r hr; omega⟩
theorem om_s46 {post : Int32 → St2 → Prop} {h w : Int32} {n : Nat} {a1 a2 a3 a4 a5 a8 : Nat → Int32} (hr : om_row n a4 a5) (hb : om_bxd (om_R n a4 a5))
    (H : ∀ (r f : Int32) (a6' a7' : Nat → Int32), om_ans r (om_sol (om_R n a4 a5)) → post r (h, nI n, f, w, a1, a2, a3, a4, a5, a6', a7', a8)) :
    ∀ (d : Nat) (zz : Int32) (z : Int) (f : Int32) (a6 a7 : Nat → Int32), om_v zz z 7 → z + d = 7 → -6 ≤ z → (∀ x y z', om_R n a4 a5 x y z' → z ≤ z') → wX_solvable_46 post (d + 1) zz h (nI n) f w a1 a2 a3 a4 a5 a6 a7 a8 := by
  intro d
  induction d with
  | zero =>
    intro zz z f a6 a7 hz hd h6 hn
    refine ⟨fun _ => H 0 f a6 a7 (Or.inr ⟨rfl, ?_⟩), fun c => absurd ((om_lt om_6 hz).mpr (by omega)) c⟩
    rintro ⟨x, y, z', t⟩
    have t1 := hn x y z' t
    have t2 := hb x y z' t
    omega
  | succ d ih =>
    intro zz z f a6 a7 hz hd h6 hn
    refine ⟨fun c => absurd ((om_lt om_6 hz).mp c) (by omega), fun _ => ?_⟩
    refine om_makeFewFor hr (z := z) ⟨hz.1, by omega, by omega⟩ (fun r m' a6' a7' k1 k2 => ?_)
    have N : (∀ x y, ¬ om_R n a4 a5 x y z) → ∀ k, k = zz + 1 → wX_solvable_46 post (d + 1) k h (nI n) (nI m') w a1 a2 a3 a4 a5 a6' a7' a8 := by
      intro no
      refine nm_e (ih (zz + 1) (z + 1) (nI m') a6' a7' ⟨(om_add hz om_1 (by decide)).1, by omega, by omega⟩ (by omega) (by omega) ?_)
      intro x y z' t
      have t1 := hn x y z' t
      by_cases e : z' = z
      · rw [e] at t; exact absurd t (no x y)
      · omega
    refine ⟨fun c => ?_, fun c => ?_⟩
    · rcases k2 with ⟨_, k⟩ | ⟨k, _⟩
      · exact N (fun x y t => k x y (om_RZ.mp t))
      · rw [k] at c; exact absurd c (by decide)
    · rcases k2 with ⟨k, _⟩ | ⟨_, k⟩
      · exact absurd k c
      · refine om_planeSolvable k1 k (fun ex => ⟨fun z => absurd z (by decide), fun _ => ?_⟩) (fun nex => ⟨fun _ => N (fun x y t => ?_), fun z => absurd rfl z⟩)
        · obtain ⟨x, y, _, _, _, _, t⟩ := ex
          exact H 1 _ _ _ (Or.inl ⟨rfl, x, y, z, om_RZ.mpr t⟩)
        · have b := hb x y z t
          exact nex ⟨x, y, b.1, b.2.1, b.2.2.1, b.2.2.2.1, om_RZ.mp t⟩
theorem om_s17 {post : Int32 → St2 → Prop} {h w f : Int32} {n : Nat} {a1 a2 a3 a4 a5 a6 a7 a8 : Nat → Int32} (hr : om_row n a4 a5) (hb : om_bxd (om_R n a4 a5)) (hT : ∀ x y, -6 ≤ x → x ≤ 6 → -6 ≤ y → y ≤ 6 → ¬ om_T 1 n a4 a5 n x y)
    (H : ∀ (r f : Int32) (a6' a7' : Nat → Int32), om_ans r (om_sol (om_R n a4 a5)) → post r (h, nI n, f, w, a1, a2, a3, a4, a5, a6', a7', a8)) :
    wX_solvable_17 post h (nI n) f w a1 a2 a3 a4 a5 a6 a7 a8 := by
  unfold wX_solvable_17
  refine om_isExact hr (fun r k => ⟨fun c => ?_, fun c => ?_⟩)
  · refine om_makeFew 0 hr (Or.inl ⟨rfl, rfl⟩) (fun r m' a6' a7' k1 k2 => ⟨fun c => ?_, fun c => ?_⟩)
    · rcases k2 with ⟨_, k⟩ | ⟨k, _⟩
      · refine H 0 _ _ _ (Or.inr ⟨rfl, ?_⟩)
        rintro ⟨x, y, z, t⟩
        exact k x y (om_wide t)
      · rw [k] at c; exact absurd c (by decide)
    · rcases k2 with ⟨k, _⟩ | ⟨_, k⟩
      · exact absurd k c
      · refine om_planeSolvable k1 k (fun ex => ⟨fun z => absurd z (by decide), fun _ => ⟨14, om_s46 hr hb H 13 (-6) (-6) _ _ _ (om_w om_m6 (by decide)) (by decide) (by decide) (fun x y z t => (hb x y z t).2.2.2.2.1)⟩⟩) (fun nex => ⟨fun _ => H 0 _ _ _ (Or.inr ⟨rfl, ?_⟩), fun z => absurd rfl z⟩)
        rintro ⟨x, y, z, t⟩
        have b := hb x y z t
        exact nex ⟨x, y, b.1, b.2.1, b.2.2.1, b.2.2.2.1, om_wide t⟩
  · rcases k with k | ⟨_, k⟩
    · exact absurd k c
    · refine H 0 _ _ _ (Or.inr ⟨rfl, ?_⟩)
      rintro ⟨x, y, z, t⟩
      have b := hb x y z t
      exact hT x y b.1 b.2.1 b.2.2.1 b.2.2.2.1 (om_ex k (om_wide t))
theorem om_solvable {post : Int32 → St2 → Prop} {h w f : Int32} {n : Nat} {a1 a2 a3 a4 a5 a6 a7 a8 : Nat → Int32} (hr : om_row n a4 a5) (hl : ∃ l, l < n ∧ om_C a4 l < 0) (hb : om_bxd (om_R n a4 a5))
    (H : ∀ (r f : Int32) (a6' a7' : Nat → Int32), om_ans r (om_sol (om_R n a4 a5)) → post r (h, nI n, f, w, a1, a2, a3, a4, a5, a6', a7', a8)) :
    wpX_solvable post (h, nI n, f, w, a1, a2, a3, a4, a5, a6, a7, a8) := by
  unfold wpX_solvable
  refine om_makeFew 1 hr (Or.inr ⟨by decide, rfl⟩) (fun r m' a6' a7' k1 k2 => ⟨fun c => ?_, fun c => ?_⟩)
  · rcases k2 with ⟨_, k⟩ | ⟨k, _⟩
    · exact om_s17 hr hb (fun x y _ _ _ _ => k x y) H
    · rw [k] at c; exact absurd c (by decide)
  · rcases k2 with ⟨k, _⟩ | ⟨_, k⟩
    · exact absurd k c
    · refine om_planeSolvable k1 k (fun ex => ⟨fun z => absurd z (by decide), fun _ => ?_⟩) (fun nex => ⟨fun _ => om_s17 hr hb (fun x y x1 x2 y1 y2 t => nex ⟨x, y, x1, x2, y1, y2, t⟩) H, fun z => absurd rfl z⟩)
      obtain ⟨x, y, _, _, _, _, t⟩ := ex
      obtain ⟨z, t2⟩ := om_dark hl t
      exact H 1 _ _ _ (Or.inl ⟨rfl, x, y, z, t2⟩)
end
section
/-! put -/
def om_rw (n : Nat) (a4 a5 : Nat → Int32) (R : Int → Int → Int → Prop) : Prop := om_row n a4 a5 ∧ ∀ x y z, R x y z ↔ om_R n a4 a5 x y z
def om_lo (n : Nat) (a4 : Nat → Int32) : Prop := ∃ l, l < n ∧ om_C a4 l < 0
theorem om_rw_c {n : Nat} {a4 a5 : Nat → Int32} {R R' : Int → Int → Int → Prop} (h : om_rw n a4 a5 R) (e : ∀ x y z, R' x y z ↔ R x y z) : om_rw n a4 a5 R' :=
  ⟨h.1, fun x y z => (e x y z).trans (h.2 x y z)⟩
theorem om_put {post : St2 → Prop} {h f w p0 p1 p2 p3 : Int32} {n : Nat} {a1 a2 a3 a4 a5 a6 a7 a8 : Nat → Int32} {R : Int → Int → Int → Prop} {A B C D : Int} (hr : om_rw n a4 a5 R) (hn : n < 25) (h0 : om_v p0 A 9) (h1 : om_v p1 B 9) (h2 : om_v p2 C 9) (h3 : om_v p3 D 100)
    (H : ∀ a4' a5' : Nat → Int32, om_rw (n + 1) a4' a5' (fun x y z => R x y z ∧ A * x + B * y + C * z ≤ D) → (om_lo n a4 ∨ C < 0 → om_lo (n + 1) a4') → post (h, nI (n + 1), f, w, a1, a2, a3, a4', a5', a6, a7, a8)) :
    wpX_put post (h, nI n, f, w, a1, a2, a3, a4, a5, a6, a7, a8) p0 p1 p2 p3 := by
  refine ⟨pk_in (3 * n) 75 (by omega) (om_3 n), nm_e ⟨pk_in (3 * n + 1) 75 (by omega) (om_31 n), nm_e ⟨pk_in (3 * n + 2) 75 (by omega) (om_32 n), nm_e ⟨pk_in n 25 hn, nm_e (nm_r (nI_1 n) ?_)⟩⟩⟩⟩
  rw [om_c3 (m := n) (by omega), om_c31 (m := n) (by omega), om_c32 (m := n) (by omega), om_c (m := n) (by omega)]
  have o1 : ∀ r, r < n → om_A (upd (upd (upd a4 (3 * n) p0) (3 * n + 1) p1) (3 * n + 2) p2) r = om_A a4 r ∧ upd (upd (upd a4 (3 * n) p0) (3 * n + 1) p1) (3 * n + 2) p2 (3 * r) = a4 (3 * r) := by
    intro r hr
    have e : upd (upd (upd a4 (3 * n) p0) (3 * n + 1) p1) (3 * n + 2) p2 (3 * r) = a4 (3 * r) := by rw [pk_un (by omega), pk_un (by omega), pk_un (by omega)]
    exact ⟨by unfold om_A; rw [e], e⟩
  have o2 : ∀ r, r < n → om_B (upd (upd (upd a4 (3 * n) p0) (3 * n + 1) p1) (3 * n + 2) p2) r = om_B a4 r ∧ upd (upd (upd a4 (3 * n) p0) (3 * n + 1) p1) (3 * n + 2) p2 (3 * r + 1) = a4 (3 * r + 1) := by
    intro r hr
    have e : upd (upd (upd a4 (3 * n) p0) (3 * n + 1) p1) (3 * n + 2) p2 (3 * r + 1) = a4 (3 * r + 1) := by rw [pk_un (by omega), pk_un (by omega), pk_un (by omega)]
    exact ⟨by unfold om_B; rw [e], e⟩
  have o3 : ∀ r, r < n → om_C (upd (upd (upd a4 (3 * n) p0) (3 * n + 1) p1) (3 * n + 2) p2) r = om_C a4 r ∧ upd (upd (upd a4 (3 * n) p0) (3 * n + 1) p1) (3 * n + 2) p2 (3 * r + 2) = a4 (3 * r + 2) := by
    intro r hr
    have e : upd (upd (upd a4 (3 * n) p0) (3 * n + 1) p1) (3 * n + 2) p2 (3 * r + 2) = a4 (3 * r + 2) := by rw [pk_un (by omega), pk_un (by omega), pk_un (by omega)]
    exact ⟨by unfold om_C; rw [e], e⟩
  have o4 : ∀ r, r < n → om_D (upd a5 n p3) r = om_D a5 r ∧ upd a5 n p3 r = a5 r := by
    intro r hr
    have e : upd a5 n p3 r = a5 r := pk_un (by omega)
    exact ⟨by unfold om_D; rw [e], e⟩
  have m1 : upd (upd (upd a4 (3 * n) p0) (3 * n + 1) p1) (3 * n + 2) p2 (3 * n) = p0 := by rw [pk_un (by omega), pk_un (by omega), pk_us]
  have m2 : upd (upd (upd a4 (3 * n) p0) (3 * n + 1) p1) (3 * n + 2) p2 (3 * n + 1) = p1 := by rw [pk_un (by omega), pk_us]
  have m3 : upd (upd (upd a4 (3 * n) p0) (3 * n + 1) p1) (3 * n + 2) p2 (3 * n + 2) = p2 := pk_us
  have m4 : upd a5 n p3 n = p3 := pk_us
  have n1 : om_A (upd (upd (upd a4 (3 * n) p0) (3 * n + 1) p1) (3 * n + 2) p2) n = A := by unfold om_A; rw [m1]; exact h0.1
  have n2 : om_B (upd (upd (upd a4 (3 * n) p0) (3 * n + 1) p1) (3 * n + 2) p2) n = B := by unfold om_B; rw [m2]; exact h1.1
  have n3 : om_C (upd (upd (upd a4 (3 * n) p0) (3 * n + 1) p1) (3 * n + 2) p2) n = C := by unfold om_C; rw [m3]; exact h2.1
  have n4 : om_D (upd a5 n p3) n = D := by unfold om_D; rw [m4]; exact h3.1
  revert o1 o2 o3 o4 m1 m2 m3 m4 n1 n2 n3 n4
  generalize upd (upd (upd a4 (3 * n) p0) (3 * n + 1) p1) (3 * n + 2) p2 = b4
  generalize upd a5 n p3 = b5
  intro o1 o2 o3 o4 m1 m2 m3 m4 n1 n2 n3 n4
  refine H b4 b5 ⟨⟨by omega, fun r hr' => ?_⟩, fun x y z => ?_⟩ ?_
  · rcases om_lts hr' with k | k
    · rw [(o1 r k).1, (o1 r k).2, (o2 r k).1, (o2 r k).2, (o3 r k).1, (o3 r k).2, (o4 r k).1, (o4 r k).2]
      exact hr.1.2 r k
    · rw [k, n1, n2, n3, n4, m1, m2, m3, m4]
      exact ⟨h0, h1, h2, h3⟩
  · dsimp only
    rw [hr.2 x y z]
    refine ⟨fun t r hr' => ?_, fun t => ⟨fun r hr' => ?_, ?_⟩⟩
    · rcases om_lts hr' with k | k
      · rw [(o1 r k).1, (o2 r k).1, (o3 r k).1, (o4 r k).1]
        exact t.1 r k
      · rw [k, n1, n2, n3, n4]; exact t.2
    · have s := t r (by omega)
      rw [(o1 r hr').1, (o2 r hr').1, (o3 r hr').1, (o4 r hr').1] at s
      exact s
    · have s := t n (by omega)
      rw [n1, n2, n3, n4] at s
      exact s
  · rintro (⟨l, l1, l2⟩ | c)
    · exact ⟨l, by omega, by rw [(o3 l l1).1]; exact l2⟩
    · exact ⟨n, by omega, by rw [n3]; exact c⟩
/-! free -/
def om_fx (a8 : Nat → Int32) (F : Nat → Int) : Prop := ∀ v, v < 3 → om_v (a8 v) (F v) 100 ∧ (F v = 100 ∨ (-6 ≤ F v ∧ F v ≤ 6))
def om_set (F : Nat → Int) (v : Nat) (t : Int) : Nat → Int := fun j => if j = v then t else F j
def om_any : Nat → Int := fun _ => 100
theorem om_fx_set {a8 : Nat → Int32} {F : Nat → Int} {v : Nat} {x : Int32} {t : Int} (h : om_fx a8 F) (hx : om_v x t 100) (ht : t = 100 ∨ (-6 ≤ t ∧ t ≤ 6)) : om_fx (upd a8 v x) (om_set F v t) := by
  intro j hj
  by_cases e : j = v
  · rw [e, pk_us, show om_set F v t v = t from if_pos rfl]; exact ⟨hx, ht⟩
  · rw [pk_un e, show om_set F v t j = F j from if_neg e]; exact h j hj
theorem om_free {post : St2 → Prop} {h n f w : Int32} {a1 a2 a3 a4 a5 a6 a7 a8 : Nat → Int32} (H : ∀ a8' : Nat → Int32, om_fx a8' om_any → post (h, n, f, w, a1, a2, a3, a4, a5, a6, a7, a8')) :
    wpX_free post (h, n, f, w, a1, a2, a3, a4, a5, a6, a7, a8) :=
  pk_loop (fun k i s => wX_free_2 post h n f w k (nI i) a1 a2 a3 a4 a5 a6 a7 s) (fun i s => ∀ j, j < i → s j = 100) 3 0 a8 (by omega) (fun j hj => absurd hj (by omega))
    (fun k s hs => pk_le 3 3 (fun _ => H s (fun v hv => by rw [hs v hv]; exact ⟨om_100, Or.inl rfl⟩)) (fun z => absurd z (by omega)))
    (fun k i s hi hs hw => pk_le 3 i (fun z => absurd z (by omega)) (fun _ => ⟨pk_in i 3 hi, nm_e (nm_r (nI_1 i) (hw _ (by
      intro j hj
      rw [om_c (m := i) (by omega)]
      rcases om_lts hj with k | k
      · rw [pk_un (by omega)]; exact hs j k
      · rw [k, pk_us])))⟩))
/-! collect: the box -/
def om_cd : Nat → Int → Int → Int → Int
  | 0, x, _, _ => x
  | 1, _, y, _ => y
  | _, _, _, z => z
def om_b1 (f t : Int) : Prop := (f = 100 ∧ -6 ≤ t ∧ t ≤ 6) ∨ (f ≠ 100 ∧ t = f)
def om_bx (F : Nat → Int) (x y z : Int) : Prop := om_b1 (F 0) x ∧ om_b1 (F 1) y ∧ om_b1 (F 2) z

theorem om_154_0 {post : St2 → Prop} {J : Int32 → Int32 → Int32 → Int32 → Int32 → (Nat → Int32) → (Nat → Int32) → (Nat → Int32) → (Nat → Int32) → (Nat → Int32) → (Nat → Int32) → (Nat → Int32) → (Nat → Int32) → Prop} {h f w hi lo : Int32} {n : Nat} {a1 a2 a3 a4 a5 a6 a7 a8 : Nat → Int32} {R : Int → Int → Int → Prop} {Hh Ll : Int} (h1 : om_v hi Hh 6) (h2 : om_v lo Ll 6) (hr : om_rw n a4 a5 R) (hn : n + 2 ≤ 25)
    (H : ∀ a4' a5' : Nat → Int32, om_rw (n + 2) a4' a5' (fun x y z => R x y z ∧ Ll ≤ x ∧ x ≤ Hh) → (om_lo n a4 ∨ 0 = 2 → om_lo (n + 2) a4') → J (nI (0 + 1)) h (nI (n + 2)) f w a1 a2 a3 a4' a5' a6 a7 a8) :
    wX_collect_154 post J (nI 0) hi lo h (nI n) f w a1 a2 a3 a4 a5 a6 a7 a8 := by
  refine br_t (by decide) (br_f (by decide) (br_f (by decide) ?_))
  unfold wX_collect_185
  refine om_put hr (by omega) (om_w om_1 (by decide)) (om_w om_0 (by decide)) (om_w om_0 (by decide)) (om_w h1 (by decide)) (fun b4 b5 k1 k2 => ?_)
  refine br_t (by decide) (br_f (by decide) (br_f (by decide) ?_))
  unfold wX_collect_219
  refine om_put k1 (by omega) (om_w om_m1 (by decide)) (om_w om_0 (by decide)) (om_w om_0 (by decide)) (om_w (om_neg h2 (by decide)) (by decide)) (fun c4 c5 k3 k4 => nm_r (nI_1 0) (H c4 c5 (om_rw_c k3 (fun x y z => ?_)) (fun t => k4 ?_)))
  · exact ⟨fun t => ⟨⟨t.1, by have := t.2; omega⟩, by have := t.2; omega⟩, fun t => ⟨t.1.1, by have := t.1.2; have := t.2; omega⟩⟩
  · rcases t with t | t
    · exact Or.inl (k2 (Or.inl t))
    · exact absurd t (by decide)
theorem om_154_1 {post : St2 → Prop} {J : Int32 → Int32 → Int32 → Int32 → Int32 → (Nat → Int32) → (Nat → Int32) → (Nat → Int32) → (Nat → Int32) → (Nat → Int32) → (Nat → Int32) → (Nat → Int32) → (Nat → Int32) → Prop} {h f w hi lo : Int32} {n : Nat} {a1 a2 a3 a4 a5 a6 a7 a8 : Nat → Int32} {R : Int → Int → Int → Prop} {Hh Ll : Int} (h1 : om_v hi Hh 6) (h2 : om_v lo Ll 6) (hr : om_rw n a4 a5 R) (hn : n + 2 ≤ 25)
    (H : ∀ a4' a5' : Nat → Int32, om_rw (n + 2) a4' a5' (fun x y z => R x y z ∧ Ll ≤ y ∧ y ≤ Hh) → (om_lo n a4 ∨ 1 = 2 → om_lo (n + 2) a4') → J (nI (1 + 1)) h (nI (n + 2)) f w a1 a2 a3 a4' a5' a6 a7 a8) :
    wX_collect_154 post J (nI 1) hi lo h (nI n) f w a1 a2 a3 a4 a5 a6 a7 a8 := by
  refine br_f (by decide) (br_t (by decide) (br_f (by decide) ?_))
  unfold wX_collect_185
  refine om_put hr (by omega) (om_w om_0 (by decide)) (om_w om_1 (by decide)) (om_w om_0 (by decide)) (om_w h1 (by decide)) (fun b4 b5 k1 k2 => ?_)
  refine br_f (by decide) (br_t (by decide) (br_f (by decide) ?_))
  unfold wX_collect_219
  refine om_put k1 (by omega) (om_w om_0 (by decide)) (om_w om_m1 (by decide)) (om_w om_0 (by decide)) (om_w (om_neg h2 (by decide)) (by decide)) (fun c4 c5 k3 k4 => nm_r (nI_1 1) (H c4 c5 (om_rw_c k3 (fun x y z => ?_)) (fun t => k4 ?_)))
  · exact ⟨fun t => ⟨⟨t.1, by have := t.2; omega⟩, by have := t.2; omega⟩, fun t => ⟨t.1.1, by have := t.1.2; have := t.2; omega⟩⟩
  · rcases t with t | t
    · exact Or.inl (k2 (Or.inl t))
    · exact absurd t (by decide)
theorem om_154_2 {post : St2 → Prop} {J : Int32 → Int32 → Int32 → Int32 → Int32 → (Nat → Int32) → (Nat → Int32) → (Nat → Int32) → (Nat → Int32) → (Nat → Int32) → (Nat → Int32) → (Nat → Int32) → (Nat → Int32) → Prop} {h f w hi lo : Int32} {n : Nat} {a1 a2 a3 a4 a5 a6 a7 a8 : Nat → Int32} {R : Int → Int → Int → Prop} {Hh Ll : Int} (h1 : om_v hi Hh 6) (h2 : om_v lo Ll 6) (hr : om_rw n a4 a5 R) (hn : n + 2 ≤ 25)
    (H : ∀ a4' a5' : Nat → Int32, om_rw (n + 2) a4' a5' (fun x y z => R x y z ∧ Ll ≤ z ∧ z ≤ Hh) → (om_lo n a4 ∨ 2 = 2 → om_lo (n + 2) a4') → J (nI (2 + 1)) h (nI (n + 2)) f w a1 a2 a3 a4' a5' a6 a7 a8) :
    wX_collect_154 post J (nI 2) hi lo h (nI n) f w a1 a2 a3 a4 a5 a6 a7 a8 := by
  refine br_f (by decide) (br_f (by decide) (br_t (by decide) ?_))
  unfold wX_collect_185
  refine om_put hr (by omega) (om_w om_0 (by decide)) (om_w om_0 (by decide)) (om_w om_1 (by decide)) (om_w h1 (by decide)) (fun b4 b5 k1 k2 => ?_)
  refine br_f (by decide) (br_f (by decide) (br_t (by decide) ?_))
  unfold wX_collect_219
  refine om_put k1 (by omega) (om_w om_0 (by decide)) (om_w om_0 (by decide)) (om_w om_m1 (by decide)) (om_w (om_neg h2 (by decide)) (by decide)) (fun c4 c5 k3 k4 => nm_r (nI_1 2) (H c4 c5 (om_rw_c k3 (fun x y z => ?_)) (fun t => k4 ?_)))
  · exact ⟨fun t => ⟨⟨t.1, by have := t.2; omega⟩, by have := t.2; omega⟩, fun t => ⟨t.1.1, by have := t.1.2; have := t.2; omega⟩⟩
  · exact Or.inr (by decide)
theorem om_154 {post : St2 → Prop} {J : Int32 → Int32 → Int32 → Int32 → Int32 → (Nat → Int32) → (Nat → Int32) → (Nat → Int32) → (Nat → Int32) → (Nat → Int32) → (Nat → Int32) → (Nat → Int32) → (Nat → Int32) → Prop} {h f w hi lo : Int32} {n : Nat} {a1 a2 a3 a4 a5 a6 a7 a8 : Nat → Int32} {R : Int → Int → Int → Prop} {Hh Ll : Int} {v : Nat} (hv : v < 3) (h1 : om_v hi Hh 6) (h2 : om_v lo Ll 6) (hr : om_rw n a4 a5 R) (hn : n + 2 ≤ 25)
    (H : ∀ a4' a5' : Nat → Int32, om_rw (n + 2) a4' a5' (fun x y z => R x y z ∧ Ll ≤ om_cd v x y z ∧ om_cd v x y z ≤ Hh) → (om_lo n a4 ∨ v = 2 → om_lo (n + 2) a4') → J (nI (v + 1)) h (nI (n + 2)) f w a1 a2 a3 a4' a5' a6 a7 a8) :
    wX_collect_154 post J (nI v) hi lo h (nI n) f w a1 a2 a3 a4 a5 a6 a7 a8 := by
  rcases (show v = 0 ∨ v = 1 ∨ v = 2 by omega) with e | e | e
  · subst e; exact om_154_0 h1 h2 hr hn H
  · subst e; exact om_154_1 h1 h2 hr hn H
  · subst e; exact om_154_2 h1 h2 hr hn H
theorem om_c104 {post : St2 → Prop} {h f w : Int32} {n0 : Nat} {a1 a2 a3 a6 a7 a8 : Nat → Int32} {R : Int → Int → Int → Prop} {F : Nat → Int} (hF : om_fx a8 F) (hn : n0 ≤ 16)
    (H : ∀ (n : Nat) (a4' a5' : Nat → Int32), n ≤ 22 → om_rw n a4' a5' (fun x y z => R x y z ∧ om_bx F x y z) → om_lo n a4' → post (h, nI n, f, w, a1, a2, a3, a4', a5', a6, a7, a8)) :
    ∀ (d v n : Nat) (a4 a5 : Nat → Int32), v + d = 3 → n ≤ n0 + 2 * v → om_rw n a4 a5 (fun x y z => R x y z ∧ ∀ j, j < v → om_b1 (F j) (om_cd j x y z)) → (2 < v → om_lo n a4) → wX_collect_104 post (d + 1) (nI v) h (nI n) f w a1 a2 a3 a4 a5 a6 a7 a8 := by
  intro d
  induction d with
  | zero =>
    intro v n a4 a5 hv hn' hr hl
    have e : v = 3 := by omega
    rw [e] at hr ⊢
    refine pk_le 3 3 (fun _ => H n a4 a5 (by omega) (om_rw_c hr (fun x y z => ?_)) (hl (by omega))) (fun z => absurd z (by omega))
    refine ⟨fun t => ⟨t.1, fun j hj => ?_⟩, fun t => ⟨t.1, t.2 0 (by omega), t.2 1 (by omega), t.2 2 (by omega)⟩⟩
    rcases (show j = 0 ∨ j = 1 ∨ j = 2 by omega) with e | e | e
    · rw [e]; exact t.2.1
    · rw [e]; exact t.2.2.1
    · rw [e]; exact t.2.2.2
  | succ d ih =>
    intro v n a4 a5 hv hn' hr hl
    have hv3 : v < 3 := by omega
    obtain ⟨f1, f2⟩ := hF v hv3
    have S : ∀ (Ll Hh : Int) (b4 b5 : Nat → Int32), (∀ t : Int, (Ll ≤ t ∧ t ≤ Hh) ↔ om_b1 (F v) t) → om_rw (n + 2) b4 b5 (fun x y z => (R x y z ∧ ∀ j, j < v → om_b1 (F j) (om_cd j x y z)) ∧ Ll ≤ om_cd v x y z ∧ om_cd v x y z ≤ Hh) → (om_lo n a4 ∨ v = 2 → om_lo (n + 2) b4) → wX_collect_104 post (d + 1) (nI (v + 1)) h (nI (n + 2)) f w a1 a2 a3 b4 b5 a6 a7 a8 := by
      intro Ll Hh b4 b5 e k1 k2
      refine ih (v + 1) (n + 2) b4 b5 (by omega) (by omega) (om_rw_c k1 (fun x y z => ?_)) (fun t => k2 (Or.inr (by omega)))
      rw [e]
      refine ⟨fun t => ⟨⟨t.1, fun j hj => t.2 j (by omega)⟩, t.2 v (by omega)⟩, fun t => ⟨t.1.1, fun j hj => ?_⟩⟩
      rcases om_lts hj with k | k
      · exact t.1.2 j k
      · rw [k]; exact t.2
    refine pk_le 3 v (fun z => absurd z (by omega)) (fun _ => ⟨pk_in v 3 hv3, ?_⟩)
    rw [om_c (m := v) (by omega)]
    refine ⟨fun c => ?_, fun c => ⟨pk_in v 3 hv3, ?_⟩⟩
    · unfold wX_collect_131
      rw [om_c (m := v) (by omega)]
      refine ⟨pk_in v 3 hv3, br_t c (om_154 hv3 om_6 om_m6 hr (by omega) (fun b4 b5 k1 k2 => S (-6) 6 b4 b5 (fun t => ?_) k1 k2))⟩
      rw [om_eq f1 om_100] at c
      unfold om_b1
      omega
    · unfold wX_collect_131
      rw [om_c (m := v) (by omega)]
      have c' := c
      rw [om_eq f1 om_100] at c'
      have f3 : om_v (a8 v) (F v) 6 := ⟨f1.1, by omega, by omega⟩
      refine ⟨pk_in v 3 hv3, br_f c ⟨pk_in v 3 hv3, om_154 hv3 f3 f3 hr (by omega) (fun b4 b5 k1 k2 => S (F v) (F v) b4 b5 (fun t => ?_) k1 k2)⟩⟩
      unfold om_b1
      omega
/-! collect: the conditions -/
abbrev om_Cn : Type := Int × Int × Int × Int × Bool
def om_hc (c : om_Cn) (x y z : Int) : Prop := c.1 * x + c.2.1 * y + c.2.2.1 * z ≤ c.2.2.2.1 ∧ (c.2.2.2.2 = true → -c.1 * x + -c.2.1 * y + -c.2.2.1 * z ≤ -c.2.2.2.1)
def om_at (c : om_Cn) (k : Nat) (a1 a2 a3 : Nat → Int32) : Prop := om_v (a1 (3 * k)) c.1 9 ∧ om_v (a1 (3 * k + 1)) c.2.1 9 ∧ om_v (a1 (3 * k + 2)) c.2.2.1 9 ∧ om_v (a2 k) c.2.2.2.1 99 ∧ a3 k = (if c.2.2.2.2 = true then 1 else 0)
def om_has (cs : List om_Cn) (a1 a2 a3 : Nat → Int32) : Prop := cs.length ≤ 8 ∧ ∀ (k : Nat) (c : om_Cn), cs[k]? = some c → om_at c k a1 a2 a3
/-- all conditions but the one at w -/
def om_all (cs : List om_Cn) (w : Int32) (i : Nat) (x y z : Int) : Prop := ∀ (k : Nat) (c : om_Cn), k < i → cs[k]? = some c → ¬ nI k = w → om_hc c x y z
theorem om_all_s {cs : List om_Cn} {w : Int32} {i : Nat} {c : om_Cn} {x y z : Int} (hc : cs[i]? = some c) : om_all cs w (i + 1) x y z ↔ (om_all cs w i x y z ∧ (¬ nI i = w → om_hc c x y z)) := by
  refine ⟨fun t => ⟨fun k d hk => t k d (by omega), fun e => t i c (by omega) hc e⟩, fun t k d hk hd e => ?_⟩
  rcases om_lts hk with q | q
  · exact t.1 k d q hd e
  · rw [q] at hd e
    rw [hc] at hd
    rw [← Option.some.inj hd]
    exact t.2 e
theorem om_c7 {post : St2 → Prop} {f w : Int32} {cs : List om_Cn} {a1 a2 a3 a6 a7 a8 : Nat → Int32} {F : Nat → Int} (hc : om_has cs a1 a2 a3) (hF : om_fx a8 F)
    (H : ∀ (n : Nat) (a4' a5' : Nat → Int32), n ≤ 22 → om_rw n a4' a5' (fun x y z => om_all cs w cs.length x y z ∧ om_bx F x y z) → om_lo n a4' → post (nI cs.length, nI n, f, w, a1, a2, a3, a4', a5', a6, a7, a8)) :
    ∀ (d i n : Nat) (a4 a5 : Nat → Int32), i + d = cs.length → n ≤ 2 * i → om_rw n a4 a5 (om_all cs w i) → wX_collect_7 post (d + 1) (nI i) (nI cs.length) (nI n) f w a1 a2 a3 a4 a5 a6 a7 a8 := by
  have h8 := hc.1
  intro d
  induction d with
  | zero =>
    intro i n a4 a5 hi hn hr
    have e : i = cs.length := by omega
    rw [e] at hr ⊢
    exact pk_le cs.length cs.length (fun _ => ⟨4, om_c104 hF (n0 := n) (by omega) H 3 0 n a4 a5 (by omega) (by omega) (om_rw_c hr (fun x y z => ⟨fun t => t.1, fun t => ⟨t, fun j hj => absurd hj (by omega)⟩⟩)) (fun t => absurd t (by omega))⟩) (fun z => absurd z (by omega))
  | succ d ih =>
    intro i n a4 a5 hi hn hr
    have hil : i < cs.length := by omega
    obtain ⟨c, hci⟩ : ∃ c, cs[i]? = some c := ⟨cs[i], List.getElem?_eq_getElem hil⟩
    obtain ⟨b1, b2, b3, b4, b5⟩ := hc.2 i c hci
    refine pk_le cs.length i (fun z => absurd z (by omega)) (fun _ => ⟨fun e => nm_r (nI_1 i) (ih (i + 1) n a4 a5 (by omega) (by omega) (om_rw_c hr (fun x y z => ?_))), fun e => ?_⟩)
    · rw [om_all_s hci]
      exact ⟨fun t => t.1, fun t => ⟨t, fun z => absurd e z⟩⟩
    refine ⟨pk_in (3 * i) 24 (by omega) (om_3 i), nm_e ⟨pk_in (3 * i + 1) 24 (by omega) (om_31 i), nm_e ⟨pk_in (3 * i + 2) 24 (by omega) (om_32 i), nm_e ⟨pk_in i 8 (by omega), ?_⟩⟩⟩⟩
    rw [om_c3 (m := i) (by omega), om_c31 (m := i) (by omega), om_c32 (m := i) (by omega), om_c (m := i) (by omega)]
    refine om_put hr (by omega) b1 b2 b3 (om_w b4 (by decide)) (fun c4 c5 k1 k2 => ⟨pk_in i 8 (by omega), ⟨fun e0 => ?_, fun e0 => ⟨pk_in i 8 (by omega), ?_⟩⟩⟩)
    · refine nm_r (nI_1 i) (ih (i + 1) (n + 1) c4 c5 (by omega) (by omega) (om_rw_c k1 (fun x y z => ?_)))
      rw [om_all_s hci]
      have ef : ¬ c.2.2.2.2 = true := by
        intro z
        rw [b5, if_pos z] at e0
        exact absurd e0 (by decide)
      exact ⟨fun t => ⟨t.1, (t.2 e).1⟩, fun t => ⟨t.1, fun _ => ⟨t.2, fun z => absurd z ef⟩⟩⟩
    · have et : c.2.2.2.2 = true := by
        by_cases z : c.2.2.2.2 = true
        · exact z
        · rw [b5, if_neg z] at e0
          exact absurd rfl e0
      refine om_put k1 (by omega) (om_neg b1 (by decide)) (om_neg b2 (by decide)) (om_neg b3 (by decide)) (om_w (om_neg b4 (by decide)) (by decide)) (fun d4 d5 k3 k4 => nm_r (nI_1 i) (ih (i + 1) (n + 1 + 1) d4 d5 (by omega) (by omega) (om_rw_c k3 (fun x y z => ?_))))
      rw [om_all_s hci]
      exact ⟨fun t => ⟨⟨t.1, (t.2 e).1⟩, (t.2 e).2 et⟩, fun t => ⟨t.1.1, fun _ => ⟨t.1.2, fun _ => t.2⟩⟩⟩
theorem om_collect {post : St2 → Prop} {n f w : Int32} {cs : List om_Cn} {a1 a2 a3 a4 a5 a6 a7 a8 : Nat → Int32} {F : Nat → Int} (hc : om_has cs a1 a2 a3) (hF : om_fx a8 F)
    (H : ∀ (n : Nat) (a4' a5' : Nat → Int32), n ≤ 22 → om_rw n a4' a5' (fun x y z => om_all cs w cs.length x y z ∧ om_bx F x y z) → om_lo n a4' → post (nI cs.length, nI n, f, w, a1, a2, a3, a4', a5', a6, a7, a8)) :
    wpX_collect post (nI cs.length, n, f, w, a1, a2, a3, a4, a5, a6, a7, a8) :=
  ⟨cs.length + 1, om_c7 hc hF H cs.length 0 0 a4 a5 (by omega) (by omega) ⟨⟨by omega, fun r hr => absurd hr (by omega)⟩, fun x y z => ⟨fun _ r hr => absurd hr (by omega), fun _ k c hk => absurd hk (by omega)⟩⟩⟩
end
section
/-! the object: its conditions are cs, none is left out -/
def om_ob (cs : List om_Cn) (u : St2) : Prop := u.1 = nI cs.length ∧ u.2.2.2.1 = -1 ∧ om_has cs u.2.2.2.2.1 u.2.2.2.2.2.1 u.2.2.2.2.2.2.1
def om_fe (cs : List om_Cn) (F : Nat → Int) : Prop := ∃ x y z, (∀ c, c ∈ cs → om_hc c x y z) ∧ om_bx F x y z
theorem om_nm1 {k : Nat} (h : k < 100) : ¬ nI k = -1 := by
  rw [om_eq (om_nv (n := k) (B := 100) (by omega) (by decide)) om_m1]
  omega
theorem om_allm {cs : List om_Cn} {x y z : Int} (h8 : cs.length ≤ 8) : om_all cs (-1) cs.length x y z ↔ ∀ c, c ∈ cs → om_hc c x y z := by
  refine ⟨fun t c hc => ?_, fun t k c _ hc _ => t c (List.mem_of_getElem? hc)⟩
  obtain ⟨k, hk⟩ := List.getElem?_of_mem hc
  have hl : k < cs.length := by
    rcases Nat.lt_or_ge k cs.length with q | q
    · exact q
    · rw [List.getElem?_eq_none q] at hk; exact absurd hk.symm (Option.some_ne_none c)
  exact t k c hl hk (om_nm1 (by omega))
theorem om_bxb {a8 : Nat → Int32} {F : Nat → Int} {x y z : Int} (h : om_fx a8 F) (b : om_bx F x y z) : -6 ≤ x ∧ x ≤ 6 ∧ -6 ≤ y ∧ y ≤ 6 ∧ -6 ≤ z ∧ z ≤ 6 := by
  have f0 := (h 0 (by omega)).2
  have f1 := (h 1 (by omega)).2
  have f2 := (h 2 (by omega)).2
  unfold om_bx om_b1 at b
  omega
theorem om_solv {post : Int32 → St2 → Prop} {h w f : Int32} {n : Nat} {a1 a2 a3 a4 a5 a6 a7 a8 : Nat → Int32} {R : Int → Int → Int → Prop} (hr : om_rw n a4 a5 R) (hl : om_lo n a4) (hb : om_bxd R)
    (H : ∀ (r f : Int32) (a6' a7' : Nat → Int32), om_ans r (om_sol R) → post r (h, nI n, f, w, a1, a2, a3, a4, a5, a6', a7', a8)) :
    wpX_solvable post (h, nI n, f, w, a1, a2, a3, a4, a5, a6, a7, a8) := by
  have e : ∀ x y z, om_R n a4 a5 x y z ↔ R x y z := fun x y z => (hr.2 x y z).symm
  refine om_solvable hr.1 hl (fun x y z t => hb x y z ((e x y z).mp t)) (fun r f a6' a7' k => H r f a6' a7' ?_)
  rcases k with ⟨k1, x, y, z, k2⟩ | ⟨k1, k2⟩
  · exact Or.inl ⟨k1, x, y, z, (e x y z).mp k2⟩
  · refine Or.inr ⟨k1, ?_⟩
    rintro ⟨x, y, z, t⟩
    exact k2 ⟨x, y, z, (e x y z).mpr t⟩
theorem om_ans_c {r : Int32} {P Q : Prop} (h : om_ans r P) (e : P ↔ Q) : om_ans r Q := by
  rcases h with ⟨h1, h2⟩ | ⟨h1, h2⟩
  · exact Or.inl ⟨h1, e.mp h2⟩
  · exact Or.inr ⟨h1, fun q => h2 (e.mpr q)⟩
theorem om_sfe {cs : List om_Cn} {F : Nat → Int} (h8 : cs.length ≤ 8) : om_sol (fun x y z => om_all cs (-1) cs.length x y z ∧ om_bx F x y z) ↔ om_fe cs F :=
  ⟨fun ⟨x, y, z, t⟩ => ⟨x, y, z, (om_allm h8).mp t.1, t.2⟩, fun ⟨x, y, z, t⟩ => ⟨x, y, z, (om_allm h8).mpr t.1, t.2⟩⟩
/-- the tail of several methods -/
theorem om_tail {post : Int32 → St2 → Prop} {r : Int32} {P : Prop} {u : St2} (k : om_ans r P) (H : ∀ r, om_ans r P → post r u) : (r = 0 → post 0 u) ∧ (¬ r = 0 → post 1 u) := by
  rcases k with ⟨rfl, k⟩ | ⟨rfl, k⟩
  · exact ⟨fun z => absurd z (by decide), fun _ => H 1 (Or.inl ⟨rfl, k⟩)⟩
  · exact ⟨fun _ => H 0 (Or.inr ⟨rfl, k⟩), fun z => absurd rfl z⟩
theorem om_possible {post : Int32 → St2 → Prop} {cs : List om_Cn} {u : St2} (hu : om_ob cs u) (H : ∀ (r : Int32) (u' : St2), om_ob cs u' → om_ans r (om_fe cs om_any) → post r u') : wpX_possible post u := by
  obtain ⟨h, n, f, w, a1, a2, a3, a4, a5, a6, a7, a8⟩ := u
  obtain ⟨e1, e2, hc⟩ := hu
  dsimp only at e1 e2 hc
  subst e1 e2
  unfold wpX_possible
  refine om_free (fun a8' hF => om_collect hc hF (fun n' a4' a5' k1 k2 k3 => om_solv k2 k3 (fun x y z t => om_bxb hF t.2) (fun r f' a6' a7' ka => ?_)))
  exact om_tail (om_ans_c ka (om_sfe hc.1)) (fun r k => H r _ ⟨rfl, rfl, hc⟩ k)
theorem om_with {post : Int32 → St2 → Prop} {cs : List om_Cn} {u : St2} {v : Nat} {tt : Int32} {t : Int} (hu : om_ob cs u) (hv : v < 3) (ht : om_v tt t 6) (H : ∀ (r : Int32) (u' : St2), om_ob cs u' → om_ans r (om_fe cs (om_set om_any v t)) → post r u') : wpX_with post u (nI v) tt := by
  obtain ⟨h, n, f, w, a1, a2, a3, a4, a5, a6, a7, a8⟩ := u
  obtain ⟨e1, e2, hc⟩ := hu
  dsimp only at e1 e2 hc
  subst e1 e2
  refine br_f (nI_pos (by omega)) (pk_lt 2 v (fun z => absurd z (by omega)) (fun _ => br_f ?_ (br_t ?_ ?_)))
  · rw [om_lt ht om_m6]; have := ht.2.1; omega
  · rw [om_le ht om_6]; exact ht.2.2
  refine om_free (fun a8' hF => ⟨pk_in v 3 hv, nm_e ?_⟩)
  rw [om_c (m := v) (by omega)]
  have hF' := om_fx_set (v := v) hF (om_w ht (by decide)) (Or.inr ht.2)
  refine om_collect hc hF' (fun n' a4' a5' k1 k2 k3 => om_solv k2 k3 (fun x y z t => om_bxb hF' t.2) (fun r f' a6' a7' ka => ?_))
  exact om_tail (om_ans_c ka (om_sfe hc.1)) (fun r k => H r _ ⟨rfl, rfl, hc⟩ k)
theorem om_with0 {post : Int32 → St2 → Prop} {u : St2} {p0 p1 : Int32} (hb : 2 < p0 ∨ p1 < -6 ∨ ¬ p1 ≤ 6) (H : post 0 u) : wpX_with post u p0 p1 := by
  obtain ⟨h, n, f, w, a1, a2, a3, a4, a5, a6, a7, a8⟩ := u
  refine ⟨fun _ => H, fun _ => ⟨fun _ => H, fun c2 => ⟨fun _ => H, fun c3 => ⟨fun c4 => ?_, fun _ => H⟩⟩⟩⟩
  rcases hb with b | b | b
  · exact absurd b c2
  · exact absurd b c3
  · exact absurd c4 b
/-! leastValue -/
theorem om_set_c {F F' : Nat → Int} {v : Nat} (h : ∀ j, j ≠ v → F' j = F j) (t : Int) : om_set F' v t = om_set F v t := by
  funext j
  by_cases e : j = v
  · rw [show om_set F' v t j = t from if_pos e, show om_set F v t j = t from if_pos e]
  · rw [show om_set F' v t j = F' j from if_neg e, show om_set F v t j = F j from if_neg e]; exact h j e
theorem om_set_o {F : Nat → Int} {v : Nat} {t : Int} : ∀ j, j ≠ v → om_set F v t j = F j := fun j e => if_neg e
def om_gd (g : Bool) (k : Nat) : Int := if g = true then 6 - (k : Int) else (k : Int) - 6
def om_ls (cs : List om_Cn) (F : Nat → Int) (v : Nat) (g : Bool) (r : Int) : Prop :=
  (r = 100 ∧ ∀ t, -6 ≤ t → t ≤ 6 → ¬ om_fe cs (om_set F v t)) ∨ (-6 ≤ r ∧ r ≤ 6 ∧ om_fe cs (om_set F v r) ∧ ∀ t, -6 ≤ t → t ≤ 6 → (if g = true then r < t else t < r) → ¬ om_fe cs (om_set F v t))
theorem om_gd_ex (g : Bool) {t : Int} (h1 : -6 ≤ t) (h2 : t ≤ 6) : ∃ k : Nat, k < 13 ∧ om_gd g k = t := by
  cases g
  · exact ⟨(t + 6).toNat, by omega, by show ((t + 6).toNat : Int) - 6 = t; omega⟩
  · exact ⟨(6 - t).toNat, by omega, by show 6 - ((6 - t).toNat : Int) = t; omega⟩
theorem om_gd_lt (g : Bool) {k j : Nat} (h : if g = true then om_gd g k < om_gd g j else om_gd g j < om_gd g k) : j < k := by
  cases g
  · have h' : (j : Int) - 6 < (k : Int) - 6 := h
    omega
  · have h' : 6 - (k : Int) < 6 - (j : Int) := h
    omega
theorem om_lv {post : Int32 → St2 → Prop} {cs : List om_Cn} {x2 : Int32} {g : Bool} {v : Nat} {a1 a2 a3 : Nat → Int32} {F : Nat → Int} (hc : om_has cs a1 a2 a3) (hv : v < 3) (hg : x2 = if g = true then 1 else 0)
    (H : ∀ (r : Int32) (rv : Int) (n f : Int32) (a4' a5' a6' a7' a8' : Nat → Int32), om_v r rv 100 → om_ls cs F v g rv → om_fx a8' (om_set F v 100) → post r (nI cs.length, n, f, -1, a1, a2, a3, a4', a5', a6', a7', a8')) :
    ∀ (d k : Nat) (n f : Int32) (a4 a5 a6 a7 a8 : Nat → Int32) (F' : Nat → Int), k + d = 13 → om_fx a8 F' → (∀ j, j ≠ v → F' j = F j) → (∀ j, j < k → ¬ om_fe cs (om_set F v (om_gd g j))) → wX_leastValue_2 post (nI v) x2 (d + 1) (nI k) (nI cs.length) n f (-1) a1 a2 a3 a4 a5 a6 a7 a8 := by
  intro d
  induction d with
  | zero =>
    intro k n f a4 a5 a6 a7 a8 F' hk hF hF' hn
    have e : k = 13 := by omega
    rw [e] at hn ⊢
    refine pk_le 13 13 (fun _ => ⟨pk_in v 3 hv, nm_e ?_⟩) (fun z => absurd z (by omega))
    rw [om_c (m := v) (by omega)]
    refine H 100 100 _ _ _ _ _ _ _ om_100 (Or.inl ⟨rfl, fun t t1 t2 => ?_⟩) ?_
    · obtain ⟨j, j1, j2⟩ := om_gd_ex g t1 t2
      rw [← j2]; exact hn j j1
    · rw [← om_set_c hF' 100]
      exact om_fx_set hF om_100 (Or.inl rfl)
  | succ d ih =>
    intro k n f a4 a5 a6 a7 a8 F' hk hF hF' hn
    have K : ∀ z0 : Int32, om_v z0 (om_gd g k) 6 → wX_leastValue_23 post (wX_leastValue_2 post (nI v) x2 (d + 1)) (nI v) x2 (nI k) z0 (nI cs.length) n f (-1) a1 a2 a3 a4 a5 a6 a7 a8 := by
      intro z0 hz
      unfold wX_leastValue_23
      refine ⟨pk_in v 3 hv, nm_e ?_⟩
      rw [om_c (m := v) (by omega)]
      have hG := om_fx_set (v := v) hF (om_w hz (by decide)) (Or.inr hz.2)
      rw [om_set_c hF'] at hG
      refine om_collect hc hG (fun n' a4' a5' k1 k2 k3 => om_solv k2 k3 (fun x y z t => om_bxb hG t.2) (fun r f' a6' a7' ka => ?_))
      have ka' := om_ans_c ka (om_sfe hc.1)
      rcases ka' with ⟨rfl, q⟩ | ⟨rfl, q⟩
      · refine ⟨fun z => absurd z (by decide), fun _ => ⟨pk_in v 3 hv, nm_e (H z0 (om_gd g k) _ _ _ _ _ _ _ (om_w hz (by decide)) (Or.inr ⟨hz.2.1, hz.2.2, q, fun t t1 t2 t3 => ?_⟩) ?_)⟩⟩
        · obtain ⟨j, j1, j2⟩ := om_gd_ex g t1 t2
          rw [← j2] at t3 ⊢
          exact hn j (om_gd_lt g t3)
        · have s := om_fx_set (v := v) hG om_100 (Or.inl rfl)
          rw [om_set_c (F := F) om_set_o] at s
          exact s
      · refine ⟨fun _ => nm_r (nI_1 k) (ih (k + 1) _ _ _ _ _ _ _ _ (by omega) hG om_set_o (fun j hj => ?_)), fun z => absurd rfl z⟩
        rcases om_lts hj with t | t
        · exact hn j t
        · rw [t]; exact q
    refine pk_le 13 k (fun z => absurd z (by omega)) (fun _ => ?_)
    have kv : om_v (nI k) k 12 := om_nv (by omega) (by decide)
    cases g
    · have hg' : x2 = 0 := hg
      refine br_t hg' (K _ ⟨?_, ?_, ?_⟩)
      · exact (om_sub kv om_6 (by decide)).1
      · show -6 ≤ (k : Int) - 6; omega
      · show (k : Int) - 6 ≤ 6; omega
    · have hg' : x2 = 1 := hg
      refine br_f (by rw [hg']; decide) (K _ ⟨?_, ?_, ?_⟩)
      · exact (om_sub om_6 kv (by decide)).1
      · show -6 ≤ 6 - (k : Int); omega
      · show 6 - (k : Int) ≤ 6; omega
theorem om_least {post : Int32 → St2 → Prop} {cs : List om_Cn} {x2 n f : Int32} {g : Bool} {v : Nat} {a1 a2 a3 a4 a5 a6 a7 a8 : Nat → Int32} {F : Nat → Int} (hc : om_has cs a1 a2 a3) (hv : v < 3) (hg : x2 = if g = true then 1 else 0) (hF : om_fx a8 F)
    (H : ∀ (r : Int32) (rv : Int) (n f : Int32) (a4' a5' a6' a7' a8' : Nat → Int32), om_v r rv 100 → om_ls cs F v g rv → om_fx a8' (om_set F v 100) → post r (nI cs.length, n, f, -1, a1, a2, a3, a4', a5', a6', a7', a8')) :
    wpX_leastValue post (nI cs.length, n, f, -1, a1, a2, a3, a4, a5, a6, a7, a8) (nI v) x2 :=
  ⟨14, om_lv hc hv hg H 13 0 n f a4 a5 a6 a7 a8 F (by omega) hF (fun j _ => rfl) (fun j hj => absurd hj (by omega))⟩
theorem om_extreme {post : Int32 → St2 → Prop} {cs : List om_Cn} {u : St2} {v : Nat} {x2 : Int32} (g : Bool) (hu : om_ob cs u) (hv : v < 3) (hg : x2 = if g = true then 1 else 0) (H : ∀ (r : Int32) (rv : Int) (u' : St2), om_ob cs u' → om_v r rv 100 → om_ls cs om_any v g rv → post r u') : wpX_extreme post u (nI v) x2 := by
  obtain ⟨h, n, f, w, a1, a2, a3, a4, a5, a6, a7, a8⟩ := u
  obtain ⟨e1, e2, hc⟩ := hu
  dsimp only at e1 e2 hc
  subst e1 e2
  refine br_f (nI_pos (by omega)) (pk_le v 2 (fun _ => ?_) (fun z => absurd z (by omega)))
  exact om_free (fun a8' hF => om_least hc hv hg hF (fun r rv n f a4' a5' a6' a7' a8' k1 k2 k3 => H r rv _ ⟨rfl, rfl, hc⟩ k1 k2))
theorem om_extreme0 {post : Int32 → St2 → Prop} {u : St2} {p0 x2 : Int32} (hp : ¬ p0 ≤ 2) (H : post 100 u) : wpX_extreme post u p0 x2 := by
  obtain ⟨h, n, f, w, a1, a2, a3, a4, a5, a6, a7, a8⟩ := u
  exact ⟨fun _ => H, fun _ => br_f hp H⟩
/-! first -/
def om_ch (cs : List om_Cn) : Nat → (Nat → Int) → Nat → Int → Prop
  | 0, F, v, r => om_ls cs F v false r
  | d + 1, F, v, r => (r = 100 ∧ om_ls cs F v false 100) ∨ ∃ x, -6 ≤ x ∧ x ≤ 6 ∧ om_ls cs F v false x ∧ om_ch cs d (om_set F v x) (v + 1) r
theorem om_ls6 {cs : List om_Cn} {F : Nat → Int} {v : Nat} {g : Bool} {r : Int} (h : om_ls cs F v g r) (n : ¬ r = 100) : -6 ≤ r ∧ r ≤ 6 := by
  rcases h with ⟨h, _⟩ | ⟨h1, h2, _⟩
  · exact absurd h n
  · exact ⟨h1, h2⟩
theorem om_f18 {post : Int32 → St2 → Prop} {cs : List om_Cn} {p : Nat} {a1 a2 a3 : Nat → Int32} (hc : om_has cs a1 a2 a3) (hp : p < 3) :
    ∀ (d v : Nat) (F : Nat → Int) (n f : Int32) (a4 a5 a6 a7 a8 : Nat → Int32), v + d = p → om_fx a8 F →
    (∀ (r : Int32) (rv : Int) (n f : Int32) (a4' a5' a6' a7' a8' : Nat → Int32), om_v r rv 100 → om_ch cs d F v rv → post r (nI cs.length, n, f, -1, a1, a2, a3, a4', a5', a6', a7', a8')) →
    wX_first_18 post (nI p) (d + 2) (nI v) (nI cs.length) n f (-1) a1 a2 a3 a4 a5 a6 a7 a8 := by
  intro d
  induction d with
  | zero =>
    intro v F n f a4 a5 a6 a7 a8 hv hF H
    have e : v = p := by omega
    subst e
    refine pk_lt v v (fun z => absurd z (by omega)) (fun _ => om_least (g := false) hc hp rfl hF (fun r rv n f a4' a5' a6' a7' a8' k1 k2 k3 => ⟨fun c => ?_, fun c => ⟨pk_in v 3 hp, nm_e (nm_r (nI_1 v) ?_)⟩⟩))
    · rw [om_eq k1 om_100] at c
      exact H 100 100 _ _ _ _ _ _ _ om_100 (by rw [c] at k2; exact k2)
    · refine pk_lt v (v + 1) (fun _ => ⟨pk_in v 3 hp, ?_⟩) (fun z => absurd z (by omega))
      rw [om_c (m := v) (by omega), pk_us]
      exact H r rv _ _ _ _ _ _ _ k1 k2
  | succ d ih =>
    intro v F n f a4 a5 a6 a7 a8 hv hF H
    have hv3 : v < 3 := by omega
    refine pk_lt p v (fun z => absurd z (by omega)) (fun _ => om_least (g := false) hc hv3 rfl hF (fun r rv n f a4' a5' a6' a7' a8' k1 k2 k3 => ⟨fun c => ?_, fun c => ⟨pk_in v 3 hv3, nm_e (nm_r (nI_1 v) ?_)⟩⟩))
    · rw [om_eq k1 om_100] at c
      exact H 100 100 _ _ _ _ _ _ _ om_100 (Or.inl ⟨rfl, by rw [c] at k2; exact k2⟩)
    · rw [om_c (m := v) (by omega)]
      rw [om_eq k1 om_100] at c
      have r6 := om_ls6 k2 c
      have s := om_fx_set (v := v) k3 k1 (Or.inr r6)
      rw [om_set_c (F := F) om_set_o] at s
      exact ih (v + 1) (om_set F v rv) _ _ _ _ _ _ _ (by omega) s (fun r2 rv2 n2 f2 b4 b5 b6 b7 b8 q1 q2 => H r2 rv2 _ _ _ _ _ _ _ q1 (Or.inr ⟨rv, r6.1, r6.2, k2, q2⟩))
theorem om_first {post : Int32 → St2 → Prop} {cs : List om_Cn} {u : St2} {p : Nat} (hu : om_ob cs u) (hp : p < 3) (H : ∀ (r : Int32) (rv : Int) (u' : St2), om_ob cs u' → om_v r rv 100 → om_ch cs p om_any 0 rv → post r u') : wpX_first post u (nI p) := by
  obtain ⟨h, n, f, w, a1, a2, a3, a4, a5, a6, a7, a8⟩ := u
  obtain ⟨e1, e2, hc⟩ := hu
  dsimp only at e1 e2 hc
  subst e1 e2
  refine br_f (nI_pos (by omega)) (pk_le p 2 (fun _ => ?_) (fun z => absurd z (by omega)))
  exact om_free (fun a8' hF => ⟨p + 2, om_f18 hc hp p 0 om_any _ _ _ _ _ _ _ (by omega) hF (fun r rv n f a4' a5' a6' a7' a8' k1 k2 => H r rv _ ⟨rfl, rfl, hc⟩ k1 k2)⟩)
end
section
/-! areRight -/
def om_rt (p0 p1 p2 p3 : Int32) : Prop := (-9 ≤ p0.toInt ∧ p0.toInt ≤ 9) ∧ (-9 ≤ p1.toInt ∧ p1.toInt ≤ 9) ∧ (-9 ≤ p2.toInt ∧ p2.toInt ≤ 9) ∧ (-99 ≤ p3.toInt ∧ p3.toInt ≤ 99)
theorem om_right {post : Int32 → Prop} {p0 p1 p2 p3 : Int32} (H1 : om_rt p0 p1 p2 p3 → post 1) (H0 : ¬ om_rt p0 p1 p2 p3 → post 0) : wpX_areRight post () p0 p1 p2 p3 := by
  have t1 : (-9 : Int32).toInt = -9 := by decide
  have t2 : (9 : Int32).toInt = 9 := by decide
  have t3 : (-99 : Int32).toInt = -99 := by decide
  have t4 : (99 : Int32).toInt = 99 := by decide
  unfold om_rt at H1 H0
  unfold wpX_areRight
  simp only [Int32.lt_iff_toInt_lt, t1, t2, t3, t4]
  refine ⟨fun c => H0 (by omega), fun c1 => ⟨fun c => H0 (by omega), fun c2 => ⟨fun c => H0 (by omega), fun c3 => ⟨fun c => H0 (by omega), fun c4 => ⟨fun c => H0 (by omega), fun c5 => ⟨fun c => H0 (by omega), fun c6 => ⟨fun c => H0 (by omega), fun c7 => ⟨fun c => H0 (by omega), fun c8 => H1 (by omega)⟩⟩⟩⟩⟩⟩⟩⟩
theorem om_rt_v {p0 p1 p2 p3 : Int32} {A B C D : Int} (h0 : om_v p0 A 9) (h1 : om_v p1 B 9) (h2 : om_v p2 C 9) (h3 : om_v p3 D 99) : om_rt p0 p1 p2 p3 :=
  ⟨⟨by rw [h0.1]; exact h0.2.1, by rw [h0.1]; exact h0.2.2⟩, ⟨by rw [h1.1]; exact h1.2.1, by rw [h1.1]; exact h1.2.2⟩, ⟨by rw [h2.1]; exact h2.2.1, by rw [h2.1]; exact h2.2.2⟩, ⟨by rw [h3.1]; exact h3.2.1, by rw [h3.1]; exact h3.2.2⟩⟩
/-! follows -/
def om_nf (cs : List om_Cn) (A B C D : Int) : Prop := ∃ x y z, (∀ c, c ∈ cs → om_hc c x y z) ∧ om_bx om_any x y z ∧ -A * x + -B * y + -C * z ≤ -D - 1
theorem om_follows {post : Int32 → St2 → Prop} {cs : List om_Cn} {u : St2} {p0 p1 p2 p3 : Int32} {A B C : Int} (hu : om_ob cs u) (h0 : om_v p0 A 9) (h1 : om_v p1 B 9) (h2 : om_v p2 C 9)
    (H0 : ¬ (-99 ≤ p3.toInt ∧ p3.toInt ≤ 99) → post (-1) u) (H : -99 ≤ p3.toInt → p3.toInt ≤ 99 → ∀ (r : Int32) (u' : St2), om_ob cs u' → om_ans r (¬ om_nf cs A B C p3.toInt) → post r u') : wpX_follows post u p0 p1 p2 p3 := by
  obtain ⟨h, n, f, w, a1, a2, a3, a4, a5, a6, a7, a8⟩ := u
  obtain ⟨e1, e2, hc⟩ := hu
  dsimp only at e1 e2 hc
  subst e1 e2
  unfold wpX_follows
  refine om_right (fun ok => ⟨fun z => absurd z (by decide), fun _ => ?_⟩) (fun no => ⟨fun _ => H0 (fun k => no ?_), fun z => absurd rfl z⟩)
  · have h3 : om_v p3 p3.toInt 99 := ⟨rfl, ok.2.2.2.1, ok.2.2.2.2⟩
    refine om_free (fun a8' hF => om_collect hc hF (fun n' a4' a5' k1 k2 k3 => ?_))
    refine om_put k2 (by omega) (om_neg h0 (by decide)) (om_neg h1 (by decide)) (om_neg h2 (by decide)) (om_w (om_sub (om_neg h3 (by decide)) om_1 (by decide)) (by decide)) (fun b4 b5 q1 q2 => ?_)
    refine om_solv q1 (q2 (Or.inl k3)) (fun x y z t => om_bxb hF t.1.2) (fun r f' a6' a7' ka => ?_)
    have e : om_sol (fun x y z => (om_all cs (-1) cs.length x y z ∧ om_bx om_any x y z) ∧ -A * x + -B * y + -C * z ≤ -p3.toInt - 1) ↔ om_nf cs A B C p3.toInt :=
      ⟨fun ⟨x, y, z, t⟩ => ⟨x, y, z, (om_allm hc.1).mp t.1.1, t.1.2, t.2⟩, fun ⟨x, y, z, t⟩ => ⟨x, y, z, ⟨(om_allm hc.1).mpr t.1, t.2.1⟩, t.2.2⟩⟩
    rcases om_ans_c ka e with ⟨rfl, k⟩ | ⟨rfl, k⟩
    · exact ⟨fun z => absurd z (by decide), fun _ => H ok.2.2.2.1 ok.2.2.2.2 0 _ ⟨rfl, rfl, hc⟩ (Or.inr ⟨rfl, fun z => z k⟩)⟩
    · exact ⟨fun _ => H ok.2.2.2.1 ok.2.2.2.2 1 _ ⟨rfl, rfl, hc⟩ (Or.inl ⟨rfl, k⟩), fun z => absurd rfl z⟩
  · exact ⟨⟨by rw [h0.1]; exact h0.2.1, by rw [h0.1]; exact h0.2.2⟩, ⟨by rw [h1.1]; exact h1.2.1, by rw [h1.1]; exact h1.2.2⟩, ⟨by rw [h2.1]; exact h2.2.1, by rw [h2.1]; exact h2.2.2⟩, k⟩
/-! broken, spare -/
def om_brk (cs : List om_Cn) (k : Nat) (c : om_Cn) (s : Int) : Prop := ∃ x y z, om_all cs (nI k) cs.length x y z ∧ om_bx om_any x y z ∧ s * c.1 * x + s * c.2.1 * y + s * c.2.2.1 * z ≤ s * c.2.2.2.1 - 1
theorem om_broken {post : Int32 → St2 → Prop} {cs : List om_Cn} {k : Nat} {c : om_Cn} {n f sg : Int32} {s : Int} {a1 a2 a3 a4 a5 a6 a7 a8 : Nat → Int32} (hc : om_has cs a1 a2 a3) (hk : cs[k]? = some c) (hF : om_fx a8 om_any) (hs : om_v (-sg) s 1)
    (H : ∀ (r n f : Int32) (a4' a5' a6' a7' : Nat → Int32), om_ans r (om_brk cs k c s) → post r (nI cs.length, n, f, nI k, a1, a2, a3, a4', a5', a6', a7', a8)) :
    wpX_broken post (nI cs.length, n, f, nI k, a1, a2, a3, a4, a5, a6, a7, a8) (nI k) sg := by
  have h8 := hc.1
  have hl : k < cs.length := by
    rcases Nat.lt_or_ge k cs.length with q | q
    · exact q
    · rw [List.getElem?_eq_none q] at hk; exact absurd hk.symm (Option.some_ne_none c)
  obtain ⟨b1, b2, b3, b4, b5⟩ := hc.2 k c hk
  unfold wpX_broken
  refine om_collect hc hF (fun n' a4' a5' k1 k2 k3 => nm_e ⟨pk_in (3 * k) 24 (by omega) (om_3 k), pk_in (3 * k + 1) 24 (by omega) (om_31 k), pk_in (3 * k + 2) 24 (by omega) (om_32 k), pk_in k 8 (by omega), ?_⟩)
  rw [om_c3 (m := k) (by omega), om_c31 (m := k) (by omega), om_c32 (m := k) (by omega), om_c (m := k) (by omega)]
  refine om_put k2 (by omega) (om_w (om_mul hs b1 (by decide)) (by decide)) (om_w (om_mul hs b2 (by decide)) (by decide)) (om_w (om_mul hs b3 (by decide)) (by decide)) (om_w (om_sub (om_mul hs b4 (by decide)) om_1 (by decide)) (by decide)) (fun d4 d5 q1 q2 => ?_)
  refine om_solv q1 (q2 (Or.inl k3)) (fun x y z t => om_bxb hF t.1.2) (fun r f' a6' a7' ka => ?_)
  have e : om_sol (fun x y z => (om_all cs (nI k) cs.length x y z ∧ om_bx om_any x y z) ∧ s * c.1 * x + s * c.2.1 * y + s * c.2.2.1 * z ≤ s * c.2.2.2.1 - 1) ↔ om_brk cs k c s :=
    ⟨fun ⟨x, y, z, t⟩ => ⟨x, y, z, t.1.1, t.1.2, t.2⟩, fun ⟨x, y, z, t⟩ => ⟨x, y, z, ⟨t.1, t.2.1⟩, t.2.2⟩⟩
  have ka' := om_ans_c ka e
  refine ⟨om_nb ?_, H r _ _ _ _ _ _ ka'⟩
  rcases ka' with ⟨h, _⟩ | ⟨h, _⟩
  · exact Or.inr h
  · exact Or.inl h
theorem om_sp8 {post : Int32 → St2 → Prop} {cs : List om_Cn} {t : Nat} {a1 a2 a3 a8 : Nat → Int32} (hc : om_has cs a1 a2 a3) (hF : om_fx a8 om_any) (hg : ∀ (k : Nat) (c : om_Cn), cs[k]? = some c → t ≤ k → ¬ om_brk cs k c (-1) ∧ (c.2.2.2.2 = true → ¬ om_brk cs k c 1))
    (H : ∀ (q : Nat) (n f : Int32) (a4' a5' a6' a7' : Nat → Int32), q ≤ 8 → cs.length ≤ q + t → post (nI q) (nI cs.length, n, f, -1, a1, a2, a3, a4', a5', a6', a7', a8)) :
    ∀ (d i q : Nat) (n f : Int32) (a4 a5 a6 a7 : Nat → Int32), i + d = cs.length → q ≤ i → i ≤ q + t → wX_spare_8 post (d + 1) (nI q) (nI i) (nI cs.length) n f (-1) a1 a2 a3 a4 a5 a6 a7 a8 := by
  have h8 := hc.1
  intro d
  induction d with
  | zero =>
    intro i q n f a4 a5 a6 a7 hi h1 h2
    have e : i = cs.length := by omega
    rw [e] at h1 h2 ⊢
    exact pk_le cs.length cs.length (fun _ => H q n f a4 a5 a6 a7 (by omega) h2) (fun z => absurd z (by omega))
  | succ d ih =>
    intro i q n f a4 a5 a6 a7 hi h1 h2
    have hil : i < cs.length := by omega
    obtain ⟨c, hci⟩ : ∃ c, cs[i]? = some c := ⟨cs[i], List.getElem?_eq_getElem hil⟩
    obtain ⟨b1, b2, b3, b4, b5⟩ := hc.2 i c hci
    have K : ∀ (x3 z0 n f : Int32) (a4 a5 a6 a7 : Nat → Int32), (t ≤ i → x3 = 0 ∧ z0 = 0) → wX_spare_51 post (wX_spare_8 post (d + 1)) (nI q) (nI i) x3 z0 (nI cs.length) n f (nI i) a1 a2 a3 a4 a5 a6 a7 a8 := by
      intro x3 z0 n f a4 a5 a6 a7 hk
      unfold wX_spare_51
      have N : ∀ q', q ≤ q' → q' ≤ q + 1 → (t ≤ i → q' = q + 1) → ∀ k, k = nI i + 1 → wX_spare_8 post (d + 1) (nI q') k (nI cs.length) n f (-1) a1 a2 a3 a4 a5 a6 a7 a8 :=
        fun q' w1 w2 w3 => nm_r (nI_1 i) (ih (i + 1) q' n f a4 a5 a6 a7 (by omega) (by omega) (by omega))
      have e0 : nI q + 0 = nI q := Int32.add_zero _
      refine ⟨fun c1 => ⟨fun c2 => nm_r (nI_1 q) (N (q + 1) (by omega) (by omega) (fun _ => rfl)), fun c2 => nm_r e0 (N q (by omega) (by omega) (fun z => absurd (hk z).2 c2))⟩, fun c1 => nm_r e0 (N q (by omega) (by omega) (fun z => absurd (hk z).1 c1))⟩
    refine pk_le cs.length i (fun z => absurd z (by omega)) (fun _ => ?_)
    refine om_broken hc hci hF (s := -1) om_m1 (fun r n f a4' a5' a6' a7' ka => ⟨pk_in i 8 (by omega), ?_⟩)
    have r0 : t ≤ i → r = 0 := by
      intro z
      rcases ka with ⟨_, k⟩ | ⟨k, _⟩
      · exact absurd k (hg i c hci z).1
      · exact k
    rw [om_c (m := i) (by omega)]
    refine ⟨fun e0 => K r 0 n f a4' a5' a6' a7' (fun z => ⟨r0 z, rfl⟩), fun e0 => ?_⟩
    have et : c.2.2.2.2 = true := by
      by_cases z : c.2.2.2.2 = true
      · exact z
      · rw [b5, if_neg z] at e0
        exact absurd rfl e0
    refine om_broken hc hci hF (s := 1) ⟨by decide, by decide, by decide⟩ (fun r2 n f a4' a5' a6' a7' kb => ⟨fun c1 => K r 0 n f a4' a5' a6' a7' (fun z => ⟨r0 z, rfl⟩), fun c1 => K r 1 n f a4' a5' a6' a7' (fun z => ?_)⟩)
    rcases kb with ⟨_, k⟩ | ⟨k, _⟩
    · exact absurd k ((hg i c hci z).2 et)
    · exact absurd k c1
theorem om_spare {post : Int32 → St2 → Prop} {cs : List om_Cn} {u : St2} (t : Nat) (hu : om_ob cs u) (hg : ∀ (k : Nat) (c : om_Cn), cs[k]? = some c → t ≤ k → ¬ om_brk cs k c (-1) ∧ (c.2.2.2.2 = true → ¬ om_brk cs k c 1))
    (H : ∀ (q : Nat) (u' : St2), om_ob cs u' → q ≤ 8 → cs.length ≤ q + t → post (nI q) u') : wpX_spare post u := by
  obtain ⟨h, n, f, w, a1, a2, a3, a4, a5, a6, a7, a8⟩ := u
  obtain ⟨e1, e2, hc⟩ := hu
  dsimp only at e1 e2 hc
  subst e1 e2
  unfold wpX_spare
  exact om_free (fun a8' hF => ⟨cs.length + 1, om_sp8 hc hF hg (fun q n f a4' a5' a6' a7' h1 h2 => H q _ ⟨rfl, rfl, hc⟩ h1 h2) cs.length 0 0 _ _ _ _ _ _ (by omega) (by omega) (by omega)⟩)
/-! add -/
theorem om_nar {x : Int32} (h : x = 0 ∨ x = 1) : vp_nar .boolean x = x := by
  rcases h with rfl | rfl <;> rfl
theorem om_at_o {c : om_Cn} {k : Nat} {a1 a2 a3 b1 b2 b3 : Nat → Int32} (h : om_at c k a1 a2 a3) (e1 : b1 (3 * k) = a1 (3 * k)) (e2 : b1 (3 * k + 1) = a1 (3 * k + 1)) (e3 : b1 (3 * k + 2) = a1 (3 * k + 2)) (e4 : b2 k = a2 k) (e5 : b3 k = a3 k) : om_at c k b1 b2 b3 := by
  unfold om_at
  rw [e1, e2, e3, e4, e5]
  exact h
theorem om_addc {post : Int32 → St2 → Prop} {cs : List om_Cn} {u : St2} {p0 p1 p2 p3 p4 : Int32} (c : om_Cn) (hu : om_ob cs u) (hl : cs.length < 8) (h0 : om_v p0 c.1 9) (h1 : om_v p1 c.2.1 9) (h2 : om_v p2 c.2.2.1 9) (h3 : om_v p3 c.2.2.2.1 99) (h4 : p4 = if c.2.2.2.2 = true then 1 else 0)
    (H : ∀ u' : St2, om_ob (cs ++ [c]) u' → post (nI (cs.length + 1)) u') : wpX_add post u p0 p1 p2 p3 p4 := by
  obtain ⟨h, n, f, w, a1, a2, a3, a4, a5, a6, a7, a8⟩ := u
  obtain ⟨e1, e2, hc⟩ := hu
  dsimp only at e1 e2 hc
  subst e1 e2
  have p401 : p4 = 0 ∨ p4 = 1 := by
    by_cases z : c.2.2.2.2 = true
    · rw [if_pos z] at h4; exact Or.inr h4
    · rw [if_neg z] at h4; exact Or.inl h4
  unfold wpX_add
  refine om_right (fun _ => ⟨fun z => absurd z (by decide), fun _ => ?_⟩) (fun no => absurd (om_rt_v h0 h1 h2 h3) no)
  refine pk_lt cs.length 8 (fun _ => ?_) (fun z => absurd z (by omega))
  refine ⟨pk_in (3 * cs.length) 24 (by omega) (om_3 _), nm_e ⟨pk_in (3 * cs.length + 1) 24 (by omega) (om_31 _), nm_e ⟨pk_in (3 * cs.length + 2) 24 (by omega) (om_32 _), nm_e ⟨pk_in cs.length 8 hl, nm_e ⟨pk_in cs.length 8 hl, nm_e (nm_r (nI_1 _) (H _ ⟨?_, rfl, ?_, ?_⟩))⟩⟩⟩⟩⟩
  · show nI (cs.length + 1) = nI (cs ++ [c]).length
    rw [List.length_append]; rfl
  · rw [List.length_append]; show cs.length + 1 ≤ 8; omega
  · dsimp only
    rw [om_c3 (m := cs.length) (by omega), om_c31 (m := cs.length) (by omega), om_c32 (m := cs.length) (by omega), om_c (m := cs.length) (by omega), om_nar p401]
    intro k d hk
    by_cases z : k < cs.length
    · rw [List.getElem?_append_left z] at hk
      refine om_at_o (hc.2 k d hk) ?_ ?_ ?_ ?_ ?_
      · rw [pk_un (by omega), pk_un (by omega), pk_un (by omega)]
      · rw [pk_un (by omega), pk_un (by omega), pk_un (by omega)]
      · rw [pk_un (by omega), pk_un (by omega), pk_un (by omega)]
      · rw [pk_un (by omega)]
      · rw [pk_un (by omega)]
    · have hk2 : k < (cs ++ [c]).length := by
        rcases Nat.lt_or_ge k (cs ++ [c]).length with q | q
        · exact q
        · rw [List.getElem?_eq_none q] at hk; exact absurd hk.symm (Option.some_ne_none d)
      rw [List.length_append] at hk2
      have hk3 : k < cs.length + 1 := hk2
      have e : k = cs.length := by omega
      rw [e, List.getElem?_append_right (Nat.le_refl _), Nat.sub_self] at hk
      have e2 : c = d := Option.some.inj hk
      subst e2
      rw [e]
      refine ⟨?_, ?_, ?_, ?_, ?_⟩
      · rw [pk_un (by omega), pk_un (by omega), pk_us]; exact h0
      · rw [pk_un (by omega), pk_us]; exact h1
      · rw [pk_us]; exact h2
      · rw [pk_us]; exact h3
      · rw [pk_us]; exact h4
theorem om_addn {post : Int32 → St2 → Prop} {cs : List om_Cn} {u : St2} {p0 p1 p2 p3 p4 : Int32} (hu : om_ob cs u) (hb : cs.length = 8 ∨ ¬ om_rt p0 p1 p2 p3) (H : post (-1) u) : wpX_add post u p0 p1 p2 p3 p4 := by
  obtain ⟨h, n, f, w, a1, a2, a3, a4, a5, a6, a7, a8⟩ := u
  obtain ⟨e1, e2, hc⟩ := hu
  dsimp only at e1 e2 hc
  subst e1 e2
  unfold wpX_add
  refine om_right (fun ok => ⟨fun z => absurd z (by decide), fun _ => ?_⟩) (fun no => ⟨fun _ => H, fun z => absurd rfl z⟩)
  rcases hb with e | no
  · exact pk_lt cs.length 8 (fun z => absurd z (by omega)) (fun _ => H) (ha := by omega)
  · exact absurd ok no
/-! drop -/
theorem om_3v (i v : Nat) : (3 : Int32) * nI i + nI v = nI (3 * i + v) := by rw [om_3, nI_add]
theorem om_33v (i v : Nat) : (3 : Int32) * nI i + 3 + nI v = nI (3 * i + 3 + v) := by
  rw [om_3, show nI (3 * i) + 3 = nI (3 * i + 3) from nI_add _ 3, nI_add]
theorem om_d36 {post : Int32 → St2 → Prop} {J : Int32 → (Nat → Int32) → (Nat → Int32) → (Nat → Int32) → (Nat → Int32) → (Nat → Int32) → (Nat → Int32) → (Nat → Int32) → (Nat → Int32) → Prop} {h n f w : Int32} {i : Nat} {a1 a2 a3 a4 a5 a6 a7 a8 : Nat → Int32} (hi : i < 7)
    (H : ∀ a1' : Nat → Int32, (∀ e, e < 3 → a1' (3 * i + e) = a1 (3 * i + 3 + e)) → (∀ j, j < 3 * i ∨ 3 * i + 3 ≤ j → a1' j = a1 j) → J (nI (i + 1)) a1' (upd a2 i (a2 (i + 1))) (upd a3 i (vp_nar .boolean (a3 (i + 1)))) a4 a5 a6 a7 a8) :
    ∃ fu, wX_drop_36 post J (nI i) h n f w fu 0 a1 a2 a3 a4 a5 a6 a7 a8 :=
  pk_loop (fun k v s => wX_drop_36 post J (nI i) h n f w k (nI v) s a2 a3 a4 a5 a6 a7 a8) (fun v s => (∀ e, e < v → s (3 * i + e) = a1 (3 * i + 3 + e)) ∧ (∀ j, j < 3 * i ∨ 3 * i + v ≤ j → s j = a1 j)) 3 0 a1 (by omega) ⟨fun e he => absurd he (by omega), fun j _ => rfl⟩
    (fun k s hs => by
      refine pk_le 3 3 (fun _ => ⟨pk_in (i + 1) 8 (by omega) (nI_1 i), pk_in i 8 (by omega), nm_e ⟨pk_in (i + 1) 8 (by omega) (nI_1 i), pk_in i 8 (by omega), nm_e (nm_r (nI_1 i) ?_)⟩⟩) (fun z => absurd z (by omega))
      rw [nI_1 i, om_c (m := i) (by omega), om_c (m := i + 1) (by omega)]
      exact H s hs.1 hs.2)
    (fun k v s hv hs hw => by
      refine pk_le 3 v (fun z => absurd z (by omega)) (fun _ => ⟨pk_in (3 * i + 3 + v) 24 (by omega) (om_33v i v), pk_in (3 * i + v) 24 (by omega) (om_3v i v), nm_e (nm_r (nI_1 v) (hw _ ?_))⟩)
      rw [om_33v, om_3v, om_c (m := 3 * i + 3 + v) (by omega), om_c (m := 3 * i + v) (by omega)]
      refine ⟨fun e he => ?_, fun j hj => ?_⟩
      · rcases om_lts he with q | q
        · rw [pk_un (by omega)]; exact hs.1 e q
        · rw [q, pk_us]; exact hs.2 _ (by omega)
      · rw [pk_un (by omega)]; exact hs.2 j (by omega))
def om_dr (cs : List om_Cn) (k i j : Nat) : Option om_Cn := if k ≤ j ∧ j < i then cs[j + 1]? else cs[j]?
theorem om_d26 {post : Int32 → St2 → Prop} {cs : List om_Cn} {k l : Nat} {n f : Int32} {a4 a5 a6 a7 a8 : Nat → Int32} (hl : cs.length = l + 1) (h8 : l ≤ 7) (hk : k ≤ l)
    (H : ∀ a1 a2 a3 : Nat → Int32, (∀ (j : Nat) (c : om_Cn), j < l → om_dr cs k l j = some c → om_at c j a1 a2 a3) → post (nI l) (nI l, n, f, -1, a1, a2, a3, a4, a5, a6, a7, a8)) :
    ∀ (d i : Nat) (a1 a2 a3 : Nat → Int32), i + d = l → k ≤ i → (∀ (j : Nat) (c : om_Cn), om_dr cs k i j = some c → om_at c j a1 a2 a3) → wX_drop_26 post (nI l) n f (-1) (d + 1) (nI i) a1 a2 a3 a4 a5 a6 a7 a8 := by
  intro d
  induction d with
  | zero =>
    intro i a1 a2 a3 hi hki hs
    have e : i = l := by omega
    rw [e] at hs ⊢
    exact pk_le l l (fun _ => H a1 a2 a3 (fun j c _ hj => hs j c hj)) (fun z => absurd z (by omega))
  | succ d ih =>
    intro i a1 a2 a3 hi hki hs
    refine pk_le l i (fun z => absurd z (by omega)) (fun _ => om_d36 (by omega) (fun a1' q1 q2 => ih (i + 1) _ _ _ (by omega) (by omega) (fun j c hj => ?_)))
    unfold om_dr at hj hs
    by_cases e : j = i
    · rw [e, if_pos ⟨hki, by omega⟩] at hj
      obtain ⟨b1, b2, b3, b4, b5⟩ := hs (i + 1) c (by rw [if_neg (by omega)]; exact hj)
      have v01 : a3 (i + 1) = 0 ∨ a3 (i + 1) = 1 := by
        by_cases z : c.2.2.2.2 = true
        · rw [if_pos z] at b5; exact Or.inr b5
        · rw [if_neg z] at b5; exact Or.inl b5
      rw [e]
      refine ⟨?_, ?_, ?_, ?_, ?_⟩
      · have t := q1 0 (by omega)
        rw [show 3 * i = 3 * i + 0 from rfl, t]; exact b1
      · rw [q1 1 (by omega)]; exact b2
      · rw [q1 2 (by omega)]; exact b3
      · rw [pk_us]; exact b4
      · rw [pk_us, om_nar v01]; exact b5
    · have hj' : (if k ≤ j ∧ j < i then cs[j + 1]? else cs[j]?) = some c := by
        by_cases z : k ≤ j ∧ j < i
        · rw [if_pos (by omega)] at hj; rw [if_pos z]; exact hj
        · rw [if_neg (by omega)] at hj; rw [if_neg z]; exact hj
      refine om_at_o (hs j c hj') (q2 _ (by omega)) (q2 _ (by omega)) (q2 _ (by omega)) (pk_un e) (pk_un e)
theorem om_drop {post : Int32 → St2 → Prop} {cs : List om_Cn} {u : St2} {k l : Nat} (hu : om_ob cs u) (hl : cs.length = l + 1) (hk : k ≤ l) (H : ∀ u' : St2, om_ob (cs.eraseIdx k) u' → post (nI l) u') : wpX_drop post u (nI k) := by
  obtain ⟨h, n, f, w, a1, a2, a3, a4, a5, a6, a7, a8⟩ := u
  obtain ⟨e1, e2, hc⟩ := hu
  dsimp only at e1 e2 hc
  subst e1 e2
  have h8 := hc.1
  refine br_f (nI_pos (by omega)) (pk_lt k cs.length (fun _ => nm_r (e' := nI l) ?_ ?_) (fun z => absurd z (by omega)))
  · rw [hl]; exact nI_pred l
  · refine ⟨l - k + 1, om_d26 hl (by omega) hk (fun b1 b2 b3 hb => H _ ⟨?_, rfl, ?_, fun j c hj => ?_⟩) (l - k) k a1 a2 a3 (by omega) (Nat.le_refl _) (fun j c hj => ?_)⟩
    · show nI l = nI (cs.eraseIdx k).length
      rw [List.length_eraseIdx_of_lt (by omega), hl]; rfl
    · rw [List.length_eraseIdx_of_lt (by omega)]; omega
    · have hj2 : j < (cs.eraseIdx k).length := by
        rcases Nat.lt_or_ge j (cs.eraseIdx k).length with q | q
        · exact q
        · rw [List.getElem?_eq_none q] at hj; exact absurd hj.symm (Option.some_ne_none c)
      rw [List.length_eraseIdx_of_lt (by omega)] at hj2
      refine hb j c (by omega) ?_
      rw [List.getElem?_eraseIdx] at hj
      unfold om_dr
      by_cases z : j < k
      · rw [if_pos z] at hj; rw [if_neg (by omega)]; exact hj
      · rw [if_neg z] at hj; rw [if_pos (by omega)]; exact hj
    · unfold om_dr at hj
      rw [if_neg (by omega)] at hj
      exact hc.2 j c hj
theorem om_dropn {post : Int32 → St2 → Prop} {cs : List om_Cn} {u : St2} {p : Int32} (hu : om_ob cs u) (hb : p < 0 ∨ ¬ p < nI cs.length) (H : post (-1) u) : wpX_drop post u p := by
  obtain ⟨h, n, f, w, a1, a2, a3, a4, a5, a6, a7, a8⟩ := u
  obtain ⟨e1, e2, hc⟩ := hu
  dsimp only at e1 e2 hc
  subst e1 e2
  refine ⟨fun _ => H, fun c => ?_⟩
  rcases hb with b | b
  · exact absurd b c
  · exact br_f b H
end
section
/-! the law's conditions, in whole numbers -/
theorem om_hE {n x y z : Int} : om_hc (2, 3, 0, n, true) x y z ↔ 2 * x + 3 * y = n := by
  unfold om_hc
  dsimp only
  constructor
  · rintro ⟨t1, t2⟩
    have t3 := t2 rfl
    omega
  · intro t
    exact ⟨by omega, fun _ => by omega⟩
theorem om_hW {n x y z : Int} : om_hc (4, 6, 2, n, true) x y z ↔ 4 * x + 6 * y + 2 * z = n := by
  unfold om_hc
  dsimp only
  constructor
  · rintro ⟨t1, t2⟩
    have t3 := t2 rfl
    omega
  · intro t
    exact ⟨by omega, fun _ => by omega⟩
theorem om_hf {a b c d x y z : Int} : om_hc (a, b, c, d, false) x y z ↔ a * x + b * y + c * z ≤ d := ⟨fun t => t.1, fun t => ⟨t, fun e => absurd (show false = true from e) (by decide)⟩⟩
def om_is (n b t : Int) : Prop := b ≤ t ∧ ∃ y, -6 ≤ y ∧ y ≤ 6 ∧ 2 * t + 3 * y = n
def om_e2 (cs : List om_Cn) (n b : Int) : Prop := ∀ x y z : Int, -6 ≤ z → z ≤ 6 → ((∀ c, c ∈ cs → om_hc c x y z) ↔ (2 * x + 3 * y = n ∧ b ≤ x))
def om_e3 (cs : List om_Cn) (n b : Int) : Prop := ∀ x y z : Int, (∀ c, c ∈ cs → om_hc c x y z) ↔ (2 * x + 3 * y = n ∧ x = b)
def om_e0 (cs : List om_Cn) : Prop := ∀ x y z : Int, ¬ (∀ c, c ∈ cs → om_hc c x y z)
abbrev om_2 (n b : Int) : List om_Cn := [(2, 3, 0, n, true), (-1, 0, 0, -b, false)]
abbrev om_3a (n b : Int) : List om_Cn := [(2, 3, 0, n, true), (-1, 0, 0, -b, false), (2, 0, 0, 2 * b + 1, false)]
abbrev om_4a (n b : Int) : List om_Cn := [(2, 3, 0, n, true), (-1, 0, 0, -b, false), (2, 0, 0, 2 * b + 1, false), (4, 6, 0, 2 * n + 1, false)]
abbrev om_5a (n b : Int) : List om_Cn := [(2, 3, 0, n, true), (-1, 0, 0, -b, false), (2, 0, 0, 2 * b + 1, false), (4, 6, 0, 2 * n + 1, false), (4, 6, 2, 2 * n + 1, true)]
abbrev om_3b (n b : Int) : List om_Cn := [(2, 3, 0, n, true), (-1, 0, 0, -b, false), (4, 6, 0, 2 * n + 1, false)]
abbrev om_4b (n b : Int) : List om_Cn := [(2, 3, 0, n, true), (-1, 0, 0, -b, false), (4, 6, 0, 2 * n + 1, false), (0, 0, 0, -1, false)]
abbrev om_8b (n b : Int) : List om_Cn := [(2, 3, 0, n, true), (-1, 0, 0, -b, false), (4, 6, 0, 2 * n + 1, false), (0, 0, 1, 6, false), (0, 0, 1, 6, false), (0, 0, 1, 6, false), (0, 0, 1, 6, false), (0, 0, 1, 6, false)]
theorem om_e2_2 (n b : Int) : om_e2 (om_2 n b) n b := by
  intro x y z z1 z2
  simp only [om_2, List.mem_cons, List.not_mem_nil, or_false, forall_eq_or_imp, forall_eq, om_hE, om_hf]
  omega
theorem om_e2_3 (n b : Int) : om_e2 (om_3b n b) n b := by
  intro x y z z1 z2
  simp only [om_3b, List.mem_cons, List.not_mem_nil, or_false, forall_eq_or_imp, forall_eq, om_hE, om_hf]
  omega
theorem om_e2_8 (n b : Int) : om_e2 (om_8b n b) n b := by
  intro x y z z1 z2
  simp only [om_8b, List.mem_cons, List.not_mem_nil, or_false, forall_eq_or_imp, forall_eq, om_hE, om_hf]
  omega
theorem om_e3_3 (n b : Int) : om_e3 (om_3a n b) n b := by
  intro x y z
  simp only [om_3a, List.mem_cons, List.not_mem_nil, or_false, forall_eq_or_imp, forall_eq, om_hE, om_hf]
  omega
theorem om_e3_4 (n b : Int) : om_e3 (om_4a n b) n b := by
  intro x y z
  simp only [om_4a, List.mem_cons, List.not_mem_nil, or_false, forall_eq_or_imp, forall_eq, om_hE, om_hf]
  omega
theorem om_e0_5 (n b : Int) : om_e0 (om_5a n b) := by
  intro x y z
  simp only [om_5a, List.mem_cons, List.not_mem_nil, or_false, forall_eq_or_imp, forall_eq, om_hE, om_hW, om_hf]
  omega
theorem om_e0_4 (n b : Int) : om_e0 (om_4b n b) := by
  intro x y z
  simp only [om_4b, List.mem_cons, List.not_mem_nil, or_false, forall_eq_or_imp, forall_eq, om_hE, om_hf]
  omega
/-! what can be met -/
theorem om_L {cs : List om_Cn} {n b : Int} {F : Nat → Int} (he : om_e2 cs n b) (hF : F 2 = 100 ∨ (-6 ≤ F 2 ∧ F 2 ≤ 6)) : om_fe cs F ↔ ∃ x y z, (2 * x + 3 * y = n ∧ b ≤ x) ∧ om_bx F x y z := by
  have k : ∀ x y z, om_bx F x y z → -6 ≤ z ∧ z ≤ 6 := by
    intro x y z t
    have t2 := t.2.2
    unfold om_b1 at t2
    omega
  exact ⟨fun ⟨x, y, z, t1, t2⟩ => ⟨x, y, z, (he x y z (k x y z t2).1 (k x y z t2).2).mp t1, t2⟩, fun ⟨x, y, z, t1, t2⟩ => ⟨x, y, z, (he x y z (k x y z t2).1 (k x y z t2).2).mpr t1, t2⟩⟩
theorem om_b1a {t : Int} : om_b1 100 t ↔ (-6 ≤ t ∧ t ≤ 6) := by
  unfold om_b1
  omega
theorem om_b1s {f t : Int} (h : f ≤ 6) : om_b1 f t ↔ t = f := by
  unfold om_b1
  omega
theorem om_L0 {cs : List om_Cn} {n b t : Int} (he : om_e2 cs n b) (h2 : t ≤ 6) : om_fe cs (om_set om_any 0 t) ↔ om_is n b t := by
  rw [om_L he (Or.inl rfl)]
  constructor
  · rintro ⟨x, y, z, ⟨k1, k2⟩, q0, q1, q2⟩
    have e : x = t := (om_b1s h2).mp q0
    have r := om_b1a.mp q1
    exact ⟨by omega, y, r.1, r.2, by omega⟩
  · rintro ⟨k1, y, y1, y2, k2⟩
    exact ⟨t, y, 0, ⟨k2, k1⟩, (om_b1s h2).mpr rfl, om_b1a.mpr ⟨y1, y2⟩, om_b1a.mpr ⟨by decide, by decide⟩⟩
theorem om_La {cs : List om_Cn} {n b : Int} (he : om_e2 cs n b) : om_fe cs om_any ↔ ∃ t, -6 ≤ t ∧ t ≤ 6 ∧ om_is n b t := by
  rw [om_L he (Or.inl rfl)]
  constructor
  · rintro ⟨x, y, z, ⟨k1, k2⟩, q0, q1, q2⟩
    have r0 := om_b1a.mp q0
    have r := om_b1a.mp q1
    exact ⟨x, r0.1, r0.2, k2, y, r.1, r.2, k1⟩
  · rintro ⟨t, t1, t2, k1, y, y1, y2, k2⟩
    exact ⟨t, y, 0, ⟨k2, k1⟩, om_b1a.mpr ⟨t1, t2⟩, om_b1a.mpr ⟨y1, y2⟩, om_b1a.mpr ⟨by decide, by decide⟩⟩
theorem om_L2 {cs : List om_Cn} {n b t : Int} (he : om_e2 cs n b) (h1 : -6 ≤ t) (h2 : t ≤ 6) : om_fe cs (om_set om_any 2 t) ↔ ∃ t, -6 ≤ t ∧ t ≤ 6 ∧ om_is n b t := by
  rw [om_L he (Or.inr ⟨h1, h2⟩)]
  constructor
  · rintro ⟨x, y, z, ⟨k1, k2⟩, q0, q1, q2⟩
    have r0 := om_b1a.mp q0
    have r := om_b1a.mp q1
    exact ⟨x, r0.1, r0.2, k2, y, r.1, r.2, k1⟩
  · rintro ⟨s, t1, t2, k1, y, y1, y2, k2⟩
    exact ⟨s, y, t, ⟨k2, k1⟩, om_b1a.mpr ⟨t1, t2⟩, om_b1a.mpr ⟨y1, y2⟩, (om_b1s h2).mpr rfl⟩
theorem om_L1 {cs : List om_Cn} {n b t : Int} (he : om_e2 cs n b) (h2 : t ≤ 6) : om_fe cs (om_set om_any 1 t) ↔ ∃ x, -6 ≤ x ∧ x ≤ 6 ∧ b ≤ x ∧ 2 * x + 3 * t = n := by
  rw [om_L he (Or.inl rfl)]
  constructor
  · rintro ⟨x, y, z, ⟨k1, k2⟩, q0, q1, q2⟩
    have r0 := om_b1a.mp q0
    have e : y = t := (om_b1s h2).mp q1
    exact ⟨x, r0.1, r0.2, k2, by omega⟩
  · rintro ⟨x, t1, t2, k1, k2⟩
    exact ⟨x, t, 0, ⟨k2, k1⟩, om_b1a.mpr ⟨t1, t2⟩, (om_b1s h2).mpr rfl, om_b1a.mpr ⟨by decide, by decide⟩⟩
theorem om_L01 {cs : List om_Cn} {n b s t : Int} (he : om_e2 cs n b) (hs : s ≤ 6) (h2 : t ≤ 6) : om_fe cs (om_set (om_set om_any 0 s) 1 t) ↔ (b ≤ s ∧ 2 * s + 3 * t = n) := by
  rw [om_L he (Or.inl rfl)]
  constructor
  · rintro ⟨x, y, z, ⟨k1, k2⟩, q0, q1, q2⟩
    have e0 : x = s := (om_b1s hs).mp q0
    have e : y = t := (om_b1s h2).mp q1
    exact ⟨by omega, by omega⟩
  · rintro ⟨k1, k2⟩
    exact ⟨s, t, 0, ⟨k2, k1⟩, (om_b1s hs).mpr rfl, (om_b1s h2).mpr rfl, om_b1a.mpr ⟨by decide, by decide⟩⟩
theorem om_L012 {cs : List om_Cn} {n b s r t : Int} (he : om_e2 cs n b) (hs : s ≤ 6) (hr : r ≤ 6) (h1 : -6 ≤ t) (h2 : t ≤ 6) : om_fe cs (om_set (om_set (om_set om_any 0 s) 1 r) 2 t) ↔ (b ≤ s ∧ 2 * s + 3 * r = n) := by
  rw [om_L he (Or.inr ⟨h1, h2⟩)]
  constructor
  · rintro ⟨x, y, z, ⟨k1, k2⟩, q0, q1, q2⟩
    have e0 : x = s := (om_b1s hs).mp q0
    have e : y = r := (om_b1s hr).mp q1
    exact ⟨by omega, by omega⟩
  · rintro ⟨k1, k2⟩
    exact ⟨s, r, t, ⟨k2, k1⟩, (om_b1s hs).mpr rfl, (om_b1s hr).mpr rfl, (om_b1s h2).mpr rfl⟩
/-! what the law's loop has found -/
def om_fd (n b fx fy la : Int) (any : Int32) : Prop :=
  (any = 0 ∧ (∀ t, -6 ≤ t → t ≤ 6 → ¬ om_is n b t) ∧ fx = 100 ∧ fy = 100 ∧ la = 100) ∨
  (any = 1 ∧ (-6 ≤ fx ∧ fx ≤ 6 ∧ b ≤ fx ∧ 2 * fx + 3 * fy = n ∧ -6 ≤ fy ∧ fy ≤ 6) ∧ (∀ t, -6 ≤ t → t < fx → ¬ om_is n b t) ∧ (-6 ≤ la ∧ la ≤ 6 ∧ om_is n b la) ∧ (∀ t, la < t → t ≤ 6 → ¬ om_is n b t))
theorem om_lsu {cs : List om_Cn} {F : Nat → Int} {v : Nat} {g : Bool} {r r' : Int} (h : om_ls cs F v g r) (h' : om_ls cs F v g r') : r = r' := by
  rcases h with ⟨e, k⟩ | ⟨k1, k2, k3, k4⟩
  · rcases h' with ⟨e', k'⟩ | ⟨q1, q2, q3, q4⟩
    · omega
    · exact absurd q3 (k r' q1 q2)
  · rcases h' with ⟨e', k'⟩ | ⟨q1, q2, q3, q4⟩
    · exact absurd k3 (k' r k1 k2)
    · rcases Int.lt_trichotomy r r' with z | z | z
      · cases g
        · exact absurd k3 (q4 r k1 k2 z)
        · exact absurd q3 (k4 r' q1 q2 z)
      · exact z
      · cases g
        · exact absurd q3 (k4 r' q1 q2 z)
        · exact absurd k3 (q4 r k1 k2 z)
theorem om_tx {cs : List om_Cn} {n b fx fy la : Int} {any : Int32} (he : om_e2 cs n b) (h : om_fd n b fx fy la any) : om_ls cs om_any 0 false fx := by
  rcases h with ⟨_, k, e, _⟩ | ⟨_, ⟨f1, f2, f3, f4, f5, f6⟩, k, _⟩
  · exact Or.inl ⟨e, fun t t1 t2 z => k t t1 t2 ((om_L0 he t2).mp z)⟩
  · exact Or.inr ⟨f1, f2, (om_L0 he f2).mpr ⟨f3, fy, f5, f6, f4⟩, fun t t1 t2 t3 z => k t t1 t3 ((om_L0 he t2).mp z)⟩
theorem om_tl {cs : List om_Cn} {n b fx fy la : Int} {any : Int32} (he : om_e2 cs n b) (h : om_fd n b fx fy la any) : om_ls cs om_any 0 true la := by
  rcases h with ⟨_, k, _, _, e⟩ | ⟨_, _, _, ⟨f1, f2, f3⟩, k⟩
  · exact Or.inl ⟨e, fun t t1 t2 z => k t t1 t2 ((om_L0 he t2).mp z)⟩
  · exact Or.inr ⟨f1, f2, (om_L0 he f2).mpr f3, fun t t1 t2 t3 z => k t t3 t2 ((om_L0 he t2).mp z)⟩
theorem om_ty {cs : List om_Cn} {n b fx fy la : Int} {any : Int32} (he : om_e2 cs n b) (h : om_fd n b fx fy la any) : om_ls cs om_any 1 true fy := by
  rcases h with ⟨_, k, _, e, _⟩ | ⟨_, ⟨f1, f2, f3, f4, f5, f6⟩, k, _⟩
  · refine Or.inl ⟨e, fun t t1 t2 z => ?_⟩
    obtain ⟨x, x1, x2, x3, x4⟩ := (om_L1 he t2).mp z
    exact k x x1 x2 ⟨x3, t, t1, t2, x4⟩
  · refine Or.inr ⟨f5, f6, (om_L1 he f6).mpr ⟨fx, f1, f2, f3, f4⟩, fun t t1 t2 t3 z => ?_⟩
    have t3' : fy < t := t3
    obtain ⟨x, x1, x2, x3, x4⟩ := (om_L1 he t2).mp z
    exact k x x1 (by omega) ⟨x3, t, t1, t2, x4⟩
theorem om_tz {cs : List om_Cn} {n b fx fy la : Int} {any : Int32} (he : om_e2 cs n b) (h : om_fd n b fx fy la any) : om_ls cs om_any 2 true (if any = 0 then 100 else 6) := by
  rcases h with ⟨a, k, _⟩ | ⟨a, ⟨f1, f2, f3, f4, f5, f6⟩, k, _⟩
  · rw [if_pos a]
    refine Or.inl ⟨rfl, fun t t1 t2 z => ?_⟩
    obtain ⟨x, x1, x2, x3⟩ := (om_L2 he t1 t2).mp z
    exact k x x1 x2 x3
  · rw [if_neg (by rw [a]; decide)]
    refine Or.inr ⟨by decide, by decide, (om_L2 he (by decide) (by decide)).mpr ⟨fx, f1, f2, f3, fy, f5, f6, f4⟩, fun t t1 t2 t3 z => ?_⟩
    have t3' : 6 < t := t3
    omega
theorem om_r0 {cs : List om_Cn} {n b fx fy la rv : Int} {any : Int32} (he : om_e2 cs n b) (h : om_fd n b fx fy la any) (k : om_ch cs 0 om_any 0 rv) : rv = fx := om_lsu k (om_tx he h)
theorem om_r1 {cs : List om_Cn} {n b fx fy la rv : Int} {any : Int32} (he : om_e2 cs n b) (h : om_fd n b fx fy la any) (k : om_ch cs 1 om_any 0 rv) : rv = fy := by
  have tx := om_tx he h
  rcases k with ⟨e, k⟩ | ⟨x, x1, x2, k1, k2⟩
  · have e2 := om_lsu k tx
    rcases h with ⟨_, _, _, e3, _⟩ | ⟨_, ⟨f1, f2, _⟩, _⟩
    · omega
    · omega
  · have e2 := om_lsu k1 tx
    rw [e2] at k2
    rcases h with ⟨_, _, e3, _, _⟩ | ⟨_, ⟨f1, f2, f3, f4, f5, f6⟩, _⟩
    · omega
    · refine om_lsu k2 (Or.inr ⟨f5, f6, (om_L01 he f2 f6).mpr ⟨f3, f4⟩, fun t t1 t2 t3 z => ?_⟩)
      have t3' : t < fy := t3
      have q := (om_L01 he f2 t2).mp z
      omega
theorem om_r2 {cs : List om_Cn} {n b fx fy la rv : Int} {any : Int32} (he : om_e2 cs n b) (h : om_fd n b fx fy la any) (k : om_ch cs 2 om_any 0 rv) : rv = if any = 0 then 100 else -6 := by
  have tx := om_tx he h
  rcases k with ⟨e, k⟩ | ⟨x, x1, x2, k1, k2⟩
  · have e2 := om_lsu k tx
    rcases h with ⟨a, _, _, e3, _⟩ | ⟨_, ⟨f1, f2, _⟩, _⟩
    · rw [if_pos a]; exact e
    · omega
  · have e2 := om_lsu k1 tx
    rw [e2] at k2
    rcases h with ⟨_, _, e3, _, _⟩ | ⟨a, ⟨f1, f2, f3, f4, f5, f6⟩, _⟩
    · omega
    · rw [if_neg (by rw [a]; decide)]
      have ty : om_ls cs (om_set om_any 0 fx) (0 + 1) false fy := by
        refine Or.inr ⟨f5, f6, (om_L01 he f2 f6).mpr ⟨f3, f4⟩, fun t t1 t2 t3 z => ?_⟩
        have t3' : t < fy := t3
        have q := (om_L01 he f2 t2).mp z
        omega
      rcases k2 with ⟨e, k⟩ | ⟨y, y1, y2, k3, k4⟩
      · have e4 := om_lsu k ty
        omega
      · have e4 := om_lsu k3 ty
        rw [e4] at k4
        refine om_lsu k4 (Or.inr ⟨by decide, by decide, (om_L012 he f2 f6 (by decide) (by decide)).mpr ⟨f3, f4⟩, fun t t1 t2 t3 z => ?_⟩)
        have t3' : t < -6 := t3
        omega
/-- an answer about what the loop has found -/
theorem om_ra {n b fx fy la : Int} {any r : Int32} {P : Prop} (h : om_fd n b fx fy la any) (e : P ↔ ∃ t, -6 ≤ t ∧ t ≤ 6 ∧ om_is n b t) (k : om_ans r P) : r = any := by
  rcases h with ⟨a, q, _⟩ | ⟨a, ⟨f1, f2, f3, f4, f5, f6⟩, _⟩
  · rcases k with ⟨k1, k2⟩ | ⟨k1, k2⟩
    · obtain ⟨t, t1, t2, t3⟩ := e.mp k2
      exact absurd t3 (q t t1 t2)
    · rw [k1, a]
  · rcases k with ⟨k1, k2⟩ | ⟨k1, k2⟩
    · rw [k1, a]
    · exact absurd (e.mpr ⟨fx, f1, f2, f3, fy, f5, f6, f4⟩) k2
theorem om_fdb {n b fx fy la : Int} {any : Int32} (h : om_fd n b fx fy la any) (b1 : -6 ≤ b) (b2 : b ≤ 6) : (∃ y, -6 ≤ y ∧ y ≤ 6 ∧ 2 * b + 3 * y = n) ↔ fx = b := by
  rcases h with ⟨a, q, e, _⟩ | ⟨a, ⟨f1, f2, f3, f4, f5, f6⟩, q, _⟩
  · refine ⟨fun ⟨y, y1, y2, y3⟩ => ?_, fun z => ?_⟩
    · exact absurd ⟨Int.le_refl b, y, y1, y2, y3⟩ (q b b1 b2)
    · omega
  · refine ⟨fun ⟨y, y1, y2, y3⟩ => ?_, fun z => ⟨fy, f5, f6, by omega⟩⟩
    by_cases z : b < fx
    · exact absurd ⟨Int.le_refl b, y, y1, y2, y3⟩ (q b b1 z)
    · omega
theorem om_e3a {cs : List om_Cn} {n b : Int} (he : om_e3 cs n b) (b1 : -6 ≤ b) (b2 : b ≤ 6) : om_fe cs om_any ↔ ∃ y, -6 ≤ y ∧ y ≤ 6 ∧ 2 * b + 3 * y = n := by
  constructor
  · rintro ⟨x, y, z, t, q0, q1, q2⟩
    have s := (he x y z).mp t
    have r := om_b1a.mp q1
    exact ⟨y, r.1, r.2, by omega⟩
  · rintro ⟨y, y1, y2, y3⟩
    exact ⟨b, y, 0, (he b y 0).mpr ⟨y3, rfl⟩, om_b1a.mpr ⟨b1, b2⟩, om_b1a.mpr ⟨y1, y2⟩, om_b1a.mpr ⟨by decide, by decide⟩⟩
theorem om_e3w {cs : List om_Cn} {n b : Int} (he : om_e3 cs n b) (b2 : b ≤ 6) : om_fe cs (om_set om_any 0 b) ↔ ∃ y, -6 ≤ y ∧ y ≤ 6 ∧ 2 * b + 3 * y = n := by
  constructor
  · rintro ⟨x, y, z, t, q0, q1, q2⟩
    have s := (he x y z).mp t
    have r := om_b1a.mp q1
    exact ⟨y, r.1, r.2, by omega⟩
  · rintro ⟨y, y1, y2, y3⟩
    exact ⟨b, y, 0, (he b y 0).mpr ⟨y3, rfl⟩, (om_b1s b2).mpr rfl, om_b1a.mpr ⟨y1, y2⟩, om_b1a.mpr ⟨by decide, by decide⟩⟩
theorem om_e0a {cs : List om_Cn} {F : Nat → Int} (he : om_e0 cs) : ¬ om_fe cs F := fun ⟨x, y, z, t, _⟩ => he x y z t
theorem om_e0r {cs : List om_Cn} {rv : Int} (he : om_e0 cs) (k : om_ch cs 0 om_any 0 rv) : rv = 100 := by
  rcases k with ⟨e, _⟩ | ⟨_, _, k, _⟩
  · exact e
  · exact absurd k (om_e0a he)
/-- follows -/
theorem om_fo {cs : List om_Cn} {n b fx fy la A B d : Int} {any r : Int32} (he : om_e2 cs n b) (h : om_fd n b fx fy la any) (k : om_ans r (¬ om_nf cs A B 0 d)) (m : Int) (hm : ∀ x y, 2 * x + 3 * y = n → -A * x + -B * y = -m) : (any = 0 → r = 1) ∧ (any = 1 → m ≤ d → r = 1) ∧ (any = 1 → d < m → r = 0) := by
  have K : om_nf cs A B 0 d → any = 1 ∧ d < m := by
    rintro ⟨x, y, z, t, ⟨q0, q1, q2⟩, q3⟩
    have r0 := om_b1a.mp q0
    have r1 := om_b1a.mp q1
    have r2 := om_b1a.mp q2
    have s := (he x y z r2.1 r2.2).mp t
    have m1 := hm x y s.1
    refine ⟨?_, by omega⟩
    rcases h with ⟨a, q, _⟩ | ⟨a, _⟩
    · exact absurd ⟨s.2, y, r1.1, r1.2, s.1⟩ (q x r0.1 r0.2)
    · exact a
  have J : any = 1 → d < m → om_nf cs A B 0 d := by
    intro a dm
    rcases h with ⟨a', _⟩ | ⟨_, ⟨f1, f2, f3, f4, f5, f6⟩, _⟩
    · rw [a] at a'; exact absurd a' (by decide)
    · have m1 := hm fx fy f4
      exact ⟨fx, fy, 0, (he fx fy 0 (by decide) (by decide)).mpr ⟨f4, f3⟩, ⟨om_b1a.mpr ⟨f1, f2⟩, om_b1a.mpr ⟨f5, f6⟩, om_b1a.mpr ⟨by decide, by decide⟩⟩, by omega⟩
  refine ⟨fun a => ?_, fun a dm => ?_, fun a dm => ?_⟩
  · rcases k with ⟨k1, _⟩ | ⟨_, k2⟩
    · exact k1
    · exact absurd (fun z => by have := (K z).1; rw [a] at this; exact absurd this (by decide)) k2
  · rcases k with ⟨k1, _⟩ | ⟨_, k2⟩
    · exact k1
    · exact absurd (fun z => by have := (K z).2; omega) k2
  · rcases k with ⟨_, k2⟩ | ⟨k1, _⟩
    · exact absurd (J a dm) k2
    · exact k1
end
section
/-! the law: from its end -/
def om_G (x6 x7 x8 x9 x10 x12 : Int32) (n b fx fy la : Int) : Prop := om_v x6 n 30 ∧ om_v x7 b 6 ∧ om_v x8 fx 100 ∧ om_v x9 fy 100 ∧ om_v x10 la 100 ∧ om_fd n b fx fy la x12
theorem om_x01 {n b fx fy la : Int} {x12 : Int32} (h : om_fd n b fx fy la x12) : x12 = 0 ∨ x12 = 1 := by
  rcases h with ⟨h, _⟩ | ⟨h, _⟩
  · exact Or.inl h
  · exact Or.inr h
theorem om_x87 {A B : Prop} {x6 x7 x8 x9 x10 x12 r : Int32} {n b fx fy la : Int} (G : om_G x6 x7 x8 x9 x10 x12 n b fx fy la) (s : om_ans r (fx = b)) (f : r = 1 → A) (g : r = 0 → B) : (x8 = x7 → A) ∧ (¬ x8 = x7 → B) := by
  rw [om_eq G.2.2.1 G.2.1]
  rcases s with ⟨s1, s2⟩ | ⟨s1, s2⟩
  · exact br_t s2 (f s1)
  · exact br_f s2 (g s1)
theorem om_xan {A B : Prop} {x12 r : Int32} {n b fx fy la : Int} (h : om_fd n b fx fy la x12) (e : r = x12) (f : r = 0 → A) (g : r = 1 → B) : (x12 = 0 → A) ∧ (¬ x12 = 0 → B) := by
  rcases om_x01 h with z | z
  · exact br_t z (f (e.trans z))
  · exact br_f (by rw [z]; decide) (g (e.trans z))
theorem om_x12 {A B : Prop} {x12 r s : Int32} {rv t C : Int} (kv : om_v r rv 100) (e : rv = if x12 = 0 then 100 else t) (ht : om_v s t C) (f : r = 100 → A) (g : r = s → B) : (x12 = 0 → A) ∧ (¬ x12 = 0 → B) := by
  refine ⟨fun z => f ?_, fun z => g ?_⟩
  · rw [if_pos z] at e
    exact om_eqI (kv.1.trans e) om_100.1
  · rw [if_neg z] at e
    exact om_eqI (kv.1.trans e) ht.1
theorem om_someL {cs : List om_Cn} {k : Nat} {c : om_Cn} (h : cs[k]? = some c) : k < cs.length := by
  rcases Nat.lt_or_ge k cs.length with q | q
  · exact q
  · rw [List.getElem?_eq_none q] at h; exact absurd h.symm (Option.some_ne_none c)
theorem om_g4 (n b : Int) (k : Nat) (c : om_Cn) (h : (om_4a n b)[k]? = some c) (ht : 3 ≤ k) : ¬ om_brk (om_4a n b) k c (-1) ∧ (c.2.2.2.2 = true → ¬ om_brk (om_4a n b) k c 1) := by
  have hl : k < 4 := om_someL h
  have e : k = 3 := by omega
  subst e
  have ec : ((4, 6, 0, 2 * n + 1, false) : om_Cn) = c := Option.some.inj h
  subst ec
  refine ⟨?_, fun z => absurd (show false = true from z) (by decide)⟩
  rintro ⟨x, y, z, t, _, q⟩
  have t0 := om_hE.mp (t 0 (2, 3, 0, n, true) (show 0 < 4 by decide) rfl (by decide))
  have q' : -1 * 4 * x + -1 * 6 * y + -1 * 0 * z ≤ -1 * (2 * n + 1) - 1 := q
  omega
theorem om_g8 (n b : Int) (k : Nat) (c : om_Cn) (h : (om_8b n b)[k]? = some c) (ht : 2 ≤ k) : ¬ om_brk (om_8b n b) k c (-1) ∧ (c.2.2.2.2 = true → ¬ om_brk (om_8b n b) k c 1) := by
  have hl : k < 8 := om_someL h
  have Z : ((0, 0, 1, 6, false) : om_Cn) = c → ¬ om_brk (om_8b n b) k c (-1) ∧ (c.2.2.2.2 = true → ¬ om_brk (om_8b n b) k c 1) := by
    intro ec
    subst ec
    refine ⟨?_, fun z => absurd (show false = true from z) (by decide)⟩
    rintro ⟨x, y, z, t, bx, q⟩
    have q' : -1 * 0 * x + -1 * 0 * y + -1 * 1 * z ≤ -1 * 6 - 1 := q
    have z6 := om_b1a.mp bx.2.2
    omega
  rcases (show k = 2 ∨ k = 3 ∨ k = 4 ∨ k = 5 ∨ k = 6 ∨ k = 7 by omega) with e | e | e | e | e | e
  · subst e
    have ec : ((4, 6, 0, 2 * n + 1, false) : om_Cn) = c := Option.some.inj h
    subst ec
    refine ⟨?_, fun z => absurd (show false = true from z) (by decide)⟩
    rintro ⟨x, y, z, t, _, q⟩
    have t0 := om_hE.mp (t 0 (2, 3, 0, n, true) (show 0 < 8 by decide) rfl (by decide))
    have q' : -1 * 4 * x + -1 * 6 * y + -1 * 0 * z ≤ -1 * (2 * n + 1) - 1 := q
    omega
  · subst e; exact Z (Option.some.inj h)
  · subst e; exact Z (Option.some.inj h)
  · subst e; exact Z (Option.some.inj h)
  · subst e; exact Z (Option.some.inj h)
  · subst e; exact Z (Option.some.inj h)
theorem om_v2 : om_v 2 2 2 := ⟨by decide, by decide, by decide⟩
theorem om_l0 : om_v 0 0 9 := om_w om_0 (by decide)
theorem om_l1 : om_v 1 1 9 := om_w om_1 (by decide)
theorem om_l2 : om_v 2 2 9 := ⟨by decide, by decide, by decide⟩
theorem om_l3 : om_v 3 3 9 := ⟨by decide, by decide, by decide⟩
theorem om_l4 : om_v 4 4 9 := ⟨by decide, by decide, by decide⟩
theorem om_l6 : om_v 6 6 9 := ⟨by decide, by decide, by decide⟩
theorem om_lm4 : om_v (-4) (-4) 9 := ⟨by decide, by decide, by decide⟩
theorem om_lm6 : om_v (-6) (-6) 9 := ⟨by decide, by decide, by decide⟩
theorem om_lm1 : om_v (-1) (-1) 9 := ⟨by decide, by decide, by decide⟩
theorem om_803 {post : Int32 → St0 → Prop} {mc ms kc ks : Nat} {x4 z0 z1 : Int32} {n b : Int} {q0 q1 q2 q3 : Int32} {a1 a2 a3 a4 a5 a6 a7 a8 : Nat → Int32} (hp : post 1 ()) (hz : z1 = z0) (hu : om_ob (om_8b n b) (q0, q1, q2, q3, a1, a2, a3, a4, a5, a6, a7, a8)) :
    wL_lawOf_803 post mc ms x4 z0 z1 kc ks q0 q1 q2 q3 a1 a2 a3 a4 a5 a6 a7 a8 := by

  refine br_t hz (om_spare 2 hu (om_g8 n b) ?_)
  rintro q ⟨q0, q1, q2, q3, a1, a2, a3, a4, a5, a6, a7, a8⟩ hu' k1 k2
  have k2' : 8 ≤ q + 2 := k2
  refine pk_le 6 q (fun _ => ?_) (fun z => absurd z (by omega))
  refine om_addn hu' (Or.inr (fun h => absurd h.1.2 (by decide))) (br_t rfl (om_addn hu' (Or.inr (fun h => absurd h.2.2.2.1 (by decide))) (br_t rfl ?_)))
  have t7 : (7 : Int32).toInt = 7 := by decide
  have t8 : (nI 8).toInt = 8 := by decide
  by_cases c1 : x4 < 0
  · exact om_dropn hu' (Or.inl c1) (br_t c1 (br_t rfl hp))
  · by_cases c2 : 7 < x4
    · refine om_dropn hu' (Or.inr ?_) (br_f c1 (br_t c2 (br_t rfl hp)))
      show ¬ x4 < nI 8
      rw [Int32.lt_iff_toInt_lt] at c2 ⊢
      omega
    · obtain ⟨j, j1, rfl⟩ := nI_of2 (M := 7) (n := 7) (by decide) c1 (by rw [Int32.lt_iff_toInt_lt] at c2; rw [Int32.le_iff_toInt_le]; omega)
      refine om_drop hu' (l := 7) rfl j1 ?_
      rintro ⟨q0, q1, q2, q3, a1, a2, a3, a4, a5, a6, a7, a8⟩ _
      exact br_f c1 (br_f c2 (br_t rfl hp))
theorem om_740e {post : Int32 → St0 → Prop} {mc ms kc ks k : Nat} {x4 x6 x7 x8 x9 x10 x12 : Int32} {n b fx fy la : Int} {q0 q1 q2 q3 : Int32} {a1 a2 a3 a4 a5 a6 a7 a8 : Nat → Int32} (hp : post 1 ()) (G : om_G x6 x7 x8 x9 x10 x12 n b fx fy la) (hu : om_ob (om_8b n b) (q0, q1, q2, q3, a1, a2, a3, a4, a5, a6, a7, a8)) :
    wL_lawOf_740 post mc ms x4 x12 kc ks (k + 1) (nI 8) q0 q1 q2 q3 a1 a2 a3 a4 a5 a6 a7 a8 := by

  refine pk_le 8 8 (fun _ => om_addn hu (Or.inl rfl) (br_t rfl (om_possible hu ?_))) (fun z => absurd z (by omega))
  rintro r ⟨q0, q1, q2, q3, a1, a2, a3, a4, a5, a6, a7, a8⟩ hu' ka
  have e := om_ra G.2.2.2.2.2 (om_La (om_e2_8 n b)) ka
  exact om_xan G.2.2.2.2.2 e (fun h => om_803 hp h hu') (fun h => om_803 hp h hu')
theorem om_740 {post : Int32 → St0 → Prop} {mc ms kc ks : Nat} {x4 x12 : Int32} {C : List om_Cn} (K : ∀ (q0 q1 q2 q3 : Int32) (a1 a2 a3 a4 a5 a6 a7 a8 : Nat → Int32), om_ob C (q0, q1, q2, q3, a1, a2, a3, a4, a5, a6, a7, a8) → wL_lawOf_740 post mc ms x4 x12 kc ks 1 (nI 8) q0 q1 q2 q3 a1 a2 a3 a4 a5 a6 a7 a8) :
    ∀ (d i : Nat) (cs : List om_Cn) (q0 q1 q2 q3 : Int32) (a1 a2 a3 a4 a5 a6 a7 a8 : Nat → Int32), cs.length = i → i + d = 8 → cs ++ List.replicate d (0, 0, 1, 6, false) = C → om_ob cs (q0, q1, q2, q3, a1, a2, a3, a4, a5, a6, a7, a8) → wL_lawOf_740 post mc ms x4 x12 kc ks (d + 1) (nI i) q0 q1 q2 q3 a1 a2 a3 a4 a5 a6 a7 a8 := by
  intro d
  induction d with
  | zero =>
    intro i cs q0 q1 q2 q3 a1 a2 a3 a4 a5 a6 a7 a8 hl hi hC hu
    have e : i = 8 := by omega
    have hC' : cs ++ [] = C := hC
    rw [List.append_nil] at hC'
    rw [hC'] at hu
    rw [e]
    exact K _ _ _ _ _ _ _ _ _ _ _ _ hu
  | succ d ih =>
    intro i cs q0 q1 q2 q3 a1 a2 a3 a4 a5 a6 a7 a8 hl hi hC hu
    refine pk_le 8 i (fun z => absurd z (by omega)) (fun _ => om_addc (0, 0, 1, 6, false) hu (by omega) om_l0 om_l0 om_l1 (om_w om_6 (by decide)) rfl ?_)
    rintro ⟨q0, q1, q2, q3, a1, a2, a3, a4, a5, a6, a7, a8⟩ hu'
    refine br_t (by rw [hl, nI_1]) (nm_r (nI_1 i) (ih (i + 1) (cs ++ [(0, 0, 1, 6, false)]) _ _ _ _ _ _ _ _ _ _ _ _ (by rw [List.length_append, hl]; rfl) (by omega) ?_ hu'))
    rw [List.append_assoc]
    exact hC
theorem om_666 {post : Int32 → St0 → Prop} {mc ms kc ks : Nat} {x4 x6 x7 x8 x9 x10 x12 z0 z1 : Int32} {n b fx fy la : Int} {q0 q1 q2 q3 : Int32} {a1 a2 a3 a4 a5 a6 a7 a8 : Nat → Int32} (hp : post 1 ()) (G : om_G x6 x7 x8 x9 x10 x12 n b fx fy la) (hz : z1 = z0) (hu : om_ob (om_4a n b) (q0, q1, q2, q3, a1, a2, a3, a4, a5, a6, a7, a8)) :
    wL_lawOf_666 post mc ms x4 x8 x9 x12 z0 z1 kc ks q0 q1 q2 q3 a1 a2 a3 a4 a5 a6 a7 a8 := by

  refine br_t hz (om_drop (k := 2) (l := 3) hu rfl (by omega) ?_)
  rintro ⟨q0, q1, q2, q3, a1, a2, a3, a4, a5, a6, a7, a8⟩ hu1
  have hu1 : om_ob (om_3b n b) (q0, q1, q2, q3, a1, a2, a3, a4, a5, a6, a7, a8) := hu1
  have he := om_e2_3 n b
  have fd := G.2.2.2.2.2
  refine br_t rfl (om_first (p := 0) hu1 (by omega) ?_)
  rintro r rv ⟨q0, q1, q2, q3, a1, a2, a3, a4, a5, a6, a7, a8⟩ hu2 kv kch
  refine br_t (om_eqI (kv.1.trans (om_r0 he fd kch)) G.2.2.1.1) (om_first (p := 1) hu2 (by omega) ?_)
  rintro r rv ⟨q0, q1, q2, q3, a1, a2, a3, a4, a5, a6, a7, a8⟩ hu3 kv kch
  refine br_t (om_eqI (kv.1.trans (om_r1 he fd kch)) G.2.2.2.1.1) (om_addc (0, 0, 0, -1, false) hu3 (show 3 < 8 by decide) om_l0 om_l0 om_l0 (om_w om_m1 (by decide)) rfl ?_)
  rintro ⟨q0, q1, q2, q3, a1, a2, a3, a4, a5, a6, a7, a8⟩ hu4
  have hu4 : om_ob (om_4b n b) (q0, q1, q2, q3, a1, a2, a3, a4, a5, a6, a7, a8) := hu4
  refine br_t rfl (om_possible hu4 ?_)
  rintro r ⟨q0, q1, q2, q3, a1, a2, a3, a4, a5, a6, a7, a8⟩ hu5 ka
  have e5 : r = 0 := by
    rcases ka with ⟨_, k⟩ | ⟨k, _⟩
    · exact absurd k (om_e0a (om_e0_4 n b))
    · exact k
  refine br_t e5 (om_drop (k := 3) (l := 3) hu5 rfl (by omega) ?_)
  rintro ⟨q0, q1, q2, q3, a1, a2, a3, a4, a5, a6, a7, a8⟩ hu6
  have hu6 : om_ob (om_3b n b) (q0, q1, q2, q3, a1, a2, a3, a4, a5, a6, a7, a8) := hu6
  exact br_t rfl ⟨6, om_740 (C := om_8b n b) (fun q0 q1 q2 q3 a1 a2 a3 a4 a5 a6 a7 a8 h => om_740e hp G h) 5 3 (om_3b n b) _ _ _ _ _ _ _ _ _ _ _ _ rfl (by omega) rfl hu6⟩
theorem om_551 {post : Int32 → St0 → Prop} {mc ms kc ks : Nat} {x4 x6 x7 x8 x9 x10 x12 z0 z1 : Int32} {n b fx fy la : Int} {q0 q1 q2 q3 : Int32} {a1 a2 a3 a4 a5 a6 a7 a8 : Nat → Int32} (hp : post 1 ()) (G : om_G x6 x7 x8 x9 x10 x12 n b fx fy la) (hz : z1 = z0) (hu : om_ob (om_3a n b) (q0, q1, q2, q3, a1, a2, a3, a4, a5, a6, a7, a8)) :
    wL_lawOf_551 post mc ms x4 x6 x7 x8 x9 x12 z0 z1 kc ks q0 q1 q2 q3 a1 a2 a3 a4 a5 a6 a7 a8 := by

  have fd := G.2.2.2.2.2
  have b1 := G.2.1.2.1
  have b2 := G.2.1.2.2
  have hd : om_v (2 * x6 + 1) (2 * n + 1) 99 := om_w (om_add (om_mul om_v2 G.1 (by decide)) om_1 (by decide)) (by decide)
  refine br_t hz (om_addc (4, 6, 0, 2 * n + 1, false) hu (show 3 < 8 by decide) om_l4 om_l6 om_l0 hd rfl ?_)
  rintro ⟨q0, q1, q2, q3, a1, a2, a3, a4, a5, a6, a7, a8⟩ hu1
  have hu1 : om_ob (om_4a n b) (q0, q1, q2, q3, a1, a2, a3, a4, a5, a6, a7, a8) := hu1
  refine br_t rfl (om_spare 3 hu1 (om_g4 n b) ?_)
  rintro q ⟨q0, q1, q2, q3, a1, a2, a3, a4, a5, a6, a7, a8⟩ hu2 k1 k2
  have k2' : 4 ≤ q + 3 := k2
  refine pk_lt q 1 (fun z => absurd z (by omega)) (fun _ => ?_)
  refine om_addc (4, 6, 2, 2 * n + 1, true) hu2 (show 4 < 8 by decide) om_l4 om_l6 om_l2 hd rfl ?_
  rintro ⟨q0, q1, q2, q3, a1, a2, a3, a4, a5, a6, a7, a8⟩ hu3
  have hu3 : om_ob (om_5a n b) (q0, q1, q2, q3, a1, a2, a3, a4, a5, a6, a7, a8) := hu3
  refine br_t rfl (om_possible hu3 ?_)
  rintro r ⟨q0, q1, q2, q3, a1, a2, a3, a4, a5, a6, a7, a8⟩ hu4 ka
  have e4 : r = 0 := by
    rcases ka with ⟨_, k⟩ | ⟨k, _⟩
    · exact absurd k (om_e0a (om_e0_5 n b))
    · exact k
  refine br_t e4 (om_first (p := 0) hu4 (by omega) ?_)
  rintro r rv ⟨q0, q1, q2, q3, a1, a2, a3, a4, a5, a6, a7, a8⟩ hu5 kv kch
  refine br_t (om_eqI (kv.1.trans (om_e0r (om_e0_5 n b) kch)) om_100.1) (om_follows hu5 om_l0 om_l0 om_l0 (fun z => absurd ⟨by decide, by decide⟩ z) ?_)
  rintro _ _ r ⟨q0, q1, q2, q3, a1, a2, a3, a4, a5, a6, a7, a8⟩ hu6 ka
  have e6 : r = 1 := by
    rcases ka with ⟨k, _⟩ | ⟨_, k⟩
    · exact k
    · exact absurd (fun ⟨x, y, z, t, _⟩ => om_e0_5 n b x y z t) k
  refine br_t e6 (om_drop (k := 4) (l := 4) hu6 rfl (by omega) ?_)
  rintro ⟨q0, q1, q2, q3, a1, a2, a3, a4, a5, a6, a7, a8⟩ hu7
  have hu7 : om_ob (om_4a n b) (q0, q1, q2, q3, a1, a2, a3, a4, a5, a6, a7, a8) := hu7
  refine br_t rfl (om_possible hu7 ?_)
  rintro r ⟨q0, q1, q2, q3, a1, a2, a3, a4, a5, a6, a7, a8⟩ hu8 ka
  exact om_x87 G (om_ans_c ka ((om_e3a (om_e3_4 n b) b1 b2).trans (om_fdb fd b1 b2))) (fun h => om_666 hp G h hu8) (fun h => om_666 hp G h hu8)
theorem om_528 {post : Int32 → St0 → Prop} {mc ms kc ks : Nat} {x4 x6 x7 x8 x9 x10 x12 z0 z1 : Int32} {n b fx fy la : Int} {q0 q1 q2 q3 : Int32} {a1 a2 a3 a4 a5 a6 a7 a8 : Nat → Int32} (hp : post 1 ()) (G : om_G x6 x7 x8 x9 x10 x12 n b fx fy la) (hz : z1 = z0) (hu : om_ob (om_3a n b) (q0, q1, q2, q3, a1, a2, a3, a4, a5, a6, a7, a8)) :
    wL_lawOf_528 post mc ms x4 x6 x7 x8 x9 x12 z0 z1 kc ks q0 q1 q2 q3 a1 a2 a3 a4 a5 a6 a7 a8 := by

  have fd := G.2.2.2.2.2
  have b1 := G.2.1.2.1
  have b2 := G.2.1.2.2
  refine br_t hz (om_with (v := 0) (t := b) hu (by omega) G.2.1 ?_)
  rintro r ⟨q0, q1, q2, q3, a1, a2, a3, a4, a5, a6, a7, a8⟩ hu1 ka
  exact om_x87 G (om_ans_c ka ((om_e3w (om_e3_3 n b) b2).trans (om_fdb fd b1 b2))) (fun h => om_551 hp G h hu1) (fun h => om_551 hp G h hu1)
theorem om_477 {post : Int32 → St0 → Prop} {mc ms kc ks : Nat} {x4 x6 x7 x8 x9 x10 x12 z0 z1 : Int32} {n b fx fy la : Int} {q0 q1 q2 q3 : Int32} {a1 a2 a3 a4 a5 a6 a7 a8 : Nat → Int32} (hp : post 1 ()) (G : om_G x6 x7 x8 x9 x10 x12 n b fx fy la) (hz : z1 = z0) (hu : om_ob (om_2 n b) (q0, q1, q2, q3, a1, a2, a3, a4, a5, a6, a7, a8)) :
    wL_lawOf_477 post mc ms x4 x6 x7 x8 x9 x12 z0 z1 kc ks q0 q1 q2 q3 a1 a2 a3 a4 a5 a6 a7 a8 := by

  have fd := G.2.2.2.2.2
  have b1 := G.2.1.2.1
  have b2 := G.2.1.2.2
  have hd : om_v (2 * x7 + 1) (2 * b + 1) 99 := om_w (om_add (om_mul om_v2 G.2.1 (by decide)) om_1 (by decide)) (by decide)
  refine br_t hz (om_with0 (Or.inl (by decide)) (br_t rfl (om_addc (2, 0, 0, 2 * b + 1, false) hu (show 2 < 8 by decide) om_l2 om_l0 om_l0 hd rfl ?_)))
  rintro ⟨q0, q1, q2, q3, a1, a2, a3, a4, a5, a6, a7, a8⟩ hu1
  have hu1 : om_ob (om_3a n b) (q0, q1, q2, q3, a1, a2, a3, a4, a5, a6, a7, a8) := hu1
  refine br_t rfl (om_possible hu1 ?_)
  rintro r ⟨q0, q1, q2, q3, a1, a2, a3, a4, a5, a6, a7, a8⟩ hu2 ka
  exact om_x87 G (om_ans_c ka ((om_e3a (om_e3_3 n b) b1 b2).trans (om_fdb fd b1 b2))) (fun h => om_528 hp G h hu2) (fun h => om_528 hp G h hu2)
theorem om_443 {post : Int32 → St0 → Prop} {mc ms kc ks : Nat} {x3 x4 x6 x7 x8 x9 x10 x12 z0 z1 : Int32} {n b fx fy la : Int} {q0 q1 q2 q3 : Int32} {a1 a2 a3 a4 a5 a6 a7 a8 : Nat → Int32} (hp : post 1 ()) (G : om_G x6 x7 x8 x9 x10 x12 n b fx fy la) (hz : z1 = z0) (hu : om_ob (om_2 n b) (q0, q1, q2, q3, a1, a2, a3, a4, a5, a6, a7, a8)) :
    wL_lawOf_443 post mc ms x3 x4 x6 x7 x8 x9 x12 z0 z1 kc ks q0 q1 q2 q3 a1 a2 a3 a4 a5 a6 a7 a8 := by

  have fd := G.2.2.2.2.2
  have t1 : (-6 : Int32).toInt = -6 := by decide
  have t2 : (6 : Int32).toInt = 6 := by decide
  refine br_t hz ?_
  by_cases c1 : x3 < -6
  · exact om_with0 (Or.inr (Or.inl c1)) ⟨fun _ => om_477 hp G rfl hu, fun _ => br_t c1 (om_477 hp G rfl hu)⟩
  · by_cases c2 : 6 < x3
    · refine om_with0 (Or.inr (Or.inr ?_)) ⟨fun _ => om_477 hp G rfl hu, fun _ => br_f c1 (br_t c2 (om_477 hp G rfl hu))⟩
      rw [Int32.lt_iff_toInt_lt] at c2
      rw [Int32.le_iff_toInt_le]
      omega
    · have c1' := c1
      have c2' := c2
      rw [Int32.lt_iff_toInt_lt, t1] at c1'
      rw [Int32.lt_iff_toInt_lt, t2] at c2'
      refine om_with (v := 2) (t := x3.toInt) hu (by omega) ⟨rfl, by omega, by omega⟩ ?_
      rintro r ⟨q0, q1, q2, q3, a1, a2, a3, a4, a5, a6, a7, a8⟩ hu1 ka
      have e := om_ra fd (om_L2 (om_e2_2 n b) (by omega) (by omega)) ka
      exact om_xan fd e (fun h => om_477 hp G h hu1) (fun h => br_f c1 (br_f c2 (om_477 hp G h hu1)))
theorem om_401 {post : Int32 → St0 → Prop} {mc ms kc ks : Nat} {x2 x3 x4 x6 x7 x8 x9 x10 x12 x13 z0 z1 : Int32} {n b fx fy la : Int} {q0 q1 q2 q3 : Int32} {a1 a2 a3 a4 a5 a6 a7 a8 : Nat → Int32} (hp : post 1 ()) (G : om_G x6 x7 x8 x9 x10 x12 n b fx fy la) (hR : ((x13 = 0 ∧ ¬ (-99 ≤ x2.toInt ∧ x2.toInt ≤ 99)) ∨ (x13 = 1 ∧ -99 ≤ x2.toInt ∧ x2.toInt ≤ 99))) (hz : z1 = z0) (hu : om_ob (om_2 n b) (q0, q1, q2, q3, a1, a2, a3, a4, a5, a6, a7, a8)) :
    wL_lawOf_401 post mc ms x2 x3 x4 x6 x7 x8 x9 x12 x13 z0 z1 kc ks q0 q1 q2 q3 a1 a2 a3 a4 a5 a6 a7 a8 := by

  have fd := G.2.2.2.2.2
  have d10 : ¬ (1 : Int32) = 0 := by decide
  refine br_t hz (om_follows hu om_lm4 om_lm6 om_l0 (fun no => ?_) ?_)
  · rcases hR with ⟨h, _⟩ | ⟨_, h⟩
    · exact br_t h (om_443 hp G rfl hu)
    · exact absurd h no
  · rintro r1 r2 r ⟨q0, q1, q2, q3, a1, a2, a3, a4, a5, a6, a7, a8⟩ hu1 ka
    have hx : x13 = 1 := by
      rcases hR with ⟨_, h⟩ | ⟨h, _⟩
      · exact absurd ⟨r1, r2⟩ h
      · exact h
    obtain ⟨f1, f2, f3⟩ := om_fo (om_e2_2 n b) fd ka (-2 * n) (fun x y h => by omega)
    have hm : om_v (-2 * x6) (-2 * n) 60 := om_w (om_mul (x := -2) (v := -2) (B := 2) ⟨by decide, by decide, by decide⟩ G.1 (by decide)) (by decide)
    have hd : om_v x2 x2.toInt 99 := ⟨rfl, r1, r2⟩
    refine br_f (by rw [hx]; exact d10) ⟨fun z => om_443 hp G (f1 z) hu1, fun z => ?_⟩
    have x1 : x12 = 1 := by
      rcases om_x01 fd with h | h
      · exact absurd h z
      · exact h
    refine ⟨fun c => om_443 hp G (f3 x1 ((om_lt hd hm).mp c)) hu1, fun c => om_443 hp G (f2 x1 ?_) hu1⟩
    rw [om_lt hd hm] at c
    omega
theorem om_365 {post : Int32 → St0 → Prop} {mc ms kc ks : Nat} {x2 x3 x4 x6 x7 x8 x9 x10 x12 z0 : Int32} {n b fx fy la : Int} {q0 q1 q2 q3 : Int32} {a1 a2 a3 a4 a5 a6 a7 a8 : Nat → Int32} (hp : post 1 ()) (G : om_G x6 x7 x8 x9 x10 x12 n b fx fy la) (hR : ((z0 = 0 ∧ ¬ (-99 ≤ x2.toInt ∧ x2.toInt ≤ 99)) ∨ (z0 = 1 ∧ -99 ≤ x2.toInt ∧ x2.toInt ≤ 99))) (hu : om_ob (om_2 n b) (q0, q1, q2, q3, a1, a2, a3, a4, a5, a6, a7, a8)) :
    wL_lawOf_365 post mc ms x2 x3 x4 x6 x7 x8 x9 x12 z0 kc ks q0 q1 q2 q3 a1 a2 a3 a4 a5 a6 a7 a8 := by

  have fd := G.2.2.2.2.2
  have d10 : ¬ (1 : Int32) = 0 := by decide
  unfold wL_lawOf_365
  refine om_follows hu om_l2 om_l3 om_l0 (fun no => ?_) ?_
  · rcases hR with ⟨h, h2⟩ | ⟨_, h⟩
    · exact br_t h (om_401 hp G (Or.inl ⟨h, h2⟩) rfl hu)
    · exact absurd h no
  · rintro r1 r2 r ⟨q0, q1, q2, q3, a1, a2, a3, a4, a5, a6, a7, a8⟩ hu1 ka
    have hx : z0 = 1 := by
      rcases hR with ⟨_, h⟩ | ⟨h, _⟩
      · exact absurd ⟨r1, r2⟩ h
      · exact h
    obtain ⟨f1, f2, f3⟩ := om_fo (om_e2_2 n b) fd ka n (fun x y h => by omega)
    have hd : om_v x2 x2.toInt 99 := ⟨rfl, r1, r2⟩
    refine br_f (by rw [hx]; exact d10) ⟨fun z => om_401 hp G hR (f1 z) hu1, fun z => ?_⟩
    have x1 : x12 = 1 := by
      rcases om_x01 fd with h | h
      · exact absurd h z
      · exact h
    refine ⟨fun c => om_401 hp G hR (f3 x1 ((om_lt hd G.1).mp c)) hu1, fun c => om_401 hp G hR (f2 x1 ?_) hu1⟩
    rw [om_lt hd G.1] at c
    omega
theorem om_331 {post : Int32 → St0 → Prop} {mc ms kc ks : Nat} {x2 x3 x4 x6 x7 x8 x9 x10 x12 z0 z1 : Int32} {n b fx fy la : Int} {q0 q1 q2 q3 : Int32} {a1 a2 a3 a4 a5 a6 a7 a8 : Nat → Int32} (hp : post 1 ()) (G : om_G x6 x7 x8 x9 x10 x12 n b fx fy la) (hz : z1 = z0) (hu : om_ob (om_2 n b) (q0, q1, q2, q3, a1, a2, a3, a4, a5, a6, a7, a8)) :
    wL_lawOf_331 post mc ms x2 x3 x4 x6 x7 x8 x9 x12 z0 z1 kc ks q0 q1 q2 q3 a1 a2 a3 a4 a5 a6 a7 a8 := by

  have t1 : (-99 : Int32).toInt = -99 := by decide
  have t2 : (99 : Int32).toInt = 99 := by decide
  refine br_t hz (om_extreme0 (by decide) (br_t rfl ⟨fun c => om_365 (z0 := 0) hp G (Or.inl ⟨rfl, ?_⟩) hu, fun c1 => ⟨fun c => om_365 (z0 := 0) hp G (Or.inl ⟨rfl, ?_⟩) hu, fun c => om_365 (z0 := 1) hp G (Or.inr ⟨rfl, ?_⟩) hu⟩⟩))
  · rw [Int32.lt_iff_toInt_lt, t1] at c; omega
  · rw [Int32.lt_iff_toInt_lt, t2] at c; omega
  · rw [Int32.lt_iff_toInt_lt, t1] at c1
    rw [Int32.lt_iff_toInt_lt, t2] at c
    omega
theorem om_271 {post : Int32 → St0 → Prop} {mc ms kc ks : Nat} {x2 x3 x4 x6 x7 x8 x9 x10 x12 z0 z1 : Int32} {n b fx fy la : Int} {q0 q1 q2 q3 : Int32} {a1 a2 a3 a4 a5 a6 a7 a8 : Nat → Int32} (hp : post 1 ()) (G : om_G x6 x7 x8 x9 x10 x12 n b fx fy la) (hz : z1 = z0) (hu : om_ob (om_2 n b) (q0, q1, q2, q3, a1, a2, a3, a4, a5, a6, a7, a8)) :
    wL_lawOf_271 post mc ms x2 x3 x4 x6 x7 x8 x9 x10 x12 z0 z1 kc ks q0 q1 q2 q3 a1 a2 a3 a4 a5 a6 a7 a8 := by

  have fd := G.2.2.2.2.2
  have he := om_e2_2 n b
  refine br_t hz (om_extreme true (v := 0) hu (by omega) rfl ?_)
  rintro r rv ⟨q0, q1, q2, q3, a1, a2, a3, a4, a5, a6, a7, a8⟩ hu1 kv kl
  refine br_t (om_eqI (kv.1.trans (om_lsu kl (om_tl he fd))) G.2.2.2.2.1.1) (om_extreme false (v := 0) hu1 (by omega) rfl ?_)
  rintro r rv ⟨q0, q1, q2, q3, a1, a2, a3, a4, a5, a6, a7, a8⟩ hu2 kv kl
  refine br_t (om_eqI (kv.1.trans (om_lsu kl (om_tx he fd))) G.2.2.1.1) (om_extreme true (v := 1) hu2 (by omega) rfl ?_)
  rintro r rv ⟨q0, q1, q2, q3, a1, a2, a3, a4, a5, a6, a7, a8⟩ hu3 kv kl
  refine br_t (om_eqI (kv.1.trans (om_lsu kl (om_ty he fd))) G.2.2.2.1.1) (om_extreme true (v := 2) hu3 (by omega) rfl ?_)
  rintro r rv ⟨q0, q1, q2, q3, a1, a2, a3, a4, a5, a6, a7, a8⟩ hu4 kv kl
  exact om_x12 kv (om_lsu kl (om_tz he fd)) om_6 (fun h => om_331 hp G h hu4) (fun h => om_331 hp G h hu4)
theorem om_228 {post : Int32 → St0 → Prop} {mc ms kc ks : Nat} {x2 x3 x4 x6 x7 x8 x9 x10 x12 z0 z1 : Int32} {n b fx fy la : Int} {q0 q1 q2 q3 : Int32} {a1 a2 a3 a4 a5 a6 a7 a8 : Nat → Int32} (hp : post 1 ()) (G : om_G x6 x7 x8 x9 x10 x12 n b fx fy la) (hz : z1 = z0) (hu : om_ob (om_2 n b) (q0, q1, q2, q3, a1, a2, a3, a4, a5, a6, a7, a8)) :
    wL_lawOf_228 post mc ms x2 x3 x4 x6 x7 x8 x9 x10 x12 z0 z1 kc ks q0 q1 q2 q3 a1 a2 a3 a4 a5 a6 a7 a8 := by

  have fd := G.2.2.2.2.2
  have he := om_e2_2 n b
  refine br_t hz (om_first (p := 0) hu (by omega) ?_)
  rintro r rv ⟨q0, q1, q2, q3, a1, a2, a3, a4, a5, a6, a7, a8⟩ hu1 kv kl
  refine br_t (om_eqI (kv.1.trans (om_r0 he fd kl)) G.2.2.1.1) (om_first (p := 1) hu1 (by omega) ?_)
  rintro r rv ⟨q0, q1, q2, q3, a1, a2, a3, a4, a5, a6, a7, a8⟩ hu2 kv kl
  refine br_t (om_eqI (kv.1.trans (om_r1 he fd kl)) G.2.2.2.1.1) (om_first (p := 2) hu2 (by omega) ?_)
  rintro r rv ⟨q0, q1, q2, q3, a1, a2, a3, a4, a5, a6, a7, a8⟩ hu3 kv kl
  exact om_x12 kv (om_r2 he fd kl) om_m6 (fun h => om_271 hp G h hu3) (fun h => om_271 hp G h hu3)
theorem om_211 {post : Int32 → St0 → Prop} {mc ms kc ks : Nat} {x2 x3 x4 x6 x7 x8 x9 x10 x12 : Int32} {n b fx fy la : Int} {q0 q1 q2 q3 : Int32} {a1 a2 a3 a4 a5 a6 a7 a8 : Nat → Int32} (hp : post 1 ()) (G : om_G x6 x7 x8 x9 x10 x12 n b fx fy la) (hu : om_ob (om_2 n b) (q0, q1, q2, q3, a1, a2, a3, a4, a5, a6, a7, a8)) :
    wL_lawOf_211 post mc ms x2 x3 x4 x6 x7 x8 x9 x10 x12 kc ks q0 q1 q2 q3 a1 a2 a3 a4 a5 a6 a7 a8 := by

  have fd := G.2.2.2.2.2
  unfold wL_lawOf_211
  refine om_possible hu ?_
  rintro r ⟨q0, q1, q2, q3, a1, a2, a3, a4, a5, a6, a7, a8⟩ hu1 ka
  have e := om_ra fd (om_La (om_e2_2 n b)) ka
  exact om_xan fd e (fun h => om_228 hp G h hu1) (fun h => om_228 hp G h hu1)
end
section
/-! the law's loop over x -/
def om_inv (n b X fx fy la mn : Int) : Prop :=
  ((∀ t, X < t → t ≤ 6 → ¬ om_is n b t) ∧ fx = 100 ∧ fy = 100 ∧ la = 100 ∧ mn = 0) ∨
  ((X < fx ∧ fx ≤ 6 ∧ b ≤ fx ∧ 2 * fx + 3 * fy = n ∧ -6 ≤ fy ∧ fy ≤ 6) ∧ (∀ t, X < t → t < fx → ¬ om_is n b t) ∧ (X < la ∧ la ≤ 6 ∧ om_is n b la) ∧ (∀ t, la < t → t ≤ 6 → ¬ om_is n b t) ∧ 0 < mn ∧ mn ≤ 6 - X)
theorem om_inv0 {n b X fx fy la mn : Int} (h : om_inv n b X fx fy la mn) (no : ¬ om_is n b X) : om_inv n b (X - 1) fx fy la mn := by
  have N : ∀ t, X - 1 < t → ¬ X < t → ¬ om_is n b t := by
    intro t t1 t2
    rw [show t = X by omega]
    exact no
  rcases h with ⟨k, h⟩ | ⟨⟨f1, f2⟩, k1, ⟨l1, l2⟩, k2, m1, m2⟩
  · refine Or.inl ⟨fun t t1 t2 => ?_, h⟩
    by_cases c : X < t
    · exact k t c t2
    · exact N t t1 c
  · refine Or.inr ⟨⟨by omega, f2⟩, fun t t1 t2 => ?_, ⟨by omega, l2⟩, k2, m1, by omega⟩
    by_cases c : X < t
    · exact k1 t c t2
    · exact N t t1 c
theorem om_inv1 {n b X fx fy la mn y : Int} (h : om_inv n b X fx fy la mn) (x6 : X ≤ 6) (h1 : b ≤ X) (h2 : 2 * X + 3 * y = n) (h3 : -6 ≤ y) (h4 : y ≤ 6) (la' : Int) (hl : (la = 100 ∧ la' = X) ∨ (la ≠ 100 ∧ la' = la)) : om_inv n b (X - 1) X y la' (mn + 1) := by
  rcases h with ⟨k, e1, e2, e3, e4⟩ | ⟨⟨f1, f2⟩, k1, ⟨l1, l2, l3⟩, k2, m1, m2⟩
  · have el : la' = X := by omega
    rw [el]
    exact Or.inr ⟨⟨by omega, x6, h1, h2, h3, h4⟩, fun t t1 t2 => absurd t1 (by omega), ⟨by omega, x6, h1, y, h3, h4, h2⟩, fun t t1 t2 => k t t1 t2, by omega, by omega⟩
  · have el : la' = la := by omega
    rw [el]
    exact Or.inr ⟨⟨by omega, x6, h1, h2, h3, h4⟩, fun t t1 t2 => absurd t1 (by omega), ⟨by omega, l2, l3⟩, k2, by omega, by omega⟩
theorem om_87 {post : Int32 → St0 → Prop} {mc ms kc ks : Nat} {x2 x3 x4 x6 x7 : Int32} {n b : Int} (hp : post 1 ()) (h6 : om_v x6 n 30) (h7 : om_v x7 b 6) :
    ∀ (d : Nat) (x8 x9 x10 x11 x12 : Int32) (fx fy la mn X : Int) (q0 q1 q2 q3 : Int32) (a1 a2 a3 a4 a5 a6 a7 a8 : Nat → Int32), om_v x8 fx 100 → om_v x9 fy 100 → om_v x10 la 100 → om_v x11 mn 13 → om_v x12 X 7 → X + 7 = d → X ≤ 6 → om_inv n b X fx fy la mn → om_ob (om_2 n b) (q0, q1, q2, q3, a1, a2, a3, a4, a5, a6, a7, a8) → wL_lawOf_87 post mc ms x2 x3 x4 x6 x7 kc ks (d + 1) x8 x9 x10 x11 x12 q0 q1 q2 q3 a1 a2 a3 a4 a5 a6 a7 a8 := by
  intro d
  induction d with
  | zero =>
    intro x8 x9 x10 x11 x12 fx fy la mn X q0 q1 q2 q3 a1 a2 a3 a4 a5 a6 a7 a8 h8 h9 h10 h11 h12 hX X6 hi hu
    have eX : X = -7 := by omega
    rw [eX] at hi
    refine br_t ((om_lt h12 om_m6).mpr (by omega)) ⟨fun c => ?_, fun c => ?_⟩
    · rw [om_le h11 om_0] at c
      refine om_211 hp ⟨h6, h7, h8, h9, h10, ?_⟩ hu
      rcases hi with ⟨k, e1, e2, e3, e4⟩ | ⟨_, _, _, _, m1, _⟩
      · exact Or.inl ⟨rfl, fun t t1 t2 => k t (by omega) t2, e1, e2, e3⟩
      · omega
    · rw [om_le h11 om_0] at c
      refine om_211 hp ⟨h6, h7, h8, h9, h10, ?_⟩ hu
      rcases hi with ⟨k, e1, e2, e3, e4⟩ | ⟨⟨f1, f2⟩, k1, ⟨l1, l2⟩, k2, m1, m2⟩
      · omega
      · exact Or.inr ⟨rfl, ⟨by omega, f2⟩, fun t t1 t2 => k1 t (by omega) t2, ⟨by omega, l2⟩, k2⟩
  | succ d ih =>
    intro x8 x9 x10 x11 x12 fx fy la mn X q0 q1 q2 q3 a1 a2 a3 a4 a5 a6 a7 a8 h8 h9 h10 h11 h12 hX X6 hi hu
    have C172 : ∀ (y8 y9 y10 y11 x14 : Int32) (gx gy ga gn : Int), om_v y8 gx 100 → om_v y9 gy 100 → om_v y10 ga 100 → om_v y11 gn 13 → om_inv n b (X - 1) gx gy ga gn → ((x14 = 0 ∧ ¬ om_is n b X) ∨ (x14 = 1 ∧ om_is n b X)) → wL_lawOf_172 post mc ms (wL_lawOf_87 post mc ms x2 x3 x4 x6 x7 kc ks (d + 1)) x2 x3 x4 x6 x7 y8 y9 y10 y11 x12 x14 kc ks q0 q1 q2 q3 a1 a2 a3 a4 a5 a6 a7 a8 := by
      intro y8 y9 y10 y11 x14 gx gy ga gn g8 g9 g10 g11 gi h14
      unfold wL_lawOf_172
      refine om_with (v := 0) (t := X) hu (by omega) ⟨h12.1, by omega, by omega⟩ ?_
      rintro r ⟨q0, q1, q2, q3, a1, a2, a3, a4, a5, a6, a7, a8⟩ hu1 ka
      have ka' := om_ans_c ka (om_L0 (om_e2_2 n b) X6)
      have N : ∀ z0 : Int32, r = z0 → wL_lawOf_190 post mc ms (wL_lawOf_87 post mc ms x2 x3 x4 x6 x7 kc ks (d + 1)) x2 x3 x4 x6 x7 y8 y9 y10 y11 x12 z0 r kc ks q0 q1 q2 q3 a1 a2 a3 a4 a5 a6 a7 a8 :=
        fun z0 e => br_t e (nm_e (ih y8 y9 y10 y11 (x12 + -1) gx gy ga gn (X - 1) _ _ _ _ _ _ _ _ _ _ _ _ g8 g9 g10 g11 ⟨(om_add h12 om_m1 (by decide)).1.trans (by omega), by omega, by omega⟩ (by omega) (by omega) gi hu1))
      rcases h14 with ⟨e, no⟩ | ⟨e, yes⟩
      · refine br_t e (N 0 ?_)
        rcases ka' with ⟨_, k⟩ | ⟨k, _⟩
        · exact absurd k no
        · exact k
      · refine br_f (by rw [e]; decide) (N 1 ?_)
        rcases ka' with ⟨k, _⟩ | ⟨_, k⟩
        · exact k
        · exact absurd yes k
    have h13 : om_v (x6 - 2 * x12) (n - 2 * X) 10000 := om_w (om_sub h6 (om_mul om_v2 h12 (by decide)) (by decide)) (by decide)
    have v3 : om_v 3 3 10000 := ⟨by decide, by decide, by decide⟩
    have K0 : ¬ om_is n b X → wL_lawOf_136 post mc ms (wL_lawOf_87 post mc ms x2 x3 x4 x6 x7 kc ks (d + 1)) x2 x3 x4 x6 x7 x8 x9 x10 x11 x12 (x6 - 2 * x12) 0 kc ks q0 q1 q2 q3 a1 a2 a3 a4 a5 a6 a7 a8 :=
      fun no => br_t rfl (C172 x8 x9 x10 x11 0 fx fy la mn h8 h9 h10 h11 (om_inv0 hi no) (Or.inl ⟨rfl, no⟩))
    have hmn : mn ≤ 12 := by
      rcases hi with ⟨_, _, _, _, e⟩ | ⟨_, _, _, _, _, e⟩
      · omega
      · omega
    have hmn0 : 0 ≤ mn := by
      rcases hi with ⟨_, _, _, _, e⟩ | ⟨_, _, _, _, e, _⟩
      · omega
      · omega
    have K1 : b ≤ X → (n - 2 * X) - (n - 2 * X).tdiv 3 * 3 = 0 → ¬ n - 2 * X < -18 → ¬ 18 < n - 2 * X → wL_lawOf_136 post mc ms (wL_lawOf_87 post mc ms x2 x3 x4 x6 x7 kc ks (d + 1)) x2 x3 x4 x6 x7 x8 x9 x10 x11 x12 (x6 - 2 * x12) 1 kc ks q0 q1 q2 q3 a1 a2 a3 a4 a5 a6 a7 a8 := by
      intro k1 k2 k3 k4
      have hy := om_tdiv h13 v3
      revert hy k2
      generalize (n - 2 * X).tdiv 3 = y
      intro k2 hy
      have hy' : om_v ((x6 - 2 * x12) / 3) y 100 := ⟨hy.1, by omega, by omega⟩
      have yes : om_is n b X := ⟨k1, y, by omega, by omega, by omega⟩
      have h11' : om_v (x11 + 1) (mn + 1) 13 := ⟨(om_add h11 om_1 (by decide)).1, by omega, by omega⟩
      refine br_f (by decide) ⟨by decide, nm_e ⟨fun c => nm_e (C172 x12 _ x12 _ 1 X y X (mn + 1) (om_w h12 (by decide)) hy' (om_w h12 (by decide)) h11' (om_inv1 hi X6 k1 (by omega) (by omega) (by omega) X (Or.inl ⟨?_, rfl⟩)) (Or.inr ⟨rfl, yes⟩)), fun c => nm_e (C172 x12 _ x10 _ 1 X y la (mn + 1) (om_w h12 (by decide)) hy' h10 h11' (om_inv1 hi X6 k1 (by omega) (by omega) (by omega) la (Or.inr ⟨?_, rfl⟩)) (Or.inr ⟨rfl, yes⟩))⟩⟩
      · rw [om_eq h10 om_100] at c; exact c
      · rw [om_eq h10 om_100] at c; exact c
    have t18 : om_v (-18) (-18) 18 := ⟨by decide, by decide, by decide⟩
    have t18' : om_v 18 18 18 := ⟨by decide, by decide, by decide⟩
    refine br_f (fun c => absurd ((om_lt h12 om_m6).mp c) (by omega)) (nm_e ⟨fun c => K0 ?_, fun c => ⟨by decide, ⟨fun c2 => ⟨fun c3 => K0 ?_, fun c3 => ⟨fun c4 => K0 ?_, fun c4 => K1 ?_ ?_ ?_ ?_⟩⟩, fun c2 => K0 ?_⟩⟩⟩)
    · rw [om_lt h12 h7] at c
      rintro ⟨h, _⟩
      omega
    · rw [om_lt h13 t18] at c3
      rintro ⟨_, y, y1, y2, y3⟩
      omega
    · rw [om_lt t18' h13] at c4
      rintro ⟨_, y, y1, y2, y3⟩
      omega
    · rw [om_lt h12 h7] at c
      omega
    · rw [om_eq (om_trem h13 v3) om_0] at c2
      exact c2
    · rw [om_lt h13 t18] at c3
      exact c3
    · rw [om_lt t18' h13] at c4
      exact c4
    · rw [om_eq (om_trem h13 v3) om_0] at c2
      rintro ⟨_, y, y1, y2, y3⟩
      rw [show n - 2 * X = 3 * y by omega, Int.mul_tdiv_cancel_left y (by decide)] at c2
      omega
theorem om_cut {x : Int32} {m j : Nat} (hm : 0 < m) (hm2 : m < 256) (hj : j < 2 ^ 8) (e : x = nI j) : x - x / nI m * nI m = nI (j % m) := by
  rw [e]
  exact pk_rem (by omega) hm (by omega)
theorem om_lawOf {post : Int32 → St0 → Prop} {p0 p1 p2 p3 p4 : Int32} (hp : post 1 ()) : wpL_lawOf post 414 6624 () p0 p1 p2 p3 p4 := by
  obtain ⟨j, hj, ej⟩ := pk_andE p0 (m := 255) 8 (by decide)
  obtain ⟨i, hi, ei⟩ := pk_andE p1 (m := 255) 8 (by decide)
  have en := om_cut (m := 61) (by decide) (by decide) hj ej
  have eb := om_cut (m := 13) (by decide) (by decide) hi ei
  have jm := Nat.mod_lt j (show 0 < 61 by decide)
  have im := Nat.mod_lt i (show 0 < 13 by decide)
  have h6 : om_v (nI (j % 61) - 30) (((j % 61 : Nat) : Int) - 30) 30 := ⟨(om_sub (om_nv (n := j % 61) (B := 60) (by omega) (by decide)) (y := 30) (w := 30) (C := 30) ⟨by decide, by decide, by decide⟩ (by decide)).1, by omega, by omega⟩
  have h7 : om_v (nI (i % 13) - 6) (((i % 13 : Nat) : Int) - 6) 6 := ⟨(om_sub (om_nv (n := i % 13) (B := 12) (by omega) (by decide)) om_6 (by decide)).1, by omega, by omega⟩
  refine ⟨by decide, by decide, 413, 6612, by decide, by decide, ?_⟩
  refine ⟨by decide, by decide, by decide, by decide, by decide, by decide, by decide, by decide, by decide, by decide, by decide, by decide, by decide, by decide, by decide, by decide, ?_⟩
  refine ⟨by decide, nm_r (congrArg (fun t => t - 30) en) ⟨by decide, nm_r (congrArg (fun t => t - 6) eb) ?_⟩⟩
  revert h6 h7
  generalize nI (j % 61) - 30 = x6
  generalize nI (i % 13) - 6 = x7
  generalize ((j % 61 : Nat) : Int) - 30 = n
  generalize ((i % 13 : Nat) : Int) - 6 = b
  intro h6 h7
  refine om_addc (cs := []) (2, 3, 0, n, true) ⟨rfl, rfl, by decide, fun k c h => absurd h (by rw [List.getElem?_nil]; exact fun z => Option.some_ne_none c z.symm)⟩ (by decide) om_l2 om_l3 om_l0 (om_w h6 (by decide)) rfl ?_
  rintro ⟨q0, q1, q2, q3, a1, a2, a3, a4, a5, a6, a7, a8⟩ hu1
  have hu1 : om_ob [(2, 3, 0, n, true)] (q0, q1, q2, q3, a1, a2, a3, a4, a5, a6, a7, a8) := hu1
  refine br_t rfl (om_addc (-1, 0, 0, -b, false) hu1 (show 1 < 8 by decide) om_lm1 om_l0 om_l0 (om_w (om_neg h7 (by decide)) (by decide)) rfl ?_)
  rintro ⟨q0, q1, q2, q3, a1, a2, a3, a4, a5, a6, a7, a8⟩ hu2
  have hu2 : om_ob (om_2 n b) (q0, q1, q2, q3, a1, a2, a3, a4, a5, a6, a7, a8) := hu2
  exact br_t rfl ⟨14, om_87 hp h6 h7 13 100 100 100 0 6 100 100 100 0 6 _ _ _ _ _ _ _ _ _ _ _ _ om_100 om_100 om_100 (om_w om_0 (by decide)) (om_w om_6 (by decide)) (by decide) (by decide) (Or.inl ⟨fun t t1 t2 => absurd t1 (by omega), rfl, rfl, rfl, rfl⟩) hu2⟩
theorem om_cell {post : Int32 → Prop} {L i : Nat} {xs : Nat → Int32} (hL : L ≤ 5) (hi : i < 5) (H : ∀ r, post r) : wpL_cellAt post L xs () (nI i) :=
  pk_le L i (fun _ => H _) (fun z => ⟨pk_in i L z, H _⟩)
theorem i_vc (xs : Nat → Int32) (L : Nat) (hL : L ≤ 5) : wpL_law (fun r => r = 1) L xs := by
  unfold wpL_law
  exact om_cell (i := 0) hL (by omega) (fun r1 => om_cell (i := 1) hL (by omega) (fun r2 => om_cell (i := 2) hL (by omega) (fun r3 => om_cell (i := 3) hL (by omega) (fun r4 => om_cell (i := 4) hL (by omega) (fun r5 => ⟨414, 6624, by decide, by decide, om_lawOf rfl⟩)))))
end
