section
/-! signs -/
theorem zg_pp {c d : Int} (hc : 0 < c) (h : 0 < d * c) : 0 < d := by
  rcases Int.lt_or_le 0 d with z | z
  · exact z
  · have := Int.mul_nonpos_of_nonpos_of_nonneg z (Int.le_of_lt hc); omega
theorem zg_pn {c d : Int} (hc : 0 < c) (h : d * c < 0) : d < 0 := by
  rcases Int.lt_or_le d 0 with z | z
  · exact z
  · have := Int.mul_nonneg z (Int.le_of_lt hc); omega
theorem zg_pz {c d : Int} (hc : 0 < c) (h : d * c = 0) : d = 0 := by
  rcases Int.mul_eq_zero.mp h with z | z
  · exact z
  · omega
theorem zg_sg (x : Int) : 0 < x ∨ x = 0 ∨ x < 0 := by omega
/-- the signs of a product, by cases -/
theorem zg_mc (x y : Int) : (0 < x ∧ 0 < y ∧ 0 < x * y) ∨ (0 < x ∧ y < 0 ∧ x * y < 0) ∨ (x < 0 ∧ 0 < y ∧ x * y < 0) ∨ (x < 0 ∧ y < 0 ∧ 0 < x * y) ∨ (x = 0 ∧ x * y = 0) ∨ (y = 0 ∧ x * y = 0) := by
  rcases zg_sg x with h | h | h
  · rcases zg_sg y with k | k | k
    · exact Or.inl ⟨h, k, Int.mul_pos h k⟩
    · exact Or.inr (Or.inr (Or.inr (Or.inr (Or.inr ⟨k, by rw [k, Int.mul_zero]⟩))))
    · exact Or.inr (Or.inl ⟨h, k, Int.mul_neg_of_pos_of_neg h k⟩)
  · exact Or.inr (Or.inr (Or.inr (Or.inr (Or.inl ⟨h, by rw [h, Int.zero_mul]⟩))))
  · rcases zg_sg y with k | k | k
    · exact Or.inr (Or.inr (Or.inl ⟨h, k, Int.mul_neg_of_neg_of_pos h k⟩))
    · exact Or.inr (Or.inr (Or.inr (Or.inr (Or.inr ⟨k, by rw [k, Int.mul_zero]⟩))))
    · exact Or.inr (Or.inr (Or.inr (Or.inl ⟨h, k, Int.mul_pos_of_neg_of_neg h k⟩)))
/-- crossing of the east ray of a point at height yQ; e > 0: the point lies left of the step -/
def zg_ce (yU yT yQ e : Int) : Int := (if yU ≤ yQ ∧ yQ < yT ∧ 0 < e then 1 else 0) - (if yT ≤ yQ ∧ yQ < yU ∧ e < 0 then 1 else 0)
/-- crossing of the west ray -/
def zg_cw (yU yT yA e : Int) : Int := (if yU ≤ yA ∧ yA < yT ∧ e < 0 then 1 else 0) - (if yT ≤ yA ∧ yA < yU ∧ 0 < e then 1 else 0)
/-- above the curve: west ray of A, A to Q, east ray of Q -/
def zg_ph (yA yQ y d : Int) : Int := if (yA < y ∧ yQ < y) ∨ ((yA < y ∨ yQ < y) ∧ 0 < d) then 1 else 0
theorem zg_d1 {d k eQ eA a q y : Int} (hk : 0 < k) (h : d * k = eQ * (a - y) - eA * (q - y)) (hA : eA < 0) (hQ : eQ < 0) : (a < y → y ≤ q → 0 < d) ∧ (q < y → y ≤ a → d < 0) := by
  refine ⟨fun h1 h2 => zg_pp hk ?_, fun h1 h2 => zg_pn hk ?_⟩
  · have m1 := Int.mul_pos_of_neg_of_neg hQ (show a - y < 0 by omega)
    have m2 := Int.mul_nonpos_of_nonpos_of_nonneg (Int.le_of_lt hA) (show 0 ≤ q - y by omega)
    omega
  · have m1 := Int.mul_pos_of_neg_of_neg hA (show q - y < 0 by omega)
    have m2 := Int.mul_nonpos_of_nonpos_of_nonneg (Int.le_of_lt hQ) (show 0 ≤ a - y by omega)
    omega
theorem zg_ce_sw (yU yT yQ e : Int) : zg_ce yT yU yQ (-e) = - zg_ce yU yT yQ e := by
  unfold zg_ce
  split <;> split <;> split <;> split <;> omega
theorem zg_cw_sw (yU yT yQ e : Int) : zg_cw yT yU yQ (-e) = - zg_cw yU yT yQ e := by
  unfold zg_cw
  split <;> split <;> split <;> split <;> omega
/-- turning the picture upside down: east and west, A and Q change places -/
theorem zg_ce_no {yU yT yQ e : Int} (h : yU < yT → yU ≤ yQ → yQ < yT → e ≤ 0) (h' : yT < yU → yT ≤ yQ → yQ < yU → 0 ≤ e) : zg_ce yU yT yQ e = 0 := by
  unfold zg_ce
  rw [if_neg, if_neg]
  · rfl
  · intro z; have := h' (by omega) (by omega) (by omega); omega
  · intro z; have := h (by omega) (by omega) (by omega); omega
theorem zg_cw_no {yU yT yQ e : Int} (h : yU < yT → yU ≤ yQ → yQ < yT → 0 ≤ e) (h' : yT < yU → yT ≤ yQ → yQ < yU → e ≤ 0) : zg_cw yU yT yQ e = 0 := by
  unfold zg_cw
  rw [if_neg, if_neg]
  · rfl
  · intro z; have := h' (by omega) (by omega) (by omega); omega
  · intro z; have := h (by omega) (by omega) (by omega); omega
/-- rises minus falls at a height -/
def zg_rf (yU yT y : Int) : Int := (if y < yT then 1 else 0) - (if y < yU then 1 else 0)
theorem zg_ce_yes {yU yT yQ e : Int} (h : yU ≤ yQ → yQ < yT → 0 < e) (h' : yT ≤ yQ → yQ < yU → e < 0) : zg_ce yU yT yQ e = zg_rf yU yT yQ := by
  unfold zg_ce zg_rf
  rcases Int.lt_or_le yQ yT with a | a <;> rcases Int.lt_or_le yQ yU with b | b
  · rw [if_neg (by omega), if_neg (by omega), if_pos a, if_pos b]; rfl
  · rw [if_pos ⟨b, a, h b a⟩, if_neg (by omega), if_pos a, if_neg (by omega)]
  · rw [if_neg (by omega), if_pos ⟨a, b, h' a b⟩, if_neg (by omega), if_pos b]
  · rw [if_neg (by omega), if_neg (by omega), if_neg (by omega), if_neg (by omega)]
theorem zg_cw_yes {yU yT yQ e : Int} (h : yU ≤ yQ → yQ < yT → e < 0) (h' : yT ≤ yQ → yQ < yU → 0 < e) : zg_cw yU yT yQ e = zg_rf yU yT yQ := by
  unfold zg_cw zg_rf
  rcases Int.lt_or_le yQ yT with a | a <;> rcases Int.lt_or_le yQ yU with b | b
  · rw [if_neg (by omega), if_neg (by omega), if_pos a, if_pos b]; rfl
  · rw [if_pos ⟨b, a, h b a⟩, if_neg (by omega), if_pos a, if_neg (by omega)]
  · rw [if_neg (by omega), if_pos ⟨a, b, h' a b⟩, if_neg (by omega), if_pos b]
  · rw [if_neg (by omega), if_neg (by omega), if_neg (by omega), if_neg (by omega)]
theorem zg_ph_A {yA yQ y d : Int} (h : yA < y → y ≤ yQ → 0 < d) (h' : yQ < y → y ≤ yA → d ≤ 0) : zg_ph yA yQ y d = if yA < y then 1 else 0 := by
  unfold zg_ph
  rcases Int.lt_or_le yA y with z | z
  · rw [if_pos z, if_pos]
    rcases Int.lt_or_le yQ y with w | w
    · exact Or.inl ⟨z, w⟩
    · exact Or.inr ⟨Or.inl z, h z w⟩
  · rw [if_neg (show ¬ yA < y by omega), if_neg]
    rintro (w | w)
    · omega
    · have := h' (by omega) z; omega
theorem zg_ph_Q {yA yQ y d : Int} (h : yQ < y → y ≤ yA → 0 < d) (h' : yA < y → y ≤ yQ → d ≤ 0) : zg_ph yA yQ y d = if yQ < y then 1 else 0 := by
  unfold zg_ph
  rcases Int.lt_or_le yQ y with z | z
  · rw [if_pos z, if_pos]
    rcases Int.lt_or_le yA y with w | w
    · exact Or.inl ⟨w, z⟩
    · exact Or.inr ⟨Or.inr z, h z w⟩
  · rw [if_neg (show ¬ yQ < y by omega), if_neg]
    rintro (w | w)
    · omega
    · have := h' (by omega) z; omega
theorem zg_si1 {dU dT eA eQ yU yT yA yQ : Int} (r0 : dT - dU + eQ - eA = 0) (r1 : dT * yU - dU * yT + eQ * yA - eA * yQ = 0) (hA : eA < 0) (hQ : eQ < 0) :
    zg_ce yU yT yQ eQ + zg_cw yU yT yA eA = zg_ph yA yQ yT dT - zg_ph yA yQ yU dU := by
  have RU : dU * (yT - yU) = eQ * (yA - yU) - eA * (yQ - yU) := by grind
  have RT : dT * (yT - yU) = eQ * (yA - yT) - eA * (yQ - yT) := by grind
  rcases Int.lt_trichotomy yU yT with h | h | h
  · have k : 0 < yT - yU := by omega
    have a := zg_d1 k RU hA hQ
    have b := zg_d1 k RT hA hQ
    rw [zg_ph_A b.1 (fun x y => Int.le_of_lt (b.2 x y)), zg_ph_A a.1 (fun x y => Int.le_of_lt (a.2 x y)), zg_ce_no (fun _ _ _ => Int.le_of_lt hQ) (fun z => absurd z (by omega)), zg_cw_yes (fun _ _ => hA) (fun x y => absurd x (by omega))]
    unfold zg_rf; omega
  · subst h
    rw [Int.sub_self, Int.mul_zero] at RU
    have n1 : ¬ (yA < yU ∧ yU ≤ yQ) := by
      intro z
      have m1 := Int.mul_pos_of_neg_of_neg hQ (show yA - yU < 0 by omega)
      have m2 := Int.mul_nonpos_of_nonpos_of_nonneg (Int.le_of_lt hA) (show 0 ≤ yQ - yU by omega)
      omega
    have n2 : ¬ (yQ < yU ∧ yU ≤ yA) := by
      intro z
      have m1 := Int.mul_pos_of_neg_of_neg hA (show yQ - yU < 0 by omega)
      have m2 := Int.mul_nonpos_of_nonpos_of_nonneg (Int.le_of_lt hQ) (show 0 ≤ yA - yU by omega)
      omega
    rw [zg_ph_A (fun x y => absurd ⟨x, y⟩ n1) (fun x y => absurd ⟨x, y⟩ n2), zg_ph_A (fun x y => absurd ⟨x, y⟩ n1) (fun x y => absurd ⟨x, y⟩ n2), zg_ce_no (fun z => absurd z (by omega)) (fun z => absurd z (by omega)), zg_cw_no (fun z => absurd z (by omega)) (fun z => absurd z (by omega))]
    omega
  · have k : 0 < yU - yT := by omega
    have RU' : (-dU) * (yU - yT) = eQ * (yA - yU) - eA * (yQ - yU) := by grind
    have RT' : (-dT) * (yU - yT) = eQ * (yA - yT) - eA * (yQ - yT) := by grind
    have a := zg_d1 k RU' hA hQ
    have b := zg_d1 k RT' hA hQ
    have a1 : yQ < yU → yU ≤ yA → 0 < dU := fun x y => by have := a.2 x y; omega
    have a2 : yA < yU → yU ≤ yQ → dU ≤ 0 := fun x y => by have := a.1 x y; omega
    have b1 : yQ < yT → yT ≤ yA → 0 < dT := fun x y => by have := b.2 x y; omega
    have b2 : yA < yT → yT ≤ yQ → dT ≤ 0 := fun x y => by have := b.1 x y; omega
    rw [zg_ph_Q b1 b2, zg_ph_Q a1 a2, zg_ce_yes (fun x y => absurd x (by omega)) (fun _ _ => hQ), zg_cw_no (fun z => absurd z (by omega)) (fun _ _ _ => Int.le_of_lt hA)]
    unfold zg_rf; omega
theorem zg_d2 {e k dT dU u t y : Int} (hk : 0 < k) (h : e * k = dT * (u - y) - dU * (t - y)) (hU : 0 < dU) (hT : 0 < dT) : (u ≤ y → y < t → e < 0) ∧ (t ≤ y → y < u → 0 < e) := by
  refine ⟨fun h1 h2 => zg_pn hk ?_, fun h1 h2 => zg_pp hk ?_⟩
  · have m1 := Int.mul_pos hU (show 0 < t - y by omega)
    have m2 := Int.mul_nonpos_of_nonneg_of_nonpos (Int.le_of_lt hT) (show u - y ≤ 0 by omega)
    omega
  · have m1 := Int.mul_pos hT (show 0 < u - y by omega)
    have m2 := Int.mul_nonpos_of_nonneg_of_nonpos (Int.le_of_lt hU) (show t - y ≤ 0 by omega)
    omega
theorem zg_d2z {dT dU u t y : Int} (h : 0 = dT * (u - y) - dU * (t - y)) (hU : 0 < dU) (hT : 0 < dT) : ¬ (u ≤ y ∧ y < t) ∧ ¬ (t ≤ y ∧ y < u) := by
  refine ⟨fun z => ?_, fun z => ?_⟩
  · have m1 := Int.mul_pos hU (show 0 < t - y by omega)
    have m2 := Int.mul_nonpos_of_nonneg_of_nonpos (Int.le_of_lt hT) (show u - y ≤ 0 by omega)
    omega
  · have m1 := Int.mul_pos hT (show 0 < u - y by omega)
    have m2 := Int.mul_nonpos_of_nonneg_of_nonpos (Int.le_of_lt hU) (show t - y ≤ 0 by omega)
    omega
/-- U, T left of A to Q -/
theorem zg_si2 {dU dT eA eQ yU yT yA yQ : Int} (r0 : dT - dU + eQ - eA = 0) (r1 : dT * yU - dU * yT + eQ * yA - eA * yQ = 0) (hA : 0 < dU) (hQ : 0 < dT) :
    zg_ce yU yT yQ eQ + zg_cw yU yT yA eA = zg_ph yA yQ yT dT - zg_ph yA yQ yU dU := by
  have RA : eA * (yQ - yA) = dT * (yU - yA) - dU * (yT - yA) := by grind
  have RQ : eQ * (yQ - yA) = dT * (yU - yQ) - dU * (yT - yQ) := by grind
  rcases Int.lt_trichotomy yA yQ with h | h | h
  · have k : 0 < yQ - yA := by omega
    have a := zg_d2 k RA hA hQ
    have b := zg_d2 k RQ hA hQ
    rw [zg_ph_A (fun _ _ => hQ) (fun x y => absurd x (by omega)), zg_ph_A (fun _ _ => hA) (fun x y => absurd x (by omega)), zg_cw_yes a.1 a.2, zg_ce_no (fun _ x y => Int.le_of_lt (b.1 x y)) (fun _ x y => Int.le_of_lt (b.2 x y))]
    unfold zg_rf; omega
  · subst h
    rw [Int.sub_self, Int.mul_zero] at RA
    have n := zg_d2z RA hA hQ
    have e1 : zg_ce yU yT yA eQ = 0 := zg_ce_no (fun _ x y => absurd ⟨x, y⟩ n.1) (fun _ x y => absurd ⟨x, y⟩ n.2)
    have e2 : zg_cw yU yT yA eA = 0 := zg_cw_no (fun _ x y => absurd ⟨x, y⟩ n.1) (fun _ x y => absurd ⟨x, y⟩ n.2)
    rw [e1, e2, zg_ph_A (fun x y => absurd x (by omega)) (fun x y => absurd x (by omega)), zg_ph_A (fun x y => absurd x (by omega)) (fun x y => absurd x (by omega))]
    split <;> split <;> omega
  · have k : 0 < yA - yQ := by omega
    have RA' : (-eA) * (yA - yQ) = dT * (yU - yA) - dU * (yT - yA) := by grind
    have RQ' : (-eQ) * (yA - yQ) = dT * (yU - yQ) - dU * (yT - yQ) := by grind
    have a := zg_d2 k RA' hA hQ
    have b := zg_d2 k RQ' hA hQ
    rw [zg_ph_Q (fun _ _ => hQ) (fun x y => absurd x (by omega)), zg_ph_Q (fun _ _ => hA) (fun x y => absurd x (by omega)),
      zg_cw_no (fun _ x y => by have := a.1 x y; omega) (fun _ x y => by have := a.2 x y; omega), zg_ce_yes (fun x y => by have := b.1 x y; omega) (fun x y => by have := b.2 x y; omega)]
    unfold zg_rf; omega
/-- U, T right of A to Q -/
theorem zg_si3 {dU dT eA eQ yU yT yA yQ : Int} (r0 : dT - dU + eQ - eA = 0) (r1 : dT * yU - dU * yT + eQ * yA - eA * yQ = 0) (hA : dU < 0) (hQ : dT < 0) :
    zg_ce yU yT yQ eQ + zg_cw yU yT yA eA = zg_ph yA yQ yT dT - zg_ph yA yQ yU dU := by
  have RA : eA * (yQ - yA) = dT * (yU - yA) - dU * (yT - yA) := by grind
  rcases Int.lt_trichotomy yA yQ with h | h | h
  · have k : 0 < yQ - yA := by omega
    have RA' : (-eA) * (yQ - yA) = (-dT) * (yU - yA) - (-dU) * (yT - yA) := by grind
    have RQ' : (-eQ) * (yQ - yA) = (-dT) * (yU - yQ) - (-dU) * (yT - yQ) := by grind
    have a := zg_d2 k RA' (by omega) (by omega)
    have b := zg_d2 k RQ' (by omega) (by omega)
    rw [zg_ph_Q (fun x y => absurd x (by omega)) (fun _ _ => Int.le_of_lt hQ), zg_ph_Q (fun x y => absurd x (by omega)) (fun _ _ => Int.le_of_lt hA),
      zg_cw_no (fun _ x y => by have := a.1 x y; omega) (fun _ x y => by have := a.2 x y; omega), zg_ce_yes (fun x y => by have := b.1 x y; omega) (fun x y => by have := b.2 x y; omega)]
    unfold zg_rf; omega
  · subst h
    have RA' : 0 = (-dT) * (yU - yA) - (-dU) * (yT - yA) := by grind
    have n := zg_d2z RA' (by omega) (by omega)
    have e1 : zg_ce yU yT yA eQ = 0 := zg_ce_no (fun _ x y => absurd ⟨x, y⟩ n.1) (fun _ x y => absurd ⟨x, y⟩ n.2)
    have e2 : zg_cw yU yT yA eA = 0 := zg_cw_no (fun _ x y => absurd ⟨x, y⟩ n.1) (fun _ x y => absurd ⟨x, y⟩ n.2)
    rw [e1, e2, zg_ph_A (fun x y => absurd x (by omega)) (fun x y => absurd x (by omega)), zg_ph_A (fun x y => absurd x (by omega)) (fun x y => absurd x (by omega))]
    split <;> split <;> omega
  · have k : 0 < yA - yQ := by omega
    have RA' : eA * (yA - yQ) = (-dT) * (yU - yA) - (-dU) * (yT - yA) := by grind
    have RQ' : eQ * (yA - yQ) = (-dT) * (yU - yQ) - (-dU) * (yT - yQ) := by grind
    have a := zg_d2 k RA' (by omega) (by omega)
    have b := zg_d2 k RQ' (by omega) (by omega)
    rw [zg_ph_A (fun x y => absurd x (by omega)) (fun _ _ => Int.le_of_lt hQ), zg_ph_A (fun x y => absurd x (by omega)) (fun _ _ => Int.le_of_lt hA),
      zg_cw_yes a.1 a.2, zg_ce_no (fun _ x y => Int.le_of_lt (b.1 x y)) (fun _ x y => Int.le_of_lt (b.2 x y))]
    unfold zg_rf; omega
/-- the separation identity -/
theorem zg_si {dU dT eA eQ yU yT yA yQ : Int} (r0 : dT - dU + eQ - eA = 0) (r1 : dT * yU - dU * yT + eQ * yA - eA * yQ = 0)
    (hs : (0 < dU ∧ 0 < dT) ∨ (dU < 0 ∧ dT < 0) ∨ (0 < eA ∧ 0 < eQ) ∨ (eA < 0 ∧ eQ < 0)) :
    zg_ce yU yT yQ eQ + zg_cw yU yT yA eA = zg_ph yA yQ yT dT - zg_ph yA yQ yU dU := by
  rcases hs with ⟨h1, h2⟩ | ⟨h1, h2⟩ | ⟨h1, h2⟩ | ⟨h1, h2⟩
  · exact zg_si2 r0 r1 h1 h2
  · exact zg_si3 r0 r1 h1 h2
  · have h := zg_si1 (dU := dT) (dT := dU) (eA := -eA) (eQ := -eQ) (yU := yT) (yT := yU) (yA := yA) (yQ := yQ) (by omega) (by grind) (by omega) (by omega)
    rw [zg_ce_sw, zg_cw_sw] at h
    omega
  · exact zg_si1 r0 r1 h1 h2
/-- after: the vector (vx, vy) comes after p in the counterclockwise order that begins at exact west; D is p cross v -/
def zg_af (vx vy py D : Int) : Int := if ((0 < vy ∨ (vy = 0 ∧ 0 < vx)) ∧ py < 0) ∨ (((0 < vy ∨ (vy = 0 ∧ 0 < vx)) ↔ 0 < py) ∧ 0 < D) then 1 else 0
theorem zg_in0 {vx vy px py D k : Int} (hp : py ≠ 0) (hk : 0 < k) (hD : D * k = px * vy - py * vx) (h0 : D ≠ 0) : zg_ce 0 vy py (-D) = zg_ph 0 py vy D - zg_af vx vy py D := by
  rcases zg_sg vy with h | h | h
  · clear hD hk
    unfold zg_ce zg_ph zg_af
    split <;> split <;> split <;> split <;> omega
  · subst h
    rw [Int.mul_zero, Int.zero_sub] at hD
    have hD' : py * vx = -(D * k) := by omega
    have s : (0 < vx ∧ 0 < py ∧ D < 0) ∨ (0 < vx ∧ py < 0 ∧ 0 < D) ∨ (vx < 0 ∧ 0 < py ∧ 0 < D) ∨ (vx < 0 ∧ py < 0 ∧ D < 0) := by
      rcases zg_mc D k with a | a | a | a | a | a <;> rcases zg_mc py vx with b | b | b | b | b | b <;> omega
    clear hD hD' hk
    unfold zg_ce zg_ph zg_af
    split <;> split <;> split <;> split <;> omega
  · clear hD hk
    unfold zg_ce zg_ph zg_af
    split <;> split <;> split <;> split <;> omega
theorem zg_ce_tr (yU yT yQ e c : Int) : zg_ce (yU - c) (yT - c) (yQ - c) e = zg_ce yU yT yQ e := by
  unfold zg_ce
  split <;> split <;> split <;> split <;> omega
theorem zg_ph_tr (yA yQ y d c : Int) : zg_ph (yA - c) (yQ - c) (y - c) d = zg_ph yA yQ y d := by
  unfold zg_ph
  split <;> split <;> omega
/-- the incident identity: a step that leaves A -/
theorem zg_in {vx px yA yT yQ D k : Int} (hp : yQ ≠ yA) (hk : 0 < k) (hD : D * k = px * (yT - yA) - (yQ - yA) * vx) (h0 : D ≠ 0) :
    zg_ce yA yT yQ (-D) = zg_ph yA yQ yT D - zg_af vx (yT - yA) (yQ - yA) D := by
  have h := zg_in0 (vx := vx) (vy := yT - yA) (px := px) (py := yQ - yA) (by omega) hk hD h0
  have e1 := zg_ce_tr yA yT yQ (-D) yA
  have e2 := zg_ph_tr yA yQ yT D yA
  rw [Int.sub_self] at e1 e2
  rw [← e1, ← e2]; exact h
end
section
/-! the thin segment from a to its side point, and pieces that don't cross -/
def zg_nc (a1 a2 b1 b2 u1 u2 t1 t2 : Int) : Prop := ∀ n i j : Int, 0 < n → 0 ≤ i → i ≤ n → 0 ≤ j → j ≤ n →
  (n - i) * a1 + i * b1 = (n - j) * u1 + j * t1 → (n - i) * a2 + i * b2 = (n - j) * u2 + j * t2 → (i = 0 ∨ i = n) ∧ (j = 0 ∨ j = n)
theorem zg_nc_s {a1 a2 b1 b2 u1 u2 t1 t2 : Int} (h : zg_nc a1 a2 b1 b2 u1 u2 t1 t2) : zg_nc a1 a2 b1 b2 t1 t2 u1 u2 := by
  intro n i j hn hi hi' hj hj' e1 e2
  have := h n i (n - j) hn hi hi' (by omega) (by omega) (by grind) (by grind)
  omega
theorem zg_nc_r {a1 a2 b1 b2 u1 u2 t1 t2 : Int} (h : zg_nc a1 a2 b1 b2 u1 u2 t1 t2) : zg_nc b1 b2 a1 a2 u1 u2 t1 t2 := by
  intro n i j hn hi hi' hj hj' e1 e2
  have := h n (n - i) j hn (by omega) (by omega) hj hj' (by grind) (by grind)
  omega
theorem zg_nc_c {a1 a2 b1 b2 u1 u2 t1 t2 : Int} (h : zg_nc a1 a2 b1 b2 u1 u2 t1 t2) : zg_nc u1 u2 t1 t2 a1 a2 b1 b2 := by
  intro n i j hn hi hi' hj hj' e1 e2
  have := h n j i hn hj hj' hi hi' e1.symm e2.symm
  omega
theorem zg_sq {x y : Int} (h : ¬ (x = 0 ∧ y = 0)) : 0 < x * x + y * y := by
  rcases zg_mc x x with a | a | a | a | a | a <;> rcases zg_mc y y with b | b | b | b | b | b <;> omega
theorem zg_bd {x y : Int} (h1 : -9 ≤ x) (h2 : x ≤ 9) (h3 : -9 ≤ y) (h4 : y ≤ 9) : -81 ≤ x * y ∧ x * y ≤ 81 := by
  have a := Int.mul_nonneg (show 0 ≤ 9 - x by omega) (show 0 ≤ 9 - y by omega)
  have b := Int.mul_nonneg (show 0 ≤ 9 + x by omega) (show 0 ≤ 9 + y by omega)
  have c := Int.mul_nonneg (show 0 ≤ 9 - x by omega) (show 0 ≤ 9 + y by omega)
  have d := Int.mul_nonneg (show 0 ≤ 9 + x by omega) (show 0 ≤ 9 - y by omega)
  have ea : (9 - x) * (9 - y) = 81 - 9 * x - 9 * y + x * y := by grind
  have eb : (9 + x) * (9 + y) = 81 + 9 * x + 9 * y + x * y := by grind
  have ec : (9 - x) * (9 + y) = 81 - 9 * x + 9 * y - x * y := by grind
  have ed : (9 + x) * (9 - y) = 81 + 9 * x - 9 * y - x * y := by grind
  omega
/-- collinear pieces that don't overlap: u, t on one side of a -/
theorem zg_col {a1 a2 p1 p2 v1 v2 w1 w2 : Int} (hn : zg_nc a1 a2 (a1 + p1) (a2 + p2) (a1 + v1) (a2 + v2) (a1 + w1) (a2 + w2))
    (hp : ¬ (p1 = 0 ∧ p2 = 0)) (hv : ¬ (v1 = 0 ∧ v2 = 0)) (hw : ¬ (w1 = 0 ∧ w2 = 0)) (dv : p1 * v2 - p2 * v1 = 0) (dw : p1 * w2 - p2 * w1 = 0) :
    (0 < p1 * v1 + p2 * v2 ∧ 0 < p1 * w1 + p2 * w2) ∨ (p1 * v1 + p2 * v2 < 0 ∧ p1 * w1 + p2 * w2 < 0) := by
  have P := zg_sq hp
  have V := zg_sq hv
  have Wq := zg_sq hw
  have k1 : (v1 * w1 + v2 * w2) * (p1 * p1 + p2 * p2) = (p1 * v1 + p2 * v2) * (p1 * w1 + p2 * w2) + (p1 * v2 - p2 * v1) * (p1 * w2 - p2 * w1) := by grind
  have k2 : (v1 * w2 - v2 * w1) * (p1 * p1 + p2 * p2) = (p1 * v1 + p2 * v2) * (p1 * w2 - p2 * w1) - (p1 * v2 - p2 * v1) * (p1 * w1 + p2 * w2) := by grind
  rw [dv, Int.zero_mul, Int.add_zero] at k1
  rw [dv, dw, Int.zero_mul, Int.mul_zero, Int.sub_zero] at k2
  have k2' := zg_pz P k2
  rcases Int.lt_or_le 0 (v1 * w1 + v2 * w2) with z | z
  · have q := Int.mul_pos z P
    rw [k1] at q
    rcases zg_mc (p1 * v1 + p2 * v2) (p1 * w1 + p2 * w2) with a | a | a | a | a | a
    · exact Or.inl ⟨a.1, a.2.1⟩
    · omega
    · omega
    · exact Or.inr ⟨a.1, a.2.1⟩
    · omega
    · omega
  · exfalso
    have e1 : (w1 - v1) * (w1 - v1) + (w2 - v2) * (w2 - v2) = (w1 * w1 + w2 * w2) + (v1 * v1 + v2 * v2) - 2 * (v1 * w1 + v2 * w2) := by grind
    have N : 0 < (w1 - v1) * (w1 - v1) + (w2 - v2) * (w2 - v2) := by omega
    have h := hn ((w1 - v1) * (w1 - v1) + (w2 - v2) * (w2 - v2)) 0 ((v1 * v1 + v2 * v2) - (v1 * w1 + v2 * w2)) N (by omega) (by omega) (by omega) (by omega) (by grind) (by grind)
    rcases h.2 with h | h
    · omega
    · omega
theorem zg_end {x y k : Int} (hk : k ≠ 0) (h1 : x * k = 0) (h2 : y * k = 0) : x = 0 ∧ y = 0 := by
  refine ⟨?_, ?_⟩
  · rcases Int.mul_eq_zero.mp h1 with z | z
    · exact z
    · exact absurd z hk
  · rcases Int.mul_eq_zero.mp h2 with z | z
    · exact z
    · exact absurd z hk
/-- what not crossing says in signs, for a step that doesn't touch a -/
theorem zg_ncC {a1 a2 p1 p2 v1 v2 w1 w2 : Int} (hn : zg_nc a1 a2 (a1 + p1) (a2 + p2) (a1 + v1) (a2 + v2) (a1 + w1) (a2 + w2))
    (hp : ¬ (p1 = 0 ∧ p2 = 0)) (hv : ¬ (v1 = 0 ∧ v2 = 0)) (hw : ¬ (w1 = 0 ∧ w2 = 0)) (dv dw ea eb pv pw : Int)
    (edv : dv = p1 * v2 - p2 * v1) (edw : dw = p1 * w2 - p2 * w1) (eea : ea = v1 * w2 - v2 * w1) (eeb : eb = (w1 - v1) * (p2 - v2) - (w2 - v2) * (p1 - v1))
    (epv : pv = p1 * v1 + p2 * v2) (epw : pw = p1 * w1 + p2 * w2) :
    (0 < dv ∧ 0 < dw) ∨ (dv < 0 ∧ dw < 0) ∨ (0 < ea ∧ 0 < eb) ∨ (ea < 0 ∧ eb < 0) ∨
    (dv = 0 ∧ dw = 0 ∧ ((0 < pv ∧ 0 < pw) ∨ (pv < 0 ∧ pw < 0))) ∨
    (v1 = p1 ∧ v2 = p2 ∧ dw ≠ 0) ∨ (w1 = p1 ∧ w2 = p2 ∧ dv ≠ 0) := by
  have k0 : dw - dv = ea - eb := by grind
  by_cases z : dv = 0 ∧ dw = 0
  · have := zg_col hn hp hv hw (by omega) (by omega)
    rw [← epv, ← epw] at this
    exact Or.inr (Or.inr (Or.inr (Or.inr (Or.inl ⟨z.1, z.2, this⟩))))
  · by_cases y : (0 < dv ∧ 0 < dw) ∨ (dv < 0 ∧ dw < 0) ∨ (0 < ea ∧ 0 < eb) ∨ (ea < 0 ∧ eb < 0)
    · omega
    · have f1 : ea * p1 = (dw - dv) * v1 - dv * (w1 - v1) := by grind
      have f2 : ea * p2 = (dw - dv) * v2 - dv * (w2 - v2) := by grind
      have h : (ea = 0 ∨ ea = dw - dv) ∧ (dv = 0 ∨ dw = 0) := by
        rcases Int.lt_trichotomy dv dw with x | x | x
        · have h := hn (dw - dv) ea (-dv) (by omega) (by omega) (by omega) (by omega) (by omega) (by grind) (by grind)
          omega
        · omega
        · have h := hn (dv - dw) (-ea) dv (by omega) (by omega) (by omega) (by omega) (by omega) (by grind) (by grind)
          omega
      clear hn edv edw eea eeb k0 epv epw
      rcases h with ⟨h1 | h1, h2 | h2⟩
      · rw [h1, h2] at f1 f2
        have := zg_end (x := v1) (y := v2) (k := dw) (by omega) (by grind) (by grind)
        exact absurd this hv
      · rw [h1, h2] at f1 f2
        have := zg_end (x := w1) (y := w2) (k := dv) (by omega) (by grind) (by grind)
        exact absurd this hw
      · rw [h1, h2] at f1 f2
        have := zg_end (x := v1 - p1) (y := v2 - p2) (k := dw) (by omega) (by grind) (by grind)
        omega
      · rw [h1, h2] at f1 f2
        have := zg_end (x := w1 - p1) (y := w2 - p2) (k := dv) (by omega) (by grind) (by grind)
        omega
end
section
/-! the per-step identity at a side point -/
theorem zg_cw_sc (v w e : Int) : zg_cw (2000 * v) (2000 * w) 0 (2000 * e) = zg_cw v w 0 e := by
  unfold zg_cw
  split <;> split <;> split <;> split <;> omega
theorem zg_sep {a1 a2 p1 p2 v1 v2 w1 w2 sg : Int} (hn : zg_nc a1 a2 (a1 + p1) (a2 + p2) (a1 + v1) (a2 + v2) (a1 + w1) (a2 + w2))
    (hp : ¬ (p1 = 0 ∧ p2 = 0)) (hv : ¬ (v1 = 0 ∧ v2 = 0)) (hw : ¬ (w1 = 0 ∧ w2 = 0)) (hsg : sg = 1 ∨ sg = -1)
    (bp1 : -9 ≤ p1 ∧ p1 ≤ 9) (bp2 : -9 ≤ p2 ∧ p2 ≤ 9) (bv1 : -9 ≤ v1 ∧ v1 ≤ 9) (bv2 : -9 ≤ v2 ∧ v2 ≤ 9) (bw1 : -9 ≤ w1 ∧ w1 ≤ 9) (bw2 : -9 ≤ w2 ∧ w2 ≤ 9)
    (bd1 : -9 ≤ w1 - v1 ∧ w1 - v1 ≤ 9) (bd2 : -9 ≤ w2 - v2 ∧ w2 - v2 ≤ 9) (dv dw ea pv pw : Int)
    (edv : dv = p1 * v2 - p2 * v1) (edw : dw = p1 * w2 - p2 * w1) (eea : ea = v1 * w2 - v2 * w1)
    (epv : pv = p1 * v1 + p2 * v2) (epw : pw = p1 * w1 + p2 * w2) :
    (0 < 1000 * dv - 2 * (sg * pv) ∧ 0 < 1000 * dw - 2 * (sg * pw)) ∨ (1000 * dv - 2 * (sg * pv) < 0 ∧ 1000 * dw - 2 * (sg * pw) < 0) ∨
    (0 < 2000 * ea ∧ 0 < 1000 * (ea + (ea - dw + dv)) + 2 * (sg * (pw - pv))) ∨ (2000 * ea < 0 ∧ 1000 * (ea + (ea - dw + dv)) + 2 * (sg * (pw - pv)) < 0) := by
  have c := zg_ncC hn hp hv hw dv dw ea _ pv pw edv edw eea rfl epv epw
  have k0 : (w1 - v1) * (p2 - v2) - (w2 - v2) * (p1 - v1) = ea - dw + dv := by grind
  rw [k0] at c
  have P := zg_sq hp
  have b1 := zg_bd bp1.1 bp1.2 bv1.1 bv1.2
  have b2 := zg_bd bp2.1 bp2.2 bv2.1 bv2.2
  have b3 := zg_bd bp1.1 bp1.2 bw1.1 bw1.2
  have b4 := zg_bd bp2.1 bp2.2 bw2.1 bw2.2
  have b5 := zg_bd bp1.1 bp1.2 bd1.1 bd1.2
  have b6 := zg_bd bp2.1 bp2.2 bd2.1 bd2.2
  have e5 : pw - pv = p1 * (w1 - v1) + p2 * (w2 - v2) := by grind
  have cv : v1 = p1 → v2 = p2 → dv = 0 ∧ pv = p1 * p1 + p2 * p2 ∧ ea = dw := by
    intro h1 h2; subst h1; subst h2
    refine ⟨by grind, by grind, by grind⟩
  have cw' : w1 = p1 → w2 = p2 → dw = 0 ∧ pw = p1 * p1 + p2 * p2 ∧ ea = -dv := by
    intro h1 h2; subst h1; subst h2
    refine ⟨by grind, by grind, by grind⟩
  generalize p1 * p1 + p2 * p2 = PP at *
  generalize p1 * (w1 - v1) = x5 at *
  generalize p2 * (w2 - v2) = x6 at *
  generalize p1 * v1 = x1 at *
  generalize p2 * v2 = x2 at *
  generalize p1 * w1 = x3 at *
  generalize p2 * w2 = x4 at *
  clear hn k0 edv edw eea
  rcases hsg with h | h
  · subst h
    rw [Int.one_mul, Int.one_mul, Int.one_mul]
    omega
  · subst h
    rw [Int.neg_one_mul, Int.neg_one_mul, Int.neg_one_mul]
    omega
/-- relative to a: a step that doesn't touch a -/
theorem zg_vr {a1 a2 p1 p2 v1 v2 w1 w2 sg : Int} (hn : zg_nc a1 a2 (a1 + p1) (a2 + p2) (a1 + v1) (a2 + v2) (a1 + w1) (a2 + w2))
    (hp : ¬ (p1 = 0 ∧ p2 = 0)) (hv : ¬ (v1 = 0 ∧ v2 = 0)) (hw : ¬ (w1 = 0 ∧ w2 = 0)) (hsg : sg = 1 ∨ sg = -1)
    (bp1 : -9 ≤ p1 ∧ p1 ≤ 9) (bp2 : -9 ≤ p2 ∧ p2 ≤ 9) (bv1 : -9 ≤ v1 ∧ v1 ≤ 9) (bv2 : -9 ≤ v2 ∧ v2 ≤ 9) (bw1 : -9 ≤ w1 ∧ w1 ≤ 9) (bw2 : -9 ≤ w2 ∧ w2 ≤ 9)
    (bd1 : -9 ≤ w1 - v1 ∧ w1 - v1 ≤ 9) (bd2 : -9 ≤ w2 - v2 ∧ w2 - v2 ≤ 9) (q1 q2 : Int) (e1 : q1 = 1000 * p1 - 2 * (sg * p2)) (e2 : q2 = 1000 * p2 + 2 * (sg * p1)) :
    zg_ce (2000 * v2) (2000 * w2) q2 ((w1 - v1) * (q2 - 2000 * v2) - (w2 - v2) * (q1 - 2000 * v1)) + zg_cw v2 w2 0 (v1 * w2 - v2 * w1)
      = zg_ph 0 q2 (2000 * w2) (q1 * w2 - q2 * w1) - zg_ph 0 q2 (2000 * v2) (q1 * v2 - q2 * v1) := by
  have s := zg_sep hn hp hv hw hsg bp1 bp2 bv1 bv2 bw1 bw2 bd1 bd2 _ _ _ _ _ rfl rfl rfl rfl rfl
  have f1 : 1000 * (p1 * v2 - p2 * v1) - 2 * (sg * (p1 * v1 + p2 * v2)) = q1 * v2 - q2 * v1 := by grind
  have f2 : 1000 * (p1 * w2 - p2 * w1) - 2 * (sg * (p1 * w1 + p2 * w2)) = q1 * w2 - q2 * w1 := by grind
  have f3 : 1000 * (v1 * w2 - v2 * w1 + (v1 * w2 - v2 * w1 - (p1 * w2 - p2 * w1) + (p1 * v2 - p2 * v1))) + 2 * (sg * (p1 * w1 + p2 * w2 - (p1 * v1 + p2 * v2))) = (w1 - v1) * (q2 - 2000 * v2) - (w2 - v2) * (q1 - 2000 * v1) := by grind
  rw [f1, f2, f3] at s
  rw [← zg_cw_sc]
  refine zg_si ?_ ?_ s
  · grind
  · grind
theorem zg_af_sc (x y p d : Int) : zg_af (2000 * x) (2000 * y) p d = zg_af x y p d := by
  have h1 : (0 < 2000 * y ∨ (2000 * y = 0 ∧ 0 < 2000 * x)) ↔ (0 < y ∨ (y = 0 ∧ 0 < x)) := by omega
  unfold zg_af
  simp only [h1]
/-- relative to a: a step that leaves a -/
theorem zg_vi {p1 p2 w1 w2 sg : Int} (hp : ¬ (p1 = 0 ∧ p2 = 0)) (hw : ¬ (w1 = 0 ∧ w2 = 0)) (hsg : sg = 1 ∨ sg = -1)
    (bp1 : -9 ≤ p1 ∧ p1 ≤ 9) (bp2 : -9 ≤ p2 ∧ p2 ≤ 9) (bw1 : -9 ≤ w1 ∧ w1 ≤ 9) (bw2 : -9 ≤ w2 ∧ w2 ≤ 9)
    (q1 q2 : Int) (e1 : q1 = 1000 * p1 - 2 * (sg * p2)) (e2 : q2 = 1000 * p2 + 2 * (sg * p1)) :
    zg_ce 0 (2000 * w2) q2 (w1 * q2 - w2 * q1) = zg_ph 0 q2 (2000 * w2) (q1 * w2 - q2 * w1) - zg_af w1 w2 q2 (q1 * w2 - q2 * w1) := by
  have b3 := zg_bd bp1.1 bp1.2 bw1.1 bw1.2
  have b4 := zg_bd bp2.1 bp2.2 bw2.1 bw2.2
  have P := zg_sq hp
  have Wq := zg_sq hw
  have k3 : (p1 * p1 + p2 * p2) * (w1 * w1 + w2 * w2) = (p1 * w1 + p2 * w2) * (p1 * w1 + p2 * w2) + (p1 * w2 - p2 * w1) * (p1 * w2 - p2 * w1) := by grind
  have PW := Int.mul_pos P Wq
  have n0 : ¬ (p1 * w1 + p2 * w2 = 0 ∧ p1 * w2 - p2 * w1 = 0) := by
    intro h
    rw [h.1, h.2] at k3
    omega
  have f2 : q1 * w2 - q2 * w1 = 1000 * (p1 * w2 - p2 * w1) - 2 * (sg * (p1 * w1 + p2 * w2)) := by grind
  have hq : q2 ≠ 0 := by
    rcases hsg with h | h
    · subst h; omega
    · subst h; omega
  have hd : q1 * w2 - q2 * w1 ≠ 0 := by
    rw [f2]
    generalize p1 * w1 = x1 at *
    generalize p2 * w2 = x2 at *
    generalize p1 * w2 - p2 * w1 = x3 at *
    rcases hsg with h | h
    · subst h; omega
    · subst h; omega
  have h := zg_in (vx := 2000 * w1) (px := q1) (yA := 0) (yT := 2000 * w2) (yQ := q2) (D := q1 * w2 - q2 * w1) (k := 2000) (by omega) (by omega) (by grind) hd
  have e : -(q1 * w2 - q2 * w1) = w1 * q2 - w2 * q1 := by grind
  rw [e, Int.sub_zero, Int.sub_zero, zg_af_sc] at h
  exact h
end
section
/-! sums over the steps of one polygon; codes -/
def zs_S (sp : Nat → Nat) (p : Nat) : Nat → (Nat → Int) → Int
  | 0, _ => 0
  | n + 1, f => zs_S sp p n f + (if sp n = p then f n else 0)
theorem zs_c {sp : Nat → Nat} {p : Nat} : ∀ {n : Nat} {f g : Nat → Int}, (∀ i, i < n → sp i = p → f i = g i) → zs_S sp p n f = zs_S sp p n g
  | 0, _, _, _ => rfl
  | n + 1, f, g, h => by
    have a := zs_c (sp := sp) (p := p) (n := n) (f := f) (g := g) (fun i hi => h i (by omega))
    unfold zs_S
    rw [a]
    split
    · rename_i z; rw [h n (by omega) z]
    · rfl
theorem zs_a {sp : Nat → Nat} {p : Nat} (f g : Nat → Int) : ∀ n : Nat, zs_S sp p n (fun i => f i + g i) = zs_S sp p n f + zs_S sp p n g
  | 0 => rfl
  | n + 1 => by
    have a := zs_a (sp := sp) (p := p) f g n
    unfold zs_S
    rw [a]
    dsimp only
    split <;> omega
theorem zs_s {sp : Nat → Nat} {p : Nat} (f g : Nat → Int) : ∀ n : Nat, zs_S sp p n (fun i => f i - g i) = zs_S sp p n f - zs_S sp p n g
  | 0 => rfl
  | n + 1 => by
    have a := zs_s (sp := sp) (p := p) f g n
    unfold zs_S
    rw [a]
    dsimp only
    split <;> omega
theorem zs_k {sp : Nat → Nat} {p : Nat} (c : Int) (f : Nat → Int) : ∀ n : Nat, zs_S sp p n (fun i => c * f i) = c * zs_S sp p n f
  | 0 => by unfold zs_S; omega
  | n + 1 => by
    have a := zs_k (sp := sp) (p := p) c f n
    unfold zs_S
    rw [a, Int.mul_add]
    split
    · rfl
    · rw [Int.mul_zero]
theorem zs_0 {sp : Nat → Nat} {p : Nat} : ∀ {n : Nat} {f : Nat → Int}, (∀ i, i < n → sp i = p → f i = 0) → zs_S sp p n f = 0
  | 0, _, _ => rfl
  | n + 1, f, h => by
    have a := zs_0 (sp := sp) (p := p) (n := n) (f := f) (fun i hi => h i (by omega))
    unfold zs_S
    rw [a]
    split
    · rename_i z; rw [h n (by omega) z]; rfl
    · rfl
def zc_x (c : Nat) : Int := ((c / 10 : Nat) : Int)
def zc_y (c : Nat) : Int := ((c % 10 : Nat) : Int)
theorem zc_b {c : Nat} (h : c < 100) : 0 ≤ zc_x c ∧ zc_x c ≤ 9 ∧ 0 ≤ zc_y c ∧ zc_y c ≤ 9 := by
  unfold zc_x zc_y; omega
theorem zc_e {c d : Nat} (h1 : zc_x c = zc_x d) (h2 : zc_y c = zc_y d) : c = d := by
  unfold zc_x at h1; unfold zc_y at h2; omega
/-- the orientation of p about a to b -/
def zc_o (a b p : Nat) : Int := (zc_x b - zc_x a) * (zc_y p - zc_y a) - (zc_y b - zc_y a) * (zc_x p - zc_x a)
def zc_nc (a b u t : Nat) : Prop := zg_nc (zc_x a) (zc_y a) (zc_x b) (zc_y b) (zc_x u) (zc_y u) (zc_x t) (zc_y t)
/-- the reference's east crossing of a point at a scale, the west crossing at a code -/
def zw_ce (S q1 q2 : Int) (u t : Nat) : Int := zg_ce (S * zc_y u) (S * zc_y t) q2 ((zc_x t - zc_x u) * (q2 - S * zc_y u) - (zc_y t - zc_y u) * (q1 - S * zc_x u))
def zw_cw (S q1 q2 : Int) (u t : Nat) : Int := zg_cw (S * zc_y u) (S * zc_y t) q2 ((zc_x t - zc_x u) * (q2 - S * zc_y u) - (zc_y t - zc_y u) * (q1 - S * zc_x u))
def zw_wa (a u t : Nat) : Int := zg_cw (zc_y u) (zc_y t) (zc_y a) (zc_o u t a)
/-- the side point, at scale 2000 -/
def zv_q1 (a b : Nat) (sg : Int) : Int := 1000 * (zc_x a + zc_x b) - 2 * (sg * (zc_y b - zc_y a))
def zv_q2 (a b : Nat) (sg : Int) : Int := 1000 * (zc_y a + zc_y b) + 2 * (sg * (zc_x b - zc_x a))
def zv_r1 (a b : Nat) (sg : Int) : Int := 1000 * (zc_x b - zc_x a) - 2 * (sg * (zc_y b - zc_y a))
def zv_r2 (a b : Nat) (sg : Int) : Int := 1000 * (zc_y b - zc_y a) + 2 * (sg * (zc_x b - zc_x a))
def zv_d (a b : Nat) (sg : Int) (v : Nat) : Int := zv_r1 a b sg * (zc_y v - zc_y a) - zv_r2 a b sg * (zc_x v - zc_x a)
def zv_ph (a b : Nat) (sg : Int) (v : Nat) : Int := zg_ph 0 (zv_r2 a b sg) (2000 * (zc_y v - zc_y a)) (zv_d a b sg v)
def zv_af (a b : Nat) (sg : Int) (v : Nat) : Int := zg_af (zc_x v - zc_x a) (zc_y v - zc_y a) (zv_r2 a b sg) (zv_d a b sg v)
theorem zg_cw_tr (yU yT yQ e c : Int) : zg_cw (yU - c) (yT - c) (yQ - c) e = zg_cw yU yT yQ e := by
  unfold zg_cw
  split <;> split <;> (try split) <;> (try split) <;> omega
theorem zg_ce0 (yU yT yQ : Int) : zg_ce yU yT yQ 0 = 0 := by
  unfold zg_ce
  split <;> split <;> (try split) <;> (try split) <;> omega
theorem zg_cw0 (yU yT yQ : Int) : zg_cw yU yT yQ 0 = 0 := by
  unfold zg_cw
  split <;> split <;> (try split) <;> (try split) <;> omega
theorem zc_ne {u a : Nat} (h : u ≠ a) : ¬ (zc_x u - zc_x a = 0 ∧ zc_y u - zc_y a = 0) := fun ⟨h1, h2⟩ => h (zc_e (by omega) (by omega))
/-- a step that doesn't touch a -/
theorem zv_far {a b u t : Nat} {sg : Int} (ha : a < 100) (hb : b < 100) (hu : u < 100) (ht : t < 100) (hab : a ≠ b) (hua : u ≠ a) (hta : t ≠ a) (hsg : sg = 1 ∨ sg = -1)
    (hn : zc_nc a b u t) : zw_ce 2000 (zv_q1 a b sg) (zv_q2 a b sg) u t + zw_wa a u t = zv_ph a b sg t - zv_ph a b sg u := by
  have ba := zc_b ha
  have bb := zc_b hb
  have bu := zc_b hu
  have bt := zc_b ht
  have h := zg_vr (a1 := zc_x a) (a2 := zc_y a) (p1 := zc_x b - zc_x a) (p2 := zc_y b - zc_y a) (v1 := zc_x u - zc_x a) (v2 := zc_y u - zc_y a) (w1 := zc_x t - zc_x a) (w2 := zc_y t - zc_y a) (sg := sg)
    (by
      have e : ∀ x y : Int, x + (y - x) = y := by intro x y; omega
      rw [e, e, e, e, e, e]; exact hn)
    (zc_ne (Ne.symm hab)) (zc_ne hua) (zc_ne hta) hsg (by omega) (by omega) (by omega) (by omega) (by omega) (by omega) (by omega) (by omega) _ _ rfl rfl
  have e1 := zg_ce_tr (2000 * zc_y u) (2000 * zc_y t) (zv_q2 a b sg) ((zc_x t - zc_x u) * (zv_q2 a b sg - 2000 * zc_y u) - (zc_y t - zc_y u) * (zv_q1 a b sg - 2000 * zc_x u)) (2000 * zc_y a)
  have e2 := zg_cw_tr (zc_y u) (zc_y t) (zc_y a) (zc_o u t a) (zc_y a)
  unfold zw_ce zw_wa zv_ph zv_d
  rw [← e1, ← e2]
  unfold zv_r1 zv_r2
  have g1 : 2000 * zc_y u - 2000 * zc_y a = 2000 * (zc_y u - zc_y a) := by omega
  have g2 : 2000 * zc_y t - 2000 * zc_y a = 2000 * (zc_y t - zc_y a) := by omega
  have g3 : zv_q2 a b sg - 2000 * zc_y a = 1000 * (zc_y b - zc_y a) + 2 * (sg * (zc_x b - zc_x a)) := by unfold zv_q2; omega
  have g4 : (zc_x t - zc_x u) * (zv_q2 a b sg - 2000 * zc_y u) - (zc_y t - zc_y u) * (zv_q1 a b sg - 2000 * zc_x u) = ((zc_x t - zc_x a) - (zc_x u - zc_x a)) * (1000 * (zc_y b - zc_y a) + 2 * (sg * (zc_x b - zc_x a)) - 2000 * (zc_y u - zc_y a)) - ((zc_y t - zc_y a) - (zc_y u - zc_y a)) * (1000 * (zc_x b - zc_x a) - 2 * (sg * (zc_y b - zc_y a)) - 2000 * (zc_x u - zc_x a)) := by
    unfold zv_q1 zv_q2; grind
  have g5 : zc_o u t a = (zc_x u - zc_x a) * (zc_y t - zc_y a) - (zc_y u - zc_y a) * (zc_x t - zc_x a) := by unfold zc_o; grind
  rw [g1, g2, g3, g4, g5, Int.sub_self]
  exact h
/-- a step that leaves a -/
theorem zv_out {a b t : Nat} {sg : Int} (ha : a < 100) (hb : b < 100) (ht : t < 100) (hab : a ≠ b) (hta : t ≠ a) (hsg : sg = 1 ∨ sg = -1) :
    zw_ce 2000 (zv_q1 a b sg) (zv_q2 a b sg) a t = zv_ph a b sg t - zv_af a b sg t := by
  have ba := zc_b ha
  have bb := zc_b hb
  have bt := zc_b ht
  have h := zg_vi (p1 := zc_x b - zc_x a) (p2 := zc_y b - zc_y a) (w1 := zc_x t - zc_x a) (w2 := zc_y t - zc_y a) (sg := sg)
    (zc_ne (Ne.symm hab)) (zc_ne hta) hsg (by omega) (by omega) (by omega) (by omega) _ _ rfl rfl
  have e1 := zg_ce_tr (2000 * zc_y a) (2000 * zc_y t) (zv_q2 a b sg) ((zc_x t - zc_x a) * (zv_q2 a b sg - 2000 * zc_y a) - (zc_y t - zc_y a) * (zv_q1 a b sg - 2000 * zc_x a)) (2000 * zc_y a)
  unfold zw_ce zv_ph zv_af zv_d
  rw [← e1]
  unfold zv_r1 zv_r2
  have g2 : 2000 * zc_y t - 2000 * zc_y a = 2000 * (zc_y t - zc_y a) := by omega
  have g3 : zv_q2 a b sg - 2000 * zc_y a = 1000 * (zc_y b - zc_y a) + 2 * (sg * (zc_x b - zc_x a)) := by unfold zv_q2; omega
  have g4 : zv_q1 a b sg - 2000 * zc_x a = 1000 * (zc_x b - zc_x a) - 2 * (sg * (zc_y b - zc_y a)) := by unfold zv_q1; omega
  rw [Int.sub_self, g2, g3, g4]
  exact h
theorem zw_ce_sw (S q1 q2 : Int) (u t : Nat) : zw_ce S q1 q2 t u = - zw_ce S q1 q2 u t := by
  unfold zw_ce
  rw [← zg_ce_sw]
  congr 1
  grind
theorem zw_cw_sw (S q1 q2 : Int) (u t : Nat) : zw_cw S q1 q2 t u = - zw_cw S q1 q2 u t := by
  unfold zw_cw
  rw [← zg_cw_sw]
  congr 1
  grind
theorem zw_wa_sw (a u t : Nat) : zw_wa a t u = - zw_wa a u t := by
  unfold zw_wa
  rw [← zg_cw_sw]
  congr 1
  unfold zc_o
  grind
theorem zw_wa_a (a t : Nat) : zw_wa a a t = 0 := by
  unfold zw_wa
  have : zc_o a t a = 0 := by unfold zc_o; grind
  rw [this, zg_cw0]
theorem zv_ph_a (a b : Nat) (sg : Int) : zv_ph a b sg a = 0 := by
  unfold zv_ph zv_d zg_ph
  rw [Int.sub_self, Int.sub_self, Int.mul_zero, Int.mul_zero, Int.mul_zero, Int.sub_self]
  rw [if_neg (by omega)]
/-- every step -/
theorem zv_step {a b u t : Nat} {sg : Int} (ha : a < 100) (hb : b < 100) (hu : u < 100) (ht : t < 100) (hab : a ≠ b) (hut : u ≠ t) (hsg : sg = 1 ∨ sg = -1)
    (hn : (u = a ∧ t = b) ∨ (u = b ∧ t = a) ∨ zc_nc a b u t) :
    zw_ce 2000 (zv_q1 a b sg) (zv_q2 a b sg) u t + zw_wa a u t = (zv_ph a b sg t - zv_ph a b sg u) - ((if u = a then zv_af a b sg t else 0) - (if t = a then zv_af a b sg u else 0)) := by
  by_cases hua : u = a
  · subst hua
    rw [if_pos rfl, if_neg (Ne.symm hut), zw_wa_a, zv_ph_a, zv_out ha hb ht hab (Ne.symm hut) hsg]
    omega
  · by_cases hta : t = a
    · subst hta
      rw [if_neg hua, if_pos rfl, zw_wa_sw, zw_wa_a, zv_ph_a, zw_ce_sw, zv_out ha hb hu hab hut hsg]
      omega
    · rw [if_neg hua, if_neg hta]
      have : zc_nc a b u t := by
        rcases hn with h | h | h
        · exact absurd h.1 hua
        · exact absurd h.2 hta
        · exact h
      rw [zv_far ha hb hu ht hab hua hta hsg this]
      omega
/-- the arrangement: steps (su s, st s) of polygon sp s, for s < N -/
def zv_cl (N : Nat) (su st sp : Nat → Nat) : Prop := ∀ (p : Nat) (φ : Nat → Int), zs_S sp p N (fun s => φ (st s) - φ (su s)) = 0
def zv_ok (N : Nat) (su st : Nat → Nat) : Prop := ∀ s, s < N → su s < 100 ∧ st s < 100 ∧ su s ≠ st s
/-- a piece that no step crosses -/
def zv_nc (N : Nat) (su st : Nat → Nat) (a b : Nat) : Prop := a < 100 ∧ b < 100 ∧ a ≠ b ∧ ∀ s, s < N → (su s = a ∧ st s = b) ∨ (su s = b ∧ st s = a) ∨ zc_nc a b (su s) (st s)
/-- W at a point -/
def zv_W (N : Nat) (su st sp : Nat → Nat) (p : Nat) (S q1 q2 : Int) : Int := zs_S sp p N (fun s => zw_ce S q1 q2 (su s) (st s))
/-- W left of a to b -/
def zv_L (N : Nat) (su st sp : Nat → Nat) (p a b : Nat) : Int := zv_W N su st sp p 2000 (zv_q1 a b 1) (zv_q2 a b 1)
def zv_Ww (N : Nat) (su st sp : Nat → Nat) (p a : Nat) : Int := - zs_S sp p N (fun s => zw_wa a (su s) (st s))
theorem zv_V {N : Nat} {su st sp : Nat → Nat} (hc : zv_cl N su st sp) (ho : zv_ok N su st) {a b : Nat} (hn : zv_nc N su st a b) {sg : Int} (hsg : sg = 1 ∨ sg = -1) (p : Nat) :
    zv_W N su st sp p 2000 (zv_q1 a b sg) (zv_q2 a b sg) = zv_Ww N su st sp p a - zs_S sp p N (fun s => (if su s = a then zv_af a b sg (st s) else 0) - (if st s = a then zv_af a b sg (su s) else 0)) := by
  obtain ⟨ha, hb, hab, hn⟩ := hn
  have h0 := hc p (zv_ph a b sg)
  have h1 := zs_c (sp := sp) (p := p) (n := N) (f := fun s => zw_ce 2000 (zv_q1 a b sg) (zv_q2 a b sg) (su s) (st s) + zw_wa a (su s) (st s))
    (g := fun s => (zv_ph a b sg (st s) - zv_ph a b sg (su s)) - ((if su s = a then zv_af a b sg (st s) else 0) - (if st s = a then zv_af a b sg (su s) else 0)))
    (fun s hs _ => zv_step ha hb (ho s hs).1 (ho s hs).2.1 hab (ho s hs).2.2 hsg (hn s hs))
  rw [zs_a, zs_s (fun s => zv_ph a b sg (st s) - zv_ph a b sg (su s)), h0] at h1
  unfold zv_W zv_Ww
  omega
end
section
/-! the component's order about a vertex -/
/-- v comes after b in the order from just after straight down, counterclockwise -/
def zg_xa (b1 b2 v1 v2 : Int) : Int := if ((0 < b1 ∨ (b1 = 0 ∧ 0 < b2)) ∧ ¬ (0 < v1 ∨ (v1 = 0 ∧ 0 < v2))) ∨ (((0 < b1 ∨ (b1 = 0 ∧ 0 < b2)) ↔ (0 < v1 ∨ (v1 = 0 ∧ 0 < v2))) ∧ 0 < b1 * v2 - b2 * v1) then 1 else 0
def zg_M (d1 d2 : Int) : Int := if (d1 < 0 ∧ d2 ≤ 0) ∨ (d1 = 0 ∧ d2 < 0) then 1 else 0
def zg_sd (b1 b2 v1 v2 : Int) : Int := if b1 * v2 - b2 * v1 = 0 ∧ 0 < b1 * v1 + b2 * v2 then 1 else 0
def zg_ws (d1 d2 : Int) : Int := if d1 < 0 ∧ d2 = 0 then 1 else 0
theorem zg_sc {P d v b : Int} (hP : 0 < P) (h : v * P = d * b) : (0 < d → ((0 < v ↔ 0 < b) ∧ (v < 0 ↔ b < 0))) ∧ (d < 0 → ((0 < v ↔ b < 0) ∧ (v < 0 ↔ 0 < b))) := by
  rcases zg_mc v P with x | x | x | x | x | x <;> rcases zg_mc d b with y | y | y | y | y | y <;> omega
/-- parallel vectors -/
theorem zg_par {b1 b2 v1 v2 : Int} (hb : ¬ (b1 = 0 ∧ b2 = 0)) (hv : ¬ (v1 = 0 ∧ v2 = 0)) (ho : b1 * v2 - b2 * v1 = 0) :
    (0 < b1 * v1 + b2 * v2 ∧ (0 < v1 ↔ 0 < b1) ∧ (v1 < 0 ↔ b1 < 0) ∧ (0 < v2 ↔ 0 < b2) ∧ (v2 < 0 ↔ b2 < 0)) ∨
    (b1 * v1 + b2 * v2 < 0 ∧ (0 < v1 ↔ b1 < 0) ∧ (v1 < 0 ↔ 0 < b1) ∧ (0 < v2 ↔ b2 < 0) ∧ (v2 < 0 ↔ 0 < b2)) := by
  have P := zg_sq hb
  have V := zg_sq hv
  have k1 : v1 * (b1 * b1 + b2 * b2) = (b1 * v1 + b2 * v2) * b1 - b2 * (b1 * v2 - b2 * v1) := by grind
  have k2 : v2 * (b1 * b1 + b2 * b2) = (b1 * v1 + b2 * v2) * b2 + b1 * (b1 * v2 - b2 * v1) := by grind
  rw [ho, Int.mul_zero, Int.sub_zero] at k1
  rw [ho, Int.mul_zero, Int.add_zero] at k2
  have n0 : b1 * v1 + b2 * v2 ≠ 0 := by
    intro z
    rw [z, Int.zero_mul] at k1 k2
    exact hv ⟨zg_pz P k1, zg_pz P k2⟩
  have s1 := zg_sc P k1
  have s2 := zg_sc P k2
  rcases zg_sg (b1 * v1 + b2 * v2) with z | z | z
  · exact Or.inl ⟨z, (s1.1 z).1, (s1.1 z).2, (s2.1 z).1, (s2.1 z).2⟩
  · exact absurd z n0
  · exact Or.inr ⟨z, (s1.2 z).1, (s1.2 z).2, (s2.2 z).1, (s2.2 z).2⟩
theorem zg_qp {b1 b2 v1 v2 : Int} (ho : 0 < b1 * v2 - b2 * v1) : (0 < b1 ∧ 0 < v2) ∨ (b1 < 0 ∧ v2 < 0) ∨ (0 < b2 ∧ v1 < 0) ∨ (b2 < 0 ∧ 0 < v1) := by
  rcases zg_mc b1 v2 with x | x | x | x | x | x <;> rcases zg_mc b2 v1 with y | y | y | y | y | y <;> omega
theorem zg_qn {b1 b2 v1 v2 : Int} (ho : b1 * v2 - b2 * v1 < 0) : (0 < b1 ∧ v2 < 0) ∨ (b1 < 0 ∧ 0 < v2) ∨ (0 < b2 ∧ 0 < v1) ∨ (b2 < 0 ∧ v1 < 0) := by
  rcases zg_mc b1 v2 with x | x | x | x | x | x <;> rcases zg_mc b2 v1 with y | y | y | y | y | y <;> omega
theorem zg_aft1 {b1 b2 v1 v2 : Int} (hb : ¬ (b1 = 0 ∧ b2 = 0)) (hv : ¬ (v1 = 0 ∧ v2 = 0)) (bp1 : -9 ≤ b1 ∧ b1 ≤ 9) (bp2 : -9 ≤ b2 ∧ b2 ≤ 9) (bv1 : -9 ≤ v1 ∧ v1 ≤ 9) (bv2 : -9 ≤ v2 ∧ v2 ≤ 9) :
    zg_af v1 v2 (1000 * b2 + 2 * b1) (1000 * (b1 * v2 - b2 * v1) - 2 * (b1 * v1 + b2 * v2)) = zg_xa b1 b2 v1 v2 - zg_M v1 v2 + zg_M b1 b2 := by
  have c1 := zg_bd bp1.1 bp1.2 bv1.1 bv1.2
  have c2 := zg_bd bp2.1 bp2.2 bv2.1 bv2.2
  rcases zg_sg (b1 * v2 - b2 * v1) with s | s | s
  · have q := zg_qp s
    unfold zg_af zg_xa zg_M
    generalize b1 * v1 = x1 at *
    generalize b2 * v2 = x2 at *
    generalize b1 * v2 - b2 * v1 = x3 at *
    rcases q with q | q | q | q <;> split <;> split <;> split <;> split <;> omega
  · have q := zg_par hb hv s
    unfold zg_af zg_xa zg_M
    generalize b1 * v1 = x1 at *
    generalize b2 * v2 = x2 at *
    generalize b1 * v2 - b2 * v1 = x3 at *
    rcases q with q | q <;> split <;> split <;> split <;> split <;> omega
  · have q := zg_qn s
    unfold zg_af zg_xa zg_M
    generalize b1 * v1 = x1 at *
    generalize b2 * v2 = x2 at *
    generalize b1 * v2 - b2 * v1 = x3 at *
    rcases q with q | q | q | q <;> split <;> split <;> split <;> split <;> omega
theorem zg_aft2 {b1 b2 v1 v2 : Int} (hb : ¬ (b1 = 0 ∧ b2 = 0)) (hv : ¬ (v1 = 0 ∧ v2 = 0)) (bp1 : -9 ≤ b1 ∧ b1 ≤ 9) (bp2 : -9 ≤ b2 ∧ b2 ≤ 9) (bv1 : -9 ≤ v1 ∧ v1 ≤ 9) (bv2 : -9 ≤ v2 ∧ v2 ≤ 9) :
    zg_af v1 v2 (1000 * b2 - 2 * b1) (1000 * (b1 * v2 - b2 * v1) + 2 * (b1 * v1 + b2 * v2)) = zg_xa b1 b2 v1 v2 + zg_sd b1 b2 v1 v2 - zg_M v1 v2 + zg_M b1 b2 - zg_ws b1 b2 := by
  have c1 := zg_bd bp1.1 bp1.2 bv1.1 bv1.2
  have c2 := zg_bd bp2.1 bp2.2 bv2.1 bv2.2
  rcases zg_sg (b1 * v2 - b2 * v1) with s | s | s
  · have q := zg_qp s
    have e : zg_sd b1 b2 v1 v2 = 0 := by unfold zg_sd; rw [if_neg (by omega)]
    rw [e]
    clear e
    unfold zg_af zg_xa zg_M zg_ws
    generalize b1 * v1 = x1 at *
    generalize b2 * v2 = x2 at *
    generalize b1 * v2 - b2 * v1 = x3 at *
    rcases q with q | q | q | q <;> split <;> split <;> split <;> split <;> split <;> omega
  · have q := zg_par hb hv s
    unfold zg_af zg_xa zg_M zg_ws zg_sd
    generalize b1 * v1 = x1 at *
    generalize b2 * v2 = x2 at *
    generalize b1 * v2 - b2 * v1 = x3 at *
    rcases q with q | q <;> split <;> split <;> split <;> split <;> split <;> (try split) <;> omega
  · have q := zg_qn s
    have e : zg_sd b1 b2 v1 v2 = 0 := by unfold zg_sd; rw [if_neg (by omega)]
    rw [e]
    clear e
    unfold zg_af zg_xa zg_M zg_ws
    generalize b1 * v1 = x1 at *
    generalize b2 * v2 = x2 at *
    generalize b1 * v2 - b2 * v1 = x3 at *
    rcases q with q | q | q | q <;> split <;> split <;> split <;> split <;> split <;> omega
end
section
/-! the order of two pieces from west to east at one height; (l, m) and (r, p): low and top -/
def zg_X (S l1 l2 m1 m2 y : Int) : Int := S * l1 * (m2 - l2) + (y - S * l2) * (m1 - l1)
def zg_G (S l1 l2 m1 m2 r1 r2 p1 p2 y : Int) : Int := (p2 - r2) * zg_X S l1 l2 m1 m2 y - (m2 - l2) * zg_X S r1 r2 p1 p2 y
def zg_K (l1 l2 m1 m2 r1 r2 p1 p2 : Int) : Int := (m1 - l1) * (p2 - r2) - (p1 - r1) * (m2 - l2)
theorem zg_GZ {S l1 l2 m1 m2 r1 r2 p1 p2 y : Int} (hn : zg_nc l1 l2 m1 m2 r1 r2 p1 p2) (hS : 0 < S) (hc : l2 < m2) (ho : r2 < p2)
    (h1 : S * l2 ≤ y) (h2 : S * r2 ≤ y) (h3 : y ≤ S * m2) (h4 : y ≤ S * p2) (hG : zg_G S l1 l2 m1 m2 r1 r2 p1 p2 y = 0) : (y = S * l2 ∨ y = S * m2) ∧ (y = S * r2 ∨ y = S * p2) := by
  have dc : 0 < m2 - l2 := by omega
  have d_o : 0 < p2 - r2 := by omega
  unfold zg_G zg_X at hG
  have i0 := Int.mul_nonneg (show 0 ≤ y - S * l2 by omega) (Int.le_of_lt d_o)
  have j0 := Int.mul_nonneg (show 0 ≤ y - S * r2 by omega) (Int.le_of_lt dc)
  have i1 := Int.mul_nonneg (show 0 ≤ S * m2 - y by omega) (Int.le_of_lt d_o)
  have j1 := Int.mul_nonneg (show 0 ≤ S * p2 - y by omega) (Int.le_of_lt dc)
  have ei : S * ((m2 - l2) * (p2 - r2)) - (y - S * l2) * (p2 - r2) = (S * m2 - y) * (p2 - r2) := by grind
  have ej : S * ((m2 - l2) * (p2 - r2)) - (y - S * r2) * (m2 - l2) = (S * p2 - y) * (m2 - l2) := by grind
  have h := hn (S * ((m2 - l2) * (p2 - r2))) ((y - S * l2) * (p2 - r2)) ((y - S * r2) * (m2 - l2)) (Int.mul_pos hS (Int.mul_pos dc d_o)) i0 (by omega) j0 (by omega) (by grind) (by grind)
  refine ⟨?_, ?_⟩
  · rcases h.1 with z | z
    · have := zg_pz d_o z; omega
    · have z' : (S * m2 - y) * (p2 - r2) = 0 := by omega
      have := zg_pz d_o z'; omega
  · rcases h.2 with z | z
    · have := zg_pz dc z; omega
    · have z' : (S * p2 - y) * (m2 - l2) = 0 := by omega
      have := zg_pz dc z'; omega
theorem zg_x3 {k1 k2 z1 z2 z3 z4 g g' : Int} (eg : g = k1 * z1 - k2 * z3) (eg' : g' = -(k1 * z2 - k2 * z4)) : k1 * (g' * z1 + g * z2) = k2 * (g' * z3 + g * z4) := by
  have e : k1 * (g' * z1 + g * z2) - k2 * (g' * z3 + g * z4) = g' * (k1 * z1 - k2 * z3) + g * (k1 * z2 - k2 * z4) := by clear eg eg'; grind
  have e2 : k1 * z2 - k2 * z4 = -g' := by omega
  rw [← eg, e2] at e
  have e3 : g' * g + g * -g' = 0 := by clear eg eg' e e2; grind
  omega
theorem zg_GS {S l1 l2 m1 m2 r1 r2 p1 p2 y y' : Int} (hn : zg_nc l1 l2 m1 m2 r1 r2 p1 p2) (hS : 0 < S) (hc : l2 < m2) (ho : r2 < p2)
    (h1 : S * l2 ≤ y) (h2 : S * r2 ≤ y) (h3 : y ≤ S * m2) (h4 : y ≤ S * p2) (h1' : S * l2 ≤ y') (h2' : S * r2 ≤ y') (h3' : y' ≤ S * m2) (h4' : y' ≤ S * p2)
    (hG : 0 < zg_G S l1 l2 m1 m2 r1 r2 p1 p2 y) (hG' : zg_G S l1 l2 m1 m2 r1 r2 p1 p2 y' < 0) : False := by
  have dc : 0 < m2 - l2 := by omega
  have d_o : 0 < p2 - r2 := by omega
  obtain ⟨g, eg⟩ : ∃ g, g = zg_G S l1 l2 m1 m2 r1 r2 p1 p2 y := ⟨_, rfl⟩
  obtain ⟨g', eg'⟩ : ∃ g, g = - zg_G S l1 l2 m1 m2 r1 r2 p1 p2 y' := ⟨_, rfl⟩
  have hg : 0 < g := by omega
  have hg' : 0 < g' := by omega
  have a1 := Int.mul_nonneg (Int.le_of_lt hg') (show 0 ≤ y - S * l2 by omega)
  have a2 := Int.mul_nonneg (Int.le_of_lt hg) (show 0 ≤ y' - S * l2 by omega)
  have a3 := Int.mul_nonneg (Int.le_of_lt hg') (show 0 ≤ S * m2 - y by omega)
  have a4 := Int.mul_nonneg (Int.le_of_lt hg) (show 0 ≤ S * m2 - y' by omega)
  have b1 := Int.mul_nonneg (Int.le_of_lt hg') (show 0 ≤ y - S * r2 by omega)
  have b2 := Int.mul_nonneg (Int.le_of_lt hg) (show 0 ≤ y' - S * r2 by omega)
  have b3 := Int.mul_nonneg (Int.le_of_lt hg') (show 0 ≤ S * p2 - y by omega)
  have b4 := Int.mul_nonneg (Int.le_of_lt hg) (show 0 ≤ S * p2 - y' by omega)
  have i0 := Int.mul_nonneg (show 0 ≤ g' * (y - S * l2) + g * (y' - S * l2) by omega) (Int.le_of_lt d_o)
  have i1 := Int.mul_nonneg (show 0 ≤ g' * (S * m2 - y) + g * (S * m2 - y') by omega) (Int.le_of_lt d_o)
  have j0 := Int.mul_nonneg (show 0 ≤ g' * (y - S * r2) + g * (y' - S * r2) by omega) (Int.le_of_lt dc)
  have j1 := Int.mul_nonneg (show 0 ≤ g' * (S * p2 - y) + g * (S * p2 - y') by omega) (Int.le_of_lt dc)
  have ei : (g + g') * (S * ((m2 - l2) * (p2 - r2))) - (g' * (y - S * l2) + g * (y' - S * l2)) * (p2 - r2) = (g' * (S * m2 - y) + g * (S * m2 - y')) * (p2 - r2) := by grind
  have ej : (g + g') * (S * ((m2 - l2) * (p2 - r2))) - (g' * (y - S * r2) + g * (y' - S * r2)) * (m2 - l2) = (g' * (S * p2 - y) + g * (S * p2 - y')) * (m2 - l2) := by grind
  have x1 : ((g + g') * (S * ((m2 - l2) * (p2 - r2))) - (g' * (y - S * l2) + g * (y' - S * l2)) * (p2 - r2)) * l1 + (g' * (y - S * l2) + g * (y' - S * l2)) * (p2 - r2) * m1
      = (p2 - r2) * (g' * zg_X S l1 l2 m1 m2 y + g * zg_X S l1 l2 m1 m2 y') := by unfold zg_X; grind
  have x2 : ((g + g') * (S * ((m2 - l2) * (p2 - r2))) - (g' * (y - S * r2) + g * (y' - S * r2)) * (m2 - l2)) * r1 + (g' * (y - S * r2) + g * (y' - S * r2)) * (m2 - l2) * p1
      = (m2 - l2) * (g' * zg_X S r1 r2 p1 p2 y + g * zg_X S r1 r2 p1 p2 y') := by unfold zg_X; grind
  have x3 : (p2 - r2) * (g' * zg_X S l1 l2 m1 m2 y + g * zg_X S l1 l2 m1 m2 y') = (m2 - l2) * (g' * zg_X S r1 r2 p1 p2 y + g * zg_X S r1 r2 p1 p2 y') := by
    exact zg_x3 (by rw [eg]; rfl) (by rw [eg']; rfl)
  have h := hn ((g + g') * (S * ((m2 - l2) * (p2 - r2)))) ((g' * (y - S * l2) + g * (y' - S * l2)) * (p2 - r2)) ((g' * (y - S * r2) + g * (y' - S * r2)) * (m2 - l2))
    (Int.mul_pos (by omega) (Int.mul_pos hS (Int.mul_pos dc d_o))) i0 (by omega) j0 (by omega) (by rw [x1, x2, x3]) (by grind)
  have ne : y = y' → False := by intro e; rw [e] at hG; omega
  rcases h.1 with z | z
  · have := zg_pz d_o z
    refine ne ?_
    clear hn x1 x2 x3 ei ej i0 i1 j0 j1 a3 a4 b1 b2 b3 b4 h z eg eg' hG hG' ne
    rcases zg_mc g' (y - S * l2) with q | q | q | q | q | q <;> rcases zg_mc g (y' - S * l2) with r | r | r | r | r | r <;> omega
  · have z' : (g' * (S * m2 - y) + g * (S * m2 - y')) * (p2 - r2) = 0 := by omega
    have := zg_pz d_o z'
    refine ne ?_
    clear hn x1 x2 x3 ei ej i0 i1 j0 j1 a1 a2 b1 b2 b3 b4 h z z' eg eg' hG hG' ne
    rcases zg_mc g' (S * m2 - y) with q | q | q | q | q | q <;> rcases zg_mc g (S * m2 - y') with r | r | r | r | r | r <;> omega
/-- (l, m) is east of (r, p), as the component asks it -/
def zg_eo (l1 l2 m1 m2 r1 r2 p1 p2 : Int) : Prop :=
  (l1 = r1 ∧ l2 = r2 ∧ 0 < (r1 - p1) * (m2 - p2) - (r2 - p2) * (m1 - p1)) ∨
  (¬ (l1 = r1 ∧ l2 = r2) ∧ r2 ≤ l2 ∧ 0 < (r1 - p1) * (l2 - p2) - (r2 - p2) * (l1 - p1)) ∨
  (¬ (l1 = r1 ∧ l2 = r2) ∧ l2 < r2 ∧ (l1 - m1) * (r2 - m2) - (l2 - m2) * (r1 - m1) < 0)
theorem zg_G_l {S l1 l2 m1 m2 r1 r2 p1 p2 : Int} : zg_G S l1 l2 m1 m2 r1 r2 p1 p2 (S * l2) = ((r1 - p1) * (l2 - p2) - (r2 - p2) * (l1 - p1)) * (S * (m2 - l2)) := by
  unfold zg_G zg_X; grind
theorem zg_G_m {S l1 l2 m1 m2 r1 r2 p1 p2 : Int} : zg_G S l1 l2 m1 m2 r1 r2 p1 p2 (S * m2) = ((r1 - p1) * (m2 - p2) - (r2 - p2) * (m1 - p1)) * (S * (m2 - l2)) := by
  unfold zg_G zg_X; grind
theorem zg_G_r {S l1 l2 m1 m2 r1 r2 p1 p2 : Int} : zg_G S l1 l2 m1 m2 r1 r2 p1 p2 (S * r2) = (-((l1 - m1) * (r2 - m2) - (l2 - m2) * (r1 - m1))) * (S * (p2 - r2)) := by
  unfold zg_G zg_X; grind
/-- east is east at every common height -/
theorem zg_EO {S l1 l2 m1 m2 r1 r2 p1 p2 y : Int} (hn : zg_nc l1 l2 m1 m2 r1 r2 p1 p2 ∨ (l1 = r1 ∧ l2 = r2 ∧ m1 = p1 ∧ m2 = p2)) (hS : 0 < S) (hc : l2 < m2) (ho : r2 < p2)
    (h1 : S * l2 ≤ y) (h2 : S * r2 ≤ y) (h3 : y < S * m2) (h4 : y < S * p2) :
    zg_eo l1 l2 m1 m2 r1 r2 p1 p2 ↔ (0 < zg_G S l1 l2 m1 m2 r1 r2 p1 p2 y ∨ (zg_G S l1 l2 m1 m2 r1 r2 p1 p2 y = 0 ∧ 0 < zg_K l1 l2 m1 m2 r1 r2 p1 p2)) := by
  have dc : 0 < S * (m2 - l2) := Int.mul_pos hS (by omega)
  have d_o : 0 < S * (p2 - r2) := Int.mul_pos hS (by omega)
  by_cases hlr : l1 = r1 ∧ l2 = r2
  · obtain ⟨e1, e2⟩ := hlr
    subst e1; subst e2
    have k1 : zg_G S l1 l2 m1 m2 l1 l2 p1 p2 y = zg_K l1 l2 m1 m2 l1 l2 p1 p2 * (y - S * l2) := by unfold zg_G zg_X zg_K; grind
    have k2 : (l1 - p1) * (m2 - p2) - (l2 - p2) * (m1 - p1) = zg_K l1 l2 m1 m2 l1 l2 p1 p2 := by unfold zg_K; grind
    unfold zg_eo
    rw [k1, k2]
    clear k1 k2 hn
    rcases zg_mc (zg_K l1 l2 m1 m2 l1 l2 p1 p2) (y - S * l2) with q | q | q | q | q | q <;> omega
  · have hn : zg_nc l1 l2 m1 m2 r1 r2 p1 p2 := by
      rcases hn with h | h
      · exact h
      · exact absurd ⟨h.1, h.2.1⟩ hlr
    have nz : ∀ y, S * l2 ≤ y → S * r2 ≤ y → y < S * m2 → y < S * p2 → zg_G S l1 l2 m1 m2 r1 r2 p1 p2 y ≠ 0 := by
      intro y h1 h2 h3 h4 hz
      have g := zg_GZ hn hS hc ho h1 h2 (by omega) (by omega) hz
      have e : (l2 - r2) * S = 0 := by
        have : S * l2 = S * r2 := by omega
        grind
      have e2 := zg_pz hS e
      have e3 : l2 = r2 := by omega
      have e4 : y = S * l2 := by omega
      rw [e4, zg_G_l] at hz
      have e5 := zg_pz dc hz
      rw [e3] at e5
      have e6 : (l1 - r1) * (p2 - r2) = 0 := by grind
      have e7 := zg_pz (show 0 < p2 - r2 by omega) e6
      exact hlr ⟨by omega, e3⟩
    have hy := nz y h1 h2 h3 h4
    by_cases hh : r2 ≤ l2
    · have q : S * r2 ≤ S * l2 := Int.mul_le_mul_of_nonneg_left hh (by omega)
      have hl := nz (S * l2) (by omega) (by omega) (by omega) (by omega)
      have s1 := fun a b => zg_GS hn hS hc ho h1 h2 (by omega) (by omega) (y' := S * l2) (by omega) q (by omega) (by omega) a b
      have s2 := fun a b => zg_GS hn hS hc ho (y := S * l2) (by omega) q (by omega) (by omega) h1 h2 (by omega) (by omega) a b
      rw [zg_G_l] at hl s1 s2
      have mp : 0 < (r1 - p1) * (l2 - p2) - (r2 - p2) * (l1 - p1) → 0 < ((r1 - p1) * (l2 - p2) - (r2 - p2) * (l1 - p1)) * (S * (m2 - l2)) := fun h => Int.mul_pos h dc
      have mn : (r1 - p1) * (l2 - p2) - (r2 - p2) * (l1 - p1) < 0 → ((r1 - p1) * (l2 - p2) - (r2 - p2) * (l1 - p1)) * (S * (m2 - l2)) < 0 := fun h => Int.mul_neg_of_neg_of_pos h dc
      have mz : (r1 - p1) * (l2 - p2) - (r2 - p2) * (l1 - p1) = 0 → ((r1 - p1) * (l2 - p2) - (r2 - p2) * (l1 - p1)) * (S * (m2 - l2)) = 0 := fun h => by rw [h, Int.zero_mul]
      unfold zg_eo
      generalize zg_G S l1 l2 m1 m2 r1 r2 p1 p2 y = g at *
      generalize (r1 - p1) * (l2 - p2) - (r2 - p2) * (l1 - p1) = e at *
      constructor
      · rintro (h | h | h)
        · exact absurd ⟨h.1, h.2.1⟩ hlr
        · rcases zg_sg g with z | z | z
          · exact Or.inl z
          · exact absurd z hy
          · exact absurd z (fun z => s2 (mp h.2.2) z)
        · omega
      · intro h
        have hg : 0 < g := by omega
        refine Or.inr (Or.inl ⟨hlr, hh, ?_⟩)
        rcases zg_sg e with z | z | z
        · exact z
        · exact absurd (mz z) hl
        · exact absurd hg (fun a => s1 a (mn z))
    · have q : S * l2 ≤ S * r2 := Int.mul_le_mul_of_nonneg_left (by omega) (by omega)
      have hl := nz (S * r2) (by omega) (by omega) (by omega) (by omega)
      have s1 := fun a b => zg_GS hn hS hc ho h1 h2 (by omega) (by omega) (y' := S * r2) q (by omega) (by omega) (by omega) a b
      have s2 := fun a b => zg_GS hn hS hc ho (y := S * r2) q (by omega) (by omega) (by omega) h1 h2 (by omega) (by omega) a b
      rw [zg_G_r] at hl s1 s2
      have mp : 0 < -((l1 - m1) * (r2 - m2) - (l2 - m2) * (r1 - m1)) → 0 < (-((l1 - m1) * (r2 - m2) - (l2 - m2) * (r1 - m1))) * (S * (p2 - r2)) := fun h => Int.mul_pos h d_o
      have mn : -((l1 - m1) * (r2 - m2) - (l2 - m2) * (r1 - m1)) < 0 → (-((l1 - m1) * (r2 - m2) - (l2 - m2) * (r1 - m1))) * (S * (p2 - r2)) < 0 := fun h => Int.mul_neg_of_neg_of_pos h d_o
      have mz : -((l1 - m1) * (r2 - m2) - (l2 - m2) * (r1 - m1)) = 0 → (-((l1 - m1) * (r2 - m2) - (l2 - m2) * (r1 - m1))) * (S * (p2 - r2)) = 0 := fun h => by rw [h, Int.zero_mul]
      unfold zg_eo
      generalize zg_G S l1 l2 m1 m2 r1 r2 p1 p2 y = g at *
      generalize (l1 - m1) * (r2 - m2) - (l2 - m2) * (r1 - m1) = e at *
      constructor
      · rintro (h | h | h)
        · exact absurd ⟨h.1, h.2.1⟩ hlr
        · omega
        · rcases zg_sg g with z | z | z
          · exact Or.inl z
          · exact absurd z hy
          · exact absurd z (fun z => s2 (mp (by omega)) z)
      · intro h
        have hg : 0 < g := by omega
        refine Or.inr (Or.inr ⟨hlr, by omega, ?_⟩)
        rcases zg_sg e with z | z | z
        · exact absurd hg (fun a => s1 a (mn (by omega)))
        · exact absurd (mz (by omega)) hl
        · exact z
end
section
/-! snap rounding: links don't cross. A point of a segment is given by (n, i), 0 ≤ i ≤ n -/
theorem zp_bd0 {n i j s t : Int} (hn : 0 < n) (hi : i ≤ n) (hj : j ≤ n) (hs : 0 ≤ s) (ht : 0 ≤ t) (h : 0 < s ∨ 0 < t) :
    ∃ M l : Int, 0 < M ∧ 0 ≤ l ∧ M * i + l * s ≤ M * n ∧ M * j + l * t ≤ M * n ∧ (M * i + l * s = M * n ∨ M * j + l * t = M * n) := by
  by_cases c : 0 < s ∧ (n - i) * t ≤ (n - j) * s
  · refine ⟨s, n - i, c.1, by omega, ?_, ?_, Or.inl ?_⟩
    · have : s * i + (n - i) * s = s * n := by grind
      omega
    · have : s * n - (s * j + (n - i) * t) = (n - j) * s - (n - i) * t := by grind
      omega
    · grind
  · have ht' : 0 < t := by
      rcases Int.lt_or_le 0 t with z | z
      · exact z
      · have : t = 0 := by omega
        subst this
        have : 0 ≤ (n - j) * s := Int.mul_nonneg (by omega) hs
        rw [Int.mul_zero] at c
        omega
    have c' : (n - j) * s ≤ (n - i) * t := by
      rcases Int.lt_or_le 0 s with z | z
      · omega
      · have : s = 0 := by omega
        subst this
        have : 0 ≤ (n - i) * t := Int.mul_nonneg (by omega) ht
        rw [Int.mul_zero]; omega
    refine ⟨t, n - j, ht', by omega, ?_, ?_, Or.inr ?_⟩
    · have : t * n - (t * i + (n - j) * s) = (n - i) * t - (n - j) * s := by grind
      omega
    · have : t * j + (n - j) * t = t * n := by grind
      omega
    · grind
theorem zp_bd {n i j s t : Int} (hn : 0 < n) (hi0 : 0 ≤ i) (hi : i ≤ n) (hj0 : 0 ≤ j) (hj : j ≤ n) (h : s ≠ 0 ∨ t ≠ 0) :
    ∃ M l : Int, 0 < M ∧ 0 ≤ l ∧ 0 ≤ M * i + l * s ∧ M * i + l * s ≤ M * n ∧ 0 ≤ M * j + l * t ∧ M * j + l * t ≤ M * n ∧
      (M * i + l * s = 0 ∨ M * i + l * s = M * n ∨ M * j + l * t = 0 ∨ M * j + l * t = M * n) := by
  rcases Int.lt_or_le s 0 with zs | zs
  · rcases Int.lt_or_le t 0 with zt | zt
    · obtain ⟨M, l, hM, hl, a, b, c⟩ := zp_bd0 (i := n - i) (j := n - j) (s := -s) (t := -t) hn (by omega) (by omega) (by omega) (by omega) (by omega)
      have e1 : M * (n - i) + l * -s = M * n - (M * i + l * s) := by grind
      have e2 : M * (n - j) + l * -t = M * n - (M * j + l * t) := by grind
      have n1 := Int.mul_nonneg (Int.le_of_lt hM) (show 0 ≤ n - i by omega)
      have n2 := Int.mul_nonneg (Int.le_of_lt hM) (show 0 ≤ n - j by omega)
      have n3 := Int.mul_nonneg hl (show 0 ≤ -s by omega)
      have n4 := Int.mul_nonneg hl (show 0 ≤ -t by omega)
      exact ⟨M, l, hM, hl, by omega, by omega, by omega, by omega, by omega⟩
    · obtain ⟨M, l, hM, hl, a, b, c⟩ := zp_bd0 (i := n - i) (j := j) (s := -s) (t := t) hn (by omega) (by omega) (by omega) (by omega) (by omega)
      have e1 : M * (n - i) + l * -s = M * n - (M * i + l * s) := by grind
      have n1 := Int.mul_nonneg (Int.le_of_lt hM) (show 0 ≤ n - i by omega)
      have n2 := Int.mul_nonneg (Int.le_of_lt hM) hj0
      have n3 := Int.mul_nonneg hl (show 0 ≤ -s by omega)
      have n4 := Int.mul_nonneg hl zt
      exact ⟨M, l, hM, hl, by omega, by omega, by omega, by omega, by omega⟩
  · rcases Int.lt_or_le t 0 with zt | zt
    · obtain ⟨M, l, hM, hl, a, b, c⟩ := zp_bd0 (i := i) (j := n - j) (s := s) (t := -t) hn (by omega) (by omega) (by omega) (by omega) (by omega)
      have e2 : M * (n - j) + l * -t = M * n - (M * j + l * t) := by grind
      have n1 := Int.mul_nonneg (Int.le_of_lt hM) hi0
      have n2 := Int.mul_nonneg (Int.le_of_lt hM) (show 0 ≤ n - j by omega)
      have n3 := Int.mul_nonneg hl zs
      have n4 := Int.mul_nonneg hl (show 0 ≤ -t by omega)
      exact ⟨M, l, hM, hl, by omega, by omega, by omega, by omega, by omega⟩
    · obtain ⟨M, l, hM, hl, a, b, c⟩ := zp_bd0 (i := i) (j := j) (s := s) (t := t) hn (by omega) (by omega) (by omega) (by omega) (by omega)
      have n1 := Int.mul_nonneg (Int.le_of_lt hM) hi0
      have n2 := Int.mul_nonneg (Int.le_of_lt hM) hj0
      have n3 := Int.mul_nonneg hl zs
      have n4 := Int.mul_nonneg hl zt
      exact ⟨M, l, hM, hl, by omega, by omega, by omega, by omega, by omega⟩
/-- a convex combination within H of the combination of the centres -/
theorem zp_cv {H n i x0 x1 p0 p1 : Int} (hi0 : 0 ≤ i) (hi : i ≤ n) (hn : 0 < n) (b0 : p0 - H ≤ x0 ∧ x0 < p0 + H) (b1 : p1 - H ≤ x1 ∧ x1 < p1 + H) :
    ((n - i) * p0 + i * p1) - n * H ≤ (n - i) * x0 + i * x1 ∧ (n - i) * x0 + i * x1 < ((n - i) * p0 + i * p1) + n * H := by
  have a1 := Int.mul_nonneg (show 0 ≤ n - i by omega) (show 0 ≤ x0 - (p0 - H) by omega)
  have a2 := Int.mul_nonneg hi0 (show 0 ≤ x1 - (p1 - H) by omega)
  have a3 := Int.mul_nonneg (show 0 ≤ n - i by omega) (show 0 ≤ p0 + H - 1 - x0 by omega)
  have a4 := Int.mul_nonneg hi0 (show 0 ≤ p1 + H - 1 - x1 by omega)
  have e1 : (n - i) * (x0 - (p0 - H)) + i * (x1 - (p1 - H)) = (n - i) * x0 + i * x1 - ((n - i) * p0 + i * p1) + n * H := by grind
  have e2 : (n - i) * (p0 + H - 1 - x0) + i * (p1 + H - 1 - x1) = ((n - i) * p0 + i * p1) + n * H - n - ((n - i) * x0 + i * x1) := by grind
  omega
section
variable {H ex0 ex1 px0 px1 ey0 ey1 fx0 fx1 rx0 rx1 fy0 fy1 : Int}
/-- the direction to walk in -/
theorem zp_dir (E F g h : Int) : ∃ s t : Int, (s ≠ 0 ∨ t ≠ 0) ∧ s * E = t * F ∧ s * g - t * h ≤ 0 := by
  by_cases z : E = 0 ∧ F = 0
  · rcases Int.lt_or_le 0 g with y | y
    · exact ⟨-1, 0, Or.inl (by omega), by rw [z.1, z.2]; omega, by omega⟩
    · exact ⟨1, 0, Or.inl (by omega), by rw [z.1, z.2]; omega, by omega⟩
  · rcases Int.lt_or_le 0 (F * g - E * h) with y | y
    · refine ⟨-F, -E, by omega, by grind, ?_⟩
      have : -F * g - -E * h = -(F * g - E * h) := by grind
      omega
    · exact ⟨F, E, by omega, by grind, y⟩
theorem zp_ph1 (be0 : px0 - H ≤ ex0 ∧ ex0 < px0 + H) (be1 : px1 - H ≤ ex1 ∧ ex1 < px1 + H) (bf0 : rx0 - H ≤ fx0 ∧ fx0 < rx0 + H) (bf1 : rx1 - H ≤ fx1 ∧ fx1 < rx1 + H)
    (dj : ∀ n i j : Int, 0 < n → 0 ≤ i → i ≤ n → 0 ≤ j → j ≤ n → (n - i) * ey0 + i * ey1 = (n - j) * fy0 + j * fy1 → (n - i) * ex0 + i * ex1 ≠ (n - j) * fx0 + j * fx1)
    (av0 : ∀ n i : Int, 0 < n → 0 ≤ i → i ≤ n → (n - i) * ey0 + i * ey1 = n * fy0 → ¬ (n * (rx0 - H) ≤ (n - i) * ex0 + i * ex1 ∧ (n - i) * ex0 + i * ex1 < n * (rx0 + H)))
    (av1 : ∀ n i : Int, 0 < n → 0 ≤ i → i ≤ n → (n - i) * ey0 + i * ey1 = n * fy1 → ¬ (n * (rx1 - H) ≤ (n - i) * ex0 + i * ex1 ∧ (n - i) * ex0 + i * ex1 < n * (rx1 + H)))
    (aw0 : ∀ n j : Int, 0 < n → 0 ≤ j → j ≤ n → (n - j) * fy0 + j * fy1 = n * ey0 → ¬ (n * (px0 - H) ≤ (n - j) * fx0 + j * fx1 ∧ (n - j) * fx0 + j * fx1 < n * (px0 + H)))
    (aw1 : ∀ n j : Int, 0 < n → 0 ≤ j → j ≤ n → (n - j) * fy0 + j * fy1 = n * ey1 → ¬ (n * (px1 - H) ≤ (n - j) * fx0 + j * fx1 ∧ (n - j) * fx0 + j * fx1 < n * (px1 + H)))
    {n i j : Int} (hn : 0 < n) (hi0 : 0 ≤ i) (hi : i ≤ n) (hj0 : 0 ≤ j) (hj : j ≤ n) (hy : (n - i) * ey0 + i * ey1 = (n - j) * fy0 + j * fy1)
    (hd : 0 < ((n - i) * ex0 + i * ex1) - ((n - j) * fx0 + j * fx1)) (hp : (n - i) * px0 + i * px1 = (n - j) * rx0 + j * rx1) : False := by
  obtain ⟨s, t, hst, hEF, hm⟩ := zp_dir (ey1 - ey0) (fy1 - fy0) (px1 - px0) (rx1 - rx0)
  obtain ⟨M, l, hM, hl, i0, i1, j0, j1, hb⟩ := zp_bd hn hi0 hi hj0 hj hst
  obtain ⟨n', en⟩ : ∃ n', n' = M * n := ⟨_, rfl⟩
  obtain ⟨i', ei⟩ : ∃ i', i' = M * i + l * s := ⟨_, rfl⟩
  obtain ⟨j', ej⟩ : ∃ j', j' = M * j + l * t := ⟨_, rfl⟩
  have hn' : 0 < n' := by rw [en]; exact Int.mul_pos hM hn
  have hy' : (n' - i') * ey0 + i' * ey1 = (n' - j') * fy0 + j' * fy1 := by
    have : (n' - i') * ey0 + i' * ey1 - ((n' - j') * fy0 + j' * fy1) = M * (((n - i) * ey0 + i * ey1) - ((n - j) * fy0 + j * fy1)) + l * (s * (ey1 - ey0) - t * (fy1 - fy0)) := by
      rw [en, ei, ej]; grind
    rw [hy, hEF, Int.sub_self, Int.sub_self, Int.mul_zero, Int.mul_zero] at this
    omega
  have hp' : (n' - i') * px0 + i' * px1 - ((n' - j') * rx0 + j' * rx1) ≤ 0 := by
    have : (n' - i') * px0 + i' * px1 - ((n' - j') * rx0 + j' * rx1) = M * (((n - i) * px0 + i * px1) - ((n - j) * rx0 + j * rx1)) + l * (s * (px1 - px0) - t * (rx1 - rx0)) := by
      rw [en, ei, ej]; grind
    rw [hp, Int.sub_self, Int.mul_zero, Int.zero_add] at this
    have := Int.mul_nonpos_of_nonneg_of_nonpos hl hm
    omega
  rw [← ei, ← en] at i1
  rw [← ej, ← en] at j1
  rw [← ei, ← ej, ← en] at hb
  rw [← ei] at i0
  rw [← ej] at j0
  have hd' : 0 < ((n' - i') * ex0 + i' * ex1) - ((n' - j') * fx0 + j' * fx1) := by
    rcases zg_sg (((n' - i') * ex0 + i' * ex1) - ((n' - j') * fx0 + j' * fx1)) with z | z | z
    · exact z
    · exact absurd (by omega) (dj n' i' j' hn' i0 i1 j0 j1 hy')
    · exfalso
      obtain ⟨A, eA⟩ : ∃ A, A = ((n - i) * ex0 + i * ex1) - ((n - j) * fx0 + j * fx1) := ⟨_, rfl⟩
      obtain ⟨B, eB⟩ : ∃ B, B = -(((n' - i') * ex0 + i' * ex1) - ((n' - j') * fx0 + j' * fx1)) := ⟨_, rfl⟩
      have hA : 0 < A := by omega
      have hB : 0 < B := by omega
      have p1 := Int.mul_pos hB hn
      have p2 := Int.mul_pos hA hn'
      have p3 := Int.mul_nonneg (Int.le_of_lt hB) hi0
      have p4 := Int.mul_nonneg (Int.le_of_lt hA) i0
      have p5 := Int.mul_nonneg (Int.le_of_lt hB) hj0
      have p6 := Int.mul_nonneg (Int.le_of_lt hA) j0
      have q1 := Int.mul_le_mul_of_nonneg_left hi (Int.le_of_lt hB)
      have q2 := Int.mul_le_mul_of_nonneg_left i1 (Int.le_of_lt hA)
      have q3 := Int.mul_le_mul_of_nonneg_left hj (Int.le_of_lt hB)
      have q4 := Int.mul_le_mul_of_nonneg_left j1 (Int.le_of_lt hA)
      refine dj (B * n + A * n') (B * i + A * i') (B * j + A * j') (by omega) (by omega) (by omega) (by omega) (by omega) ?_ ?_
      · have e1 : (B * n + A * n' - (B * i + A * i')) * ey0 + (B * i + A * i') * ey1 = B * ((n - i) * ey0 + i * ey1) + A * ((n' - i') * ey0 + i' * ey1) := by grind
        have e2 : (B * n + A * n' - (B * j + A * j')) * fy0 + (B * j + A * j') * fy1 = B * ((n - j) * fy0 + j * fy1) + A * ((n' - j') * fy0 + j' * fy1) := by grind
        rw [e1, e2, hy, hy']
      · have e1 : (B * n + A * n' - (B * i + A * i')) * ex0 + (B * i + A * i') * ex1 = B * ((n - i) * ex0 + i * ex1) + A * ((n' - i') * ex0 + i' * ex1) := by grind
        have e2 : (B * n + A * n' - (B * j + A * j')) * fx0 + (B * j + A * j') * fx1 = B * ((n - j) * fx0 + j * fx1) + A * ((n' - j') * fx0 + j' * fx1) := by grind
        rw [e1, e2]
        have e3 : (n - i) * ex0 + i * ex1 = A + ((n - j) * fx0 + j * fx1) := by omega
        have e4 : (n' - i') * ex0 + i' * ex1 = -B + ((n' - j') * fx0 + j' * fx1) := by omega
        rw [e3, e4]
        grind
  have cve := zp_cv i0 i1 hn' be0 be1
  have cvf := zp_cv j0 j1 hn' bf0 bf1
  rcases hb with z | z | z | z
  · -- i' = 0
    rw [z] at hy' hp' hd' cve
    have m1 := Int.mul_le_mul_of_nonneg_left be0.1 (Int.le_of_lt hn')
    have m2 := Int.mul_le_mul_of_nonneg_left (show ex0 ≤ px0 + H - 1 by omega) (Int.le_of_lt hn')
    have f1 : n' * (px0 - H) = n' * px0 - n' * H := by grind
    have f2 : n' * (px0 + H - 1) = n' * px0 + n' * H - n' := by grind
    have f3 : n' * (px0 + H) = n' * px0 + n' * H := by grind
    rw [Int.sub_zero, Int.zero_mul, Int.add_zero] at hy' hp' hd'
    refine aw0 n' j' hn' j0 j1 hy'.symm ⟨?_, ?_⟩
    · omega
    · omega
  · rw [z] at hy' hp' hd' cve
    have m1 := Int.mul_le_mul_of_nonneg_left be1.1 (Int.le_of_lt hn')
    have m2 := Int.mul_le_mul_of_nonneg_left (show ex1 ≤ px1 + H - 1 by omega) (Int.le_of_lt hn')
    have f1 : n' * (px1 - H) = n' * px1 - n' * H := by grind
    have f2 : n' * (px1 + H - 1) = n' * px1 + n' * H - n' := by grind
    have f3 : n' * (px1 + H) = n' * px1 + n' * H := by grind
    rw [Int.sub_self, Int.zero_mul, Int.zero_add] at hy' hp' hd'
    refine aw1 n' j' hn' j0 j1 hy'.symm ⟨?_, ?_⟩
    · omega
    · omega
  · rw [z] at hy' hp' hd' cvf
    have m1 := Int.mul_le_mul_of_nonneg_left bf0.1 (Int.le_of_lt hn')
    have f1 : n' * (rx0 - H) = n' * rx0 - n' * H := by grind
    have f3 : n' * (rx0 + H) = n' * rx0 + n' * H := by grind
    rw [Int.sub_zero, Int.zero_mul, Int.add_zero] at hy' hp' hd'
    refine av0 n' i' hn' i0 i1 hy' ⟨?_, ?_⟩
    · omega
    · omega
  · rw [z] at hy' hp' hd' cvf
    have m1 := Int.mul_le_mul_of_nonneg_left bf1.1 (Int.le_of_lt hn')
    have f1 : n' * (rx1 - H) = n' * rx1 - n' * H := by grind
    have f3 : n' * (rx1 + H) = n' * rx1 + n' * H := by grind
    rw [Int.sub_self, Int.zero_mul, Int.zero_add] at hy' hp' hd'
    refine av1 n' i' hn' i0 i1 hy' ⟨?_, ?_⟩
    · omega
    · omega
/-- contracting one coordinate to the centres makes no two segments meet -/
theorem zp_ph (be0 : px0 - H ≤ ex0 ∧ ex0 < px0 + H) (be1 : px1 - H ≤ ex1 ∧ ex1 < px1 + H) (bf0 : rx0 - H ≤ fx0 ∧ fx0 < rx0 + H) (bf1 : rx1 - H ≤ fx1 ∧ fx1 < rx1 + H)
    (dj : ∀ n i j : Int, 0 < n → 0 ≤ i → i ≤ n → 0 ≤ j → j ≤ n → (n - i) * ey0 + i * ey1 = (n - j) * fy0 + j * fy1 → (n - i) * ex0 + i * ex1 ≠ (n - j) * fx0 + j * fx1)
    (av0 : ∀ n i : Int, 0 < n → 0 ≤ i → i ≤ n → (n - i) * ey0 + i * ey1 = n * fy0 → ¬ (n * (rx0 - H) ≤ (n - i) * ex0 + i * ex1 ∧ (n - i) * ex0 + i * ex1 < n * (rx0 + H)))
    (av1 : ∀ n i : Int, 0 < n → 0 ≤ i → i ≤ n → (n - i) * ey0 + i * ey1 = n * fy1 → ¬ (n * (rx1 - H) ≤ (n - i) * ex0 + i * ex1 ∧ (n - i) * ex0 + i * ex1 < n * (rx1 + H)))
    (aw0 : ∀ n j : Int, 0 < n → 0 ≤ j → j ≤ n → (n - j) * fy0 + j * fy1 = n * ey0 → ¬ (n * (px0 - H) ≤ (n - j) * fx0 + j * fx1 ∧ (n - j) * fx0 + j * fx1 < n * (px0 + H)))
    (aw1 : ∀ n j : Int, 0 < n → 0 ≤ j → j ≤ n → (n - j) * fy0 + j * fy1 = n * ey1 → ¬ (n * (px1 - H) ≤ (n - j) * fx0 + j * fx1 ∧ (n - j) * fx0 + j * fx1 < n * (px1 + H)))
    (n i j : Int) (hn : 0 < n) (hi0 : 0 ≤ i) (hi : i ≤ n) (hj0 : 0 ≤ j) (hj : j ≤ n) (hy : (n - i) * ey0 + i * ey1 = (n - j) * fy0 + j * fy1) :
    (n - i) * px0 + i * px1 ≠ (n - j) * rx0 + j * rx1 := by
  intro hp
  have h := dj n i j hn hi0 hi hj0 hj hy
  rcases Int.lt_or_le 0 (((n - i) * ex0 + i * ex1) - ((n - j) * fx0 + j * fx1)) with z | z
  · exact zp_ph1 be0 be1 bf0 bf1 dj av0 av1 aw0 aw1 hn hi0 hi hj0 hj hy z hp
  · exact zp_ph1 bf0 bf1 be0 be1 (fun n i j a b c d e f g => dj n j i a d e b c f.symm g.symm) aw0 aw1 av0 av1 hn hj0 hj hi0 hi hy.symm (by omega) hp.symm
end
/-- two links with four different centres don't meet -/
theorem zp_snap {H ex0 ex1 px0 px1 ey0 ey1 py0 py1 fx0 fx1 rx0 rx1 fy0 fy1 ry0 ry1 : Int}
    (be0 : px0 - H ≤ ex0 ∧ ex0 < px0 + H) (be1 : px1 - H ≤ ex1 ∧ ex1 < px1 + H) (bf0 : rx0 - H ≤ fx0 ∧ fx0 < rx0 + H) (bf1 : rx1 - H ≤ fx1 ∧ fx1 < rx1 + H)
    (ce0 : py0 - H ≤ ey0 ∧ ey0 < py0 + H) (ce1 : py1 - H ≤ ey1 ∧ ey1 < py1 + H) (cf0 : ry0 - H ≤ fy0 ∧ fy0 < ry0 + H) (cf1 : ry1 - H ≤ fy1 ∧ fy1 < ry1 + H)
    (dj : ∀ n i j : Int, 0 < n → 0 ≤ i → i ≤ n → 0 ≤ j → j ≤ n → (n - i) * ey0 + i * ey1 = (n - j) * fy0 + j * fy1 → (n - i) * ex0 + i * ex1 ≠ (n - j) * fx0 + j * fx1)
    (av0 : ∀ n i : Int, 0 < n → 0 ≤ i → i ≤ n → ¬ ((n * (rx0 - H) ≤ (n - i) * ex0 + i * ex1 ∧ (n - i) * ex0 + i * ex1 < n * (rx0 + H)) ∧ (n * (ry0 - H) ≤ (n - i) * ey0 + i * ey1 ∧ (n - i) * ey0 + i * ey1 < n * (ry0 + H))))
    (av1 : ∀ n i : Int, 0 < n → 0 ≤ i → i ≤ n → ¬ ((n * (rx1 - H) ≤ (n - i) * ex0 + i * ex1 ∧ (n - i) * ex0 + i * ex1 < n * (rx1 + H)) ∧ (n * (ry1 - H) ≤ (n - i) * ey0 + i * ey1 ∧ (n - i) * ey0 + i * ey1 < n * (ry1 + H))))
    (aw0 : ∀ n j : Int, 0 < n → 0 ≤ j → j ≤ n → ¬ ((n * (px0 - H) ≤ (n - j) * fx0 + j * fx1 ∧ (n - j) * fx0 + j * fx1 < n * (px0 + H)) ∧ (n * (py0 - H) ≤ (n - j) * fy0 + j * fy1 ∧ (n - j) * fy0 + j * fy1 < n * (py0 + H))))
    (aw1 : ∀ n j : Int, 0 < n → 0 ≤ j → j ≤ n → ¬ ((n * (px1 - H) ≤ (n - j) * fx0 + j * fx1 ∧ (n - j) * fx0 + j * fx1 < n * (px1 + H)) ∧ (n * (py1 - H) ≤ (n - j) * fy0 + j * fy1 ∧ (n - j) * fy0 + j * fy1 < n * (py1 + H))))
    (n i j : Int) (hn : 0 < n) (hi0 : 0 ≤ i) (hi : i ≤ n) (hj0 : 0 ≤ j) (hj : j ≤ n) (hx : (n - i) * px0 + i * px1 = (n - j) * rx0 + j * rx1) :
    (n - i) * py0 + i * py1 ≠ (n - j) * ry0 + j * ry1 := by
  have rg : ∀ {n y p : Int}, 0 < n → (p - H ≤ y ∧ y < p + H) → n * (p - H) ≤ n * y ∧ n * y < n * (p + H) := by
    intro n y p hn h
    exact ⟨Int.mul_le_mul_of_nonneg_left h.1 (Int.le_of_lt hn), Int.mul_lt_mul_of_pos_left h.2 hn⟩
  have P1 := zp_ph (ey0 := ey0) (ey1 := ey1) (fy0 := fy0) (fy1 := fy1) be0 be1 bf0 bf1 dj
    (fun n i a b c e h => av0 n i a b c ⟨h, by rw [e]; exact rg a cf0⟩)
    (fun n i a b c e h => av1 n i a b c ⟨h, by rw [e]; exact rg a cf1⟩)
    (fun n i a b c e h => aw0 n i a b c ⟨h, by rw [e]; exact rg a ce0⟩)
    (fun n i a b c e h => aw1 n i a b c ⟨h, by rw [e]; exact rg a ce1⟩)
  have rh : ∀ {n i x0 x1 p0 p1 r : Int}, 0 < n → 0 ≤ i → i ≤ n → (p0 - H ≤ x0 ∧ x0 < p0 + H) → (p1 - H ≤ x1 ∧ x1 < p1 + H) → (n - i) * p0 + i * p1 = n * r → n * (r - H) ≤ (n - i) * x0 + i * x1 ∧ (n - i) * x0 + i * x1 < n * (r + H) := by
    intro n i x0 x1 p0 p1 r hn hi0 hi b0 b1 e
    have := zp_cv hi0 hi hn b0 b1
    rw [e] at this
    rw [Int.mul_sub, Int.mul_add]
    exact this
  exact zp_ph (ey0 := px0) (ey1 := px1) (fy0 := rx0) (fy1 := rx1) ce0 ce1 cf0 cf1
    (fun n i j a b c d e f g => P1 n i j a b c d e g f)
    (fun n i a b c e h => av0 n i a b c ⟨rh a b c be0 be1 e, h⟩)
    (fun n i a b c e h => av1 n i a b c ⟨rh a b c be0 be1 e, h⟩)
    (fun n i a b c e h => aw0 n i a b c ⟨rh a b c bf0 bf1 e, h⟩)
    (fun n i a b c e h => aw1 n i a b c ⟨rh a b c bf0 bf1 e, h⟩)
    n i j hn hi0 hi hj0 hj hx
end
section
/-! pixels and samples -/
theorem zp_cn {n x y : Int} (hn : 0 < n) (h : n * x ≤ n * y) : x ≤ y := Int.le_of_mul_le_mul_left h hn
theorem zp_ct {n x y : Int} (hn : 0 < n) (h : n * x < n * y) : x < y := Int.lt_of_mul_lt_mul_left h (Int.le_of_lt hn)
theorem zp_1d {H A c d w n T j rem k : Int} (hn : 0 < n) (hT : T = 2 * (n * j) + rem) (h0 : 0 ≤ rem) (h1 : rem < 2 * n) (hk : (rem = 0 ∧ k = 2 * j) ∨ (0 < rem ∧ k = 2 * j + 1))
    (hw : d = 0 ∨ (0 < w ∧ 0 < d ∧ H = 2 * (d * w)) ∨ (0 < w ∧ d < 0 ∧ H = -(2 * (d * w))))
    (hin : n * (2 * (H * c) - H) ≤ n * (2 * (H * A)) + T * d ∧ n * (2 * (H * A)) + T * d < n * (2 * (H * c) + H)) :
    2 * (H * c) - H ≤ 2 * (H * A) + k * d ∧ 2 * (H * A) + k * d < 2 * (H * c) + H := by
  rcases hw with z | ⟨z1, z2, z3⟩ | ⟨z1, z2, z3⟩
  · subst z
    rw [Int.mul_zero, Int.add_zero] at hin
    rw [Int.mul_zero, Int.add_zero]
    exact ⟨zp_cn hn hin.1, zp_ct hn hin.2⟩
  · subst z3
    have e1 : n * (2 * (2 * (d * w) * c) - 2 * (d * w)) - n * (2 * (2 * (d * w) * A)) = d * (2 * (n * (w * (2 * (c - A) - 1)))) := by grind
    have e2 : n * (2 * (2 * (d * w) * c) + 2 * (d * w)) - n * (2 * (2 * (d * w) * A)) = d * (2 * (n * (w * (2 * (c - A) + 1)))) := by grind
    have e3 : T * d = d * T := by grind
    have g1 : 2 * (n * (w * (2 * (c - A) - 1))) ≤ T := zp_cn z2 (by omega)
    have g2 : T < 2 * (n * (w * (2 * (c - A) + 1))) := zp_ct z2 (by omega)
    have f1 : w * (2 * (c - A) - 1) ≤ j := by
      rcases Int.lt_or_le j (w * (2 * (c - A) - 1)) with y | y
      · have := Int.mul_le_mul_of_nonneg_left (show j + 1 ≤ w * (2 * (c - A) - 1) by omega) (Int.le_of_lt hn)
        rw [Int.mul_add] at this
        omega
      · exact y
    have f2 : j + 1 ≤ w * (2 * (c - A) + 1) := by
      rcases Int.lt_or_le j (w * (2 * (c - A) + 1)) with y | y
      · omega
      · have := Int.mul_le_mul_of_nonneg_left y (Int.le_of_lt hn)
        omega
    have k1 : 2 * (w * (2 * (c - A) - 1)) ≤ k := by omega
    have k2 : k + 1 ≤ 2 * (w * (2 * (c - A) + 1)) := by omega
    have m1 := Int.mul_le_mul_of_nonneg_left k1 (Int.le_of_lt z2)
    have m2 := Int.mul_le_mul_of_nonneg_left k2 (Int.le_of_lt z2)
    have e4 : d * (2 * (w * (2 * (c - A) - 1))) = 2 * (2 * (d * w) * c) - 2 * (d * w) - 2 * (2 * (d * w) * A) := by grind
    have e5 : d * (2 * (w * (2 * (c - A) + 1))) = 2 * (2 * (d * w) * c) + 2 * (d * w) - 2 * (2 * (d * w) * A) := by grind
    have e6 : d * (k + 1) = k * d + d := by grind
    have e7 : d * k = k * d := by grind
    omega
  · obtain ⟨D, eD⟩ : ∃ D, D = -d := ⟨_, rfl⟩
    have hD : 0 < D := by omega
    have ed : d = -D := by omega
    subst ed
    have z3' : H = 2 * (D * w) := by rw [z3]; grind
    subst z3'
    have e1 : n * (2 * (2 * (D * w) * A)) - n * (2 * (2 * (D * w) * c) - 2 * (D * w)) = D * (2 * (n * (w * (1 - 2 * (c - A))))) := by grind
    have e2 : n * (2 * (2 * (D * w) * A)) - n * (2 * (2 * (D * w) * c) + 2 * (D * w)) = D * (2 * (n * (w * (-1 - 2 * (c - A))))) := by grind
    have e3 : T * -D = -(D * T) := by grind
    have g1 : T ≤ 2 * (n * (w * (1 - 2 * (c - A)))) := zp_cn hD (by omega)
    have g2 : 2 * (n * (w * (-1 - 2 * (c - A)))) < T := zp_ct hD (by omega)
    have f1 : k ≤ 2 * (w * (1 - 2 * (c - A))) := by
      rcases Int.lt_or_le (w * (1 - 2 * (c - A))) (j + 1) with y | y
      · rcases Int.lt_or_le (w * (1 - 2 * (c - A))) j with x | x
        · have := Int.mul_le_mul_of_nonneg_left (show w * (1 - 2 * (c - A)) + 1 ≤ j by omega) (Int.le_of_lt hn)
          rw [Int.mul_add] at this
          omega
        · have e : w * (1 - 2 * (c - A)) = j := by omega
          rw [e] at g1 ⊢
          omega
      · omega
    have f2 : 2 * (w * (-1 - 2 * (c - A))) + 1 ≤ k := by
      rcases Int.lt_or_le j (w * (-1 - 2 * (c - A))) with x | x
      · have := Int.mul_le_mul_of_nonneg_left (show j + 1 ≤ w * (-1 - 2 * (c - A)) by omega) (Int.le_of_lt hn)
        rw [Int.mul_add] at this
        omega
      · rcases Int.lt_or_le (w * (-1 - 2 * (c - A))) j with y | y
        · omega
        · have e : w * (-1 - 2 * (c - A)) = j := by omega
          rw [e] at g2 ⊢
          omega
    have m1 := Int.mul_le_mul_of_nonneg_left f1 (Int.le_of_lt hD)
    have m2 := Int.mul_le_mul_of_nonneg_left f2 (Int.le_of_lt hD)
    have e4 : D * (2 * (w * (1 - 2 * (c - A)))) = 2 * (2 * (D * w) * A) - 2 * (2 * (D * w) * c) + 2 * (D * w) := by grind
    have e5 : D * (2 * (w * (-1 - 2 * (c - A))) + 1) = 2 * (2 * (D * w) * A) - 2 * (2 * (D * w) * c) - 2 * (D * w) + D := by grind
    have e7 : k * -D = -(D * k) := by grind
    omega
/-- borders are multiples of half a unit: H is an even multiple of the extent -/
def zp_w (H d : Int) : Prop := ∃ w : Int, d = 0 ∨ (0 < w ∧ 0 < d ∧ H = 2 * (d * w)) ∨ (0 < w ∧ d < 0 ∧ H = -(2 * (d * w)))
/-- every pixel that the stretch from k1 to k2 touches holds a sample between -/
theorem zp_smp {H a1 a2 d1 d2 k1 k2 n i c1 c2 : Int} (w1 : zp_w H d1) (w2 : zp_w H d2) (hn : 0 < n) (hi0 : 0 ≤ i) (hi : i ≤ n) (hk : k1 ≤ k2)
    (h1 : n * (2 * (H * c1) - H) ≤ (n - i) * (2 * (H * a1) + k1 * d1) + i * (2 * (H * a1) + k2 * d1) ∧ (n - i) * (2 * (H * a1) + k1 * d1) + i * (2 * (H * a1) + k2 * d1) < n * (2 * (H * c1) + H))
    (h2 : n * (2 * (H * c2) - H) ≤ (n - i) * (2 * (H * a2) + k1 * d2) + i * (2 * (H * a2) + k2 * d2) ∧ (n - i) * (2 * (H * a2) + k1 * d2) + i * (2 * (H * a2) + k2 * d2) < n * (2 * (H * c2) + H)) :
    ∃ k : Int, k1 ≤ k ∧ k ≤ k2 ∧ (2 * (H * c1) - H ≤ 2 * (H * a1) + k * d1 ∧ 2 * (H * a1) + k * d1 < 2 * (H * c1) + H) ∧ (2 * (H * c2) - H ≤ 2 * (H * a2) + k * d2 ∧ 2 * (H * a2) + k * d2 < 2 * (H * c2) + H) := by
  obtain ⟨T, eT⟩ : ∃ T, T = (n - i) * k1 + i * k2 := ⟨_, rfl⟩
  have e1 : (n - i) * (2 * (H * a1) + k1 * d1) + i * (2 * (H * a1) + k2 * d1) = n * (2 * (H * a1)) + T * d1 := by rw [eT]; grind
  have e2 : (n - i) * (2 * (H * a2) + k1 * d2) + i * (2 * (H * a2) + k2 * d2) = n * (2 * (H * a2)) + T * d2 := by rw [eT]; grind
  rw [e1] at h1
  rw [e2] at h2
  have b1 : n * k1 ≤ T := by
    have := Int.mul_nonneg hi0 (show 0 ≤ k2 - k1 by omega)
    have e : T = n * k1 + i * (k2 - k1) := by rw [eT]; grind
    omega
  have b2 : T ≤ n * k2 := by
    have := Int.mul_nonneg (show 0 ≤ n - i by omega) (show 0 ≤ k2 - k1 by omega)
    have e : T = n * k2 - (n - i) * (k2 - k1) := by rw [eT]; grind
    omega
  have hT : T = 2 * (n * (T / (2 * n))) + T % (2 * n) := by
    have := Int.mul_ediv_add_emod T (2 * n)
    have e : 2 * n * (T / (2 * n)) = 2 * (n * (T / (2 * n))) := by grind
    omega
  have r0 := Int.emod_nonneg T (show 2 * n ≠ 0 by omega)
  have r1 := Int.emod_lt_of_pos T (show 0 < 2 * n by omega)
  generalize T / (2 * n) = j at *
  generalize T % (2 * n) = rem at *
  obtain ⟨w1, w1⟩ := w1
  obtain ⟨w2, w2⟩ := w2
  rcases Int.lt_or_le 0 rem with z | z
  · refine ⟨2 * j + 1, ?_, ?_, zp_1d hn hT r0 r1 (Or.inr ⟨z, rfl⟩) w1 h1, zp_1d hn hT r0 r1 (Or.inr ⟨z, rfl⟩) w2 h2⟩
    · have : n * k1 < n * (2 * j + 2) := by
        have e : n * (2 * j + 2) = 2 * (n * j) + 2 * n := by grind
        omega
      have := zp_ct hn this
      omega
    · have : n * (2 * j) < n * k2 := by
        have e : n * (2 * j) = 2 * (n * j) := by grind
        omega
      have := zp_ct hn this
      omega
  · have z : rem = 0 := by omega
    refine ⟨2 * j, ?_, ?_, zp_1d hn hT r0 r1 (Or.inl ⟨z, rfl⟩) w1 h1, zp_1d hn hT r0 r1 (Or.inl ⟨z, rfl⟩) w2 h2⟩
    · refine zp_cn hn ?_
      have e : n * (2 * j) = 2 * (n * j) := by grind
      omega
    · refine zp_cn hn ?_
      have e : n * (2 * j) = 2 * (n * j) := by grind
      omega
/-- the point (x, y), in units of 1/10080, lies in the pixel of code c -/
def zp_px (c : Nat) (x y : Int) : Prop := (10080 * zc_x c - 5040 ≤ x ∧ x < 10080 * zc_x c + 5040) ∧ (10080 * zc_y c - 5040 ≤ y ∧ y < 10080 * zc_y c + 5040)
/-- one step of a chain: from the last sample in P to the first in Q no other hot pixel is seen -/
def zp_lk (hot : Nat → Prop) (a1 a2 d1 d2 : Int) (P Q : Nat) : Prop := ∃ k1 k2 : Int, 0 ≤ k1 ∧ k1 ≤ k2 ∧ k2 ≤ 10080 ∧
  zp_px P (10080 * a1 + k1 * d1) (10080 * a2 + k1 * d2) ∧ zp_px Q (10080 * a1 + k2 * d1) (10080 * a2 + k2 * d2) ∧ P < 100 ∧ Q < 100 ∧ hot P ∧ hot Q ∧
  ∀ (k : Int) (c : Nat), k1 ≤ k → k ≤ k2 → c < 100 → hot c → zp_px c (10080 * a1 + k * d1) (10080 * a2 + k * d2) → c = P ∨ c = Q
theorem zp_w5040 {d : Int} (h1 : -9 ≤ d) (h2 : d ≤ 9) : zp_w 5040 d := by
  have h : d = 0 ∨ d = 1 ∨ d = 2 ∨ d = 3 ∨ d = 4 ∨ d = 5 ∨ d = 6 ∨ d = 7 ∨ d = 8 ∨ d = 9 ∨ d = -1 ∨ d = -2 ∨ d = -3 ∨ d = -4 ∨ d = -5 ∨ d = -6 ∨ d = -7 ∨ d = -8 ∨ d = -9 := by omega
  rcases h with h | h | h | h | h | h | h | h | h | h | h | h | h | h | h | h | h | h | h <;> subst h
  · exact ⟨1, by omega⟩
  · exact ⟨2520, by omega⟩
  · exact ⟨1260, by omega⟩
  · exact ⟨840, by omega⟩
  · exact ⟨630, by omega⟩
  · exact ⟨504, by omega⟩
  · exact ⟨420, by omega⟩
  · exact ⟨360, by omega⟩
  · exact ⟨315, by omega⟩
  · exact ⟨280, by omega⟩
  · exact ⟨2520, by omega⟩
  · exact ⟨1260, by omega⟩
  · exact ⟨840, by omega⟩
  · exact ⟨630, by omega⟩
  · exact ⟨504, by omega⟩
  · exact ⟨420, by omega⟩
  · exact ⟨360, by omega⟩
  · exact ⟨315, by omega⟩
  · exact ⟨280, by omega⟩
end
section
/-! two links of two edges don't cross -/
theorem zp_tch {hot : Nat → Prop} {a1 a2 d1 d2 k1 k2 : Int} {P Q : Nat} (b1 : -9 ≤ d1 ∧ d1 ≤ 9) (b2 : -9 ≤ d2 ∧ d2 ≤ 9) (hk : k1 ≤ k2)
    (hs : ∀ (k : Int) (c : Nat), k1 ≤ k → k ≤ k2 → c < 100 → hot c → zp_px c (10080 * a1 + k * d1) (10080 * a2 + k * d2) → c = P ∨ c = Q)
    {n i : Int} {c : Nat} (hc : c < 100) (hh : hot c) (hn : 0 < n) (hi0 : 0 ≤ i) (hi : i ≤ n)
    (h1 : n * (10080 * zc_x c - 5040) ≤ (n - i) * (10080 * a1 + k1 * d1) + i * (10080 * a1 + k2 * d1) ∧ (n - i) * (10080 * a1 + k1 * d1) + i * (10080 * a1 + k2 * d1) < n * (10080 * zc_x c + 5040))
    (h2 : n * (10080 * zc_y c - 5040) ≤ (n - i) * (10080 * a2 + k1 * d2) + i * (10080 * a2 + k2 * d2) ∧ (n - i) * (10080 * a2 + k1 * d2) + i * (10080 * a2 + k2 * d2) < n * (10080 * zc_y c + 5040)) :
    c = P ∨ c = Q := by
  have e : ∀ x : Int, 10080 * x = 2 * (5040 * x) := by intro x; omega
  rw [e, e] at h1 h2
  obtain ⟨k, p1, p2, p3, p4⟩ := zp_smp (zp_w5040 b1.1 b1.2) (zp_w5040 b2.1 b2.2) hn hi0 hi hk h1 h2
  refine hs k c p1 p2 hc hh ⟨?_, ?_⟩
  · rw [e, e]; exact p3
  · rw [e, e]; exact p4
theorem zp_scl {n y p : Int} (hn : 0 < n) (h : p - 5040 ≤ y ∧ y < p + 5040) : n * (p - 5040) ≤ n * y ∧ n * y < n * (p + 5040) :=
  ⟨Int.mul_le_mul_of_nonneg_left h.1 (Int.le_of_lt hn), Int.mul_lt_mul_of_pos_left h.2 hn⟩
/-- a hot centre on the link is one of its ends -/
theorem zp_on {hot : Nat → Prop} {a1 a2 d1 d2 : Int} {P Q : Nat} (b1 : -9 ≤ d1 ∧ d1 ≤ 9) (b2 : -9 ≤ d2 ∧ d2 ≤ 9) (lk : zp_lk hot a1 a2 d1 d2 P Q)
    {n i : Int} {c : Nat} (hc : c < 100) (hh : hot c) (hn : 0 < n) (hi0 : 0 ≤ i) (hi : i ≤ n)
    (e1 : (n - i) * zc_x P + i * zc_x Q = n * zc_x c) (e2 : (n - i) * zc_y P + i * zc_y Q = n * zc_y c) : c = P ∨ c = Q := by
  obtain ⟨k1, k2, h0, hk, h3, hP, hQ, -, -, -, -, hs⟩ := lk
  refine zp_tch b1 b2 hk hs hc hh hn hi0 hi ?_ ?_
  · have := zp_cv hi0 hi hn hP.1 hQ.1
    have e : (n - i) * (10080 * zc_x P) + i * (10080 * zc_x Q) = 10080 * ((n - i) * zc_x P + i * zc_x Q) := by clear this e1 e2 hs; grind
    rw [e, e1] at this
    have f1 : n * (10080 * zc_x c - 5040) = 10080 * (n * zc_x c) - n * 5040 := by clear this e1 e2 hs; grind
    have f2 : n * (10080 * zc_x c + 5040) = 10080 * (n * zc_x c) + n * 5040 := by clear this e1 e2 hs; grind
    rw [f1, f2]; exact this
  · have := zp_cv hi0 hi hn hP.2 hQ.2
    have e : (n - i) * (10080 * zc_y P) + i * (10080 * zc_y Q) = 10080 * ((n - i) * zc_y P + i * zc_y Q) := by clear this e1 e2 hs; grind
    rw [e, e2] at this
    have f1 : n * (10080 * zc_y c - 5040) = 10080 * (n * zc_y c) - n * 5040 := by clear this e1 e2 hs; grind
    have f2 : n * (10080 * zc_y c + 5040) = 10080 * (n * zc_y c) + n * 5040 := by clear this e1 e2 hs; grind
    rw [f1, f2]; exact this
/-- common points of two edges that aren't parallel lie in hot pixels -/
def zp_cx (hot : Nat → Prop) (a1 a2 d1 d2 b1 b2 g1 g2 : Int) : Prop := ∀ n i j : Int, 0 < n → 0 ≤ i → i ≤ n → 0 ≤ j → j ≤ n → n * a1 + i * d1 = n * b1 + j * g1 → n * a2 + i * d2 = n * b2 + j * g2 → d1 * g2 - d2 * g1 ≠ 0 →
  ∃ c : Nat, c < 100 ∧ hot c ∧ (n * (2 * zc_x c - 1) ≤ 2 * (n * a1 + i * d1) ∧ 2 * (n * a1 + i * d1) < n * (2 * zc_x c + 1)) ∧ (n * (2 * zc_y c - 1) ≤ 2 * (n * a2 + i * d2) ∧ 2 * (n * a2 + i * d2) < n * (2 * zc_y c + 1))
theorem zp_pd {D1 D2 G1 G2 : Int} (h : D1 * G2 = D2 * G1) : ∃ s t : Int, (s ≠ 0 ∨ t ≠ 0) ∧ s * D1 = t * G1 ∧ s * D2 = t * G2 := by
  by_cases z : D1 = 0
  · by_cases y : D2 = 0
    · exact ⟨1, 0, Or.inl (by omega), by rw [z]; omega, by rw [y]; omega⟩
    · refine ⟨G2, D2, Or.inr y, by grind, by grind⟩
  · exact ⟨G1, D1, Or.inr z, by grind, by grind⟩
theorem zp_tb {n i k1 k2 : Int} (hi0 : 0 ≤ i) (hi : i ≤ n) (h0 : 0 ≤ k1) (hk : k1 ≤ k2) (h1 : k2 ≤ 10080) (hn : 0 < n) : 0 ≤ (n - i) * k1 + i * k2 ∧ (n - i) * k1 + i * k2 ≤ 10080 * n := by
  have a1 := Int.mul_nonneg (show 0 ≤ n - i by omega) h0
  have a2 := Int.mul_nonneg hi0 (show 0 ≤ k2 by omega)
  have a3 := Int.mul_nonneg (show 0 ≤ n - i by omega) (show 0 ≤ 10080 - k1 by omega)
  have a4 := Int.mul_nonneg hi0 (show 0 ≤ 10080 - k2 by omega)
  have e : (n - i) * (10080 - k1) + i * (10080 - k2) = 10080 * n - ((n - i) * k1 + i * k2) := by clear a1 a2 a3 a4; grind
  omega
theorem zp_half {n x v : Int} (h : 10080 * n * (2 * x - 1) ≤ 2 * v ∧ 2 * v < 10080 * n * (2 * x + 1)) : n * (10080 * x - 5040) ≤ v ∧ v < n * (10080 * x + 5040) := by
  have e1 : 10080 * n * (2 * x - 1) = 2 * (n * (10080 * x - 5040)) := by clear h; grind
  have e2 : 10080 * n * (2 * x + 1) = 2 * (n * (10080 * x + 5040)) := by clear h; grind
  omega
/-- the walk along a common line, at one coordinate -/
theorem zp_mv {M n i j l s t e0 e1 f0 f1 : Int} (h : (n - i) * e0 + i * e1 = (n - j) * f0 + j * f1) (hs : s * (e1 - e0) = t * (f1 - f0)) :
    (M * n - (M * i + l * s)) * e0 + (M * i + l * s) * e1 = (M * n - (M * j + l * t)) * f0 + (M * j + l * t) * f1 := by
  have x1 : (M * n - (M * i + l * s)) * e0 + (M * i + l * s) * e1 = M * ((n - i) * e0 + i * e1) + l * (s * (e1 - e0)) := by clear h hs; grind
  have x2 : (M * n - (M * j + l * t)) * f0 + (M * j + l * t) * f1 = M * ((n - j) * f0 + j * f1) + l * (t * (f1 - f0)) := by clear h hs; grind
  rw [x1, x2, h, hs]
theorem zp_dj {hot : Nat → Prop} {a1 a2 d1 d2 k1 k2 b1 b2 g1 g2 l1 l2 : Int} {P Q R S : Nat} (bd1 : -9 ≤ d1 ∧ d1 ≤ 9) (bd2 : -9 ≤ d2 ∧ d2 ≤ 9) (bg1 : -9 ≤ g1 ∧ g1 ≤ 9) (bg2 : -9 ≤ g2 ∧ g2 ≤ 9)
    (hk0 : 0 ≤ k1) (hk : k1 ≤ k2) (hk1 : k2 ≤ 10080) (hl0 : 0 ≤ l1) (hl : l1 ≤ l2) (hl1 : l2 ≤ 10080)
    (hs : ∀ (k : Int) (c : Nat), k1 ≤ k → k ≤ k2 → c < 100 → hot c → zp_px c (10080 * a1 + k * d1) (10080 * a2 + k * d2) → c = P ∨ c = Q)
    (ht : ∀ (k : Int) (c : Nat), l1 ≤ k → k ≤ l2 → c < 100 → hot c → zp_px c (10080 * b1 + k * g1) (10080 * b2 + k * g2) → c = R ∨ c = S)
    (hP : zp_px P (10080 * a1 + k1 * d1) (10080 * a2 + k1 * d2)) (hQ : zp_px Q (10080 * a1 + k2 * d1) (10080 * a2 + k2 * d2))
    (hR : zp_px R (10080 * b1 + l1 * g1) (10080 * b2 + l1 * g2)) (hS : zp_px S (10080 * b1 + l2 * g1) (10080 * b2 + l2 * g2))
    (P1 : P < 100) (Q1 : Q < 100) (R1 : R < 100) (S1 : S < 100) (Ph : hot P) (Qh : hot Q) (Rh : hot R) (Sh : hot S) (cx : zp_cx hot a1 a2 d1 d2 b1 b2 g1 g2)
    (n1 : P ≠ R) (n2 : P ≠ S) (n3 : Q ≠ R) (n4 : Q ≠ S)
    (n i j : Int) (hn : 0 < n) (hi0 : 0 ≤ i) (hi : i ≤ n) (hj0 : 0 ≤ j) (hj : j ≤ n)
    (h2 : (n - i) * (10080 * a2 + k1 * d2) + i * (10080 * a2 + k2 * d2) = (n - j) * (10080 * b2 + l1 * g2) + j * (10080 * b2 + l2 * g2)) :
    (n - i) * (10080 * a1 + k1 * d1) + i * (10080 * a1 + k2 * d1) ≠ (n - j) * (10080 * b1 + l1 * g1) + j * (10080 * b1 + l2 * g1) := by
  intro h1
  have ee : ∀ n i k1 k2 a d : Int, (n - i) * (10080 * a + k1 * d) + i * (10080 * a + k2 * d) = 10080 * n * a + ((n - i) * k1 + i * k2) * d := by intro n i k1 k2 a d; grind
  by_cases par : d1 * g2 - d2 * g1 = 0
  · have hD : ((10080 * a1 + k2 * d1) - (10080 * a1 + k1 * d1)) * ((10080 * b2 + l2 * g2) - (10080 * b2 + l1 * g2)) = ((10080 * a2 + k2 * d2) - (10080 * a2 + k1 * d2)) * ((10080 * b1 + l2 * g1) - (10080 * b1 + l1 * g1)) := by
      have : ((10080 * a1 + k2 * d1) - (10080 * a1 + k1 * d1)) * ((10080 * b2 + l2 * g2) - (10080 * b2 + l1 * g2)) - ((10080 * a2 + k2 * d2) - (10080 * a2 + k1 * d2)) * ((10080 * b1 + l2 * g1) - (10080 * b1 + l1 * g1)) = (k2 - k1) * (l2 - l1) * (d1 * g2 - d2 * g1) := by
        clear h1 h2 par; grind
      rw [par, Int.mul_zero] at this
      omega
    obtain ⟨s, t, st, q1, q2⟩ := zp_pd hD
    obtain ⟨M, l, hM, hl', i0, i1, j0, j1, hb⟩ := zp_bd hn hi0 hi hj0 hj st
    have m1 := zp_mv (M := M) (l := l) h1 q1
    have m2 := zp_mv (M := M) (l := l) h2 q2
    have hn' : 0 < M * n := Int.mul_pos hM hn
    generalize M * n = n' at *
    generalize M * i + l * s = i' at *
    generalize M * j + l * t = j' at *
    rcases hb with z | z | z | z
    · rw [z, Int.sub_zero, Int.zero_mul, Int.add_zero] at m1 m2
      have x1 := zp_scl hn' hP.1
      have x2 := zp_scl hn' hP.2
      rw [m1] at x1
      rw [m2] at x2
      rcases zp_tch bg1 bg2 hl ht P1 Ph hn' j0 j1 x1 x2 with w | w
      · exact n1 w
      · exact n2 w
    · rw [z, Int.sub_self, Int.zero_mul, Int.zero_add] at m1 m2
      have x1 := zp_scl hn' hQ.1
      have x2 := zp_scl hn' hQ.2
      rw [m1] at x1
      rw [m2] at x2
      rcases zp_tch bg1 bg2 hl ht Q1 Qh hn' j0 j1 x1 x2 with w | w
      · exact n3 w
      · exact n4 w
    · rw [z, Int.sub_zero, Int.zero_mul, Int.add_zero] at m1 m2
      have x1 := zp_scl hn' hR.1
      have x2 := zp_scl hn' hR.2
      rw [← m1] at x1
      rw [← m2] at x2
      rcases zp_tch bd1 bd2 hk hs R1 Rh hn' i0 i1 x1 x2 with w | w
      · exact n1 w.symm
      · exact n3 w.symm
    · rw [z, Int.sub_self, Int.zero_mul, Int.zero_add] at m1 m2
      have x1 := zp_scl hn' hS.1
      have x2 := zp_scl hn' hS.2
      rw [← m1] at x1
      rw [← m2] at x2
      rcases zp_tch bd1 bd2 hk hs S1 Sh hn' i0 i1 x1 x2 with w | w
      · exact n2 w.symm
      · exact n4 w.symm
  · have bT := zp_tb hi0 hi hk0 hk hk1 hn
    have bU := zp_tb hj0 hj hl0 hl hl1 hn
    have g1' := h1
    have g2' := h2
    rw [ee, ee] at g1' g2'
    obtain ⟨c, c1, c2, c3, c4⟩ := cx (10080 * n) _ _ (by omega) bT.1 bT.2 bU.1 bU.2 g1' g2' par
    rw [← ee] at c3 c4
    have x3 := zp_half c3
    have x4 := zp_half c4
    have u := zp_tch bd1 bd2 hk hs c1 c2 hn hi0 hi x3 x4
    rw [h1] at x3
    rw [h2] at x4
    have v := zp_tch bg1 bg2 hl ht c1 c2 hn hj0 hj x3 x4
    rcases u with u | u <;> rcases v with v | v <;> subst u
    · exact n1 v
    · exact n2 v
    · exact n3 v
    · exact n4 v
/-- links that share one end -/
theorem zp_sh {P Q S : Nat} (hPQ : P ≠ Q) (hPS : P ≠ S) (hQS : Q ≠ S)
    (h1 : ∀ n i : Int, 0 < n → 0 ≤ i → i ≤ n → (n - i) * zc_x P + i * zc_x Q = n * zc_x S → (n - i) * zc_y P + i * zc_y Q = n * zc_y S → S = P ∨ S = Q)
    (h2 : ∀ n i : Int, 0 < n → 0 ≤ i → i ≤ n → (n - i) * zc_x P + i * zc_x S = n * zc_x Q → (n - i) * zc_y P + i * zc_y S = n * zc_y Q → Q = P ∨ Q = S) : zc_nc P Q P S := by
  intro n i j hn hi0 hi hj0 hj e1 e2
  have f1 : i * (zc_x Q - zc_x P) = j * (zc_x S - zc_x P) := by clear h1 h2; grind
  have f2 : i * (zc_y Q - zc_y P) = j * (zc_y S - zc_y P) := by clear h1 h2; grind
  rcases Int.lt_or_le 0 i with zi | zi
  · exfalso
    rcases Int.lt_or_le i j with z | z
    · rcases h1 j i (by omega) hi0 (by omega) (by clear h1 h2 e1 e2; grind) (by clear h1 h2 e1 e2; grind) with w | w
      · exact hPS w.symm
      · exact hQS w.symm
    · rcases h2 i j (by omega) hj0 (by omega) (by clear h1 h2 e1 e2; grind) (by clear h1 h2 e1 e2; grind) with w | w
      · exact hPQ w.symm
      · exact hQS w
  · have zi : i = 0 := by omega
    rw [zi, Int.zero_mul] at f1 f2
    by_cases zj : j = 0
    · exact ⟨Or.inl zi, Or.inl zj⟩
    · exfalso
      have := zg_end (x := zc_x S - zc_x P) (y := zc_y S - zc_y P) (k := j) zj (by rw [Int.mul_comm]; omega) (by rw [Int.mul_comm]; omega)
      exact hPS (zc_e (by omega) (by omega))
/-- two links with four different ends -/
theorem zp_nc4 {hot : Nat → Prop} {a1 a2 d1 d2 b1 b2 g1 g2 : Int} {P Q R S : Nat} (bd1 : -9 ≤ d1 ∧ d1 ≤ 9) (bd2 : -9 ≤ d2 ∧ d2 ≤ 9) (bg1 : -9 ≤ g1 ∧ g1 ≤ 9) (bg2 : -9 ≤ g2 ∧ g2 ≤ 9)
    (lk : zp_lk hot a1 a2 d1 d2 P Q) (ll : zp_lk hot b1 b2 g1 g2 R S) (cx : zp_cx hot a1 a2 d1 d2 b1 b2 g1 g2) (n1 : P ≠ R) (n2 : P ≠ S) (n3 : Q ≠ R) (n4 : Q ≠ S) : zc_nc P Q R S := by
  obtain ⟨k1, k2, hk0, hk, hk1, hP, hQ, P1, Q1, Ph, Qh, hs⟩ := lk
  obtain ⟨l1, l2, hl0, hl, hl1, hR, hS, R1, S1, Rh, Sh, ht⟩ := ll
  intro n i j hn hi0 hi hj0 hj e1 e2
  exfalso
  refine zp_snap hP.1 hQ.1 hR.1 hS.1 hP.2 hQ.2 hR.2 hS.2 (zp_dj bd1 bd2 bg1 bg2 hk0 hk hk1 hl0 hl hl1 hs ht hP hQ hR hS P1 Q1 R1 S1 Ph Qh Rh Sh cx n1 n2 n3 n4)
    (fun n i a b c h => ?_) (fun n i a b c h => ?_) (fun n i a b c h => ?_) (fun n i a b c h => ?_) n i j hn hi0 hi hj0 hj ?_ ?_
  · rcases zp_tch bd1 bd2 hk hs R1 Rh a b c h.1 h.2 with w | w
    · exact n1 w.symm
    · exact n3 w.symm
  · rcases zp_tch bd1 bd2 hk hs S1 Sh a b c h.1 h.2 with w | w
    · exact n2 w.symm
    · exact n4 w.symm
  · rcases zp_tch bg1 bg2 hl ht P1 Ph a b c h.1 h.2 with w | w
    · exact n1 w
    · exact n2 w
  · rcases zp_tch bg1 bg2 hl ht Q1 Qh a b c h.1 h.2 with w | w
    · exact n3 w
    · exact n4 w
  · have x1 : (n - i) * (10080 * zc_x P) + i * (10080 * zc_x Q) = 10080 * ((n - i) * zc_x P + i * zc_x Q) := by clear e1 e2 hs ht cx; grind
    have x2 : (n - j) * (10080 * zc_x R) + j * (10080 * zc_x S) = 10080 * ((n - j) * zc_x R + j * zc_x S) := by clear e1 e2 hs ht cx; grind
    rw [x1, x2, e1]
  · have x1 : (n - i) * (10080 * zc_y P) + i * (10080 * zc_y Q) = 10080 * ((n - i) * zc_y P + i * zc_y Q) := by clear e1 e2 hs ht cx; grind
    have x2 : (n - j) * (10080 * zc_y R) + j * (10080 * zc_y S) = 10080 * ((n - j) * zc_y R + j * zc_y S) := by clear e1 e2 hs ht cx; grind
    rw [x1, x2, e2]
/-- two different links -/
theorem zp_NC {hot : Nat → Prop} {a1 a2 d1 d2 b1 b2 g1 g2 : Int} {P Q R S : Nat} (bd1 : -9 ≤ d1 ∧ d1 ≤ 9) (bd2 : -9 ≤ d2 ∧ d2 ≤ 9) (bg1 : -9 ≤ g1 ∧ g1 ≤ 9) (bg2 : -9 ≤ g2 ∧ g2 ≤ 9)
    (lk : zp_lk hot a1 a2 d1 d2 P Q) (ll : zp_lk hot b1 b2 g1 g2 R S) (cx : zp_cx hot a1 a2 d1 d2 b1 b2 g1 g2) (hPQ : P ≠ Q) (hRS : R ≠ S)
    (hne : ¬ (R = P ∧ S = Q) ∧ ¬ (R = Q ∧ S = P)) : zc_nc P Q R S := by
  have u1 : ∀ c : Nat, c < 100 → hot c → ∀ n i : Int, 0 < n → 0 ≤ i → i ≤ n → (n - i) * zc_x P + i * zc_x Q = n * zc_x c → (n - i) * zc_y P + i * zc_y Q = n * zc_y c → c = P ∨ c = Q :=
    fun c hc hh n i a b c e1 e2 => zp_on bd1 bd2 lk hc hh a b c e1 e2
  have u2 : ∀ c : Nat, c < 100 → hot c → ∀ n i : Int, 0 < n → 0 ≤ i → i ≤ n → (n - i) * zc_x R + i * zc_x S = n * zc_x c → (n - i) * zc_y R + i * zc_y S = n * zc_y c → c = R ∨ c = S :=
    fun c hc hh n i a b c e1 e2 => zp_on bg1 bg2 ll hc hh a b c e1 e2
  have v1 : ∀ c : Nat, c < 100 → hot c → ∀ n i : Int, 0 < n → 0 ≤ i → i ≤ n → (n - i) * zc_x Q + i * zc_x P = n * zc_x c → (n - i) * zc_y Q + i * zc_y P = n * zc_y c → c = Q ∨ c = P :=
    fun c hc hh n i a b c' e1 e2 => (u1 c hc hh n (n - i) a (by omega) (by omega) (by rw [← e1]; clear u1 u2 lk ll cx e1 e2; grind) (by rw [← e2]; clear u1 u2 lk ll cx e1 e2; grind)).symm
  have v2 : ∀ c : Nat, c < 100 → hot c → ∀ n i : Int, 0 < n → 0 ≤ i → i ≤ n → (n - i) * zc_x S + i * zc_x R = n * zc_x c → (n - i) * zc_y S + i * zc_y R = n * zc_y c → c = S ∨ c = R :=
    fun c hc hh n i a b c' e1 e2 => (u2 c hc hh n (n - i) a (by omega) (by omega) (by rw [← e1]; clear u1 u2 lk ll cx e1 e2; grind) (by rw [← e2]; clear u1 u2 lk ll cx e1 e2; grind)).symm
  have lk' := lk
  have ll' := ll
  obtain ⟨_, _, _, _, _, _, _, P1, Q1, Ph, Qh, _⟩ := lk'
  obtain ⟨_, _, _, _, _, _, _, R1, S1, Rh, Sh, _⟩ := ll'
  by_cases c1 : P = R
  · subst c1
    have q : Q ≠ S := fun e => hne.1 ⟨rfl, e.symm⟩
    exact zp_sh hPQ hRS q (u1 S S1 Sh) (u2 Q Q1 Qh)
  · by_cases c2 : P = S
    · subst c2
      have q : Q ≠ R := fun e => hne.2 ⟨e.symm, rfl⟩
      exact zg_nc_s (zp_sh hPQ c1 q (u1 R R1 Rh) (v2 Q Q1 Qh))
    · by_cases c3 : Q = R
      · subst c3
        exact zg_nc_r (zp_sh (Ne.symm hPQ) hRS c2 (v1 S S1 Sh) (u2 P P1 Ph))
      · by_cases c4 : Q = S
        · subst c4
          exact zg_nc_s (zg_nc_r (zp_sh (Ne.symm hPQ) (Ne.symm hRS) c1 (v1 R R1 Rh) (v2 P P1 Ph)))
        · exact zp_nc4 bd1 bd2 bg1 bg2 lk ll cx c1 c2 c3 c4
end
section
/-! W left of a half-edge, by the component's order about its origin -/
def zv_xa (a b t : Nat) : Int := zg_xa (zc_x b - zc_x a) (zc_y b - zc_y a) (zc_x t - zc_x a) (zc_y t - zc_y a)
def zv_M (a t : Nat) : Int := zg_M (zc_x t - zc_x a) (zc_y t - zc_y a)
def zv_sd (a b t : Nat) : Int := zg_sd (zc_x b - zc_x a) (zc_y b - zc_y a) (zc_x t - zc_x a) (zc_y t - zc_y a)
theorem zv_af1 {a b t : Nat} (ha : a < 100) (hb : b < 100) (ht : t < 100) (hab : a ≠ b) (hta : t ≠ a) : zv_af a b 1 t = zv_xa a b t - zv_M a t + zv_M a b := by
  have ba := zc_b ha
  have bb := zc_b hb
  have bt := zc_b ht
  have h := zg_aft1 (zc_ne (Ne.symm hab)) (zc_ne hta) (by omega) (by omega) (by omega) (by omega)
  unfold zv_xa zv_M
  rw [← h]
  unfold zv_af
  have e1 : zv_r2 a b 1 = 1000 * (zc_y b - zc_y a) + 2 * (zc_x b - zc_x a) := by unfold zv_r2; omega
  have e2 : zv_d a b 1 t = 1000 * ((zc_x b - zc_x a) * (zc_y t - zc_y a) - (zc_y b - zc_y a) * (zc_x t - zc_x a)) - 2 * ((zc_x b - zc_x a) * (zc_x t - zc_x a) + (zc_y b - zc_y a) * (zc_y t - zc_y a)) := by
    clear h; unfold zv_d zv_r1 zv_r2; grind
  rw [e1, e2]
theorem zv_dm (a b t : Nat) : zv_d a b (-1) t = 1000 * ((zc_x b - zc_x a) * (zc_y t - zc_y a) - (zc_y b - zc_y a) * (zc_x t - zc_x a)) + 2 * ((zc_x b - zc_x a) * (zc_x t - zc_x a) + (zc_y b - zc_y a) * (zc_y t - zc_y a)) := by
  unfold zv_d zv_r1 zv_r2; grind
theorem zv_af2 {a b t : Nat} (ha : a < 100) (hb : b < 100) (ht : t < 100) (hab : a ≠ b) (hta : t ≠ a) : zv_af a b (-1) t = zv_xa a b t + zv_sd a b t - zv_M a t + (zv_M a b - zg_ws (zc_x b - zc_x a) (zc_y b - zc_y a)) := by
  have ba := zc_b ha
  have bb := zc_b hb
  have bt := zc_b ht
  have h := zg_aft2 (zc_ne (Ne.symm hab)) (zc_ne hta) (by omega) (by omega) (by omega) (by omega)
  have e1 : zv_r2 a b (-1) = 1000 * (zc_y b - zc_y a) - 2 * (zc_x b - zc_x a) := by unfold zv_r2; omega
  have e2 := zv_dm a b t
  have e3 : zv_af a b (-1) t = zg_af (zc_x t - zc_x a) (zc_y t - zc_y a) (1000 * (zc_y b - zc_y a) - 2 * (zc_x b - zc_x a)) (1000 * ((zc_x b - zc_x a) * (zc_y t - zc_y a) - (zc_y b - zc_y a) * (zc_x t - zc_x a)) + 2 * ((zc_x b - zc_x a) * (zc_x t - zc_x a) + (zc_y b - zc_y a) * (zc_y t - zc_y a))) := by
    unfold zv_af
    rw [e1, e2]
  rw [e3, h]
  unfold zv_xa zv_M zv_sd
  omega
/-- two pieces at one end have different directions -/
theorem zv_nsd {a b t : Nat} (hta : t ≠ a) (hn : zc_nc a b a t) : zv_sd a b t = 0 := by
  unfold zv_sd zg_sd
  rw [if_neg]
  rintro ⟨h1, h2⟩
  have V := zg_sq (zc_ne hta)
  have g : ∀ p1 p2 w1 w2 : Int, p1 * w2 - p2 * w1 = 0 → p1 * (w1 * w1 + w2 * w2) = w1 * (p1 * w1 + p2 * w2) ∧ p2 * (w1 * w1 + w2 * w2) = w2 * (p1 * w1 + p2 * w2) := by
    intro p1 p2 w1 w2 h
    have e1 : p1 * (w1 * w1 + w2 * w2) - w1 * (p1 * w1 + p2 * w2) = w2 * (p1 * w2 - p2 * w1) := by clear h; grind
    have e2 : p2 * (w1 * w1 + w2 * w2) - w2 * (p1 * w1 + p2 * w2) = -(w1 * (p1 * w2 - p2 * w1)) := by clear h; grind
    rw [h, Int.mul_zero] at e1 e2
    omega
  have g' := g _ _ _ _ h1
  generalize hV : (zc_x t - zc_x a) * (zc_x t - zc_x a) + (zc_y t - zc_y a) * (zc_y t - zc_y a) = V' at *
  generalize hD : (zc_x b - zc_x a) * (zc_x t - zc_x a) + (zc_y b - zc_y a) * (zc_y t - zc_y a) = D at *
  have q : ∀ A B T : Int, (B - A) * V' = (T - A) * D → (V' + D + 1 - V') * A + V' * B = (V' + D + 1 - D) * A + D * T := by
    intro A B T h
    have e : ((V' + D + 1 - V') * A + V' * B) - ((V' + D + 1 - D) * A + D * T) = (B - A) * V' - (T - A) * D := by clear h; grind
    omega
  have h := hn (V' + D + 1) V' D (by omega) (by omega) (by omega) (by omega) (by omega) (q _ _ _ g'.1) (q _ _ _ g'.2)
  omega
theorem zv_sdb {a b : Nat} (hab : a ≠ b) : zv_sd a b b = 1 := by
  unfold zv_sd zg_sd
  have V := zg_sq (zc_ne (Ne.symm hab))
  rw [if_pos ⟨by rw [Int.mul_comm]; omega, V⟩]
section
variable {N : Nat} {su st sp : Nat → Nat}
/-- sum over the steps at a: out of a, minus into a -/
def zv_at (N : Nat) (su st sp : Nat → Nat) (p a : Nat) (f : Nat → Int) : Int := zs_S sp p N (fun s => (if su s = a then f (st s) else 0) - (if st s = a then f (su s) else 0))
def zv_C (N : Nat) (su st sp : Nat → Nat) (p a : Nat) : Int := zv_Ww N su st sp p a + zv_at N su st sp p a (zv_M a)
def zv_w (N : Nat) (su st sp : Nat → Nat) (p a b : Nat) : Int := zs_S sp p N (fun s => (if su s = a ∧ st s = b then 1 else 0) - (if su s = b ∧ st s = a then 1 else 0))
theorem zv_at_c (hc : zv_cl N su st sp) (p a : Nat) (k : Int) : zv_at N su st sp p a (fun _ => k) = 0 := by
  have h := hc p (fun v => if v = a then -k else 0)
  rw [← h]
  refine zs_c (fun s _ _ => ?_)
  dsimp only
  split <;> split <;> omega
theorem zv_at_s (p a : Nat) (f g : Nat → Int) : zv_at N su st sp p a (fun t => f t - g t) = zv_at N su st sp p a f - zv_at N su st sp p a g := by
  unfold zv_at
  rw [← zs_s]
  refine zs_c (fun s _ _ => ?_)
  dsimp only
  split <;> split <;> omega
theorem zv_at_a (p a : Nat) (f g : Nat → Int) : zv_at N su st sp p a (fun t => f t + g t) = zv_at N su st sp p a f + zv_at N su st sp p a g := by
  unfold zv_at
  rw [← zs_a]
  refine zs_c (fun s _ _ => ?_)
  dsimp only
  split <;> split <;> omega
theorem zv_at_e {p a : Nat} {f g : Nat → Int} (h : ∀ s, s < N → (su s = a → f (st s) = g (st s)) ∧ (st s = a → f (su s) = g (su s))) : zv_at N su st sp p a f = zv_at N su st sp p a g := by
  unfold zv_at
  refine zs_c (fun s hs _ => ?_)
  have := h s hs
  split
  · rename_i z
    rw [this.1 z]
    split
    · rename_i y; rw [this.2 y]
    · rfl
  · split
    · rename_i y; rw [this.2 y]
    · rfl
theorem zv_at_w {p a b : Nat} (hab : a ≠ b) : zv_at N su st sp p a (fun t => if t = b then 1 else 0) = zv_w N su st sp p a b := by
  unfold zv_at zv_w
  refine zs_c (fun s hs _ => ?_)
  dsimp only
  by_cases h1 : su s = a
  · rw [if_pos h1]
    by_cases h2 : st s = b
    · rw [if_pos h2, if_neg (by omega), if_pos ⟨h1, h2⟩, if_neg (by omega)]
    · rw [if_neg h2, if_neg (show ¬ (su s = a ∧ st s = b) from fun z => h2 z.2)]
      by_cases h3 : st s = a
      · rw [if_pos h3, if_neg (show ¬ su s = b by omega), if_neg (show ¬ (su s = b ∧ st s = a) by omega)]
      · rw [if_neg h3, if_neg (show ¬ (su s = b ∧ st s = a) from fun z => h3 z.2)]
  · rw [if_neg h1, if_neg (show ¬ (su s = a ∧ st s = b) from fun z => h1 z.1)]
    by_cases h3 : st s = a
    · rw [if_pos h3]
      by_cases h4 : su s = b
      · rw [if_pos h4, if_pos ⟨h4, h3⟩]
      · rw [if_neg h4, if_neg (show ¬ (su s = b ∧ st s = a) from fun z => h4 z.1)]
    · rw [if_neg h3, if_neg (show ¬ (su s = b ∧ st s = a) from fun z => h3 z.2)]
theorem zv_L1 (hc : zv_cl N su st sp) (ho : zv_ok N su st) {a b : Nat} (hn : zv_nc N su st a b) (p : Nat) :
    zv_L N su st sp p a b = zv_C N su st sp p a - zv_at N su st sp p a (zv_xa a b) := by
  have h := zv_V hc ho hn (Or.inl rfl) p
  have e : zv_at N su st sp p a (zv_af a b 1) = zv_at N su st sp p a (fun t => (zv_xa a b t - zv_M a t) + zv_M a b) := by
    refine zv_at_e (fun s hs => ?_)
    obtain ⟨o1, o2, o3⟩ := ho s hs
    exact ⟨fun z => zv_af1 hn.1 hn.2.1 o2 hn.2.2.1 (by omega), fun z => zv_af1 hn.1 hn.2.1 o1 hn.2.2.1 (by omega)⟩
  rw [zv_at_a (f := fun t => zv_xa a b t - zv_M a t) (g := fun _ => zv_M a b), zv_at_c hc, zv_at_s] at e
  unfold zv_L
  rw [h]
  change _ - zv_at N su st sp p a (zv_af a b 1) = _
  rw [e]
  unfold zv_C
  omega
theorem zv_L2 (hc : zv_cl N su st sp) (ho : zv_ok N su st) {a b : Nat} (hn : zv_nc N su st a b) (p : Nat) :
    zv_L N su st sp p b a = zv_C N su st sp p a - zv_at N su st sp p a (zv_xa a b) - zv_w N su st sp p a b := by
  have h := zv_V hc ho hn (Or.inr rfl) p
  have e : zv_at N su st sp p a (zv_af a b (-1)) = zv_at N su st sp p a (fun t => ((zv_xa a b t + (if t = b then 1 else 0)) - zv_M a t) + (zv_M a b - zg_ws (zc_x b - zc_x a) (zc_y b - zc_y a))) := by
    refine zv_at_e (fun s hs => ?_)
    obtain ⟨o1, o2, o3⟩ := ho s hs
    have hs := hn.2.2.2 s hs
    refine ⟨fun z => ?_, fun z => ?_⟩
    · rw [zv_af2 hn.1 hn.2.1 o2 hn.2.2.1 (by omega)]
      have : zv_sd a b (st s) = if st s = b then 1 else 0 := by
        by_cases y : st s = b
        · rw [if_pos y, y, zv_sdb hn.2.2.1]
        · rw [if_neg y]
          refine zv_nsd (by omega) ?_
          rcases hs with w | w | w
          · exact absurd w.2 y
          · exact absurd (w.1.symm.trans z) (Ne.symm hn.2.2.1)
          · rw [z] at w; exact w
      rw [this]
    · rw [zv_af2 hn.1 hn.2.1 o1 hn.2.2.1 (by omega)]
      have : zv_sd a b (su s) = if su s = b then 1 else 0 := by
        by_cases y : su s = b
        · rw [if_pos y, y, zv_sdb hn.2.2.1]
        · rw [if_neg y]
          refine zv_nsd (by omega) ?_
          rcases hs with w | w | w
          · exact absurd (w.2.symm.trans z) (Ne.symm hn.2.2.1)
          · exact absurd w.1 y
          · rw [z] at w; exact zg_nc_s w
      rw [this]
  rw [zv_at_a (f := fun t => (zv_xa a b t + (if t = b then 1 else 0)) - zv_M a t) (g := fun _ => (zv_M a b - zg_ws (zc_x b - zc_x a) (zc_y b - zc_y a))), zv_at_c hc, zv_at_s (f := fun t => zv_xa a b t + (if t = b then 1 else 0)), zv_at_a (f := zv_xa a b), zv_at_w hn.2.2.1] at e
  have q1 : zv_q1 b a 1 = zv_q1 a b (-1) := by unfold zv_q1; omega
  have q2 : zv_q2 b a 1 = zv_q2 a b (-1) := by unfold zv_q2; omega
  unfold zv_L
  rw [q1, q2, h]
  change _ - zv_at N su st sp p a (zv_af a b (-1)) = _
  rw [e]
  unfold zv_C
  omega
/-- across a piece -/
theorem zv_twin (hc : zv_cl N su st sp) (ho : zv_ok N su st) {a b : Nat} (hn : zv_nc N su st a b) (p : Nat) :
    zv_L N su st sp p b a = zv_L N su st sp p a b - zv_w N su st sp p a b := by
  rw [zv_L1 hc ho hn, zv_L2 hc ho hn]
/-- c is the clockwise neighbour of b about a -/
theorem zv_rot (hc : zv_cl N su st sp) (ho : zv_ok N su st) {a b c : Nat} (hb : zv_nc N su st a b) (hc' : zv_nc N su st a c) (k : Int)
    (hr : ∀ t, (∃ s, s < N ∧ ((su s = a ∧ st s = t) ∨ (st s = a ∧ su s = t))) → zv_xa a c t = (zv_xa a b t + (if t = b then 1 else 0)) - k) (p : Nat) :
    zv_L N su st sp p b a = zv_L N su st sp p a c := by
  rw [zv_L2 hc ho hb, zv_L1 hc ho hc']
  have e : zv_at N su st sp p a (zv_xa a c) = zv_at N su st sp p a (fun t => (zv_xa a b t + (if t = b then 1 else 0)) - k) :=
    zv_at_e (fun s hs => ⟨fun z => hr _ ⟨s, hs, Or.inl ⟨z, rfl⟩⟩, fun z => hr _ ⟨s, hs, Or.inr ⟨z, rfl⟩⟩⟩)
  rw [zv_at_s (f := fun t => zv_xa a b t + (if t = b then 1 else 0)) (g := fun _ => k), zv_at_c hc, zv_at_a (f := zv_xa a b), zv_at_w hb.2.2.1] at e
  omega
/-- the last half-edge about a vertex whose neighbours all come later -/
theorem zv_last (hc : zv_cl N su st sp) (ho : zv_ok N su st) {a c : Nat} (hn : zv_nc N su st a c)
    (hr : ∀ t, (∃ s, s < N ∧ ((su s = a ∧ st s = t) ∨ (st s = a ∧ su s = t))) → zv_xa a c t = 0 ∧ a < t) (p : Nat) :
    zv_L N su st sp p a c = zv_Ww N su st sp p a := by
  rw [zv_L1 hc ho hn]
  have e1 : zv_at N su st sp p a (zv_xa a c) = zv_at N su st sp p a (fun _ => 0) :=
    zv_at_e (fun s hs => ⟨fun z => (hr _ ⟨s, hs, Or.inl ⟨z, rfl⟩⟩).1, fun z => (hr _ ⟨s, hs, Or.inr ⟨z, rfl⟩⟩).1⟩)
  have m0 : ∀ t, a < t → zv_M a t = 0 := by
    intro t ht
    unfold zv_M zg_M zc_x zc_y
    rw [if_neg (by omega)]
  have e2 : zv_at N su st sp p a (zv_M a) = zv_at N su st sp p a (fun _ => 0) :=
    zv_at_e (fun s hs => ⟨fun z => m0 _ (hr _ ⟨s, hs, Or.inl ⟨z, rfl⟩⟩).2, fun z => m0 _ (hr _ ⟨s, hs, Or.inr ⟨z, rfl⟩⟩).2⟩)
  rw [zv_at_c hc] at e1 e2
  unfold zv_C
  omega
end
end
section
/-! the piece next to the west of a point -/
noncomputable def zl_i (P : Prop) : Int := @ite Int P (Classical.propDecidable P) 1 0
theorem zl_t {P : Prop} (h : P) : zl_i P = 1 := by unfold zl_i; rw [if_pos h]
theorem zl_n {P : Prop} (h : ¬ P) : zl_i P = 0 := by unfold zl_i; rw [if_neg h]
theorem zl_e {P Q : Prop} (h : P ↔ Q) : zl_i P = zl_i Q := by rw [propext h]
def zc_eo (l m r p : Nat) : Prop := zg_eo (zc_x l) (zc_y l) (zc_x m) (zc_y m) (zc_x r) (zc_y r) (zc_x p) (zc_y p)
/-- steps that span the height y at or west of the piece with low end r and top p -/
noncomputable def zl_f (S y : Int) (r p u t : Nat) : Int :=
  zl_i (zc_y u < zc_y t ∧ S * zc_y u ≤ y ∧ y < S * zc_y t ∧ ¬ zc_eo u t r p) - zl_i (zc_y t < zc_y u ∧ S * zc_y t ≤ y ∧ y < S * zc_y u ∧ ¬ zc_eo t u r p)
theorem zl_f_sw (S y : Int) (r p u t : Nat) : zl_f S y r p t u = - zl_f S y r p u t := by unfold zl_f; omega
theorem zl_f_up {S y : Int} {r p u t : Nat} (h : zc_y u < zc_y t) : zl_f S y r p u t = zl_i (S * zc_y u ≤ y ∧ y < S * zc_y t ∧ ¬ zc_eo u t r p) := by
  unfold zl_f
  rw [zl_n (P := zc_y t < zc_y u ∧ _) (by omega), zl_e (P := zc_y u < zc_y t ∧ _) (Q := S * zc_y u ≤ y ∧ y < S * zc_y t ∧ ¬ zc_eo u t r p) ⟨fun z => z.2, fun z => ⟨h, z⟩⟩]
  omega
theorem zl_f_ho {S y : Int} {r p u t : Nat} (h : zc_y u = zc_y t) : zl_f S y r p u t = 0 := by
  unfold zl_f
  rw [zl_n (P := zc_y t < zc_y u ∧ _) (by omega), zl_n (P := zc_y u < zc_y t ∧ _) (by omega)]
  rfl
/-- a step is the piece r p itself or doesn't cross it -/
def zl_ok (r p u t : Nat) : Prop := r < 100 ∧ p < 100 ∧ u < 100 ∧ t < 100 ∧ u ≠ t ∧ zc_y r < zc_y p ∧ ((u = r ∧ t = p) ∨ (u = p ∧ t = r) ∨ zc_nc r p u t)
theorem zl_ok_sw {r p u t : Nat} (h : zl_ok r p u t) : zl_ok r p t u := by
  obtain ⟨h1, h2, h3, h4, h5, h6, h7⟩ := h
  refine ⟨h1, h2, h4, h3, Ne.symm h5, h6, ?_⟩
  rcases h7 with h | h | h
  · exact Or.inr (Or.inl ⟨h.2, h.1⟩)
  · exact Or.inl ⟨h.2, h.1⟩
  · exact Or.inr (Or.inr (zg_nc_s h))
theorem zl_rne {r p : Nat} (h : zc_y r < zc_y p) : r ≠ p := by intro e; subst e; omega
/-- no point of an end inside the other piece -/
theorem zl_in1 {r p u t : Nat} (hn : zc_nc r p u t) (h1 : zc_y r < zc_y u) (h2 : zc_y u < zc_y p) : zc_o r p u ≠ 0 := by
  intro z
  unfold zc_o at z
  have h := hn (zc_y p - zc_y r) (zc_y u - zc_y r) 0 (by omega) (by omega) (by omega) (by omega) (by omega) (by grind) (by grind)
  omega
theorem zl_in2 {r p u t : Nat} (hn : zc_nc r p u t) (h1 : zc_y u < zc_y r) (h2 : zc_y r < zc_y t) : zc_o u t r ≠ 0 := zl_in1 (zg_nc_c hn) h1 h2
theorem zl_af_p {a1 a2 v1 v2 p1 p2 : Int} (hp : 0 < p2) (bp1 : -9 ≤ p1 ∧ p1 ≤ 9) (bp2 : -9 ≤ p2 ∧ p2 ≤ 9) (bv1 : -9 ≤ v1 ∧ v1 ≤ 9) (bv2 : -9 ≤ v2 ∧ v2 ≤ 9) (hv : ¬ (v1 = 0 ∧ v2 = 0)) :
    (0 < v2 → (zg_af v1 v2 (1000 * p2 - 2 * p1) (1000 * (p1 * v2 - p2 * v1) + 2 * (p1 * v1 + p2 * v2)) = if 0 ≤ p1 * v2 - p2 * v1 then 1 else 0)) ∧
    (v2 ≤ 0 → zg_af v1 v2 (1000 * p2 - 2 * p1) (1000 * (p1 * v2 - p2 * v1) + 2 * (p1 * v1 + p2 * v2)) = 0) := by
  have c1 := zg_bd bp1.1 bp1.2 bv1.1 bv1.2
  have c2 := zg_bd bp2.1 bp2.2 bv2.1 bv2.2
  refine ⟨fun h => ?_, fun h => ?_⟩
  · have q : p1 * v2 - p2 * v1 = 0 → 0 < p1 * v1 + p2 * v2 := by
      intro z
      rcases zg_par (by omega) hv z with w | w
      · exact w.1
      · omega
    unfold zg_af
    generalize p1 * v1 = x1 at *
    generalize p2 * v2 = x2 at *
    generalize p1 * v2 - p2 * v1 = x3 at *
    split <;> split <;> omega
  · unfold zg_af
    rw [if_neg]
    rintro (z | ⟨z1, z2⟩)
    · omega
    · have hv2 : v2 = 0 ∧ 0 < v1 := by omega
      have e : p1 * v2 - p2 * v1 < 0 := by
        rw [hv2.1, Int.mul_zero]
        have := Int.mul_pos hp hv2.2
        omega
      omega
theorem zl_oc (r p t : Nat) : (zc_x r - zc_x p) * (zc_y t - zc_y p) - (zc_y r - zc_y p) * (zc_x t - zc_x p) = - zc_o r p t := by unfold zc_o; grind
theorem zl_zaf {r p t : Nat} (hr : r < 100) (hp : p < 100) (ht : t < 100) (hy : zc_y r < zc_y p) (htr : t ≠ r) :
    (zc_y r < zc_y t → zv_af r p (-1) t = if 0 ≤ zc_o r p t then 1 else 0) ∧ (zc_y t ≤ zc_y r → zv_af r p (-1) t = 0) := by
  have br := zc_b hr
  have bp := zc_b hp
  have bt := zc_b ht
  have h := zl_af_p (a1 := 0) (a2 := 0) (p1 := zc_x p - zc_x r) (p2 := zc_y p - zc_y r) (v1 := zc_x t - zc_x r) (v2 := zc_y t - zc_y r) (by omega) (by omega) (by omega) (by omega) (by omega) (zc_ne htr)
  have e1 : zv_r2 r p (-1) = 1000 * (zc_y p - zc_y r) - 2 * (zc_x p - zc_x r) := by unfold zv_r2; omega
  have e3 : zv_af r p (-1) t = zg_af (zc_x t - zc_x r) (zc_y t - zc_y r) (1000 * (zc_y p - zc_y r) - 2 * (zc_x p - zc_x r)) (1000 * ((zc_x p - zc_x r) * (zc_y t - zc_y r) - (zc_y p - zc_y r) * (zc_x t - zc_x r)) + 2 * ((zc_x p - zc_x r) * (zc_x t - zc_x r) + (zc_y p - zc_y r) * (zc_y t - zc_y r))) := by
    unfold zv_af
    rw [e1, zv_dm r p t]
  rw [e3]
  exact ⟨fun z => h.1 (by omega), fun z => h.2 (by omega)⟩
theorem zl_cw_up {u t r : Nat} (h : zc_y u < zc_y t) : zw_wa r u t = zl_i (zc_y u ≤ zc_y r ∧ zc_y r < zc_y t ∧ zc_o u t r < 0) := by
  unfold zw_wa zg_cw
  by_cases z : zc_y u ≤ zc_y r ∧ zc_y r < zc_y t ∧ zc_o u t r < 0
  · rw [if_pos z, if_neg (by omega), zl_t z]; rfl
  · rw [if_neg z, if_neg (by omega), zl_n z]; rfl
theorem zl_sc {S : Int} (hS : 0 < S) (x y : Int) : (S * x ≤ S * y ↔ x ≤ y) ∧ (S * x < S * y ↔ x < y) :=
  ⟨⟨fun h => zp_cn hS h, fun h => Int.mul_le_mul_of_nonneg_left h (Int.le_of_lt hS)⟩, ⟨fun h => zp_ct hS h, fun h => Int.mul_lt_mul_of_pos_left h hS⟩⟩
theorem zl_eoR {u t r p : Nat} (hur : u = r) : zc_eo u t r p ↔ zc_o r p t < 0 := by
  subst hur
  unfold zc_eo zg_eo
  rw [zl_oc]
  constructor
  · rintro (h | h | h)
    · omega
    · omega
    · omega
  · intro h; exact Or.inl ⟨rfl, rfl, by omega⟩
theorem zl_eoH {u t r p : Nat} (hur : u ≠ r) (h : zc_y r ≤ zc_y u) : zc_eo u t r p ↔ zc_o r p u < 0 := by
  unfold zc_eo zg_eo
  rw [zl_oc r p u]
  have hne : ¬ (zc_x u = zc_x r ∧ zc_y u = zc_y r) := fun z => hur (zc_e z.1 z.2)
  constructor
  · rintro (h | h | h)
    · exact absurd ⟨h.1, h.2.1⟩ hne
    · omega
    · omega
  · intro h'; exact Or.inr (Or.inl ⟨hne, h, by omega⟩)
theorem zl_eoL {u t r p : Nat} (h : zc_y u < zc_y r) : zc_eo u t r p ↔ 0 < zc_o u t r := by
  unfold zc_eo zg_eo
  rw [zl_oc u t r]
  constructor
  · rintro (h | h | h)
    · omega
    · omega
    · omega
  · intro h'; exact Or.inr (Or.inr ⟨by omega, h, by omega⟩)
/-- at the low end -/
theorem zl_1u {S : Int} (hS : 0 < S) {r p u t : Nat} (hk : zl_ok r p u t) (hy : zc_y u < zc_y t) :
    zw_wa r u t + ((if u = r then zv_af r p (-1) t else 0) - (if t = r then zv_af r p (-1) u else 0)) = zl_f S (S * zc_y r) r p u t := by
  obtain ⟨h1, h2, h3, h4, h5, h6, h7⟩ := hk
  rw [zl_f_up hy]
  by_cases hur : u = r
  · rw [if_pos hur, if_neg (show ¬ t = r by omega)]
    have e := (zl_zaf h1 h2 h4 h6 (by omega)).1 (by rw [← hur]; exact hy)
    rw [e]
    have e0 : zw_wa r u t = 0 := by rw [hur]; exact zw_wa_a r t
    rw [e0]
    by_cases z : 0 ≤ zc_o r p t
    · rw [if_pos z, zl_t]
      · rfl
      · refine ⟨by rw [hur]; omega, by rw [← hur]; exact ((zl_sc hS _ _).2).mpr hy, ?_⟩
        rw [zl_eoR hur]; omega
    · rw [if_neg z, zl_n]
      · rfl
      · rintro ⟨-, -, w⟩
        rw [zl_eoR hur] at w; omega
  · by_cases htr : t = r
    · rw [if_neg hur, if_pos htr]
      have e := (zl_zaf h1 h2 h3 h6 (by omega)).2 (by rw [← htr]; omega)
      have e0 : zw_wa r u t = 0 := by rw [htr, zw_wa_sw, zw_wa_a]; rfl
      rw [e, e0, zl_n]
      · rfl
      · rintro ⟨-, w, -⟩
        rw [htr] at w; omega
    · rw [if_neg hur, if_neg htr, zl_cw_up hy]
      have hn : zc_nc r p u t := by
        rcases h7 with z | z | z
        · exact absurd z.1 hur
        · exact absurd z.2 htr
        · exact z
      rw [Int.sub_zero, Int.add_zero]
      refine zl_e ?_
      rw [(zl_sc hS _ _).1, (zl_sc hS _ _).2]
      constructor
      · rintro ⟨a, b, c⟩
        refine ⟨a, b, ?_⟩
        rcases Int.lt_or_le (zc_y u) (zc_y r) with z | z
        · rw [zl_eoL z]; omega
        · rw [zl_eoH hur z]
          have e : zc_y u = zc_y r := by omega
          intro w
          have f1 : zc_o u t r = (zc_y t - zc_y u) * (zc_x u - zc_x r) := by unfold zc_o; rw [e]; grind
          have f2 : zc_o r p u = -((zc_y p - zc_y r) * (zc_x u - zc_x r)) := by unfold zc_o; rw [e]; grind
          rw [f1] at c
          rw [f2] at w
          rcases zg_mc (zc_y t - zc_y u) (zc_x u - zc_x r) with x | x | x | x | x | x <;> rcases zg_mc (zc_y p - zc_y r) (zc_x u - zc_x r) with y | y | y | y | y | y <;> omega
      · rintro ⟨a, b, c⟩
        refine ⟨a, b, ?_⟩
        rcases Int.lt_or_le (zc_y u) (zc_y r) with z | z
        · rw [zl_eoL z] at c
          have := zl_in2 hn z b
          omega
        · rw [zl_eoH hur z] at c
          have e : zc_y u = zc_y r := by omega
          have ne : zc_x u ≠ zc_x r := fun w => hur (zc_e w e)
          have f1 : zc_o u t r = (zc_y t - zc_y u) * (zc_x u - zc_x r) := by unfold zc_o; rw [e]; grind
          have f2 : zc_o r p u = -((zc_y p - zc_y r) * (zc_x u - zc_x r)) := by unfold zc_o; rw [e]; grind
          rw [f1]
          rw [f2] at c
          rcases zg_mc (zc_y t - zc_y u) (zc_x u - zc_x r) with x | x | x | x | x | x <;> rcases zg_mc (zc_y p - zc_y r) (zc_x u - zc_x r) with y | y | y | y | y | y <;> omega
theorem zl_1 {S : Int} (hS : 0 < S) {r p u t : Nat} (hk : zl_ok r p u t) :
    zw_wa r u t + ((if u = r then zv_af r p (-1) t else 0) - (if t = r then zv_af r p (-1) u else 0)) = zl_f S (S * zc_y r) r p u t := by
  rcases Int.lt_trichotomy (zc_y u) (zc_y t) with h | h | h
  · exact zl_1u hS hk h
  · rw [zl_f_ho h]
    obtain ⟨h1, h2, h3, h4, h5, h6, h7⟩ := hk
    have e0 : zw_wa r u t = 0 := by
      unfold zw_wa zg_cw
      rw [if_neg (by omega), if_neg (by omega)]; rfl
    rw [e0]
    by_cases hur : u = r
    · rw [if_pos hur, if_neg (show ¬ t = r by omega), (zl_zaf h1 h2 h4 h6 (by omega)).2 (by rw [← hur]; omega)]; rfl
    · by_cases htr : t = r
      · rw [if_neg hur, if_pos htr, (zl_zaf h1 h2 h3 h6 (by omega)).2 (by rw [← htr]; omega)]; rfl
      · rw [if_neg hur, if_neg htr]; rfl
  · have e := zl_1u hS (zl_ok_sw hk) h
    rw [zw_wa_sw, zl_f_sw] at e
    omega
end
section
/-! the count at or west of a piece doesn't depend on the height -/
theorem zl_eoT {S : Int} (hS : 0 < S) {r p u t : Nat} (hn : zc_nc u t r p) (h1 : zc_y u < zc_y t) (h2 : zc_y r < zc_y t) (h3 : zc_y t < zc_y p) : (0 < zc_o r p t ↔ ¬ zc_eo u t r p) := by
  have ho : zc_y r < zc_y p := by omega
  have gt : zg_G S (zc_x u) (zc_y u) (zc_x t) (zc_y t) (zc_x r) (zc_y r) (zc_x p) (zc_y p) (S * zc_y t) = (- zc_o r p t) * (S * (zc_y t - zc_y u)) := by rw [zg_G_m, zl_oc]
  have dc : 0 < S * (zc_y t - zc_y u) := Int.mul_pos hS (by omega)
  obtain ⟨y, y1, y2, y3, y4⟩ : ∃ y, S * zc_y u ≤ y ∧ S * zc_y r ≤ y ∧ y < S * zc_y t ∧ (y = S * zc_y u ∨ y = S * zc_y r) := by
    rcases Int.lt_or_le (zc_y u) (zc_y r) with z | z
    · exact ⟨S * zc_y r, ((zl_sc hS _ _).1).mpr (by omega), by omega, ((zl_sc hS _ _).2).mpr h2, Or.inr rfl⟩
    · exact ⟨S * zc_y u, by omega, ((zl_sc hS _ _).1).mpr z, ((zl_sc hS _ _).2).mpr h1, Or.inl rfl⟩
  have y5 : S * zc_y t < S * zc_y p := ((zl_sc hS _ _).2).mpr h3
  have y6 : S * zc_y u < S * zc_y t := ((zl_sc hS _ _).2).mpr h1
  have y7 : S * zc_y r < S * zc_y t := ((zl_sc hS _ _).2).mpr h2
  have nz : zg_G S (zc_x u) (zc_y u) (zc_x t) (zc_y t) (zc_x r) (zc_y r) (zc_x p) (zc_y p) (S * zc_y t) ≠ 0 := by
    intro z
    have := zg_GZ hn hS h1 ho (by omega) (by omega) (by omega) (by omega) z
    omega
  have eo := zg_EO (Or.inl hn) hS h1 ho y1 y2 y3 (by omega)
  change zc_eo u t r p ↔ _ at eo
  have s1 := fun a b => zg_GS hn hS h1 ho y1 y2 (by omega) (by omega) (y' := S * zc_y t) (by omega) (by omega) (by omega) (by omega) a b
  have s2 := fun a b => zg_GS hn hS h1 ho (y := S * zc_y t) (by omega) (by omega) (by omega) (by omega) y1 y2 (by omega) (by omega) a b
  have lin : zg_G S (zc_x u) (zc_y u) (zc_x t) (zc_y t) (zc_x r) (zc_y r) (zc_x p) (zc_y p) (S * zc_y t) = zg_G S (zc_x u) (zc_y u) (zc_x t) (zc_y t) (zc_x r) (zc_y r) (zc_x p) (zc_y p) y + zg_K (zc_x u) (zc_y u) (zc_x t) (zc_y t) (zc_x r) (zc_y r) (zc_x p) (zc_y p) * (S * zc_y t - y) := by
    clear eo s1 s2 nz gt hn
    unfold zg_G zg_X zg_K
    grind
  rw [eo]
  generalize zg_G S (zc_x u) (zc_y u) (zc_x t) (zc_y t) (zc_x r) (zc_y r) (zc_x p) (zc_y p) (S * zc_y t) = g at *
  generalize zg_G S (zc_x u) (zc_y u) (zc_x t) (zc_y t) (zc_x r) (zc_y r) (zc_x p) (zc_y p) y = g0 at *
  generalize zg_K (zc_x u) (zc_y u) (zc_x t) (zc_y t) (zc_x r) (zc_y r) (zc_x p) (zc_y p) = k at *
  have sg1 : 0 < g ↔ zc_o r p t < 0 := by
    rw [gt]
    rcases zg_mc (- zc_o r p t) (S * (zc_y t - zc_y u)) with x | x | x | x | x | x <;> omega
  have hz : g0 = 0 → (0 < g ↔ 0 < k) := by
    intro z
    rw [lin, z]
    rcases zg_mc k (S * zc_y t - y) with x | x | x | x | x | x <;> omega
  have nz' : zc_o r p t ≠ 0 := by
    intro z; rw [z] at gt; exact nz (by rw [gt]; simp)
  clear gt lin eo
  rcases zg_sg g0 with z | z | z
  · rcases zg_sg g with w | w | w
    · omega
    · exact absurd w nz
    · exact absurd w (s1 z)
  · have := hz z
    omega
  · rcases zg_sg g with w | w | w
    · exact absurd z (s2 w)
    · exact absurd w nz
    · omega
theorem zl_hor {r p u t : Nat} (hn : zc_nc r p u t) (he : zc_y u = zc_y t) (h1 : zc_y r < zc_y u) (h2 : zc_y u < zc_y p) (a : 0 < zc_o r p u) (b : zc_o r p t < 0) : False := by
  have e : zc_o r p u - zc_o r p t = (zc_y p - zc_y r) * (zc_x t - zc_x u) := by unfold zc_o; rw [he]; grind
  have e2 : (zc_y p - zc_y r) * (zc_x u - zc_x r) - (zc_y u - zc_y r) * (zc_x p - zc_x r) = - zc_o r p u := by unfold zc_o; grind
  have dp : 0 < zc_y p - zc_y r := by omega
  have k0 : 0 < zc_o r p u - zc_o r p t := by omega
  have i0 := Int.mul_nonneg (show 0 ≤ zc_y u - zc_y r by omega) (Int.le_of_lt k0)
  have i1 := Int.mul_nonneg (show 0 ≤ zc_y p - zc_y u by omega) (Int.le_of_lt k0)
  have j0 := Int.mul_nonneg (Int.le_of_lt a) (Int.le_of_lt dp)
  have j1 := Int.mul_nonneg (show 0 ≤ - zc_o r p t by omega) (Int.le_of_lt dp)
  have x1 : (zc_o r p u - zc_o r p t) * (zc_y p - zc_y r) - (zc_y u - zc_y r) * (zc_o r p u - zc_o r p t) = (zc_y p - zc_y u) * (zc_o r p u - zc_o r p t) := by clear e e2 hn; grind
  have x2 : (zc_o r p u - zc_o r p t) * (zc_y p - zc_y r) - zc_o r p u * (zc_y p - zc_y r) = (- zc_o r p t) * (zc_y p - zc_y r) := by clear e e2 hn; grind
  have h := hn ((zc_o r p u - zc_o r p t) * (zc_y p - zc_y r)) ((zc_y u - zc_y r) * (zc_o r p u - zc_o r p t)) (zc_o r p u * (zc_y p - zc_y r)) (Int.mul_pos k0 dp) i0 (by omega) j0 (by omega)
    (by
      have w : (((zc_o r p u - zc_o r p t) * (zc_y p - zc_y r) - (zc_y u - zc_y r) * (zc_o r p u - zc_o r p t)) * zc_x r + (zc_y u - zc_y r) * (zc_o r p u - zc_o r p t) * zc_x p) - (((zc_o r p u - zc_o r p t) * (zc_y p - zc_y r) - zc_o r p u * (zc_y p - zc_y r)) * zc_x u + zc_o r p u * (zc_y p - zc_y r) * zc_x t)
          = -((zc_o r p u - zc_o r p t) * ((zc_y p - zc_y r) * (zc_x u - zc_x r) - (zc_y u - zc_y r) * (zc_x p - zc_x r))) - zc_o r p u * ((zc_y p - zc_y r) * (zc_x t - zc_x u)) := by clear e e2 hn i0 i1 j0 j1 x1 x2; grind
      rw [e2, ← e] at w
      have w2 : -((zc_o r p u - zc_o r p t) * - zc_o r p u) - zc_o r p u * (zc_o r p u - zc_o r p t) = 0 := by clear w e e2 hn i0 i1 j0 j1 x1 x2; grind
      omega)
    (by
      rw [← he]
      have w : (((zc_o r p u - zc_o r p t) * (zc_y p - zc_y r) - (zc_y u - zc_y r) * (zc_o r p u - zc_o r p t)) * zc_y r + (zc_y u - zc_y r) * (zc_o r p u - zc_o r p t) * zc_y p) = (zc_o r p u - zc_o r p t) * (zc_y p - zc_y r) * zc_y u := by clear e e2 hn i0 i1 j0 j1 x1 x2; grind
      have w2 : (((zc_o r p u - zc_o r p t) * (zc_y p - zc_y r) - zc_o r p u * (zc_y p - zc_y r)) * zc_y u + zc_o r p u * (zc_y p - zc_y r) * zc_y u) = (zc_o r p u - zc_o r p t) * (zc_y p - zc_y r) * zc_y u := by clear e e2 hn i0 i1 j0 j1 x1 x2; grind
      rw [w, w2])
  rcases h.1 with z | z
  · have := zg_pz k0 z; omega
  · have z' : (zc_y p - zc_y u) * (zc_o r p u - zc_o r p t) = 0 := by omega
    have := zg_pz k0 z'; omega
/-- the vertices west of the piece r p, above its low end, up to the height y -/
noncomputable def zl_ph (S y : Int) (r p v : Nat) : Int := zl_i (S * zc_y r < S * zc_y v ∧ S * zc_y v ≤ y ∧ 0 < zc_o r p v)
theorem zl_and {A B : Prop} (e : A ↔ B) {P Q : Prop} : zl_i (P ∧ Q ∧ A) = zl_i (P ∧ Q ∧ B) := by rw [propext e]
theorem zl_ph_e {S y : Int} {r p v : Nat} {A : Prop} (h : S * zc_y r < S * zc_y v → S * zc_y v ≤ y → (0 < zc_o r p v ↔ A)) : zl_ph S y r p v = zl_i (S * zc_y r < S * zc_y v ∧ S * zc_y v ≤ y ∧ A) := by
  unfold zl_ph
  refine zl_e ⟨fun z => ⟨z.1, z.2.1, (h z.1 z.2.1).mp z.2.2⟩, fun z => ⟨z.1, z.2.1, (h z.1 z.2.1).mpr z.2.2⟩⟩
theorem zl_lin {a b r y : Int} {A : Prop} (hab : a < b) (hry : r ≤ y) : zl_i (a ≤ y ∧ y < b ∧ A) - zl_i (a ≤ r ∧ r < b ∧ A) = zl_i (r < a ∧ a ≤ y ∧ A) - zl_i (r < b ∧ b ≤ y ∧ A) := by
  rcases Classical.em A with h | h
  · have f : ∀ P Q : Prop, zl_i (P ∧ Q ∧ A) = zl_i (P ∧ Q) := fun P Q => zl_e ⟨fun z => ⟨z.1, z.2.1⟩, fun z => ⟨z.1, z.2, h⟩⟩
    rw [f, f, f, f]
    have g : ∀ P : Prop, (P ∧ zl_i P = 1) ∨ (¬ P ∧ zl_i P = 0) := fun P => (Classical.em P).elim (fun z => Or.inl ⟨z, zl_t z⟩) (fun z => Or.inr ⟨z, zl_n z⟩)
    rcases g (a ≤ y ∧ y < b) with ⟨w1, e1⟩ | ⟨w1, e1⟩ <;> rcases g (a ≤ r ∧ r < b) with ⟨w2, e2⟩ | ⟨w2, e2⟩ <;> rcases g (r < a ∧ a ≤ y) with ⟨w3, e3⟩ | ⟨w3, e3⟩ <;> rcases g (r < b ∧ b ≤ y) with ⟨w4, e4⟩ | ⟨w4, e4⟩ <;> rw [e1, e2, e3, e4] <;> omega
  · have f : ∀ P Q : Prop, zl_i (P ∧ Q ∧ A) = 0 := fun P Q => zl_n (fun z => h z.2.2)
    rw [f, f, f, f]
theorem zl_2u {S y : Int} (hS : 0 < S) {r p u t : Nat} (hk : zl_ok r p u t) (hy : zc_y u < zc_y t) (h0 : S * zc_y r ≤ y) (h1 : y < S * zc_y p) :
    zl_f S y r p u t - zl_f S (S * zc_y r) r p u t = zl_ph S y r p u - zl_ph S y r p t := by
  obtain ⟨k1, k2, k3, k4, k5, k6, k7⟩ := hk
  rw [zl_f_up hy, zl_f_up hy]
  have hA : S * zc_y r < S * zc_y u → S * zc_y u ≤ y → (0 < zc_o r p u ↔ ¬ zc_eo u t r p) := by
    intro a b
    have a' := ((zl_sc hS _ _).2).mp a
    have b' := ((zl_sc hS (zc_y u) (zc_y p)).2).mp (by omega)
    rw [zl_eoH (by intro e; subst e; omega) (by omega)]
    rcases k7 with z | z | z
    · rw [z.1] at a'; omega
    · rw [z.1] at b'; omega
    · have := zl_in1 z a' b'; omega
  have hB : S * zc_y r < S * zc_y t → S * zc_y t ≤ y → (0 < zc_o r p t ↔ ¬ zc_eo u t r p) := by
    intro a b
    have a' := ((zl_sc hS _ _).2).mp a
    have b' := ((zl_sc hS (zc_y t) (zc_y p)).2).mp (by omega)
    rcases k7 with z | z | z
    · rw [z.2] at b'; omega
    · rw [z.2] at a'; omega
    · exact zl_eoT hS (zg_nc_c z) hy a' b'
  rw [zl_ph_e hA, zl_ph_e hB]
  exact zl_lin (((zl_sc hS _ _).2).mpr hy) h0
theorem zl_2 {S y : Int} (hS : 0 < S) {r p u t : Nat} (hk : zl_ok r p u t) (h0 : S * zc_y r ≤ y) (h1 : y < S * zc_y p) :
    zl_f S y r p u t - zl_f S (S * zc_y r) r p u t = zl_ph S y r p u - zl_ph S y r p t := by
  rcases Int.lt_trichotomy (zc_y u) (zc_y t) with h | h | h
  · exact zl_2u hS hk h h0 h1
  · rw [zl_f_ho h, zl_f_ho h]
    have e : zl_ph S y r p u = zl_ph S y r p t := by
      unfold zl_ph
      rw [← h]
      refine zl_e ⟨fun z => ⟨z.1, z.2.1, ?_⟩, fun z => ⟨z.1, z.2.1, ?_⟩⟩
      · have a' := ((zl_sc hS _ _).2).mp z.1
        have b' := ((zl_sc hS (zc_y u) (zc_y p)).2).mp (by omega)
        obtain ⟨k1, k2, k3, k4, k5, k6, k7⟩ := hk
        rcases k7 with w | w | w
        · rw [w.1] at a'; omega
        · rw [w.1] at b'; omega
        · have n := zl_in1 (zg_nc_s w) (by omega) (by omega)
          rcases zg_sg (zc_o r p t) with x | x | x
          · exact x
          · exact absurd x n
          · exact absurd z.2.2 (fun q => zl_hor w h a' b' q x)
      · have a' := ((zl_sc hS _ _).2).mp z.1
        have b' := ((zl_sc hS (zc_y u) (zc_y p)).2).mp (by omega)
        obtain ⟨k1, k2, k3, k4, k5, k6, k7⟩ := hk
        rcases k7 with w | w | w
        · rw [w.1] at a'; omega
        · rw [w.1] at b'; omega
        · have n := zl_in1 w (by omega) (by omega)
          rcases zg_sg (zc_o r p u) with x | x | x
          · exact x
          · exact absurd x n
          · exact absurd z.2.2 (fun q => zl_hor (zg_nc_s w) h.symm (by omega) (by omega) q x)
    rw [e]; omega
  · have e := zl_2u hS (zl_ok_sw hk) h h0 h1
    rw [zl_f_sw, zl_f_sw S (S * zc_y r)] at e
    omega
/-- the point (q1, q2), at scale S, lies strictly east of the piece with low end l and top m, which spans its height -/
def zl_wst (S q1 q2 : Int) (l m : Nat) : Prop := S * zc_y l ≤ q2 ∧ q2 < S * zc_y m ∧ (zc_x m - zc_x l) * (q2 - S * zc_y l) - (zc_y m - zc_y l) * (q1 - S * zc_x l) < 0
theorem zl_X {S q1 q2 : Int} {l m : Nat} : (zc_x m - zc_x l) * (q2 - S * zc_y l) - (zc_y m - zc_y l) * (q1 - S * zc_x l) = zg_X S (zc_x l) (zc_y l) (zc_x m) (zc_y m) q2 - (zc_y m - zc_y l) * q1 := by
  unfold zg_X; grind
theorem zl_Gx {A B X Y q : Int} (hA : 0 < A) (hB : 0 < B) (h : A * X - B * Y ≤ 0) (hw : Y - A * q < 0) : X - B * q < 0 := by
  have a := Int.mul_lt_mul_of_pos_left (show Y < A * q by omega) hB
  have b : A * X < A * (B * q) := by
    have e : A * (B * q) = B * (A * q) := by clear a h hw; grind
    omega
  have := zp_ct hA b
  omega
/-- a piece at or west of one that lies west of the point lies west of it -/
theorem zl_w {S q1 q2 : Int} (hS : 0 < S) {r p u t : Nat} (hk : zl_ok r p u t) (hy : zc_y u < zc_y t) (hw : zl_wst S q1 q2 r p) (h1 : S * zc_y u ≤ q2) (h2 : q2 < S * zc_y t) (h3 : ¬ zc_eo u t r p) : zl_wst S q1 q2 u t := by
  obtain ⟨k1, k2, k3, k4, k5, k6, k7⟩ := hk
  have hn : zc_nc u t r p ∨ (zc_x u = zc_x r ∧ zc_y u = zc_y r ∧ zc_x t = zc_x p ∧ zc_y t = zc_y p) := by
    rcases k7 with z | z | z
    · rw [z.1, z.2]; exact Or.inr ⟨rfl, rfl, rfl, rfl⟩
    · rw [z.1, z.2] at hy; omega
    · exact Or.inl (zg_nc_c z)
  have eo := zg_EO hn hS hy k6 h1 hw.1 h2 hw.2.1
  change zc_eo u t r p ↔ _ at eo
  rw [eo] at h3
  have hG : zg_G S (zc_x u) (zc_y u) (zc_x t) (zc_y t) (zc_x r) (zc_y r) (zc_x p) (zc_y p) q2 ≤ 0 := by omega
  refine ⟨h1, h2, ?_⟩
  have w := hw.2.2
  rw [zl_X] at w ⊢
  exact zl_Gx (show 0 < zc_y p - zc_y r by omega) (show 0 < zc_y t - zc_y u by omega) hG w
theorem zl_3u {S q1 q2 : Int} (hS : 0 < S) {r p u t : Nat} (hk : zl_ok r p u t) (hy : zc_y u < zc_y t) (hw : zl_wst S q1 q2 r p) (hb : zl_wst S q1 q2 u t → ¬ zc_eo u t r p) :
    zw_cw S q1 q2 u t = zl_f S q2 r p u t := by
  rw [zl_f_up hy]
  have hS' : S * zc_y u < S * zc_y t := ((zl_sc hS _ _).2).mpr hy
  unfold zw_cw zg_cw
  by_cases z : S * zc_y u ≤ q2 ∧ q2 < S * zc_y t ∧ (zc_x t - zc_x u) * (q2 - S * zc_y u) - (zc_y t - zc_y u) * (q1 - S * zc_x u) < 0
  · rw [if_pos z, if_neg (by omega), zl_t ⟨z.1, z.2.1, hb z⟩]; rfl
  · rw [if_neg z, if_neg (by omega), zl_n]
    · rfl
    · rintro ⟨a, b, c⟩
      exact z (zl_w hS hk hy hw a b c)
theorem zl_3 {S q1 q2 : Int} (hS : 0 < S) {r p u t : Nat} (hk : zl_ok r p u t) (hw : zl_wst S q1 q2 r p) (hb : zl_wst S q1 q2 u t → ¬ zc_eo u t r p) (hb' : zl_wst S q1 q2 t u → ¬ zc_eo t u r p) :
    zw_cw S q1 q2 u t = zl_f S q2 r p u t := by
  rcases Int.lt_trichotomy (zc_y u) (zc_y t) with h | h | h
  · exact zl_3u hS hk h hw hb
  · rw [zl_f_ho h]
    unfold zw_cw zg_cw
    rw [h, if_neg (by omega), if_neg (by omega)]; rfl
  · have e := zl_3u hS (zl_ok_sw hk) h hw hb'
    rw [zw_cw_sw, zl_f_sw] at e
    omega
/-- eastmost so far: the comparison is transitive at one height -/
theorem zl_tr {S q1 q2 : Int} (hS : 0 < S) {l m r p u t : Nat} (k1 : zl_ok r p l m) (k2 : zl_ok r p u t) (k3 : zl_ok u t l m) (hy1 : zc_y l < zc_y m) (hy2 : zc_y u < zc_y t)
    (w1 : zl_wst S q1 q2 l m) (w2 : zl_wst S q1 q2 r p) (w3 : zl_wst S q1 q2 u t) (h1 : ¬ zc_eo l m r p) (h2 : zc_eo u t r p) : ¬ zc_eo l m u t := by
  have nn : ∀ {r p l m : Nat}, zl_ok r p l m → zc_y l < zc_y m → zc_nc l m r p ∨ (zc_x l = zc_x r ∧ zc_y l = zc_y r ∧ zc_x m = zc_x p ∧ zc_y m = zc_y p) := by
    intro r p l m k hy
    obtain ⟨-, -, -, -, -, k6, k7⟩ := k
    rcases k7 with z | z | z
    · rw [z.1, z.2]; exact Or.inr ⟨rfl, rfl, rfl, rfl⟩
    · rw [z.1, z.2] at hy; omega
    · exact Or.inl (zg_nc_c z)
  have hy3 : zc_y r < zc_y p := k1.2.2.2.2.2.1
  have e1 := zg_EO (nn k1 hy1) hS hy1 hy3 w1.1 w2.1 w1.2.1 w2.2.1
  have e2 := zg_EO (nn k2 hy2) hS hy2 hy3 w3.1 w2.1 w3.2.1 w2.2.1
  have e3 := zg_EO (nn k3 hy1) hS hy1 hy2 w1.1 w3.1 w1.2.1 w3.2.1
  change zc_eo l m r p ↔ _ at e1
  change zc_eo u t r p ↔ _ at e2
  change zc_eo l m u t ↔ _ at e3
  rw [e1] at h1
  rw [e2] at h2
  rw [e3]
  have g : (zc_y p - zc_y r) * zg_G S (zc_x l) (zc_y l) (zc_x m) (zc_y m) (zc_x u) (zc_y u) (zc_x t) (zc_y t) q2 = (zc_y t - zc_y u) * zg_G S (zc_x l) (zc_y l) (zc_x m) (zc_y m) (zc_x r) (zc_y r) (zc_x p) (zc_y p) q2 - (zc_y m - zc_y l) * zg_G S (zc_x u) (zc_y u) (zc_x t) (zc_y t) (zc_x r) (zc_y r) (zc_x p) (zc_y p) q2 := by
    clear e1 e2 e3 h1 h2; unfold zg_G; grind
  have k : (zc_y p - zc_y r) * zg_K (zc_x l) (zc_y l) (zc_x m) (zc_y m) (zc_x u) (zc_y u) (zc_x t) (zc_y t) = (zc_y t - zc_y u) * zg_K (zc_x l) (zc_y l) (zc_x m) (zc_y m) (zc_x r) (zc_y r) (zc_x p) (zc_y p) - (zc_y m - zc_y l) * zg_K (zc_x u) (zc_y u) (zc_x t) (zc_y t) (zc_x r) (zc_y r) (zc_x p) (zc_y p) := by
    clear e1 e2 e3 h1 h2 g; unfold zg_K; grind
  generalize zg_G S (zc_x l) (zc_y l) (zc_x m) (zc_y m) (zc_x u) (zc_y u) (zc_x t) (zc_y t) q2 = g3 at *
  generalize zg_G S (zc_x l) (zc_y l) (zc_x m) (zc_y m) (zc_x r) (zc_y r) (zc_x p) (zc_y p) q2 = g1 at *
  generalize zg_G S (zc_x u) (zc_y u) (zc_x t) (zc_y t) (zc_x r) (zc_y r) (zc_x p) (zc_y p) q2 = g2 at *
  generalize zg_K (zc_x l) (zc_y l) (zc_x m) (zc_y m) (zc_x u) (zc_y u) (zc_x t) (zc_y t) = k3' at *
  generalize zg_K (zc_x l) (zc_y l) (zc_x m) (zc_y m) (zc_x r) (zc_y r) (zc_x p) (zc_y p) = k1' at *
  generalize zg_K (zc_x u) (zc_y u) (zc_x t) (zc_y t) (zc_x r) (zc_y r) (zc_x p) (zc_y p) = k2' at *
  have A : 0 < zc_y p - zc_y r := by omega
  have B : 0 < zc_y t - zc_y u := by omega
  have C : 0 < zc_y m - zc_y l := by omega
  generalize zc_y p - zc_y r = A' at *
  generalize zc_y t - zc_y u = B' at *
  generalize zc_y m - zc_y l = C' at *
  clear e1 e2 e3 nn
  rintro (z | ⟨z, z'⟩)
  · have a := Int.mul_pos A z
    have b := Int.mul_nonpos_of_nonneg_of_nonpos (Int.le_of_lt B) (show g1 ≤ 0 by omega)
    have c := Int.mul_nonneg (Int.le_of_lt C) (show 0 ≤ g2 by omega)
    omega
  · rw [z, Int.mul_zero] at g
    have b := Int.mul_nonpos_of_nonneg_of_nonpos (Int.le_of_lt B) (show g1 ≤ 0 by omega)
    have c := Int.mul_nonneg (Int.le_of_lt C) (show 0 ≤ g2 by omega)
    have c0 : C' * g2 = 0 := by omega
    have b0 : B' * g1 = 0 := by omega
    rw [Int.mul_comm] at c0 b0
    have g20 := zg_pz C c0
    have g10 := zg_pz B b0
    have d1 := Int.mul_pos A z'
    have d2 := Int.mul_nonpos_of_nonneg_of_nonpos (Int.le_of_lt B) (show k1' ≤ 0 by omega)
    have d3 := Int.mul_pos C (show 0 < k2' by omega)
    omega
section
variable {N : Nat} {su st sp : Nat → Nat}
/-- the count of the west ray of a point -/
def zl_W (N : Nat) (su st sp : Nat → Nat) (p : Nat) (S q1 q2 : Int) : Int := - zs_S sp p N (fun s => zw_cw S q1 q2 (su s) (st s))
/-- the point sees the left side of the nearest downward half-edge to its west -/
theorem zl_best (hc : zv_cl N su st sp) (ho : zv_ok N su st) {r p : Nat} (hn : zv_nc N su st r p) (hy : zc_y r < zc_y p) {S q1 q2 : Int} (hS : 0 < S) (hw : zl_wst S q1 q2 r p)
    (hb : ∀ s, s < N → (zl_wst S q1 q2 (su s) (st s) → ¬ zc_eo (su s) (st s) r p) ∧ (zl_wst S q1 q2 (st s) (su s) → ¬ zc_eo (st s) (su s) r p)) (q : Nat) :
    zl_W N su st sp q S q1 q2 = zv_L N su st sp q p r := by
  have q1' : zv_q1 p r 1 = zv_q1 r p (-1) := by unfold zv_q1; omega
  have q2' : zv_q2 p r 1 = zv_q2 r p (-1) := by unfold zv_q2; omega
  have hk : ∀ s, s < N → zl_ok r p (su s) (st s) := fun s hs => ⟨hn.1, hn.2.1, (ho s hs).1, (ho s hs).2.1, (ho s hs).2.2, hy, hn.2.2.2 s hs⟩
  unfold zv_L
  rw [q1', q2', zv_V hc ho hn (Or.inr rfl) q]
  unfold zv_Ww zl_W
  have e1 := zs_c (sp := sp) (p := q) (n := N) (f := fun s => zw_wa r (su s) (st s) + ((if su s = r then zv_af r p (-1) (st s) else 0) - (if st s = r then zv_af r p (-1) (su s) else 0))) (g := fun s => zl_f S (S * zc_y r) r p (su s) (st s)) (fun s hs _ => zl_1 hS (hk s hs))
  have e2 := zs_c (sp := sp) (p := q) (n := N) (f := fun s => zl_f S q2 r p (su s) (st s) - zl_f S (S * zc_y r) r p (su s) (st s)) (g := fun s => (- zl_ph S q2 r p (st s)) - (- zl_ph S q2 r p (su s))) (fun s hs _ => by
    have := zl_2 hS (hk s hs) hw.1 hw.2.1
    omega)
  have e3 := zs_c (sp := sp) (p := q) (n := N) (f := fun s => zw_cw S q1 q2 (su s) (st s)) (g := fun s => zl_f S q2 r p (su s) (st s)) (fun s hs _ => zl_3 hS (hk s hs) hw (hb s hs).1 (hb s hs).2)
  have h0 := hc q (fun v => - zl_ph S q2 r p v)
  rw [zs_a] at e1
  rw [zs_s, h0] at e2
  omega
/-- nothing to the west -/
theorem zl_none (ho : zv_ok N su st) {S q1 q2 : Int} (hb : ∀ s, s < N → ¬ zl_wst S q1 q2 (su s) (st s) ∧ ¬ zl_wst S q1 q2 (st s) (su s)) (q : Nat) : zl_W N su st sp q S q1 q2 = 0 := by
  unfold zl_W
  rw [zs_0]
  · rfl
  · intro s hs _
    have h := hb s hs
    unfold zw_cw zg_cw
    rw [if_neg, if_neg]
    · rfl
    · rintro ⟨a, b, c⟩
      refine h.2 ⟨a, b, ?_⟩
      have e : (zc_x (su s) - zc_x (st s)) * (q2 - S * zc_y (st s)) - (zc_y (su s) - zc_y (st s)) * (q1 - S * zc_x (st s)) = -((zc_x (st s) - zc_x (su s)) * (q2 - S * zc_y (su s)) - (zc_y (st s) - zc_y (su s)) * (q1 - S * zc_x (su s))) := by clear c; grind
      omega
    · rintro ⟨a, b, c⟩
      exact h.1 ⟨a, b, c⟩
/-- the reference's east count is the west count where no step holds the point -/
theorem zl_EW (hc : zv_cl N su st sp) {S q1 q2 : Int} (hz : ∀ s, s < N → ((S * zc_y (su s) ≤ q2 ∧ q2 < S * zc_y (st s)) ∨ (S * zc_y (st s) ≤ q2 ∧ q2 < S * zc_y (su s))) → (zc_x (st s) - zc_x (su s)) * (q2 - S * zc_y (su s)) - (zc_y (st s) - zc_y (su s)) * (q1 - S * zc_x (su s)) ≠ 0) (q : Nat) :
    zv_W N su st sp q S q1 q2 = zl_W N su st sp q S q1 q2 := by
  unfold zv_W zl_W
  have h0 := hc q (fun v => if q2 < S * zc_y v then 1 else 0)
  have e := zs_c (sp := sp) (p := q) (n := N) (f := fun s => zw_ce S q1 q2 (su s) (st s) + zw_cw S q1 q2 (su s) (st s)) (g := fun s => (if q2 < S * zc_y (st s) then 1 else 0) - (if q2 < S * zc_y (su s) then 1 else 0)) (fun s hs _ => by
    have h := hz s hs
    unfold zw_ce zw_cw zg_ce zg_cw
    generalize (zc_x (st s) - zc_x (su s)) * (q2 - S * zc_y (su s)) - (zc_y (st s) - zc_y (su s)) * (q1 - S * zc_x (su s)) = e at *
    generalize S * zc_y (su s) = a at *
    generalize S * zc_y (st s) = b at *
    rcases Int.lt_or_le q2 a with x | x <;> rcases Int.lt_or_le q2 b with y | y
    · rw [if_neg (by omega), if_neg (by omega), if_neg (by omega), if_neg (by omega), if_pos y, if_pos x]; rfl
    · have h := h (Or.inr ⟨y, x⟩)
      rw [if_neg (by omega), if_neg (show ¬ (a ≤ q2 ∧ q2 < b ∧ e < 0) by omega), if_neg (show ¬ q2 < b by omega), if_pos x]
      split <;> split <;> omega
    · have h := h (Or.inl ⟨x, y⟩)
      rw [if_neg (show ¬ (b ≤ q2 ∧ q2 < a ∧ e < 0) by omega), if_neg (show ¬ (b ≤ q2 ∧ q2 < a ∧ 0 < e) by omega), if_pos y, if_neg (show ¬ q2 < a by omega)]
      split <;> split <;> omega
    · rw [if_neg (by omega), if_neg (by omega), if_neg (by omega), if_neg (by omega), if_neg (by omega), if_neg (by omega)]; rfl)
  rw [zs_a, h0] at e
  omega
theorem zl_Wv (p v : Nat) : zl_W N su st sp p 16 (16 * zc_x v) (16 * zc_y v) = zv_Ww N su st sp p v := by
  unfold zl_W zv_Ww
  congr 1
  refine zs_c (fun s _ _ => ?_)
  unfold zw_cw zw_wa zg_cw
  have e : (zc_x (st s) - zc_x (su s)) * (16 * zc_y v - 16 * zc_y (su s)) - (zc_y (st s) - zc_y (su s)) * (16 * zc_x v - 16 * zc_x (su s)) = 16 * zc_o (su s) (st s) v := by unfold zc_o; grind
  rw [e]
  congr 1
  · congr 1
    exact propext (by omega)
  · congr 1
    exact propext (by omega)
end
end
section
/-! ints of the machine from integers -/
def zi (z : Int) : Int32 := Int32.ofInt z
theorem zi_t {z : Int} (h : -2147483648 ≤ z ∧ z < 2147483648) : (zi z).toInt = z := Int32.toInt_ofInt_of_le h.1 h.2
theorem zi_of (x : Int32) : x = zi x.toInt := (Int32.ofInt_toInt x).symm
theorem zi_rg (x : Int32) : -2147483648 ≤ x.toInt ∧ x.toInt < 2147483648 := ⟨x.le_toInt, x.toInt_lt⟩
theorem zi_n (n : Nat) : nI n = zi (n : Int) := Int32.ofInt_eq_ofNat.symm
theorem zi_add (a b : Int) : zi a + zi b = zi (a + b) := (Int32.ofInt_add a b).symm
theorem zi_sub (a b : Int) : zi a - zi b = zi (a - b) := (Int32.ofInt_sub a b).symm
theorem zi_mul (a b : Int) : zi a * zi b = zi (a * b) := (Int32.ofInt_mul a b).symm
theorem zi_neg (a : Int) : - zi a = zi (-a) := (Int32.ofInt_neg a).symm
theorem zi_le {a b : Int} (ha : -2147483648 ≤ a ∧ a < 2147483648) (hb : -2147483648 ≤ b ∧ b < 2147483648) : zi a ≤ zi b ↔ a ≤ b := by
  rw [Int32.le_iff_toInt_le, zi_t ha, zi_t hb]
theorem zi_lt {a b : Int} (ha : -2147483648 ≤ a ∧ a < 2147483648) (hb : -2147483648 ≤ b ∧ b < 2147483648) : zi a < zi b ↔ a < b := by
  rw [Int32.lt_iff_toInt_lt, zi_t ha, zi_t hb]
theorem zi_eq {a b : Int} (ha : -2147483648 ≤ a ∧ a < 2147483648) (hb : -2147483648 ≤ b ∧ b < 2147483648) : zi a = zi b ↔ a = b := by
  rw [← Int32.toInt_inj, zi_t ha, zi_t hb]
theorem zi_div {a b : Int} (ha : 0 ≤ a ∧ a < 2147483648) (hb : 0 < b ∧ b < 2147483648) : zi a / zi b = zi (a / b) := by
  rw [← Int.tdiv_eq_ediv_of_nonneg ha.1]
  refine (Int32.ofInt_tdiv ?_ ?_ ?_ ?_).symm
  · have : Int32.minValue.toInt = -2147483648 := by decide
    omega
  · have : Int32.maxValue.toInt = 2147483647 := by decide
    omega
  · have : Int32.minValue.toInt = -2147483648 := by decide
    omega
  · have : Int32.maxValue.toInt = 2147483647 := by decide
    omega
theorem zi_rem {a b : Int} (ha : 0 ≤ a ∧ a < 2147483648) (hb : 0 < b ∧ b < 2147483648) : zi a - zi a / zi b * zi b = zi (a % b) := by
  rw [zi_div ha hb, zi_mul, zi_sub, Int.emod_def, Int.mul_comm b]
theorem zi_in {a : Int} {n : Nat} (h : 0 ≤ a ∧ a < n) (hn : n < 2147483648) : vp_in (zi a) n := by
  rw [vp_in_iff, zi_t (by omega)]; exact h
theorem zi_cl {a : Int} {n : Nat} (h : a = n) (hn : n < 2147483648) : (zi a).toNatClampNeg = n := by
  subst h; rw [← zi_n]; exact nI_clamp hn
/-- branches -/
theorem zb_le {a b : Int} {A B : Prop} (ha : -2147483648 ≤ a ∧ a < 2147483648) (hb : -2147483648 ≤ b ∧ b < 2147483648) (f : a ≤ b → A) (g : b < a → B) : (zi a ≤ zi b → A) ∧ (¬ zi a ≤ zi b → B) := by
  rw [zi_le ha hb]; exact ⟨f, fun z => g (by omega)⟩
theorem zb_lt {a b : Int} {A B : Prop} (ha : -2147483648 ≤ a ∧ a < 2147483648) (hb : -2147483648 ≤ b ∧ b < 2147483648) (f : a < b → A) (g : b ≤ a → B) : (zi a < zi b → A) ∧ (¬ zi a < zi b → B) := by
  rw [zi_lt ha hb]; exact ⟨f, fun z => g (by omega)⟩
theorem zb_eq {a b : Int} {A B : Prop} (ha : -2147483648 ≤ a ∧ a < 2147483648) (hb : -2147483648 ≤ b ∧ b < 2147483648) (f : a = b → A) (g : a ≠ b → B) : (zi a = zi b → A) ∧ (¬ zi a = zi b → B) := by
  rw [zi_eq ha hb]; exact ⟨f, g⟩
theorem zb_v {α : Sort _} {P : α → Prop} {a b : α} (e : a = b) (h : P b) : P a := e ▸ h
theorem zb_leN {a b : Nat} {A B : Prop} (ha : a < 2147483648) (hb : b < 2147483648) (f : a ≤ b → A) (g : b < a → B) : (nI a ≤ nI b → A) ∧ (¬ nI a ≤ nI b → B) := by
  rw [nI_leI ha hb]; exact ⟨f, fun z => g (by omega)⟩
theorem zb_ltN {a b : Nat} {A B : Prop} (ha : a < 2147483648) (hb : b < 2147483648) (f : a < b → A) (g : b ≤ a → B) : (nI a < nI b → A) ∧ (¬ nI a < nI b → B) := by
  rw [nI_ltI ha hb]; exact ⟨f, fun z => g (by omega)⟩
theorem zb_eqN {a b : Nat} {A B : Prop} (ha : a < 2147483648) (hb : b < 2147483648) (f : a = b → A) (g : a ≠ b → B) : (nI a = nI b → A) ∧ (¬ nI a = nI b → B) := by
  rw [nI_eq ha hb]; exact ⟨f, g⟩
theorem zb_sub {a b : Nat} (h : b ≤ a) : nI a - nI b = nI (a - b) := by
  obtain ⟨c, rfl⟩ : ∃ c, a = c + b := ⟨a - b, by omega⟩
  rw [← nI_add, Int32.add_sub_cancel, Nat.add_sub_cancel]
theorem zb_pred (n : Nat) : nI (n + 1) - 1 = nI n := nI_pred n
theorem zb_m1 (n : Nat) : nI (n + 1) + (-1) = nI n := by
  rw [← nI_1, Int32.add_assoc, show (1 : Int32) + (-1) = 0 from rfl, Int32.add_zero]
theorem zb_mul (a b : Nat) : nI a * nI b = nI (a * b) := (Int32.ofNat_mul a b).symm
theorem zb_div {a d : Nat} (ha : a < 2147483648) (h0 : 0 < d) (hd : d < 2147483648) : nI a / nI d = nI (a / d) := by
  rw [zi_n, zi_n, zi_n, zi_div (by omega) (by omega)]; rfl
theorem zb_rem {a d : Nat} (ha : a < 2147483648) (h0 : 0 < d) (hd : d < 2147483648) : nI a - nI a / nI d * nI d = nI (a % d) := by
  rw [zi_n, zi_n, zi_n, zi_rem (by omega) (by omega)]; rfl
/-- stores -/
theorem zu_s {f : Nat → Int32} {k : Nat} {x : Int32} : upd f k x k = x := if_pos rfl
theorem zu_n {f : Nat → Int32} {k j : Nat} {x : Int32} (h : j ≠ k) : upd f k x j = f j := if_neg h
/-- twins -/
def zt (h : Nat) : Nat := if h % 2 = 0 then h + 1 else h - 1
theorem zt_zt (h : Nat) : zt (zt h) = h := by unfold zt; split <;> split <;> omega
theorem zt_lt {h k : Nat} (hh : h < 2 * k) : zt h < 2 * k := by unfold zt; split <;> omega
theorem zt_ne (h : Nat) : zt h ≠ h := by unfold zt; split <;> omega
theorem zt_e (p : Nat) : zt (2 * p) = 2 * p + 1 := by unfold zt; rw [if_pos (by omega)]
theorem zt_o (p : Nat) : zt (2 * p + 1) = 2 * p := by unfold zt; rw [if_neg (by omega)]; omega
theorem zt_h (h : Nat) : zt h / 2 = h / 2 := by unfold zt; split <;> omega
theorem zt_xor : ∀ h, h < 512 → nI h ^^^ 1 = nI (zt h) := by
  have : ∀ h : Fin 512, nI h.val ^^^ 1 = nI (zt h.val) := by decide +kernel
  exact fun h hh => this ⟨h, hh⟩
theorem zt_and : ∀ h, h < 512 → nI h &&& 1 = nI (h % 2) := by
  have : ∀ h : Fin 512, nI h.val &&& 1 = nI (h.val % 2) := by decide +kernel
  exact fun h hh => this ⟨h, hh⟩
theorem zt_shr : ∀ h, h < 512 → nI h >>> ((1 : Int32) &&& 31) = nI (h / 2) := by
  have : ∀ h : Fin 512, nI h.val >>> ((1 : Int32) &&& 31) = nI (h.val / 2) := by decide +kernel
  exact fun h hh => this ⟨h, hh⟩
theorem zn_b0 : vp_nar .boolean 0 = 0 := rfl
theorem zn_b1 : vp_nar .boolean 1 = 1 := rfl
end
section
/-! the component's small methods over the half-edges -/
/-- origins of the half-edges -/
def zx_org (a_org : Nat → Int32) (og : Nat → Nat) (K : Nat) : Prop := K ≤ 256 ∧ ∀ h, h < 2 * K → a_org h = nI (og h) ∧ og h < 100
theorem zx_x {u : Nat} (h : u < 100) : nI u / 10 = zi (zc_x u) := by
  rw [show (10 : Int32) = nI 10 from rfl, zb_div (by omega) (by omega) (by omega), zi_n]; rfl
theorem zx_y {u : Nat} (h : u < 100) : nI u - nI u / 10 * 10 = zi (zc_y u) := by
  rw [show (10 : Int32) = nI 10 from rfl, zb_rem (by omega) (by omega) (by omega), zi_n]; rfl
theorem zx_y' {u : Nat} (h : u < 100) : nI u - zi (zc_x u) * 10 = zi (zc_y u) := by rw [← zx_x h]; exact zx_y h
/-- the component's side of a point, at scale 16 -/
def zx_sd (u t : Nat) (px py : Int) : Int := (zc_x t - zc_x u) * (py - 16 * zc_y u) - (zc_y t - zc_y u) * (px - 16 * zc_x u)
theorem zx_c16 (u t v : Nat) : zx_sd u t (16 * zc_x v) (16 * zc_y v) = 16 * zc_o u t v := by unfold zx_sd zc_o; grind
theorem zx_prod {x y A B : Int} (h1 : -A ≤ x ∧ x ≤ A) (h2 : -B ≤ y ∧ y ≤ B) : -(A * B) ≤ x * y ∧ x * y ≤ A * B := by
  have a := Int.mul_nonneg (show 0 ≤ A - x by omega) (show 0 ≤ B - y by omega)
  have b := Int.mul_nonneg (show 0 ≤ A + x by omega) (show 0 ≤ B + y by omega)
  have c := Int.mul_nonneg (show 0 ≤ A - x by omega) (show 0 ≤ B + y by omega)
  have d := Int.mul_nonneg (show 0 ≤ A + x by omega) (show 0 ≤ B - y by omega)
  have ea : (A - x) * (B - y) = A * B - A * y - B * x + x * y := by clear a b c d h1 h2; grind
  have eb : (A + x) * (B + y) = A * B + A * y + B * x + x * y := by clear a b c d h1 h2 ea; grind
  have ec : (A - x) * (B + y) = A * B + A * y - B * x - x * y := by clear a b c d h1 h2 ea eb; grind
  have ed : (A + x) * (B - y) = A * B - A * y + B * x - x * y := by clear a b c d h1 h2 ea eb ec; grind
  omega
theorem zx_sdb {u t : Nat} (hu : u < 100) (ht : t < 100) {px py : Int} (h1 : -1000 ≤ px ∧ px ≤ 1000) (h2 : -1000 ≤ py ∧ py ≤ 1000) : -100000 ≤ zx_sd u t px py ∧ zx_sd u t px py ≤ 100000 := by
  have a := zc_b hu
  have b := zc_b ht
  have p1 := zx_prod (x := zc_x t - zc_x u) (y := py - 16 * zc_y u) (A := 9) (B := 2000) (by omega) (by omega)
  have p2 := zx_prod (x := zc_y t - zc_y u) (y := px - 16 * zc_x u) (A := 9) (B := 2000) (by omega) (by omega)
  unfold zx_sd
  omega
section
variable {f_size f_maxEdges f_phase f_op f_rule f_stored f_rings f_hotCount f_chainLen f_pieces f_halves f_stackTop f_outEdges f_outRings f_traced : Int32} {a_vertX a_vertY a_ringStart a_ringPoly a_dirX a_dirY a_edgePoly a_isHot a_chainId a_chainKey a_pieceKey a_weightA a_weightB a_org a_round a_byEnds a_cw a_lastAt a_windA a_windB a_reached a_stack a_outDir a_used a_outHalf a_ringFrom : Nat → Int32}
variable {og : Nat → Nat} {K : Nat}
theorem xg_side {post : Int32 → Prop} (hO : zx_org a_org og K) {h : Nat} (hh : h < 2 * K) (px py : Int) (k : post (zi (zx_sd (og h) (og (zt h)) px py))) : wpX_side post (f_size, f_maxEdges, f_phase, f_op, f_rule, f_stored, f_rings, f_hotCount, f_chainLen, f_pieces, f_halves, f_stackTop, f_outEdges, f_outRings, f_traced, a_vertX, a_vertY, a_ringStart, a_ringPoly, a_dirX, a_dirY, a_edgePoly, a_isHot, a_chainId, a_chainKey, a_pieceKey, a_weightA, a_weightB, a_org, a_round, a_byEnds, a_cw, a_lastAt, a_windA, a_windB, a_reached, a_stack, a_outDir, a_used, a_outHalf, a_ringFrom) (nI h) (zi px) (zi py) := by
  obtain ⟨hK, hO⟩ := hO
  have h2 := zt_lt hh
  obtain ⟨e1, l1⟩ := hO h hh
  obtain ⟨e2, l2⟩ := hO _ h2
  have i1 : vp_in (nI h) 512 := vp_in_nI (by omega) (by omega)
  have i2 : vp_in (nI (zt h)) 512 := vp_in_nI (by omega) (by omega)
  have d : ¬ (10 : Int32) = 0 := by decide
  unfold wpX_side
  simp only [zt_xor h (by omega), nI_clamp (show h < 2 ^ 31 by omega), nI_clamp (show zt h < 2 ^ 31 by omega), e1, e2, zx_x l1, zx_x l2, zx_y' l1, zx_y' l2]
  refine ⟨i1, d, nm_e ⟨i1, d, nm_e ⟨i2, d, nm_e ⟨i2, d, nm_e ?_⟩⟩⟩⟩
  rw [show (16 : Int32) = zi 16 from rfl]
  simp only [zi_mul, zi_sub]
  exact k
theorem xg_soc {post : Int32 → Prop} (hO : zx_org a_org og K) {h v : Nat} (hh : h < 2 * K) (hv : v < 100) (k : post (zi (16 * zc_o (og h) (og (zt h)) v))) : wpX_sideOfCentre post (f_size, f_maxEdges, f_phase, f_op, f_rule, f_stored, f_rings, f_hotCount, f_chainLen, f_pieces, f_halves, f_stackTop, f_outEdges, f_outRings, f_traced, a_vertX, a_vertY, a_ringStart, a_ringPoly, a_dirX, a_dirY, a_edgePoly, a_isHot, a_chainId, a_chainKey, a_pieceKey, a_weightA, a_weightB, a_org, a_round, a_byEnds, a_cw, a_lastAt, a_windA, a_windB, a_reached, a_stack, a_outDir, a_used, a_outHalf, a_ringFrom) (nI h) (nI v) := by
  unfold wpX_sideOfCentre
  refine ⟨by decide, by decide, ?_⟩
  rw [zx_y hv, zx_x hv, show (16 : Int32) = zi 16 from rfl, zi_mul, zi_mul]
  refine xg_side hO hh _ _ ?_
  rw [zx_c16]
  exact k
/-- g before h about one origin -/
def zx_tb (og : Nat → Nat) (g h : Nat) : Prop := og g < og h ∨ (og g = og h ∧ ((g % 2 = 0 ∧ h % 2 = 1) ∨ (g % 2 = h % 2 ∧ 0 < zc_o (og g) (og (zt g)) (og (zt h)))))
theorem zx_ob {a b c : Nat} (ha : a < 100) (hb : b < 100) (hc : c < 100) : -162 ≤ zc_o a b c ∧ zc_o a b c ≤ 162 := by
  have A := zc_b ha
  have B := zc_b hb
  have C := zc_b hc
  have p1 := zg_bd (x := zc_x b - zc_x a) (y := zc_y c - zc_y a) (by omega) (by omega) (by omega) (by omega)
  have p2 := zg_bd (x := zc_y b - zc_y a) (y := zc_x c - zc_x a) (by omega) (by omega) (by omega) (by omega)
  unfold zc_o
  omega
theorem xg_tb {post : Int32 → Prop} (hO : zx_org a_org og K) {g h : Nat} (hg : g < 2 * K) (hh : h < 2 * K) (k1 : zx_tb og g h → post 1) (k0 : ¬ zx_tb og g h → post 0) : wpX_turnsBefore post (f_size, f_maxEdges, f_phase, f_op, f_rule, f_stored, f_rings, f_hotCount, f_chainLen, f_pieces, f_halves, f_stackTop, f_outEdges, f_outRings, f_traced, a_vertX, a_vertY, a_ringStart, a_ringPoly, a_dirX, a_dirY, a_edgePoly, a_isHot, a_chainId, a_chainKey, a_pieceKey, a_weightA, a_weightB, a_org, a_round, a_byEnds, a_cw, a_lastAt, a_windA, a_windB, a_reached, a_stack, a_outDir, a_used, a_outHalf, a_ringFrom) (nI g) (nI h) := by
  have hO' := hO
  obtain ⟨hK, hO⟩ := hO
  have h2 := zt_lt hh
  have g2 := zt_lt hg
  obtain ⟨e1, l1⟩ := hO g hg
  obtain ⟨e2, l2⟩ := hO h hh
  obtain ⟨e3, l3⟩ := hO _ h2
  obtain ⟨e4, l4⟩ := hO _ g2
  have i1 : vp_in (nI g) 512 := vp_in_nI (by omega) (by omega)
  have i2 : vp_in (nI h) 512 := vp_in_nI (by omega) (by omega)
  have i3 : vp_in (nI (zt h)) 512 := vp_in_nI (by omega) (by omega)
  unfold wpX_turnsBefore
  simp only [zt_xor h (by omega), zt_and g (by omega), zt_and h (by omega), nI_clamp (show h < 2 ^ 31 by omega), nI_clamp (show g < 2 ^ 31 by omega), nI_clamp (show zt h < 2 ^ 31 by omega), e1, e2, e3]
  refine ⟨i1, i2, zb_eqN (by omega) (by omega) (fun ez => zb_eqN (by omega) (by omega) (fun ep => ⟨i3, xg_soc hO' hg l3 ?_⟩) (fun ep => ?_)) (fun ez => ⟨i1, i2, zb_leN (by omega) (by omega) (fun w => k0 ?_) (fun w => k1 ?_)⟩)⟩
  · have b := zx_ob l1 l4 l3
    refine zb_le (b := 0) (by omega) (by omega) (fun w => k0 ?_) (fun w => k1 ?_)
    · rintro (x | ⟨x, y⟩)
      · omega
      · omega
    · exact Or.inr ⟨ez, Or.inr ⟨ep, by omega⟩⟩
  · refine zb_eqN (b := 0) (by omega) (by omega) (fun w => k1 ?_) (fun w => k0 ?_)
    · exact Or.inr ⟨ez, Or.inl ⟨w, by omega⟩⟩
    · rintro (x | ⟨x, y⟩)
      · omega
      · omega
  · rintro (x | ⟨x, y⟩)
    · omega
    · omega
  · exact Or.inl w
theorem xg_ek {post : Int32 → Prop} (hO : zx_org a_org og K) {h : Nat} (hh : h < 2 * K) (k : post (nI (100 * og h + og (zt h)))) : wpX_endsKey post (f_size, f_maxEdges, f_phase, f_op, f_rule, f_stored, f_rings, f_hotCount, f_chainLen, f_pieces, f_halves, f_stackTop, f_outEdges, f_outRings, f_traced, a_vertX, a_vertY, a_ringStart, a_ringPoly, a_dirX, a_dirY, a_edgePoly, a_isHot, a_chainId, a_chainKey, a_pieceKey, a_weightA, a_weightB, a_org, a_round, a_byEnds, a_cw, a_lastAt, a_windA, a_windB, a_reached, a_stack, a_outDir, a_used, a_outHalf, a_ringFrom) (nI h) := by
  obtain ⟨hK, hO⟩ := hO
  have h2 := zt_lt hh
  obtain ⟨e1, l1⟩ := hO h hh
  obtain ⟨e2, l2⟩ := hO _ h2
  have i1 : vp_in (nI h) 512 := vp_in_nI (by omega) (by omega)
  have i2 : vp_in (nI (zt h)) 512 := vp_in_nI (by omega) (by omega)
  unfold wpX_endsKey
  simp only [zt_xor h (by omega), nI_clamp (show h < 2 ^ 31 by omega), nI_clamp (show zt h < 2 ^ 31 by omega), e1, e2]
  refine ⟨i1, i2, ?_⟩
  rw [show (100 : Int32) = nI 100 from rfl, zb_mul, nI_add]
  exact k
/-- h and other run down; h lies east of other -/
theorem xg_eo {post : Int32 → Prop} (hO : zx_org a_org og K) {g h : Nat} (hg : g < 2 * K) (hh : h < 2 * K)
    (k1 : zc_eo (og (zt h)) (og h) (og (zt g)) (og g) → post 1) (k0 : ¬ zc_eo (og (zt h)) (og h) (og (zt g)) (og g) → post 0) : wpX_isEastOf post (f_size, f_maxEdges, f_phase, f_op, f_rule, f_stored, f_rings, f_hotCount, f_chainLen, f_pieces, f_halves, f_stackTop, f_outEdges, f_outRings, f_traced, a_vertX, a_vertY, a_ringStart, a_ringPoly, a_dirX, a_dirY, a_edgePoly, a_isHot, a_chainId, a_chainKey, a_pieceKey, a_weightA, a_weightB, a_org, a_round, a_byEnds, a_cw, a_lastAt, a_windA, a_windB, a_reached, a_stack, a_outDir, a_used, a_outHalf, a_ringFrom) (nI h) (nI g) := by
  have hO' := hO
  obtain ⟨hK, hO⟩ := hO
  have h2 := zt_lt hh
  have g2 := zt_lt hg
  obtain ⟨e1, l1⟩ := hO g hg
  obtain ⟨e2, l2⟩ := hO h hh
  obtain ⟨e3, l3⟩ := hO _ h2
  obtain ⟨e4, l4⟩ := hO _ g2
  have i1 : vp_in (nI g) 512 := vp_in_nI (by omega) (by omega)
  have i2 : vp_in (nI h) 512 := vp_in_nI (by omega) (by omega)
  have i3 : vp_in (nI (zt h)) 512 := vp_in_nI (by omega) (by omega)
  have i4 : vp_in (nI (zt g)) 512 := vp_in_nI (by omega) (by omega)
  have b1 := zc_b l3
  have b2 := zc_b l4
  unfold wpX_isEastOf
  simp only [zt_xor h (by omega), zt_xor g (by omega), nI_clamp (show h < 2 ^ 31 by omega), nI_clamp (show zt g < 2 ^ 31 by omega), nI_clamp (show zt h < 2 ^ 31 by omega), e2, e3, e4]
  refine ⟨i3, nm_e ⟨i4, nm_e (zb_eqN (by omega) (by omega) (fun ez => ⟨i2, xg_soc hO' hg l2 ?_⟩) (fun ez => ⟨by decide, by decide, ?_⟩))⟩⟩
  · have b := zx_ob l1 l4 l2
    have q := zl_eoR (t := og h) (p := og g) ez
    have c : zc_o (og g) (og (zt g)) (og h) = - zc_o (og (zt g)) (og g) (og h) := by unfold zc_o; grind
    exact zb_le (b := 0) (by omega) (by omega) (fun w => k0 (by rw [q]; omega)) (fun w => k1 (by rw [q]; omega))
  · rw [zx_y l3, zx_y l4]
    refine zb_lt (by omega) (by omega) (fun w => xg_soc hO' hh l4 ?_) (fun w => xg_soc hO' hg l3 ?_)
    · have b := zx_ob l2 l3 l4
      have q := zl_eoL (t := og h) (p := og g) w
      have c : zc_o (og h) (og (zt h)) (og (zt g)) = - zc_o (og (zt h)) (og h) (og (zt g)) := by unfold zc_o; grind
      exact zb_le (a := 0) (by omega) (by omega) (fun w => k0 (by rw [q]; omega)) (fun w => k1 (by rw [q]; omega))
    · have b := zx_ob l1 l4 l3
      have q := zl_eoH (t := og h) (p := og g) ez w
      have c : zc_o (og g) (og (zt g)) (og (zt h)) = - zc_o (og (zt g)) (og g) (og (zt h)) := by unfold zc_o; grind
      exact zb_le (b := 0) (by omega) (by omega) (fun w => k0 (by rw [q]; omega)) (fun w => k1 (by rw [q]; omega))
end
end
section
/-! locate -/
/-- the half-edge of piece p that runs down, its low end and its top -/
def zx_dn (og : Nat → Nat) (p : Nat) : Nat := if zc_y (og (2 * p + 1)) < zc_y (og (2 * p)) then 2 * p else 2 * p + 1
def zx_lo (og : Nat → Nat) (p : Nat) : Nat := og (zt (zx_dn og p))
def zx_tp (og : Nat → Nat) (p : Nat) : Nat := og (zx_dn og p)
def zx_cd (og : Nat → Nat) (px py : Int) (p : Nat) : Prop := zl_wst 16 px py (zx_lo og p) (zx_tp og p)
theorem zx_dn_lt {og : Nat → Nat} {p K : Nat} (h : p < K) : zx_dn og p < 2 * K := by unfold zx_dn; split <;> omega
theorem zx_dn_h (og : Nat → Nat) (p : Nat) : zx_dn og p / 2 = p := by unfold zx_dn; split <;> omega
theorem zx_dn_c (og : Nat → Nat) (p : Nat) : (zx_lo og p = og (2 * p) ∧ zx_tp og p = og (2 * p + 1)) ∨ (zx_lo og p = og (2 * p + 1) ∧ zx_tp og p = og (2 * p)) := by
  unfold zx_lo zx_tp zx_dn
  split
  · rw [zt_e]; exact Or.inr ⟨rfl, rfl⟩
  · rw [zt_o]; exact Or.inl ⟨rfl, rfl⟩
/-- pieces: different ends, no two cross -/
def zx_nc (og : Nat → Nat) (K : Nat) : Prop := (∀ p, p < K → og (2 * p) ≠ og (2 * p + 1)) ∧ ∀ p q, p < K → q < K → p ≠ q → zc_nc (og (2 * p)) (og (2 * p + 1)) (og (2 * q)) (og (2 * q + 1))
theorem zx_lok {og : Nat → Nat} {K : Nat} (ho : ∀ h, h < 2 * K → og h < 100) (hn : zx_nc og K) {p q : Nat} (hp : p < K) (hq : q < K) (hy : zc_y (zx_lo og q) < zc_y (zx_tp og q)) : zl_ok (zx_lo og q) (zx_tp og q) (zx_lo og p) (zx_tp og p) := by
  have a := zx_dn_c og p
  have b := zx_dn_c og q
  have h1 := ho (2 * p) (by omega)
  have h2 := ho (2 * p + 1) (by omega)
  have h3 := ho (2 * q) (by omega)
  have h4 := ho (2 * q + 1) (by omega)
  have d1 := hn.1 p hp
  refine ⟨by omega, by omega, by omega, by omega, by omega, hy, ?_⟩
  by_cases e : p = q
  · subst e; exact Or.inl ⟨rfl, rfl⟩
  · have c := hn.2 q p hq hp (Ne.symm e)
    rcases a with ⟨a1, a2⟩ | ⟨a1, a2⟩ <;> rcases b with ⟨b1, b2⟩ | ⟨b1, b2⟩ <;> rw [a1, a2, b1, b2]
    · exact Or.inr (Or.inr c)
    · exact Or.inr (Or.inr (zg_nc_r c))
    · exact Or.inr (Or.inr (zg_nc_s c))
    · exact Or.inr (Or.inr (zg_nc_r (zg_nc_s c)))
theorem zx_cdy {og : Nat → Nat} {px py : Int} {p : Nat} (h : zx_cd og px py p) : zc_y (zx_lo og p) < zc_y (zx_tp og p) := by
  have h1 := h.1
  have h2 := h.2.1
  omega
/-- what locate has found among the pieces below p -/
def zx_li (og : Nat → Nat) (px py : Int) (p : Nat) (b : Int32) : Prop :=
  (b = -1 ∧ ∀ q, q < p → ¬ zx_cd og px py q) ∨ (∃ q, q < p ∧ zx_cd og px py q ∧ b = nI (zx_dn og q) ∧ ∀ q', q' < p → zx_cd og px py q' → ¬ zc_eo (zx_lo og q') (zx_tp og q') (zx_lo og q) (zx_tp og q))
theorem zx_li_n {og : Nat → Nat} {px py : Int} {p : Nat} {b : Int32} (h : zx_li og px py p b) (hc : ¬ zx_cd og px py p) : zx_li og px py (p + 1) b := by
  rcases h with ⟨h1, h2⟩ | ⟨q, h1, h2, h3, h4⟩
  · refine Or.inl ⟨h1, fun q hq => ?_⟩
    by_cases e : q = p
    · subst e; exact hc
    · exact h2 q (by omega)
  · refine Or.inr ⟨q, by omega, h2, h3, fun q' hq' c => ?_⟩
    by_cases e : q' = p
    · subst e; exact absurd c hc
    · exact h4 q' (by omega) c
section
variable {f_size f_maxEdges f_phase f_op f_rule f_stored f_rings f_hotCount f_chainLen f_pieces f_halves f_stackTop f_outEdges f_outRings f_traced : Int32} {a_vertX a_vertY a_ringStart a_ringPoly a_dirX a_dirY a_edgePoly a_isHot a_chainId a_chainKey a_pieceKey a_weightA a_weightB a_org a_round a_byEnds a_cw a_lastAt a_windA a_windB a_reached a_stack a_outDir a_used a_outHalf a_ringFrom : Nat → Int32}
variable {og : Nat → Nat} {K : Nat}
theorem zx_sdw (u t : Nat) (px py : Int) : zx_sd t u px py = -((zc_x t - zc_x u) * (py - 16 * zc_y u) - (zc_y t - zc_y u) * (px - 16 * zc_x u)) := by unfold zx_sd; grind
theorem xg_loc_5 {post : Int32 → Prop} (hO : zx_org a_org og K) (hn : zx_nc og K) (hp : f_pieces = nI K) {px py : Int} (bx : -1000 ≤ px ∧ px ≤ 1000) (bz : -1000 ≤ py ∧ py ≤ 1000)
    (k : ∀ b, zx_li og px py K b → post b) : ∀ (n p : Nat) (b : Int32), K - p < n → p ≤ K → zx_li og px py p b → wX_locate_5 post (zi px) (zi py) f_size f_maxEdges f_phase f_op f_rule f_stored f_rings f_hotCount f_chainLen f_pieces f_halves f_stackTop f_outEdges f_outRings f_traced a_vertX a_vertY a_ringStart a_ringPoly a_dirX a_dirY a_edgePoly a_isHot a_chainId a_chainKey a_pieceKey a_weightA a_weightB a_org a_round a_byEnds a_cw a_lastAt a_windA a_windB a_reached a_stack a_outDir a_used a_outHalf a_ringFrom n b (nI p)
  | 0, p, b, h, _, _ => by omega
  | n + 1, p, b, h, hpK, inv => by
    have ih := xg_loc_5 (post := post) hO hn hp bx bz k n
    have hO' := hO
    obtain ⟨hK, hOO⟩ := hO
    have ho : ∀ h, h < 2 * K → og h < 100 := fun h hh => (hOO h hh).2
    subst hp
    unfold wX_locate_5
    refine zb_leN (by omega) (by omega) (fun w => k b ?_) (fun w => ?_)
    · have : p = K := by omega
      rw [← this]; exact inv
    · obtain ⟨e1, l1⟩ := hOO (2 * p) (by omega)
      obtain ⟨e2, l2⟩ := hOO (2 * p + 1) (by omega)
      have i1 : vp_in (nI (2 * p)) 512 := vp_in_nI (by omega) (by omega)
      have i2 : vp_in (nI (2 * p + 1)) 512 := vp_in_nI (by omega) (by omega)
      have b1 := zc_b l1
      have b2 := zc_b l2
      have m1 : (2 : Int32) * nI p = nI (2 * p) := by rw [show (2 : Int32) = nI 2 from rfl, zb_mul]
      have d10 : ¬ (10 : Int32) = 0 := by decide
      have nx : ∀ c, zx_li og px py (p + 1) c → (∀ y, y = nI p + 1 → wX_locate_5 post (zi px) (zi py) f_size f_maxEdges f_phase f_op f_rule f_stored f_rings f_hotCount f_chainLen (nI K) f_halves f_stackTop f_outEdges f_outRings f_traced a_vertX a_vertY a_ringStart a_ringPoly a_dirX a_dirY a_edgePoly a_isHot a_chainId a_chainKey a_pieceKey a_weightA a_weightB a_org a_round a_byEnds a_cw a_lastAt a_windA a_windB a_reached a_stack a_outDir a_used a_outHalf a_ringFrom n c y) := by
        intro c hc y ey
        rw [ey, nI_1]
        exact ih (p + 1) c (by omega) (by omega) hc
      -- the join, for the half-edge that runs down
      have J : ∀ g, g = zx_dn og p → wX_locate_56 post (wX_locate_5 post (zi px) (zi py) f_size f_maxEdges f_phase f_op f_rule f_stored f_rings f_hotCount f_chainLen (nI K) f_halves f_stackTop f_outEdges f_outRings f_traced a_vertX a_vertY a_ringStart a_ringPoly a_dirX a_dirY a_edgePoly a_isHot a_chainId a_chainKey a_pieceKey a_weightA a_weightB a_org a_round a_byEnds a_cw a_lastAt a_windA a_windB a_reached a_stack a_outDir a_used a_outHalf a_ringFrom n) (zi px) (zi py) b (nI p) (nI g) f_size f_maxEdges f_phase f_op f_rule f_stored f_rings f_hotCount f_chainLen (nI K) f_halves f_stackTop f_outEdges f_outRings f_traced a_vertX a_vertY a_ringStart a_ringPoly a_dirX a_dirY a_edgePoly a_isHot a_chainId a_chainKey a_pieceKey a_weightA a_weightB a_org a_round a_byEnds a_cw a_lastAt a_windA a_windB a_reached a_stack a_outDir a_used a_outHalf a_ringFrom := by
        intro g eg
        have hg : g < 2 * K := by rw [eg]; exact zx_dn_lt (by omega)
        have hg2 := zt_lt hg
        obtain ⟨f1, k1⟩ := hOO g hg
        obtain ⟨f2, k2⟩ := hOO _ hg2
        have j1 : vp_in (nI g) 512 := vp_in_nI (by omega) (by omega)
        have j2 : vp_in (nI (zt g)) 512 := vp_in_nI (by omega) (by omega)
        have c1 := zc_b k1
        have c2 := zc_b k2
        have elo : zx_lo og p = og (zt g) := by rw [eg]; rfl
        have etp : zx_tp og p = og g := by rw [eg]; rfl
        unfold wX_locate_56
        simp only [zt_xor g (by omega), nI_clamp (show g < 2 ^ 31 by omega), nI_clamp (show zt g < 2 ^ 31 by omega), f1, f2, zx_x k1, zx_x k2, zx_y' k1, zx_y' k2]
        rw [show (16 : Int32) = zi 16 from rfl]
        simp only [zi_mul]
        refine ⟨j2, d10, zb_lt (by omega) (by omega) (fun w1 => ?_) (fun w1 => ⟨j1, d10, zb_le (by omega) (by omega) (fun w2 => ?_) (fun w2 => ?_)⟩)⟩
        · unfold wX_locate_98 wX_locate_99
          refine br_t rfl (nx b (zx_li_n inv ?_))
          intro c
          have := c.1
          rw [elo] at this
          omega
        · unfold wX_locate_98 wX_locate_99
          refine br_t rfl (nx b (zx_li_n inv ?_))
          intro c
          have := c.2.1
          rw [etp] at this
          omega
        · unfold wX_locate_99
          refine br_f (by decide) (xg_side hO' hg px py ?_)
          have bs := zx_sdb k1 k2 bx bz
          have es := zx_sdw (og (zt g)) (og g) px py
          refine zb_le (b := 0) (by omega) (by omega) (fun w3 => ?_) (fun w3 => ?_)
          · refine nx b (zx_li_n inv ?_)
            intro c
            have := c.2.2
            rw [elo, etp] at this
            omega
          · have cd : zx_cd og px py p := by
              unfold zx_cd
              rw [elo, etp]
              exact ⟨by omega, by omega, by omega⟩
            have fresh : (∀ q, q < p → ¬ zx_cd og px py q) → zx_li og px py (p + 1) (nI g) := by
              intro hnone
              refine Or.inr ⟨p, by omega, cd, by rw [eg], fun q' hq' c => ?_⟩
              by_cases e : q' = p
              · subst e
                have hy := zx_cdy cd
                rw [zl_eoR rfl]
                have : zc_o (zx_lo og q') (zx_tp og q') (zx_tp og q') = 0 := by unfold zc_o; grind
                omega
              · exact absurd c (hnone q' (by omega))
            rcases inv with ⟨v1, v2⟩ | ⟨q, v1, v2, v3, v4⟩
            · subst v1
              exact br_t (by decide) (nx _ (fresh v2))
            · subst v3
              have hq : q < K := by omega
              refine br_f (nI_pos (by have := zx_dn_lt (og := og) hq; omega)) (xg_eo hO' (zx_dn_lt hq) hg (fun w4 => ?_) (fun w4 => ?_))
              · refine br_f (by decide) (nx _ (Or.inr ⟨p, by omega, cd, by rw [eg], fun q' hq' c => ?_⟩))
                by_cases e : q' = p
                · subst e
                  rw [zl_eoR rfl]
                  have : zc_o (zx_lo og q') (zx_tp og q') (zx_tp og q') = 0 := by unfold zc_o; grind
                  omega
                · have y1 := zx_cdy c
                  have y2 := zx_cdy cd
                  have y3 := zx_cdy v2
                  rw [← elo, ← etp] at w4
                  exact zl_tr (S := 16) (by omega) (zx_lok ho hn (by omega) hq y3) (zx_lok ho hn (by omega) hq y3) (zx_lok ho hn (by omega) (by omega) y2) y1 y2 c v2 cd (v4 q' (by omega) c) w4
              · refine br_t rfl (nx _ (Or.inr ⟨q, by omega, v2, rfl, fun q' hq' c => ?_⟩))
                by_cases e : q' = p
                · subst e
                  rw [← elo, ← etp] at w4
                  exact w4
                · exact v4 q' (by omega) c
      rw [m1, nI_1]
      simp only [nI_clamp (show 2 * p < 2 ^ 31 by omega), nI_clamp (show 2 * p + 1 < 2 ^ 31 by omega), e1, e2, zx_x l1, zx_x l2, zx_y' l1, zx_y' l2]
      refine ⟨i1, d10, i2, d10, zb_le (by omega) (by omega) (fun w1 => J _ ?_) (fun w1 => J _ ?_)⟩
      · unfold zx_dn; rw [if_neg (by omega)]
      · unfold zx_dn; rw [if_pos (by omega)]
theorem xg_loc {post : Int32 → Prop} (hO : zx_org a_org og K) (hn : zx_nc og K) (hp : f_pieces = nI K) {px py : Int} (bx : -1000 ≤ px ∧ px ≤ 1000) (bz : -1000 ≤ py ∧ py ≤ 1000)
    (k : ∀ b, zx_li og px py K b → post b) : wpX_locate post (f_size, f_maxEdges, f_phase, f_op, f_rule, f_stored, f_rings, f_hotCount, f_chainLen, f_pieces, f_halves, f_stackTop, f_outEdges, f_outRings, f_traced, a_vertX, a_vertY, a_ringStart, a_ringPoly, a_dirX, a_dirY, a_edgePoly, a_isHot, a_chainId, a_chainKey, a_pieceKey, a_weightA, a_weightB, a_org, a_round, a_byEnds, a_cw, a_lastAt, a_windA, a_windB, a_reached, a_stack, a_outDir, a_used, a_outHalf, a_ringFrom) (zi px) (zi py) := by
  unfold wpX_locate
  exact ⟨K + 1, xg_loc_5 hO hn hp bx bz k (K + 1) 0 (-1) (by omega) (by omega) (Or.inl ⟨rfl, fun q hq => absurd hq (by omega)⟩)⟩
end
end
section
/-! the arrangement: steps and pieces -/
def zr_A (N K : Nat) (su st sp og : Nat → Nat) : Prop :=
  zv_ok N su st ∧ zv_cl N su st sp ∧ (∀ h, h < 2 * K → og h < 100) ∧ zx_nc og K ∧
  (∀ s, s < N → ∃ p, p < K ∧ ((su s = og (2 * p) ∧ st s = og (2 * p + 1)) ∨ (su s = og (2 * p + 1) ∧ st s = og (2 * p)))) ∧
  (∀ p, p < K → og (2 * p) < og (2 * p + 1)) ∧ (∀ p q, p < q → q < K → 100 * og (2 * p) + og (2 * p + 1) < 100 * og (2 * q) + og (2 * q + 1)) ∧ K ≤ 256
section
variable {N K : Nat} {su st sp og : Nat → Nat}
theorem za_ec (h : Nat) : (∃ p, h = 2 * p ∧ zt h = 2 * p + 1) ∨ (∃ p, h = 2 * p + 1 ∧ zt h = 2 * p) := by
  rcases Nat.mod_two_eq_zero_or_one h with e | e
  · exact Or.inl ⟨h / 2, by omega, by unfold zt; rw [if_pos e]; omega⟩
  · exact Or.inr ⟨h / 2, by omega, by unfold zt; rw [if_neg (by omega)]; omega⟩
theorem za_org {a_org : Nat → Int32} (A : zr_A N K su st sp og) (h : ∀ h, h < 2 * K → a_org h = nI (og h)) : zx_org a_org og K := ⟨A.2.2.2.2.2.2.2, fun g hg => ⟨h g hg, A.2.2.1 g hg⟩⟩
theorem za_ne (A : zr_A N K su st sp og) {h : Nat} (hh : h < 2 * K) : og h ≠ og (zt h) := by
  rcases za_ec h with ⟨p, e1, e2⟩ | ⟨p, e1, e2⟩
  · have := A.2.2.2.1.1 p (by omega)
    rw [e1, zt_e]; exact this
  · have := A.2.2.2.1.1 p (by omega)
    rw [e1, zt_o]; exact Ne.symm this
/-- no step crosses a piece -/
theorem za_nc (A : zr_A N K su st sp og) {h : Nat} (hh : h < 2 * K) : zv_nc N su st (og h) (og (zt h)) := by
  refine ⟨A.2.2.1 h hh, A.2.2.1 _ (zt_lt hh), za_ne A hh, fun s hs => ?_⟩
  obtain ⟨q, hq, e⟩ := A.2.2.2.2.1 s hs
  have key : ∀ p, p < K → (su s = og (2 * p) ∧ st s = og (2 * p + 1)) ∨ (su s = og (2 * p + 1) ∧ st s = og (2 * p)) ∨ zc_nc (og (2 * p)) (og (2 * p + 1)) (su s) (st s) := by
    intro p hp
    by_cases c : p = q
    · subst c
      rcases e with e | e
      · exact Or.inl e
      · exact Or.inr (Or.inl e)
    · have n := A.2.2.2.1.2 p q hp hq c
      rcases e with e | e
      · rw [e.1, e.2]; exact Or.inr (Or.inr n)
      · rw [e.1, e.2]; exact Or.inr (Or.inr (zg_nc_s n))
  rcases za_ec h with ⟨p, e1, e2⟩ | ⟨p, e1, e2⟩
  · rw [e1, zt_e]; exact key p (by omega)
  · rw [e1, zt_o]
    rcases key p (by omega) with k | k | k
    · exact Or.inr (Or.inl k)
    · exact Or.inl k
    · exact Or.inr (Or.inr (zg_nc_r k))
theorem za_par (A : zr_A N K su st sp og) {h : Nat} (hh : h < 2 * K) : h % 2 = 0 ↔ og h < og (zt h) := by
  rcases za_ec h with ⟨p, e1, e2⟩ | ⟨p, e1, e2⟩
  · have := A.2.2.2.2.2.1 p (by omega)
    rw [e1, zt_e]; omega
  · have := A.2.2.2.2.2.1 p (by omega)
    rw [e1, zt_o]; omega
theorem za_E {a b : Nat} : (0 < zc_x b - zc_x a ∨ (zc_x b - zc_x a = 0 ∧ 0 < zc_y b - zc_y a)) ↔ a < b := by
  unfold zc_x zc_y; omega
/-- the order about one origin is the order by angle -/
theorem za_tbx (A : zr_A N K su st sp og) {g h : Nat} (hg : g < 2 * K) (hh : h < 2 * K) (e : og g = og h) : zx_tb og g h ↔ zv_xa (og h) (og (zt g)) (og (zt h)) = 1 := by
  have p1 := za_par A hg
  have p2 := za_par A hh
  unfold zx_tb zv_xa zg_xa
  simp only [za_E]
  rw [e] at p1
  have o : zc_o (og g) (og (zt g)) (og (zt h)) = (zc_x (og (zt g)) - zc_x (og h)) * (zc_y (og (zt h)) - zc_y (og h)) - (zc_y (og (zt g)) - zc_y (og h)) * (zc_x (og (zt h)) - zc_x (og h)) := by unfold zc_o; rw [e]
  rw [o]
  generalize (zc_x (og (zt g)) - zc_x (og h)) * (zc_y (og (zt h)) - zc_y (og h)) - (zc_y (og (zt g)) - zc_y (og h)) * (zc_x (og (zt h)) - zc_x (og h)) = O
  constructor
  · rintro (w | ⟨w, w'⟩)
    · omega
    · rw [if_pos (by omega)]
  · intro w
    split at w
    · refine Or.inr ⟨e, by omega⟩
    · omega
theorem za_x01 (a b c : Nat) : zv_xa a b c = 0 ∨ zv_xa a b c = 1 := by
  unfold zv_xa zg_xa
  split
  · exact Or.inr rfl
  · exact Or.inl rfl
/-- cross products in one half plane -/
theorem za_tr0 {b1 b2 v1 v2 w1 w2 : Int} (hb : 0 < b1 ∨ (b1 = 0 ∧ 0 < b2)) (hv : 0 < v1 ∨ (v1 = 0 ∧ 0 < v2)) (hw : 0 < w1 ∨ (w1 = 0 ∧ 0 < w2)) (h1 : 0 < b1 * v2 - b2 * v1) (h2 : 0 < v1 * w2 - v2 * w1) : 0 < b1 * w2 - b2 * w1 := by
  have id : (b1 * w2 - b2 * w1) * v1 = b1 * (v1 * w2 - v2 * w1) + w1 * (b1 * v2 - b2 * v1) := by clear hb hv hw h1 h2; grind
  have v0 : 0 < v1 := by
    rcases hv with z | z
    · exact z
    · exfalso
      rw [z.1, Int.zero_mul] at h2
      rcases zg_mc v2 w1 with x | x | x | x | x | x <;> omega
  have b0 : 0 ≤ b1 := by omega
  have w0 : 0 ≤ w1 := by omega
  have p1 := Int.mul_nonneg b0 (Int.le_of_lt h2)
  have p2 := Int.mul_nonneg w0 (Int.le_of_lt h1)
  refine zg_pp v0 ?_
  rcases Int.lt_or_le 0 b1 with z | z
  · have := Int.mul_pos z h2; omega
  · have z : b1 = 0 := by omega
    exfalso
    rw [z, Int.zero_mul] at h1
    have := Int.mul_pos (show 0 < b2 by omega) v0
    omega
theorem za_xtr {b1 b2 v1 v2 w1 w2 : Int} (hb : ¬ (b1 = 0 ∧ b2 = 0)) (hv : ¬ (v1 = 0 ∧ v2 = 0)) (hw : ¬ (w1 = 0 ∧ w2 = 0)) (h1 : zg_xa b1 b2 v1 v2 = 1) (h2 : zg_xa v1 v2 w1 w2 = 1) : zg_xa b1 b2 w1 w2 = 1 := by
  unfold zg_xa at *
  split at h1
  · rename_i c1
    split at h2
    · rename_i c2
      rw [if_pos]
      by_cases eb : 0 < b1 ∨ (b1 = 0 ∧ 0 < b2)
      · by_cases ew : 0 < w1 ∨ (w1 = 0 ∧ 0 < w2)
        · have ev : 0 < v1 ∨ (v1 = 0 ∧ 0 < v2) := by
            rcases c2 with z | z
            · exact z.1
            · exact z.1.mpr ew
          refine Or.inr ⟨⟨fun _ => ew, fun _ => eb⟩, ?_⟩
          refine za_tr0 eb ev ew ?_ ?_
          · rcases c1 with z | z
            · exact absurd ev z.2
            · exact z.2
          · rcases c2 with z | z
            · exact absurd ew z.2
            · exact z.2
        · exact Or.inl ⟨eb, ew⟩
      · have nv : ¬ (0 < v1 ∨ (v1 = 0 ∧ 0 < v2)) := by
          rcases c1 with z | z
          · exact absurd z.1 eb
          · exact fun q => eb (z.1.mpr q)
        have nw : ¬ (0 < w1 ∨ (w1 = 0 ∧ 0 < w2)) := by
          rcases c2 with z | z
          · exact absurd z.1 nv
          · exact fun q => nv (z.1.mpr q)
        refine Or.inr ⟨⟨fun q => absurd q eb, fun q => absurd q nw⟩, ?_⟩
        have o1 : 0 < b1 * v2 - b2 * v1 := by
          rcases c1 with z | z
          · exact absurd z.1 eb
          · exact z.2
        have o2 : 0 < v1 * w2 - v2 * w1 := by
          rcases c2 with z | z
          · exact absurd z.1 nv
          · exact z.2
        have r := za_tr0 (b1 := -b1) (b2 := -b2) (v1 := -v1) (v2 := -v2) (w1 := -w1) (w2 := -w2) (by omega) (by omega) (by omega) (by simp only [Int.neg_mul_neg]; exact o1) (by simp only [Int.neg_mul_neg]; exact o2)
        simp only [Int.neg_mul_neg] at r
        exact r
    · omega
  · omega
theorem za_xas {b1 b2 v1 v2 : Int} (h1 : zg_xa b1 b2 v1 v2 = 1) (h2 : zg_xa v1 v2 b1 b2 = 1) : False := by
  unfold zg_xa at *
  have e : v1 * b2 - v2 * b1 = -(b1 * v2 - b2 * v1) := by clear h1 h2; grind
  rw [e] at h2
  generalize b1 * v2 - b2 * v1 = o at *
  split at h1
  · split at h2
    · omega
    · omega
  · omega
theorem za_xto {b1 b2 v1 v2 : Int} (hb : ¬ (b1 = 0 ∧ b2 = 0)) (hv : ¬ (v1 = 0 ∧ v2 = 0)) (hs : zg_sd b1 b2 v1 v2 = 0) : zg_xa b1 b2 v1 v2 = 1 ∨ zg_xa v1 v2 b1 b2 = 1 := by
  unfold zg_sd at hs
  have ns : ¬ (b1 * v2 - b2 * v1 = 0 ∧ 0 < b1 * v1 + b2 * v2) := by
    intro z; rw [if_pos z] at hs; omega
  unfold zg_xa
  have e : v1 * b2 - v2 * b1 = -(b1 * v2 - b2 * v1) := by clear hs ns; grind
  rw [e]
  rcases zg_sg (b1 * v2 - b2 * v1) with z | z | z
  · by_cases c : (0 < b1 ∨ (b1 = 0 ∧ 0 < b2)) ↔ (0 < v1 ∨ (v1 = 0 ∧ 0 < v2))
    · exact Or.inl (if_pos (Or.inr ⟨c, z⟩))
    · by_cases d : 0 < b1 ∨ (b1 = 0 ∧ 0 < b2)
      · exact Or.inl (if_pos (Or.inl ⟨d, fun q => c ⟨fun _ => q, fun _ => d⟩⟩))
      · refine Or.inr (if_pos (Or.inl ⟨?_, d⟩))
        rcases Classical.em (0 < v1 ∨ (v1 = 0 ∧ 0 < v2)) with q | q
        · exact q
        · exact absurd ⟨fun w => absurd w d, fun w => absurd w q⟩ c
  · rcases zg_par hb hv z with w | w
    · exact absurd ⟨z, w.1⟩ ns
    · by_cases d : 0 < b1 ∨ (b1 = 0 ∧ 0 < b2)
      · exact Or.inl (if_pos (Or.inl ⟨d, by omega⟩))
      · exact Or.inr (if_pos (Or.inl ⟨by omega, d⟩))
  · by_cases c : (0 < b1 ∨ (b1 = 0 ∧ 0 < b2)) ↔ (0 < v1 ∨ (v1 = 0 ∧ 0 < v2))
    · exact Or.inr (if_pos (Or.inr ⟨c.symm, by omega⟩))
    · by_cases d : 0 < b1 ∨ (b1 = 0 ∧ 0 < b2)
      · exact Or.inl (if_pos (Or.inl ⟨d, fun q => c ⟨fun _ => q, fun _ => d⟩⟩))
      · refine Or.inr (if_pos (Or.inl ⟨?_, d⟩))
        rcases Classical.em (0 < v1 ∨ (v1 = 0 ∧ 0 < v2)) with q | q
        · exact q
        · exact absurd ⟨fun w => absurd w d, fun w => absurd w q⟩ c
/-- two half-edges with one origin and one end are the same -/
theorem za_inj (A : zr_A N K su st sp og) {g h : Nat} (hg : g < 2 * K) (hh : h < 2 * K) (e : og g = og h) (e' : og (zt g) = og (zt h)) : g = h := by
  have so := A.2.2.2.2.2.2.1
  have lt := A.2.2.2.2.2.1
  have q : ∀ p q, p < K → q < K → og (2 * p) = og (2 * q) → og (2 * p + 1) = og (2 * q + 1) → p = q := by
    intro p q hp hq a b
    rcases Nat.lt_trichotomy p q with w | w | w
    · have := so p q w hq; omega
    · exact w
    · have := so q p w hp; omega
  rcases za_ec g with ⟨p, g1, g2⟩ | ⟨p, g1, g2⟩ <;> rcases za_ec h with ⟨r, h1, h2⟩ | ⟨r, h1, h2⟩
  · rw [g1, h1] at e
    rw [g2, h2] at e'
    have := q p r (by omega) (by omega) e e'
    omega
  · rw [g1, h1] at e
    rw [g2, h2] at e'
    have := lt p (by omega)
    have := lt r (by omega)
    omega
  · rw [g1, h1] at e
    rw [g2, h2] at e'
    have := lt p (by omega)
    have := lt r (by omega)
    omega
  · rw [g1, h1] at e
    rw [g2, h2] at e'
    have := q p r (by omega) (by omega) e' e
    omega
theorem za_xirr (a b : Nat) : zv_xa a b b = 0 := by
  rcases za_x01 a b b with h | h
  · exact h
  · exact (za_xas h h).elim
/-- pieces about one origin: different directions -/
theorem za_sd0 (A : zr_A N K su st sp og) {g h : Nat} (hg : g < 2 * K) (hh : h < 2 * K) (e : og g = og h) (ne : g ≠ h) : zv_sd (og h) (og (zt g)) (og (zt h)) = 0 := by
  have n : zc_nc (og g) (og (zt g)) (og h) (og (zt h)) := by
    have hp : g / 2 ≠ h / 2 := by
      intro c
      have : h = g ∨ h = zt g := by unfold zt; split <;> omega
      rcases this with w | w
      · exact ne w.symm
      · have := za_ne A hg; rw [w] at e; exact this e
    have c := A.2.2.2.1.2 (g / 2) (h / 2) (by omega) (by omega) hp
    rcases za_ec g with ⟨p, g1, g2⟩ | ⟨p, g1, g2⟩ <;> rcases za_ec h with ⟨r, h1, h2⟩ | ⟨r, h1, h2⟩
    · rw [show g / 2 = p by omega, show h / 2 = r by omega] at c
      rw [g2, h2, g1, h1]; exact c
    · rw [show g / 2 = p by omega, show h / 2 = r by omega] at c
      rw [g2, h2, g1, h1]; exact zg_nc_s c
    · rw [show g / 2 = p by omega, show h / 2 = r by omega] at c
      rw [g2, h2, g1, h1]; exact zg_nc_r c
    · rw [show g / 2 = p by omega, show h / 2 = r by omega] at c
      rw [g2, h2, g1, h1]; exact zg_nc_r (zg_nc_s c)
  rw [e] at n
  exact zv_nsd (Ne.symm (za_ne A hh)) n
theorem za_tot (A : zr_A N K su st sp og) {g h : Nat} (hg : g < 2 * K) (hh : h < 2 * K) (ne : g ≠ h) : zx_tb og g h ∨ zx_tb og h g := by
  rcases Nat.lt_trichotomy (og g) (og h) with w | w | w
  · exact Or.inl (Or.inl w)
  · rw [za_tbx A hg hh w, za_tbx A hh hg w.symm, w]
    have ng : og (zt g) ≠ og h := by rw [← w]; exact Ne.symm (za_ne A hg)
    exact za_xto (zc_ne ng) (zc_ne (Ne.symm (za_ne A hh))) (za_sd0 A hg hh w ne)
  · exact Or.inr (Or.inl w)
theorem za_asy (A : zr_A N K su st sp og) {g h : Nat} (hg : g < 2 * K) (hh : h < 2 * K) (a : zx_tb og g h) (b : zx_tb og h g) : False := by
  rcases Nat.lt_trichotomy (og g) (og h) with w | w | w
  · rcases b with b | b
    · omega
    · omega
  · rw [za_tbx A hg hh w] at a
    rw [za_tbx A hh hg w.symm, w] at b
    exact za_xas a b
  · rcases a with a | a
    · omega
    · omega
theorem za_tra (A : zr_A N K su st sp og) {f g h : Nat} (hf : f < 2 * K) (hg : g < 2 * K) (hh : h < 2 * K) (a : zx_tb og f g) (b : zx_tb og g h) : zx_tb og f h := by
  have le : ∀ {x y}, zx_tb og x y → og x ≤ og y := by
    intro x y z
    rcases z with z | z
    · omega
    · omega
  have l1 := le a
  have l2 := le b
  by_cases c : og f < og h
  · exact Or.inl c
  · have e1 : og f = og g := by omega
    have e2 : og g = og h := by omega
    rw [za_tbx A hf hg e1, e2] at a
    rw [za_tbx A hg hh e2] at b
    rw [za_tbx A hf hh (e1.trans e2)]
    have nf : og (zt f) ≠ og h := by rw [← e2, ← e1]; exact Ne.symm (za_ne A hf)
    have ng : og (zt g) ≠ og h := by rw [← e2]; exact Ne.symm (za_ne A hg)
    exact za_xtr (zc_ne nf) (zc_ne ng) (zc_ne (Ne.symm (za_ne A hh))) a b
/-- a neighbour by a step is one by a half-edge -/
theorem za_nb (A : zr_A N K su st sp og) {a t : Nat} (h : ∃ s, s < N ∧ ((su s = a ∧ st s = t) ∨ (st s = a ∧ su s = t))) : ∃ g, g < 2 * K ∧ og g = a ∧ og (zt g) = t := by
  obtain ⟨s, hs, h⟩ := h
  obtain ⟨p, hp, e⟩ := A.2.2.2.2.1 s hs
  rcases h with ⟨h1, h2⟩ | ⟨h1, h2⟩ <;> rcases e with ⟨e1, e2⟩ | ⟨e1, e2⟩
  · exact ⟨2 * p, by omega, by omega, by rw [zt_e]; omega⟩
  · exact ⟨2 * p + 1, by omega, by omega, by rw [zt_o]; omega⟩
  · exact ⟨2 * p + 1, by omega, by omega, by rw [zt_o]; omega⟩
  · exact ⟨2 * p, by omega, by omega, by rw [zt_e]; omega⟩
/-- sorted about the origins, and the clockwise neighbours -/
def zx_rd (og : Nat → Nat) (H : Nat) (rd : Nat → Nat) : Prop := (∀ i, i < H → rd i < H) ∧ (∀ i j, i < j → j < H → zx_tb og (rd i) (rd j)) ∧ (∀ h, h < H → ∃ i, i < H ∧ rd i = h)
def zx_cw (og : Nat → Nat) (H : Nat) (rd cwf : Nat → Nat) : Prop := ∀ i, i < H →
  (0 < i ∧ og (rd (i - 1)) = og (rd i) ∧ cwf (rd i) = rd (i - 1)) ∨
  ((i = 0 ∨ og (rd (i - 1)) ≠ og (rd i)) ∧ ∃ e, i ≤ e ∧ e < H ∧ og (rd e) = og (rd i) ∧ (e + 1 = H ∨ og (rd (e + 1)) ≠ og (rd i)) ∧ cwf (rd i) = rd e)
variable {rd cwf : Nat → Nat}
theorem za_rle (r : zx_rd og (2 * K) rd) {i j : Nat} (hij : i ≤ j) (hj : j < 2 * K) : og (rd i) ≤ og (rd j) := by
  rcases Nat.lt_or_ge i j with h | h
  · rcases r.2.1 i j h hj with z | z
    · omega
    · omega
  · have : i = j := by omega
    rw [this]; omega
theorem za_rinj (A : zr_A N K su st sp og) (r : zx_rd og (2 * K) rd) {i j : Nat} (hi : i < 2 * K) (hj : j < 2 * K) (e : rd i = rd j) : i = j := by
  rcases Nat.lt_trichotomy i j with h | h | h
  · have := r.2.1 i j h hj
    rw [e] at this
    exact (za_asy A (r.1 j hj) (r.1 j hj) this this).elim
  · exact h
  · have := r.2.1 j i h hi
    rw [e] at this
    exact (za_asy A (r.1 j hj) (r.1 j hj) this this).elim
theorem za_cwlt (r : zx_rd og (2 * K) rd) (c : zx_cw og (2 * K) rd cwf) {h : Nat} (hh : h < 2 * K) : cwf h < 2 * K ∧ og (cwf h) = og h := by
  obtain ⟨i, hi, rfl⟩ := r.2.2 h hh
  rcases c i hi with ⟨h1, h2, h3⟩ | ⟨-, e, h1, h2, h3, -, h4⟩
  · rw [h3]; exact ⟨r.1 _ (by omega), h2⟩
  · rw [h4]; exact ⟨r.1 _ h2, h3⟩
/-- the value of xa among the sorted half-edges of one origin -/
theorem za_xpos (A : zr_A N K su st sp og) (r : zx_rd og (2 * K) rd) {i j : Nat} (hi : i < 2 * K) (hj : j < 2 * K) (e : og (rd i) = og (rd j)) : zv_xa (og (rd j)) (og (zt (rd i))) (og (zt (rd j))) = if i < j then 1 else 0 := by
  by_cases c : i < j
  · rw [if_pos c]
    exact (za_tbx A (r.1 i hi) (r.1 j hj) e).mp (r.2.1 i j c hj)
  · rw [if_neg c]
    rcases za_x01 (og (rd j)) (og (zt (rd i))) (og (zt (rd j))) with z | z
    · exact z
    · exfalso
      have t := (za_tbx A (r.1 i hi) (r.1 j hj) e).mpr z
      rcases Nat.lt_or_ge j i with w | w
      · exact za_asy A (r.1 i hi) (r.1 j hj) t (r.2.1 j i w hi)
      · have : i = j := by omega
        subst this
        exact za_asy A (r.1 i hi) (r.1 i hi) t t
/-- walking along a face keeps W -/
theorem za_rot (A : zr_A N K su st sp og) (r : zx_rd og (2 * K) rd) (c : zx_cw og (2 * K) rd cwf) {h : Nat} (hh : h < 2 * K) (p : Nat) :
    zv_L N su st sp p (og (zt h)) (og h) = zv_L N su st sp p (og (cwf h)) (og (zt (cwf h))) := by
  obtain ⟨i, hi, rfl⟩ := r.2.2 h hh
  have rl := fun i (hi : i < 2 * K) => r.1 i hi
  rcases c i hi with ⟨h1, h2, h3⟩ | ⟨hs, e, h1, h2, h3, h4, h5⟩
  · rw [h3, h2]
    have n2 := za_nc A (rl (i - 1) (by omega))
    rw [h2] at n2
    refine zv_rot A.2.1 A.1 (za_nc A (rl i hi)) n2 0 (fun t ht => ?_) p
    obtain ⟨g, hg, g1, g2⟩ := za_nb A ht
    obtain ⟨j, hj, rfl⟩ := r.2.2 g hg
    have x1 := za_xpos A r (i := i - 1) (j := j) (by omega) hj (h2.trans g1.symm)
    have x2 := za_xpos A r (i := i) (j := j) hi hj g1.symm
    rw [g1, g2] at x1 x2
    rw [x1, x2]
    have e : (t = og (zt (rd i))) ↔ j = i := by
      constructor
      · intro w
        exact za_rinj A r hj hi (za_inj A (rl j hj) (rl i hi) g1 (g2.trans w))
      · intro w; rw [← g2, w]
    by_cases q : j = i
    · rw [if_pos (e.mpr q), if_pos (by omega), if_neg (by omega)]; rfl
    · rw [if_neg (fun w => q (e.mp w))]
      split <;> split <;> omega
  · rw [h5, h3]
    have n2 := za_nc A (rl e h2)
    rw [h3] at n2
    refine zv_rot A.2.1 A.1 (za_nc A (rl i hi)) n2 1 (fun t ht => ?_) p
    obtain ⟨g, hg, g1, g2⟩ := za_nb A ht
    obtain ⟨j, hj, rfl⟩ := r.2.2 g hg
    have x1 := za_xpos A r (i := e) (j := j) h2 hj (h3.trans g1.symm)
    have x2 := za_xpos A r (i := i) (j := j) hi hj g1.symm
    rw [g1, g2] at x1 x2
    rw [x1, x2]
    have e' : (t = og (zt (rd i))) ↔ j = i := by
      constructor
      · intro w
        exact za_rinj A r hj hi (za_inj A (rl j hj) (rl i hi) g1 (g2.trans w))
      · intro w; rw [← g2, w]
    have lo : i ≤ j := by
      rcases Nat.lt_or_ge j i with w | w
      · exfalso
        rcases hs with z | z
        · omega
        · have a := za_rle r (i := j) (j := i - 1) (by omega) (by omega)
          have b := za_rle r (i := i - 1) (j := i) (by omega) hi
          omega
      · exact w
    have hi' : j ≤ e := by
      rcases Nat.lt_or_ge e j with w | w
      · exfalso
        rcases h4 with z | z
        · omega
        · have a := za_rle r (i := e) (j := e + 1) (by omega) (by omega)
          have b := za_rle r (i := e + 1) (j := j) (by omega) hj
          omega
      · exact w
    by_cases q : j = i
    · rw [if_pos (e'.mpr q), if_neg (by omega), if_neg (by omega)]; rfl
    · rw [if_neg (fun w => q (e'.mp w)), if_neg (by omega), if_pos (by omega)]; rfl
theorem za_tw (A : zr_A N K su st sp og) {h : Nat} (hh : h < 2 * K) (p : Nat) : zv_L N su st sp p (og (zt h)) (og h) = zv_L N su st sp p (og h) (og (zt h)) - zv_w N su st sp p (og h) (og (zt h)) :=
  zv_twin A.2.1 A.1 (za_nc A hh) p
end
end
section
/-! the flood -/
section
variable {N K : Nat} {su st sp og : Nat → Nat} {rd cwf : Nat → Nat}
theorem zf_lt (og : Nat → Nat) (p : Nat) {u t : Nat} (e : (u = og (2 * p) ∧ t = og (2 * p + 1)) ∨ (u = og (2 * p + 1) ∧ t = og (2 * p))) (hy : zc_y u < zc_y t) : zx_lo og p = u ∧ zx_tp og p = t := by
  unfold zx_lo zx_tp zx_dn
  rcases e with ⟨e1, e2⟩ | ⟨e1, e2⟩
  · rw [if_neg (by rw [← e1, ← e2]; omega), zt_o]; exact ⟨e1.symm, e2.symm⟩
  · rw [if_pos (by rw [← e1, ← e2]; exact hy), zt_e]; exact ⟨e1.symm, e2.symm⟩
theorem zf_wy {S q1 q2 : Int} (hS : 0 < S) {l m : Nat} (h : zl_wst S q1 q2 l m) : zc_y l < zc_y m := ((zl_sc hS _ _).2).mp (Int.lt_of_le_of_lt h.1 h.2.1)
/-- the answer of locate is the west count -/
theorem zf_loc (A : zr_A N K su st sp og) {px py : Int} {b : Int32} (h : zx_li og px py K b) :
    (b = -1 ∧ ∀ q, zl_W N su st sp q 16 px py = 0) ∨ (∃ c, c < K ∧ zx_cd og px py c ∧ b = nI (zx_dn og c) ∧ ∀ q, zl_W N su st sp q 16 px py = zv_L N su st sp q (zx_tp og c) (zx_lo og c)) := by
  rcases h with ⟨h1, h2⟩ | ⟨c, h1, h2, h3, h4⟩
  · refine Or.inl ⟨h1, fun q => zl_none A.1 (fun s hs => ?_) q⟩
    obtain ⟨p, hp, e⟩ := A.2.2.2.2.1 s hs
    refine ⟨fun w => h2 p hp ?_, fun w => h2 p hp ?_⟩
    · have l := zf_lt og p e (zf_wy (by omega) w)
      unfold zx_cd; rw [l.1, l.2]; exact w
    · have e' : (st s = og (2 * p) ∧ su s = og (2 * p + 1)) ∨ (st s = og (2 * p + 1) ∧ su s = og (2 * p)) := by omega
      have l := zf_lt og p e' (zf_wy (by omega) w)
      unfold zx_cd; rw [l.1, l.2]; exact w
  · refine Or.inr ⟨c, h1, h2, h3, fun q => ?_⟩
    have n := za_nc A (zt_lt (zx_dn_lt (og := og) h1))
    rw [zt_zt] at n
    refine zl_best A.2.1 A.1 n (zx_cdy h2) (by omega) h2 (fun s hs => ?_) q
    obtain ⟨p, hp, e⟩ := A.2.2.2.2.1 s hs
    refine ⟨fun w => ?_, fun w => ?_⟩
    · have l := zf_lt og p e (zf_wy (by omega) w)
      have := h4 p hp (by unfold zx_cd; rw [l.1, l.2]; exact w)
      rw [l.1, l.2] at this; exact this
    · have e' : (st s = og (2 * p) ∧ su s = og (2 * p + 1)) ∨ (st s = og (2 * p + 1) ∧ su s = og (2 * p)) := by omega
      have l := zf_lt og p e' (zf_wy (by omega) w)
      have := h4 p hp (by unfold zx_cd; rw [l.1, l.2]; exact w)
      rw [l.1, l.2] at this; exact this
/-- counting -/
def zf_cn (rc : Nat → Int32) : Nat → Nat
  | 0 => 0
  | n + 1 => zf_cn rc n + (if rc n = 1 then 1 else 0)
theorem zf_cn_le (rc : Nat → Int32) : ∀ n, zf_cn rc n ≤ n
  | 0 => Nat.le_refl _
  | n + 1 => by have := zf_cn_le rc n; unfold zf_cn; split <;> omega
theorem zf_cn_lt {rc : Nat → Int32} {h : Nat} (h0 : rc h = 0) : ∀ n, h < n → zf_cn rc n < n
  | 0, hn => by omega
  | n + 1, hn => by
    unfold zf_cn
    by_cases e : h = n
    · subst e
      rw [if_neg (by rw [h0]; decide)]
      have := zf_cn_le rc h; omega
    · have := zf_cn_lt h0 n (by omega)
      split <;> omega
theorem zf_cn_n {rc : Nat → Int32} {h : Nat} {x : Int32} : ∀ n, n ≤ h → zf_cn (upd rc h x) n = zf_cn rc n
  | 0, _ => rfl
  | n + 1, hn => by
    unfold zf_cn
    rw [zf_cn_n n (by omega), zu_n (by omega)]
theorem zf_cn_u {rc : Nat → Int32} {h : Nat} (h0 : rc h = 0) : ∀ n, h < n → zf_cn (upd rc h 1) n = zf_cn rc n + 1
  | 0, hn => by omega
  | n + 1, hn => by
    unfold zf_cn
    by_cases e : h = n
    · subst e
      rw [zf_cn_n h (by omega), zu_s, if_pos rfl, if_neg (by rw [h0]; decide)]
    · rw [zf_cn_u h0 n (by omega), zu_n (by omega)]
      omega
def zf_inv (N K : Nat) (su st sp og cwf : Nat → Nat) (rc wa wb stk : Nat → Int32) (T d : Nat) (E : Nat → Prop) : Prop :=
  (∀ h, h < 2 * K → rc h = 0 ∨ rc h = 1) ∧
  (∀ h, h < 2 * K → rc h = 1 → wa h = zi (zv_L N su st sp 0 (og h) (og (zt h))) ∧ wb h = zi (zv_L N su st sp 1 (og h) (og (zt h)))) ∧
  (∀ i, i < T → ∃ h, h < 2 * K ∧ stk i = nI h ∧ rc h = 1) ∧
  (∀ h, h < 2 * K → rc h = 1 → E h ∨ (∃ i, i < T ∧ stk i = nI h) ∨ (rc (cwf (zt h)) = 1 ∧ rc (zt h) = 1)) ∧
  T + d ≤ zf_cn rc (2 * K)
/-- nothing is left on the stack -/
def zf_cl (N K : Nat) (su st sp og cwf : Nat → Nat) (rc wa wb : Nat → Int32) : Prop :=
  (∀ h, h < 2 * K → rc h = 0 ∨ rc h = 1) ∧
  (∀ h, h < 2 * K → rc h = 1 → wa h = zi (zv_L N su st sp 0 (og h) (og (zt h))) ∧ wb h = zi (zv_L N su st sp 1 (og h) (og (zt h)))) ∧
  (∀ h, h < 2 * K → rc h = 1 → rc (cwf (zt h)) = 1 ∧ rc (zt h) = 1)
theorem zf_push {rc wa wb stk : Nat → Int32} {T d : Nat} {E : Nat → Prop} (hK : K ≤ 256) (I : zf_inv N K su st sp og cwf rc wa wb stk T d E) {h : Nat} (hh : h < 2 * K) (h0 : rc h = 0) :
    T < 512 ∧ zf_inv N K su st sp og cwf (upd rc h 1) (upd wa h (zi (zv_L N su st sp 0 (og h) (og (zt h))))) (upd wb h (zi (zv_L N su st sp 1 (og h) (og (zt h))))) (upd stk T (nI h)) (T + 1) d E := by
  obtain ⟨i1, i2, i3, i4, i5⟩ := I
  have cl := zf_cn_lt h0 (2 * K) hh
  have mono : ∀ g, rc g = 1 → upd rc h 1 g = 1 := by
    intro g hg
    by_cases e : g = h
    · rw [e]; exact zu_s
    · rw [zu_n e]; exact hg
  refine ⟨by omega, fun g hg => ?_, fun g hg hr => ?_, fun i hi => ?_, fun g hg hr => ?_, ?_⟩
  · by_cases e : g = h
    · rw [e]; exact Or.inr zu_s
    · rw [zu_n e]; exact i1 g hg
  · by_cases e : g = h
    · subst e; exact ⟨zu_s, zu_s⟩
    · rw [zu_n e, zu_n e]; rw [zu_n e] at hr; exact i2 g hg hr
  · by_cases e : i = T
    · subst e; exact ⟨h, hh, zu_s, zu_s⟩
    · obtain ⟨g, g1, g2, g3⟩ := i3 i (by omega)
      exact ⟨g, g1, by rw [zu_n e]; exact g2, mono g g3⟩
  · by_cases e : g = h
    · subst e; exact Or.inr (Or.inl ⟨T, by omega, zu_s⟩)
    · rw [zu_n e] at hr
      rcases i4 g hg hr with z | ⟨i, z1, z2⟩ | ⟨z1, z2⟩
      · exact Or.inl z
      · exact Or.inr (Or.inl ⟨i, by omega, by rw [zu_n (by omega)]; exact z2⟩)
      · exact Or.inr (Or.inr ⟨mono _ z1, mono _ z2⟩)
  · rw [zf_cn_u h0 (2 * K) hh]; omega
end
section
variable {f_size f_maxEdges f_phase f_op f_rule f_stored f_rings f_hotCount f_chainLen f_pieces f_halves f_stackTop f_outEdges f_outRings f_traced : Int32} {a_vertX a_vertY a_ringStart a_ringPoly a_dirX a_dirY a_edgePoly a_isHot a_chainId a_chainKey a_pieceKey a_weightA a_weightB a_org a_round a_byEnds a_cw a_lastAt a_windA a_windB a_reached a_stack a_outDir a_used a_outHalf a_ringFrom : Nat → Int32}
variable {N K : Nat} {su st sp og : Nat → Nat} {rd cwf : Nat → Nat}
theorem xf_reach {post : SX → Prop} (hK : K ≤ 256) {T d : Nat} {E : Nat → Prop} (I : zf_inv N K su st sp og cwf a_reached a_windA a_windB a_stack T d E) (hT : f_stackTop = nI T) {h : Nat} (hh : h < 2 * K) {a b : Int32}
    (ha : a = zi (zv_L N su st sp 0 (og h) (og (zt h)))) (hb : b = zi (zv_L N su st sp 1 (og h) (og (zt h))))
    (k : ∀ rc wa wb stk T', zf_inv N K su st sp og cwf rc wa wb stk T' d E → rc h = 1 → (∀ g, g < 2 * K → a_reached g = 1 → rc g = 1) → (∀ g, a_reached g = 1 → wa g = a_windA g ∧ wb g = a_windB g) →
      post (f_size, f_maxEdges, f_phase, f_op, f_rule, f_stored, f_rings, f_hotCount, f_chainLen, f_pieces, f_halves, nI T', f_outEdges, f_outRings, f_traced, a_vertX, a_vertY, a_ringStart, a_ringPoly, a_dirX, a_dirY, a_edgePoly, a_isHot, a_chainId, a_chainKey, a_pieceKey, a_weightA, a_weightB, a_org, a_round, a_byEnds, a_cw, a_lastAt, wa, wb, rc, stk, a_outDir, a_used, a_outHalf, a_ringFrom)) : wpX_reach post (f_size, f_maxEdges, f_phase, f_op, f_rule, f_stored, f_rings, f_hotCount, f_chainLen, f_pieces, f_halves, f_stackTop, f_outEdges, f_outRings, f_traced, a_vertX, a_vertY, a_ringStart, a_ringPoly, a_dirX, a_dirY, a_edgePoly, a_isHot, a_chainId, a_chainKey, a_pieceKey, a_weightA, a_weightB, a_org, a_round, a_byEnds, a_cw, a_lastAt, a_windA, a_windB, a_reached, a_stack, a_outDir, a_used, a_outHalf, a_ringFrom) (nI h) a b := by
  subst ha hb hT
  have i1 : vp_in (nI h) 512 := vp_in_nI (by omega) (by omega)
  unfold wpX_reach
  simp only [nI_clamp (show h < 2 ^ 31 by omega), zn_b1]
  refine ⟨i1, br_c (fun z => ?_) (fun z => ?_)⟩
  · obtain ⟨hT, J⟩ := zf_push hK I hh z
    simp only [nI_clamp (show T < 2 ^ 31 by omega), nI_1]
    refine ⟨i1, nm_e ⟨i1, nm_e ⟨i1, nm_e ⟨vp_in_nI hT (by omega), nm_e (nm_e (k _ _ _ _ _ J zu_s (fun g hg hr => ?_) (fun g hr => ?_)))⟩⟩⟩⟩
    · by_cases e : g = h
      · subst e; exact zu_s
      · rw [zu_n e]; exact hr
    · have e : g ≠ h := by intro e; subst e; rw [z] at hr; exact absurd hr (by decide)
      rw [zu_n e, zu_n e]; exact ⟨rfl, rfl⟩
  · have z1 : a_reached h = 1 := by
      rcases I.1 h hh with w | w
      · exact absurd w z
      · exact w
    exact k _ _ _ _ _ I z1 (fun g hg hr => hr) (fun g hr => ⟨rfl, rfl⟩)
end
end
section
/-! the flood, its loops -/
section
variable {N K : Nat} {su st sp og : Nat → Nat} {rd cwf : Nat → Nat}
theorem zf_w_sw (p a b : Nat) : zv_w N su st sp p b a = - zv_w N su st sp p a b := by
  unfold zv_w
  rw [← Int.zero_sub, ← zs_0 (sp := sp) (p := p) (n := N) (f := fun _ => 0) (fun _ _ _ => rfl), ← zs_s]
  refine zs_c (fun s _ _ => ?_)
  omega
theorem zf_pop {rc wa wb stk : Nat → Int32} {T d : Nat} (hK : K ≤ 256) (I : zf_inv N K su st sp og cwf rc wa wb stk (T + 1) d (fun _ => False)) : ∃ h, h < 2 * K ∧ stk T = nI h ∧ rc h = 1 ∧ zf_inv N K su st sp og cwf rc wa wb stk T (d + 1) (fun g => g = h) := by
  obtain ⟨i1, i2, i3, i4, i5⟩ := I
  obtain ⟨h, h1, h2, h3⟩ := i3 T (by omega)
  have cl := zf_cn_le rc (2 * K)
  refine ⟨h, h1, h2, h3, i1, i2, fun i hi => i3 i (by omega), fun g hg hr => ?_, by omega⟩
  rcases i4 g hg hr with z | ⟨i, z1, z2⟩ | z
  · exact z.elim
  · by_cases e : i = T
    · subst e
      rw [h2] at z2
      exact Or.inl (((nI_eq (by omega) (by omega)).mp z2).symm)
    · exact Or.inr (Or.inl ⟨i, by omega, z2⟩)
  · exact Or.inr (Or.inr z)
/-- a vertex sees only earlier pieces to its west -/
theorem zf_first (A : zr_A N K su st sp og) {p c : Nat} (hp : p < K) (hc : c < K) (h : zx_cd og (16 * zc_x (og (2 * p))) (16 * zc_y (og (2 * p))) c) : c < p := by
  have h1 := h.1
  have h2 := h.2.1
  have h3 := h.2.2
  have e : (zc_x (zx_tp og c) - zc_x (zx_lo og c)) * (16 * zc_y (og (2 * p)) - 16 * zc_y (zx_lo og c)) - (zc_y (zx_tp og c) - zc_y (zx_lo og c)) * (16 * zc_x (og (2 * p)) - 16 * zc_x (zx_lo og c))
      = 16 * (-((zc_y (zx_tp og c) - zc_y (og (2 * p))) * (zc_x (og (2 * p)) - zc_x (zx_lo og c)) + (zc_y (og (2 * p)) - zc_y (zx_lo og c)) * (zc_x (og (2 * p)) - zc_x (zx_tp og c)))) := by clear h h1 h2 h3; grind
  rw [e] at h3
  have lt : zx_lo og c < og (2 * p) ∨ zx_tp og c < og (2 * p) := by
    rcases Int.lt_or_le (zc_x (zx_lo og c)) (zc_x (og (2 * p))) with a | a
    · left; unfold zc_x at a; omega
    · rcases Int.lt_or_le (zc_x (zx_tp og c)) (zc_x (og (2 * p))) with b | b
      · right; unfold zc_x at b; omega
      · exfalso
        have m1 := Int.mul_nonpos_of_nonneg_of_nonpos (show 0 ≤ zc_y (zx_tp og c) - zc_y (og (2 * p)) by omega) (show zc_x (og (2 * p)) - zc_x (zx_lo og c) ≤ 0 by omega)
        have m2 := Int.mul_nonpos_of_nonneg_of_nonpos (show 0 ≤ zc_y (og (2 * p)) - zc_y (zx_lo og c) by omega) (show zc_x (og (2 * p)) - zc_x (zx_tp og c) ≤ 0 by omega)
        omega
  have lc := A.2.2.2.2.2.1 c hc
  have lt2 : og (2 * c) < og (2 * p) := by
    have := zx_dn_c og c
    omega
  have b1 := A.2.2.1 (2 * c + 1) (by omega)
  rcases Nat.lt_trichotomy c p with w | w | w
  · exact w
  · subst w; omega
  · have := A.2.2.2.2.2.2.1 p c w hc
    omega
theorem zf_shut {rc wa wb stk : Nat → Int32} {T d h : Nat} (I : zf_inv N K su st sp og cwf rc wa wb stk T d (fun g => g = h)) (h1 : rc (cwf (zt h)) = 1) (h2 : rc (zt h) = 1) : zf_inv N K su st sp og cwf rc wa wb stk T d (fun _ => False) := by
  obtain ⟨i1, i2, i3, i4, i5⟩ := I
  refine ⟨i1, i2, i3, fun g hg hr => ?_, i5⟩
  rcases i4 g hg hr with z | z | z
  · subst z; exact Or.inr (Or.inr ⟨h1, h2⟩)
  · exact Or.inr (Or.inl z)
  · exact Or.inr (Or.inr z)
theorem zf_end {rc wa wb stk : Nat → Int32} {d : Nat} (I : zf_inv N K su st sp og cwf rc wa wb stk 0 d (fun _ => False)) : zf_cl N K su st sp og cwf rc wa wb := by
  obtain ⟨i1, i2, i3, i4, i5⟩ := I
  refine ⟨i1, i2, fun g hg hr => ?_⟩
  rcases i4 g hg hr with z | ⟨i, z, -⟩ | z
  · exact z.elim
  · omega
  · exact z
end
section
variable {f_size f_maxEdges f_phase f_op f_rule f_stored f_rings f_hotCount f_chainLen f_pieces f_halves f_stackTop f_outEdges f_outRings f_traced : Int32} {a_vertX a_vertY a_ringStart a_ringPoly a_dirX a_dirY a_edgePoly a_isHot a_chainId a_chainKey a_pieceKey a_weightA a_weightB a_org a_round a_byEnds a_cw a_lastAt a_windA a_windB a_reached a_stack a_outDir a_used a_outHalf a_ringFrom : Nat → Int32}
variable {N K : Nat} {su st sp og : Nat → Nat} {rd cwf : Nat → Nat}
theorem xf_71 {post : SX → Prop} (A : zr_A N K su st sp og) (r : zx_rd og (2 * K) rd) (c : zx_cw og (2 * K) rd cwf) (hcw : ∀ h, h < 2 * K → a_cw h = nI (cwf h))
    (hwA : ∀ p, p < K → a_weightA p = zi (zv_w N su st sp 0 (og (2 * p)) (og (2 * p + 1)))) (hwB : ∀ p, p < K → a_weightB p = zi (zv_w N su st sp 1 (og (2 * p)) (og (2 * p + 1)))) (hH : f_halves = nI (2 * K)) (rc0 : Nat → Int32)
    (k : ∀ rc wa wb stk T, zf_cl N K su st sp og cwf rc wa wb → (∀ g, g < 2 * K → rc0 g = 1 → rc g = 1) → post (f_size, f_maxEdges, f_phase, f_op, f_rule, f_stored, f_rings, f_hotCount, f_chainLen, f_pieces, f_halves, nI T, f_outEdges, f_outRings, f_traced, a_vertX, a_vertY, a_ringStart, a_ringPoly, a_dirX, a_dirY, a_edgePoly, a_isHot, a_chainId, a_chainKey, a_pieceKey, a_weightA, a_weightB, a_org, a_round, a_byEnds, a_cw, a_lastAt, wa, wb, rc, stk, a_outDir, a_used, a_outHalf, a_ringFrom)) :
    ∀ (n d T : Nat) (rc wa wb stk : Nat → Int32), 2 * K - d < n → zf_inv N K su st sp og cwf rc wa wb stk T d (fun _ => False) → (∀ g, g < 2 * K → rc0 g = 1 → rc g = 1) →
      wX_floodComponent_71 post n (nI d) f_size f_maxEdges f_phase f_op f_rule f_stored f_rings f_hotCount f_chainLen f_pieces f_halves (nI T) f_outEdges f_outRings f_traced a_vertX a_vertY a_ringStart a_ringPoly a_dirX a_dirY a_edgePoly a_isHot a_chainId a_chainKey a_pieceKey a_weightA a_weightB a_org a_round a_byEnds a_cw a_lastAt wa wb rc stk a_outDir a_used a_outHalf a_ringFrom
  | 0, d, T, rc, wa, wb, stk, h, _, _ => by omega
  | n + 1, d, T, rc, wa, wb, stk, h, I, M => by
    have ih := xf_71 (post := post) A r c hcw hwA hwB hH rc0 k n
    have hK : K ≤ 256 := A.2.2.2.2.2.2.2
    have i5 := I.2.2.2.2
    have cl := zf_cn_le rc (2 * K)
    subst hH
    unfold wX_floodComponent_71
    refine zb_leN (by omega) (by omega) (fun w => ?_) (fun w => zb_leN (b := 0) (by omega) (by omega) (fun w2 => ?_) (fun w2 => ?_))
    · have : T = 0 := by omega
      subst this
      exact k _ _ _ _ _ (zf_end I) M
    · have : T = 0 := by omega
      subst this
      exact k _ _ _ _ _ (zf_end I) M
    · obtain ⟨T', rfl⟩ : ∃ T', T = T' + 1 := ⟨T - 1, by omega⟩
      obtain ⟨h, hh, h2, h3, J⟩ := zf_pop hK I
      have hz := zt_lt hh
      have cwl := za_cwlt r c hz
      have i1 : vp_in (nI h) 512 := vp_in_nI (by omega) (by omega)
      have i2 : vp_in (nI (zt h)) 512 := vp_in_nI (by omega) (by omega)
      have i3 : vp_in (nI (h / 2)) 256 := vp_in_nI (by omega) (by omega)
      have v := I.2.1 h hh h3
      refine nm_r (nI_pred T') ⟨vp_in_nI (by omega) (by omega), ?_⟩
      simp only [nI_clamp (show T' < 2 ^ 31 by omega), h2]
      refine nm_e ?_
      simp only [zt_xor h (by omega), zt_and h (by omega), nI_clamp (show h < 2 ^ 31 by omega), nI_clamp (show zt h < 2 ^ 31 by omega), hcw _ hz]
      refine ⟨i2, i1, i1, xf_reach hK J rfl cwl.1 ?_ ?_ (fun rc' wa' wb' stk' T2 J' q1 q2 q3 => ?_)⟩
      · rw [v.1]; congr 1
        have := za_rot A r c hz 0
        rw [zt_zt] at this; exact this
      · rw [v.2]; congr 1
        have := za_rot A r c hz 1
        rw [zt_zt] at this; exact this
      · have v' := J'.2.1 h hh (q2 h hh h3)
        have fin : ∀ (z0 : Int32), z0 = (if h % 2 = 0 then -1 else 1) → wX_floodComponent_147 post (wX_floodComponent_71 post n) (nI d) (nI h) z0 f_size f_maxEdges f_phase f_op f_rule f_stored f_rings f_hotCount f_chainLen f_pieces (nI (2 * K)) (nI T2) f_outEdges f_outRings f_traced a_vertX a_vertY a_ringStart a_ringPoly a_dirX a_dirY a_edgePoly a_isHot a_chainId a_chainKey a_pieceKey a_weightA a_weightB a_org a_round a_byEnds a_cw a_lastAt wa' wb' rc' stk' a_outDir a_used a_outHalf a_ringFrom := by
          intro z0 ez
          unfold wX_floodComponent_147
          simp only [zt_xor h (by omega), zt_shr h (by omega), nI_clamp (show h < 2 ^ 31 by omega), nI_clamp (show h / 2 < 2 ^ 31 by omega), hwA (h / 2) (by omega), hwB (h / 2) (by omega), v'.1, v'.2]
          have val : ∀ p, zi (zv_L N su st sp p (og h) (og (zt h))) + z0 * zi (zv_w N su st sp p (og (2 * (h / 2))) (og (2 * (h / 2) + 1))) = zi (zv_L N su st sp p (og (zt h)) (og (zt (zt h)))) := by
            intro p
            rw [zt_zt, za_tw A hh p, ez]
            rcases za_ec h with ⟨q, e1, e2⟩ | ⟨q, e1, e2⟩
            · have e3 : h / 2 = q := by omega
              rw [if_pos (by omega), e2, e3, show (-1 : Int32) = zi (-1) from rfl, zi_mul, zi_add, e1]
              congr 1; omega
            · have e3 : h / 2 = q := by omega
              rw [if_neg (by omega), e2, e3, show (1 : Int32) = zi 1 from rfl, zi_mul, zi_add, e1]
              congr 1
              have := zf_w_sw (N := N) (su := su) (st := st) (sp := sp) p (og (2 * q)) (og (2 * q + 1))
              omega
          refine ⟨i1, i3, i1, i3, xf_reach hK J' rfl hz (val 0) (val 1) (fun rc2 wa2 wb2 stk2 T3 J2 s1 s2 s3 => ?_)⟩
          refine nm_r (nI_1 d) (ih (d + 1) T3 rc2 wa2 wb2 stk2 (by omega) (zf_shut J2 (s2 _ cwl.1 q1) s1) (fun g hg hr => s2 g hg (q2 g hg (M g hg hr))))
        dsimp only
        refine zb_eqN (b := 0) (by omega) (by omega) (fun w => fin _ (by rw [if_pos w])) (fun w => fin _ (by rw [if_neg w]))
/-- the vertex v is the first of its component -/
theorem xf_comp {post : SX → Prop} (A : zr_A N K su st sp og) (r : zx_rd og (2 * K) rd) (c : zx_cw og (2 * K) rd cwf) (hO : ∀ h, h < 2 * K → a_org h = nI (og h)) (hcw : ∀ h, h < 2 * K → a_cw h = nI (cwf h))
    (hwA : ∀ p, p < K → a_weightA p = zi (zv_w N su st sp 0 (og (2 * p)) (og (2 * p + 1)))) (hwB : ∀ p, p < K → a_weightB p = zi (zv_w N su st sp 1 (og (2 * p)) (og (2 * p + 1)))) (hH : f_halves = nI (2 * K)) (hP : f_pieces = nI K)
    (hL : ∀ e, e < 2 * K → (e + 1 = 2 * K ∨ og (rd (e + 1)) ≠ og (rd e)) → a_lastAt (og (rd e)) = nI (rd e))
    (I : zf_cl N K su st sp og cwf a_reached a_windA a_windB) {p : Nat} (hp : p < K) (hr : ∀ q, q < p → a_reached (2 * q) = 1) (h0 : a_reached (2 * p) = 0)
    (k : ∀ rc wa wb stk T, zf_cl N K su st sp og cwf rc wa wb → (∀ g, g < 2 * K → a_reached g = 1 → rc g = 1) → rc (2 * p) = 1 → post (f_size, f_maxEdges, f_phase, f_op, f_rule, f_stored, f_rings, f_hotCount, f_chainLen, f_pieces, f_halves, nI T, f_outEdges, f_outRings, f_traced, a_vertX, a_vertY, a_ringStart, a_ringPoly, a_dirX, a_dirY, a_edgePoly, a_isHot, a_chainId, a_chainKey, a_pieceKey, a_weightA, a_weightB, a_org, a_round, a_byEnds, a_cw, a_lastAt, wa, wb, rc, stk, a_outDir, a_used, a_outHalf, a_ringFrom)) :
    wpX_floodComponent post (f_size, f_maxEdges, f_phase, f_op, f_rule, f_stored, f_rings, f_hotCount, f_chainLen, f_pieces, f_halves, f_stackTop, f_outEdges, f_outRings, f_traced, a_vertX, a_vertY, a_ringStart, a_ringPoly, a_dirX, a_dirY, a_edgePoly, a_isHot, a_chainId, a_chainKey, a_pieceKey, a_weightA, a_weightB, a_org, a_round, a_byEnds, a_cw, a_lastAt, a_windA, a_windB, a_reached, a_stack, a_outDir, a_used, a_outHalf, a_ringFrom) (nI (og (2 * p))) := by
  have hK : K ≤ 256 := A.2.2.2.2.2.2.2
  have hv := A.2.2.1 (2 * p) (by omega)
  have bv := zc_b hv
  obtain ⟨i0, hi0, ri0⟩ := r.2.2 (2 * p) (by omega)
  -- no half-edge about v has been reached
  have closed_block : ∀ (rc : Nat → Int32), (∀ h, h < 2 * K → rc h = 1 → rc (cwf (zt h)) = 1 ∧ rc (zt h) = 1) → ∀ h, h < 2 * K → rc h = 1 → rc (cwf h) = 1 := by
    intro rc cl h hh hr
    have a := cl h hh hr
    have b := cl (zt h) (zt_lt hh) a.2
    rw [zt_zt] at b; exact b.1
  -- going down inside a block
  have down : ∀ (rc : Nat → Int32), (∀ h, h < 2 * K → rc h = 1 → rc (cwf (zt h)) = 1 ∧ rc (zt h) = 1) → ∀ d i, i + d < 2 * K → og (rd (i + d)) = og (rd i) → rc (rd (i + d)) = 1 → rc (rd i) = 1 := by
    intro rc cl d
    induction d with
    | zero => intro i _ _ h; exact h
    | succ d ihd =>
      intro i hi he hr
      have m : og (rd (i + d)) = og (rd i) := by
        have a := za_rle r (i := i) (j := i + d) (by omega) (by omega)
        have b := za_rle r (i := i + d) (j := i + (d + 1)) (by omega) hi
        omega
      refine ihd i (by omega) m ?_
      have q := closed_block rc cl (rd (i + (d + 1))) (r.1 _ hi) hr
      rcases c (i + (d + 1)) hi with ⟨z1, z2, z3⟩ | ⟨z1, z2⟩
      · rw [z3] at q
        exact q
      · exfalso
        rcases z1 with z1 | z1
        · omega
        · apply z1
          show og (rd (i + d)) = _
          omega
  have up : ∀ (rc : Nat → Int32), (∀ h, h < 2 * K → rc h = 1 → rc (cwf (zt h)) = 1 ∧ rc (zt h) = 1) → ∀ i j, i < 2 * K → j < 2 * K → og (rd i) = og (rd j) → rc (rd i) = 1 → rc (rd j) = 1 := by
    intro rc cl i j hi hj he hr
    -- down to the block's start, once round, down again
    obtain ⟨s, hs, es, hs'⟩ : ∃ s, s ≤ i ∧ og (rd s) = og (rd i) ∧ (s = 0 ∨ og (rd (s - 1)) ≠ og (rd s)) := by
      have : ∀ m, m ≤ i → og (rd m) = og (rd i) → ∃ s, s ≤ i ∧ og (rd s) = og (rd i) ∧ (s = 0 ∨ og (rd (s - 1)) ≠ og (rd s)) := by
        intro m
        induction m with
        | zero => intro h1 h2; exact ⟨0, h1, h2, Or.inl rfl⟩
        | succ m ihm =>
          intro h1 h2
          by_cases q : og (rd m) = og (rd (m + 1))
          · exact ihm (by omega) (by omega)
          · exact ⟨m + 1, h1, h2, Or.inr q⟩
      exact this i (Nat.le_refl _) rfl
    have rs : rc (rd s) = 1 := by
      have := down rc cl (i - s) s (by omega)
      rw [show s + (i - s) = i by omega] at this
      exact this es.symm hr
    have q := closed_block rc cl (rd s) (r.1 _ (by omega)) rs
    rcases c s (by omega) with ⟨z1, z2, z3⟩ | ⟨z1, e, z2, z3, z4, z5, z6⟩
    · exfalso
      rcases hs' with w | w
      · omega
      · exact w z2
    · rw [z6] at q
      have je : j ≤ e := by
        rcases Nat.lt_or_ge e j with w | w
        · exfalso
          rcases z5 with x | x
          · omega
          · have a := za_rle r (i := e) (j := e + 1) (by omega) (by omega)
            have b := za_rle r (i := e + 1) (j := j) (by omega) hj
            omega
        · exact w
      have := down rc cl (e - j) j (by omega)
      rw [show j + (e - j) = e by omega] at this
      exact this (by omega) q
  have none : ∀ j, j < 2 * K → og (rd j) = og (2 * p) → a_reached (rd j) ≠ 1 := by
    intro j hj he w
    have := up a_reached I.2.2 j i0 hj hi0 (by rw [he, ri0]) w
    rw [ri0, h0] at this
    exact absurd this (by decide)
  have nbr : ∀ t, (∃ s, s < N ∧ ((su s = og (2 * p) ∧ st s = t) ∨ (st s = og (2 * p) ∧ su s = t))) → og (2 * p) < t := by
    intro t ht
    obtain ⟨g, hg, g1, g2⟩ := za_nb A ht
    obtain ⟨j, hj, ej⟩ := r.2.2 g hg
    rcases Nat.lt_or_ge (og (2 * p)) t with w | w
    · exact w
    · exfalso
      have gne := za_ne A hg
      have par := za_par A hg
      -- g is odd: its piece comes earlier
      rcases za_ec g with ⟨q, e1, e2⟩ | ⟨q, e1, e2⟩
      · omega
      · have ql : q < p := by
          rcases Nat.lt_or_ge q p with x | x
          · exact x
          · exfalso
            have so := A.2.2.2.2.2.2.1
            have o1 : og (2 * q + 1) = og (2 * p) := by rw [← e1]; exact g1
            have o2 : og (2 * q) = t := by rw [← e2]; exact g2
            have lp := A.2.2.2.2.2.1 p hp
            have bq := A.2.2.1 (2 * q) (by omega)
            have bp := A.2.2.1 (2 * p + 1) (by omega)
            rcases Nat.lt_or_ge p q with y | y
            · have := so p q y (by omega)
              omega
            · have : q = p := by omega
              subst this; omega
        have rq := hr q ql
        have := (I.2.2 (2 * q) (by omega) rq).2
        rw [zt_e, ← e1, ← ej] at this
        exact none j hj (by rw [ej]; exact g1) this
  -- the last half-edge about v
  obtain ⟨e, he1, he2, he3, he4⟩ : ∃ e, i0 ≤ e ∧ e < 2 * K ∧ og (rd e) = og (2 * p) ∧ (e + 1 = 2 * K ∨ og (rd (e + 1)) ≠ og (rd e)) := by
    have : ∀ m e, e + m = 2 * K → i0 ≤ e → e < 2 * K → og (rd e) = og (2 * p) → ∃ e, i0 ≤ e ∧ e < 2 * K ∧ og (rd e) = og (2 * p) ∧ (e + 1 = 2 * K ∨ og (rd (e + 1)) ≠ og (rd e)) := by
      intro m
      induction m with
      | zero => intro e h1 _ h2; omega
      | succ m ihm =>
        intro e h1 h2 h3 h4
        by_cases q : e + 1 = 2 * K
        · exact ⟨e, h2, h3, h4, Or.inl q⟩
        · by_cases q2 : og (rd (e + 1)) = og (rd e)
          · exact ihm (e + 1) (by omega) (by omega) (by omega) (by omega)
          · exact ⟨e, h2, h3, h4, Or.inr q2⟩
    exact this (2 * K - i0) i0 (by omega) (Nat.le_refl _) hi0 (by rw [ri0])
  have hlast := hL e he2 he4
  rw [he3] at hlast
  have val : ∀ q, zv_L N su st sp q (og (rd e)) (og (zt (rd e))) = zv_Ww N su st sp q (og (2 * p)) := by
    intro q
    have n2 := za_nc A (r.1 e he2)
    rw [he3] at n2 ⊢
    refine zv_last A.2.1 A.1 n2 (fun t ht => ⟨?_, nbr t ht⟩) q
    obtain ⟨g, hg, g1, g2⟩ := za_nb A ht
    obtain ⟨j, hj, ej⟩ := r.2.2 g hg
    have x := za_xpos A r (i := e) (j := j) he2 hj (by rw [ej, g1, he3])
    rw [ej, g1, g2] at x
    rw [x, if_neg]
    intro w
    rcases he4 with z | z
    · omega
    · have a := za_rle r (i := e) (j := e + 1) (by omega) (by omega)
      have b := za_rle r (i := e + 1) (j := j) (by omega) hj
      rw [ej, g1] at b
      omega
  have start : ∀ (wa wb : Int32), wa = zi (zv_Ww N su st sp 0 (og (2 * p))) → wb = zi (zv_Ww N su st sp 1 (og (2 * p))) → wX_floodComponent_48 post (nI (og (2 * p))) wa wb f_size f_maxEdges f_phase f_op f_rule f_stored f_rings f_hotCount f_chainLen f_pieces f_halves f_stackTop f_outEdges f_outRings f_traced a_vertX a_vertY a_ringStart a_ringPoly a_dirX a_dirY a_edgePoly a_isHot a_chainId a_chainKey a_pieceKey a_weightA a_weightB a_org a_round a_byEnds a_cw a_lastAt a_windA a_windB a_reached a_stack a_outDir a_used a_outHalf a_ringFrom := by
    intro wa wb ea eb
    unfold wX_floodComponent_48
    simp only [nI_clamp (show og (2 * p) < 2 ^ 31 by omega), hlast]
    have I0 : zf_inv N K su st sp og cwf a_reached a_windA a_windB a_stack 0 0 (fun _ => False) := ⟨I.1, I.2.1, fun i hi => absurd hi (by omega), fun g hg hr => Or.inr (Or.inr (I.2.2 g hg hr)), by omega⟩
    refine ⟨vp_in_nI hv (by omega), xf_reach hK I0 rfl (r.1 e he2) (by rw [ea, val]) (by rw [eb, val]) (fun rc wa' wb' stk T J q1 q2 q3 => ⟨2 * K + 1, ?_⟩)⟩
    refine xf_71 A r c hcw hwA hwB hH rc (fun rc2 wa2 wb2 stk2 T2 cl M => ?_) (2 * K + 1) 0 T rc wa' wb' stk (by omega) J (fun g _ h => h)
    refine k _ _ _ _ _ cl (fun g hg hr => M g hg (q2 g hg hr)) ?_
    have := up rc2 cl.2.2 e i0 he2 hi0 (by rw [he3, ri0]) (M _ (r.1 e he2) q1)
    rw [ri0] at this; exact this
  unfold wpX_floodComponent
  refine ⟨by decide, by decide, ?_⟩
  rw [zx_y hv, zx_x hv, show (16 : Int32) = zi 16 from rfl, zi_mul, zi_mul]
  refine xg_loc (za_org A hO) A.2.2.2.1 hP (by omega) (by omega) (fun b hb => ?_)
  have ww := fun q => zl_Wv (N := N) (su := su) (st := st) (sp := sp) q (og (2 * p))
  rcases zf_loc A hb with ⟨z1, z2⟩ | ⟨c', z1, z2, z3, z4⟩
  · subst z1
    refine br_f (by decide) ?_
    unfold wX_floodComponent_33
    refine br_f (by decide) (start 0 0 ?_ ?_)
    · rw [← ww 0, z2 0]; rfl
    · rw [← ww 1, z2 1]; rfl
  · subst z3
    have cp : c' < p := zf_first A hp z1 z2
    have dl : zx_dn og c' < 2 * K := zx_dn_lt z1
    have rdn : a_reached (zx_dn og c') = 1 := by
      have q := hr c' cp
      unfold zx_dn
      split
      · exact q
      · have := (I.2.2 (2 * c') (by omega) q).2
        rw [zt_e] at this; exact this
    have v := I.2.1 _ dl rdn
    have z0 : (0 : Int32) ≤ nI (zx_dn og c') := nI_pos' (by omega)
    have ii : vp_in (nI (zx_dn og c')) 512 := vp_in_nI (by omega) (by omega)
    refine br_t z0 ⟨ii, ?_⟩
    unfold wX_floodComponent_33
    simp only [nI_clamp (show zx_dn og c' < 2 ^ 31 by omega)]
    refine br_t z0 ⟨ii, start _ _ ?_ ?_⟩
    · rw [v.1, ← ww 0, z4 0]; rfl
    · rw [v.2, ← ww 1, z4 1]; rfl
end
end
section
/-! half-edges: make, sort -/
/-- origins by the keys -/
def zx_og (key : Nat → Nat) (h : Nat) : Nat := if h % 2 = 0 then key (h / 2) / 100 else key (h / 2) % 100
theorem zx_og_e (key : Nat → Nat) (p : Nat) : zx_og key (2 * p) = key p / 100 := by unfold zx_og; rw [if_pos (by omega), show 2 * p / 2 = p by omega]
theorem zx_og_o (key : Nat → Nat) (p : Nat) : zx_og key (2 * p + 1) = key p % 100 := by unfold zx_og; rw [if_neg (by omega), show (2 * p + 1) / 2 = p by omega]
/-- a sorted prefix of numbers -/
def zo_inv (T : Nat → Nat → Prop) (h : Nat) (arr : Nat → Int32) (rd : Nat → Nat) : Prop := (∀ i, i < h → arr i = nI (rd i) ∧ rd i < h) ∧ (∀ i j, i < j → j < h → T (rd i) (rd j)) ∧ (∀ g, g < h → ∃ i, i < h ∧ rd i = g)
/-- the hole at k while h is put in -/
def zo_gap (T : Nat → Nat → Prop) (h k : Nat) (arr a : Nat → Int32) (rd : Nat → Nat) : Prop := (∀ i, i < k → a i = arr i) ∧ (∀ i, k < i → i ≤ h → a i = arr (i - 1)) ∧ (∀ i, k ≤ i → i < h → T h (rd i))
theorem zo_mv {T : Nat → Nat → Prop} {h k : Nat} {arr a : Nat → Int32} {rd : Nat → Nat} (G : zo_gap T h (k + 1) arr a rd) (hk : k + 1 ≤ h) (t : T h (rd k)) : zo_gap T h k arr (upd a (k + 1) (a k)) rd := by
  obtain ⟨g1, g2, g3⟩ := G
  refine ⟨fun i hi => ?_, fun i hi hi' => ?_, fun i hi hi' => ?_⟩
  · rw [zu_n (by omega)]; exact g1 i (by omega)
  · by_cases e : i = k + 1
    · subst e; rw [zu_s]; exact g1 k (by omega)
    · rw [zu_n e]; exact g2 i (by omega) hi'
  · by_cases e : i = k
    · subst e; exact t
    · exact g3 i (by omega) hi'
theorem zo_put {T : Nat → Nat → Prop} {h k H : Nat} {arr a : Nat → Int32} {rd : Nat → Nat} (hH : h < H) (tot : ∀ x y, x < H → y < H → x ≠ y → T x y ∨ T y x) (tra : ∀ x y z, x < H → y < H → z < H → T x y → T y z → T x z)
    (I : zo_inv T h arr rd) (G : zo_gap T h k arr a rd) (hk : k ≤ h) (x : k = 0 ∨ ¬ T h (rd (k - 1))) : ∃ rd', zo_inv T (h + 1) (upd a k (nI h)) rd' := by
  obtain ⟨i1, i2, i3⟩ := I
  obtain ⟨g1, g2, g3⟩ := G
  have low : ∀ i, i < k → T (rd i) h := by
    intro i hi
    have q : T (rd (k - 1)) h := by
      rcases x with x | x
      · omega
      · have := (i1 (k - 1) (by omega)).2
        rcases tot h (rd (k - 1)) hH (by omega) (by omega) with w | w
        · exact absurd w x
        · exact w
    by_cases e : i = k - 1
    · rw [e]; exact q
    · have a1 := (i1 i (by omega)).2
      have a2 := (i1 (k - 1) (by omega)).2
      exact tra _ _ _ (by omega) (by omega) hH (i2 i (k - 1) (by omega) (by omega)) q
  refine ⟨fun i => if i < k then rd i else if i = k then h else rd (i - 1), fun i hi => ?_, fun i j hij hj => ?_, fun g hg => ?_⟩
  · dsimp only
    by_cases c1 : i < k
    · rw [if_pos c1, zu_n (by omega), g1 i c1]
      have := i1 i (by omega)
      exact ⟨this.1, by omega⟩
    · rw [if_neg c1]
      by_cases c2 : i = k
      · rw [if_pos c2, c2, zu_s]; exact ⟨rfl, by omega⟩
      · rw [if_neg c2, zu_n c2, g2 i (by omega) (by omega)]
        have := i1 (i - 1) (by omega)
        exact ⟨this.1, by omega⟩
  · dsimp only
    by_cases c1 : i < k
    · rw [if_pos c1]
      by_cases c2 : j < k
      · rw [if_pos c2]; exact i2 i j hij (by omega)
      · rw [if_neg c2]
        by_cases c3 : j = k
        · rw [if_pos c3]; exact low i c1
        · rw [if_neg c3]; exact i2 i (j - 1) (by omega) (by omega)
    · rw [if_neg c1, if_neg (show ¬ j < k by omega), if_neg (show ¬ j = k by omega)]
      by_cases c2 : i = k
      · rw [if_pos c2]; exact g3 (j - 1) (by omega) (by omega)
      · rw [if_neg c2]; exact i2 (i - 1) (j - 1) (by omega) (by omega)
  · by_cases e : g = h
    · exact ⟨k, by omega, by dsimp only; rw [if_neg (by omega), if_pos rfl, e]⟩
    · obtain ⟨i, hi, e'⟩ := i3 g (by omega)
      by_cases c1 : i < k
      · exact ⟨i, by omega, by dsimp only; rw [if_pos c1, e']⟩
      · exact ⟨i + 1, by omega, by dsimp only; rw [if_neg (by omega), if_neg (by omega), Nat.add_sub_cancel, e']⟩
section
variable {f_size f_maxEdges f_phase f_op f_rule f_stored f_rings f_hotCount f_chainLen f_pieces f_halves f_stackTop f_outEdges f_outRings f_traced : Int32} {a_vertX a_vertY a_ringStart a_ringPoly a_dirX a_dirY a_edgePoly a_isHot a_chainId a_chainKey a_pieceKey a_weightA a_weightB a_org a_round a_byEnds a_cw a_lastAt a_windA a_windB a_reached a_stack a_outDir a_used a_outHalf a_ringFrom : Nat → Int32}
variable {N K : Nat} {su st sp og : Nat → Nat} {rd cwf : Nat → Nat} {key : Nat → Nat}
theorem xm_12 {post : SX → Prop} (hP : f_pieces = nI K) (hK : K ≤ 256) (hk : ∀ p, p < K → a_pieceKey p = nI (key p) ∧ key p < 10000)
    (k : ∀ o rc, (∀ h, h < 2 * K → o h = nI (zx_og key h)) → (∀ h, h < 2 * K → rc h = 0) → post (f_size, f_maxEdges, f_phase, f_op, f_rule, f_stored, f_rings, f_hotCount, f_chainLen, f_pieces, f_halves, f_stackTop, f_outEdges, f_outRings, f_traced, a_vertX, a_vertY, a_ringStart, a_ringPoly, a_dirX, a_dirY, a_edgePoly, a_isHot, a_chainId, a_chainKey, a_pieceKey, a_weightA, a_weightB, o, a_round, a_byEnds, a_cw, a_lastAt, a_windA, a_windB, rc, a_stack, a_outDir, a_used, a_outHalf, a_ringFrom)) :
    ∀ (n p : Nat) (o rc : Nat → Int32), K - p < n → p ≤ K → (∀ h, h < 2 * p → o h = nI (zx_og key h)) → (∀ h, h < 2 * p → rc h = 0) → wX_makeHalfEdges_12 post f_size f_maxEdges f_phase f_op f_rule f_stored f_rings f_hotCount f_chainLen f_pieces f_halves f_stackTop f_outEdges f_outRings f_traced n (nI p) a_vertX a_vertY a_ringStart a_ringPoly a_dirX a_dirY a_edgePoly a_isHot a_chainId a_chainKey a_pieceKey a_weightA a_weightB o a_round a_byEnds a_cw a_lastAt a_windA a_windB rc a_stack a_outDir a_used a_outHalf a_ringFrom
  | 0, p, o, rc, h, _, _, _ => by omega
  | n + 1, p, o, rc, h, hpK, h1, h2 => by
    have ih := xm_12 (post := post) hP hK hk k n
    subst hP
    unfold wX_makeHalfEdges_12
    refine zb_leN (by omega) (by omega) (fun w => ?_) (fun w => ?_)
    · have : p = K := by omega
      subst this
      exact k o rc h1 h2
    · obtain ⟨e1, l1⟩ := hk p (by omega)
      have m1 : (2 : Int32) * nI p = nI (2 * p) := by rw [show (2 : Int32) = nI 2 from rfl, zb_mul]
      have d1 : nI (key p) / 100 = nI (key p / 100) := by rw [show (100 : Int32) = nI 100 from rfl, zb_div (by omega) (by omega) (by omega)]
      have d2 : nI (key p) - nI (key p / 100) * 100 = nI (key p % 100) := by rw [← d1, show (100 : Int32) = nI 100 from rfl, zb_rem (by omega) (by omega) (by omega)]
      simp only [m1, nI_1, nI_clamp (show p < 2 ^ 31 by omega), nI_clamp (show 2 * p < 2 ^ 31 by omega), nI_clamp (show 2 * p + 1 < 2 ^ 31 by omega), e1, d1, d2, zn_b0]
      have i0 : vp_in (nI p) 256 := vp_in_nI (by omega) (by omega)
      have i1 : vp_in (nI (2 * p)) 512 := vp_in_nI (by omega) (by omega)
      have i2 : vp_in (nI (2 * p + 1)) 512 := vp_in_nI (by omega) (by omega)
      have d : ¬ (100 : Int32) = 0 := by decide
      refine ⟨i0, d, i1, nm_e ⟨i0, d, i2, nm_e ⟨i1, nm_e ⟨i2, nm_e (nm_e (ih (p + 1) _ _ (by omega) (by omega) (fun h hh => ?_) (fun h hh => ?_)))⟩⟩⟩⟩
      · by_cases c1 : h = 2 * p + 1
        · subst c1; rw [zu_s, zx_og_o]
        · rw [zu_n c1]
          by_cases c2 : h = 2 * p
          · subst c2; rw [zu_s, zx_og_e]
          · rw [zu_n c2]; exact h1 h (by omega)
      · by_cases c1 : h = 2 * p + 1
        · subst c1; rw [zu_s]
        · rw [zu_n c1]
          by_cases c2 : h = 2 * p
          · subst c2; rw [zu_s]
          · rw [zu_n c2]; exact h2 h (by omega)
theorem xm_make {post : SX → Prop} (hP : f_pieces = nI K) (hK : K ≤ 256) (hk : ∀ p, p < K → a_pieceKey p = nI (key p) ∧ key p < 10000)
    (k : ∀ o rc, (∀ h, h < 2 * K → o h = nI (zx_og key h)) → (∀ h, h < 2 * K → rc h = 0) → post (f_size, f_maxEdges, f_phase, f_op, f_rule, f_stored, f_rings, f_hotCount, f_chainLen, f_pieces, nI (2 * K), f_stackTop, f_outEdges, f_outRings, f_traced, a_vertX, a_vertY, a_ringStart, a_ringPoly, a_dirX, a_dirY, a_edgePoly, a_isHot, a_chainId, a_chainKey, a_pieceKey, a_weightA, a_weightB, o, a_round, a_byEnds, a_cw, a_lastAt, a_windA, a_windB, rc, a_stack, a_outDir, a_used, a_outHalf, a_ringFrom)) : wpX_makeHalfEdges post (f_size, f_maxEdges, f_phase, f_op, f_rule, f_stored, f_rings, f_hotCount, f_chainLen, f_pieces, f_halves, f_stackTop, f_outEdges, f_outRings, f_traced, a_vertX, a_vertY, a_ringStart, a_ringPoly, a_dirX, a_dirY, a_edgePoly, a_isHot, a_chainId, a_chainKey, a_pieceKey, a_weightA, a_weightB, a_org, a_round, a_byEnds, a_cw, a_lastAt, a_windA, a_windB, a_reached, a_stack, a_outDir, a_used, a_outHalf, a_ringFrom) := by
  subst hP
  unfold wpX_makeHalfEdges
  refine nm_r (e' := nI (2 * K)) (by rw [show (2 : Int32) = nI 2 from rfl, zb_mul]) ⟨K + 1, ?_⟩
  exact xm_12 rfl hK hk k (K + 1) 0 _ _ (by omega) (by omega) (fun h hh => absurd hh (by omega)) (fun h hh => absurd hh (by omega))
/-- by the ends -/
def zx_ek (og : Nat → Nat) (g h : Nat) : Prop := 100 * og g + og (zt g) < 100 * og h + og (zt h)
theorem xs_8 {post : SX → Prop} (A : zr_A N K su st sp og) (hO : ∀ h, h < 2 * K → a_org h = nI (og h)) {h : Nat} (hh : h < 2 * K) {arr : Nat → Int32} {rd : Nat → Nat} (I : zo_inv (zx_ek og) h arr rd)
    (k : ∀ b rd', zo_inv (zx_ek og) (h + 1) b rd' → post (f_size, f_maxEdges, f_phase, f_op, f_rule, f_stored, f_rings, f_hotCount, f_chainLen, f_pieces, f_halves, f_stackTop, f_outEdges, f_outRings, f_traced, a_vertX, a_vertY, a_ringStart, a_ringPoly, a_dirX, a_dirY, a_edgePoly, a_isHot, a_chainId, a_chainKey, a_pieceKey, a_weightA, a_weightB, a_org, a_round, b, a_cw, a_lastAt, a_windA, a_windB, a_reached, a_stack, a_outDir, a_used, a_outHalf, a_ringFrom)) :
    ∀ (j : Nat) (a : Nat → Int32), j ≤ h → zo_gap (zx_ek og) h j arr a rd → wX_insertByEnds_8 post (nI h) (nI (100 * og h + og (zt h))) f_size f_maxEdges f_phase f_op f_rule f_stored f_rings f_hotCount f_chainLen f_pieces f_halves f_stackTop f_outEdges f_outRings f_traced (j + 1) (nI j) a_vertX a_vertY a_ringStart a_ringPoly a_dirX a_dirY a_edgePoly a_isHot a_chainId a_chainKey a_pieceKey a_weightA a_weightB a_org a_round a a_cw a_lastAt a_windA a_windB a_reached a_stack a_outDir a_used a_outHalf a_ringFrom
  | 0, a, hj, G => by
    have hK : K ≤ 256 := A.2.2.2.2.2.2.2
    unfold wX_insertByEnds_8
    refine br_t (by decide) ?_
    obtain ⟨rd', I'⟩ := zo_put (H := 2 * K) hh (fun x y hx hy hxy => by
      have ox := A.2.2.1 x hx
      have oy := A.2.2.1 y hy
      have ox' := A.2.2.1 _ (zt_lt hx)
      have oy' := A.2.2.1 _ (zt_lt hy)
      unfold zx_ek
      rcases Nat.lt_trichotomy (100 * og x + og (zt x)) (100 * og y + og (zt y)) with w | w | w
      · exact Or.inl w
      · exact absurd (za_inj A hx hy (by omega) (by omega)) hxy
      · exact Or.inr w) (fun x y z _ _ _ h1 h2 => by unfold zx_ek at *; omega) I G hj (Or.inl rfl)
    exact ⟨vp_in_nI (by omega) (by omega), nm_e (k _ _ I')⟩
  | j + 1, a, hj, G => by
    have hK : K ≤ 256 := A.2.2.2.2.2.2.2
    have ih := xs_8 (post := post) A hO hh I k j
    have rj := I.1 j (by omega)
    have aj : a j = nI (rd j) := by rw [G.1 j (by omega)]; exact rj.1
    have b1 := A.2.2.1 h hh
    have b2 := A.2.2.1 _ (zt_lt hh)
    have b3 := A.2.2.1 (rd j) (by omega)
    have b4 := A.2.2.1 _ (zt_lt (show rd j < 2 * K by omega))
    unfold wX_insertByEnds_8
    refine br_f (nI_nle (by omega) (by omega)) ?_
    simp only [nI_pred, nI_clamp (show j < 2 ^ 31 by omega), nI_clamp (show j + 1 < 2 ^ 31 by omega), aj]
    have i1 : vp_in (nI j) 512 := vp_in_nI (by omega) (by omega)
    have i2 : vp_in (nI (j + 1)) 512 := vp_in_nI (by omega) (by omega)
    refine ⟨i1, xg_ek (za_org A hO) (show rd j < 2 * K by omega) (zb_leN (by omega) (by omega) (fun w => ?_) (fun w => ?_))⟩
    · obtain ⟨rd', I'⟩ := zo_put (H := 2 * K) hh (fun x y hx hy hxy => by
        have ox := A.2.2.1 x hx
        have oy := A.2.2.1 y hy
        have ox' := A.2.2.1 _ (zt_lt hx)
        have oy' := A.2.2.1 _ (zt_lt hy)
        unfold zx_ek
        rcases Nat.lt_trichotomy (100 * og x + og (zt x)) (100 * og y + og (zt y)) with w | w | w
        · exact Or.inl w
        · exact absurd (za_inj A hx hy (by omega) (by omega)) hxy
        · exact Or.inr w) (fun x y z _ _ _ h1 h2 => by unfold zx_ek at *; omega) I G hj (Or.inr (by unfold zx_ek; rw [Nat.add_sub_cancel]; omega))
      exact ⟨i2, nm_e (k _ _ I')⟩
    · refine ⟨i1, i2, nm_e (nm_r (zb_m1 j) ?_)⟩
      have G' := zo_mv G hj (show zx_ek og h (rd j) from w)
      rw [aj] at G'
      exact ih _ (by omega) G'
theorem xs_ends {post : SX → Prop} (A : zr_A N K su st sp og) (hO : ∀ h, h < 2 * K → a_org h = nI (og h)) {h : Nat} (hh : h < 2 * K) {rd : Nat → Nat} (I : zo_inv (zx_ek og) h a_byEnds rd)
    (k : ∀ b rd', zo_inv (zx_ek og) (h + 1) b rd' → post (f_size, f_maxEdges, f_phase, f_op, f_rule, f_stored, f_rings, f_hotCount, f_chainLen, f_pieces, f_halves, f_stackTop, f_outEdges, f_outRings, f_traced, a_vertX, a_vertY, a_ringStart, a_ringPoly, a_dirX, a_dirY, a_edgePoly, a_isHot, a_chainId, a_chainKey, a_pieceKey, a_weightA, a_weightB, a_org, a_round, b, a_cw, a_lastAt, a_windA, a_windB, a_reached, a_stack, a_outDir, a_used, a_outHalf, a_ringFrom)) : wpX_insertByEnds post (f_size, f_maxEdges, f_phase, f_op, f_rule, f_stored, f_rings, f_hotCount, f_chainLen, f_pieces, f_halves, f_stackTop, f_outEdges, f_outRings, f_traced, a_vertX, a_vertY, a_ringStart, a_ringPoly, a_dirX, a_dirY, a_edgePoly, a_isHot, a_chainId, a_chainKey, a_pieceKey, a_weightA, a_weightB, a_org, a_round, a_byEnds, a_cw, a_lastAt, a_windA, a_windB, a_reached, a_stack, a_outDir, a_used, a_outHalf, a_ringFrom) (nI h) := by
  unfold wpX_insertByEnds
  exact xg_ek (za_org A hO) hh ⟨h + 1, xs_8 A hO hh I k h a_byEnds (Nat.le_refl _) ⟨fun i hi => rfl, fun i hi hi' => absurd hi (by omega), fun i hi hi' => absurd hi (by omega)⟩⟩
theorem xs_12 {post : SX → Prop} {J : Int32 → Int32 → Int32 → Int32 → Int32 → Int32 → Int32 → Int32 → Int32 → Int32 → Int32 → Int32 → Int32 → Int32 → Int32 → Int32 → (Nat → Int32) → (Nat → Int32) → (Nat → Int32) → (Nat → Int32) → (Nat → Int32) → (Nat → Int32) → (Nat → Int32) → (Nat → Int32) → (Nat → Int32) → (Nat → Int32) → (Nat → Int32) → (Nat → Int32) → (Nat → Int32) → (Nat → Int32) → (Nat → Int32) → (Nat → Int32) → (Nat → Int32) → (Nat → Int32) → (Nat → Int32) → (Nat → Int32) → (Nat → Int32) → (Nat → Int32) → (Nat → Int32) → (Nat → Int32) → (Nat → Int32) → (Nat → Int32) → Prop} (A : zr_A N K su st sp og) (hO : ∀ h, h < 2 * K → a_org h = nI (og h)) {h : Nat} (hh : h < 2 * K) {arr : Nat → Int32} {rd rb : Nat → Nat} (I : zo_inv (zx_tb og) h arr rd) (Ib : zo_inv (zx_ek og) h a_byEnds rb)
    (k : ∀ a b rd' rb', zo_inv (zx_tb og) (h + 1) a rd' → zo_inv (zx_ek og) (h + 1) b rb' → J (nI (h + 1)) f_size f_maxEdges f_phase f_op f_rule f_stored f_rings f_hotCount f_chainLen f_pieces f_halves f_stackTop f_outEdges f_outRings f_traced a_vertX a_vertY a_ringStart a_ringPoly a_dirX a_dirY a_edgePoly a_isHot a_chainId a_chainKey a_pieceKey a_weightA a_weightB a_org a b a_cw a_lastAt a_windA a_windB a_reached a_stack a_outDir a_used a_outHalf a_ringFrom) :
    ∀ (j : Nat) (a : Nat → Int32), j ≤ h → zo_gap (zx_tb og) h j arr a rd → wX_sortHalfEdges_12 post J (nI h) f_size f_maxEdges f_phase f_op f_rule f_stored f_rings f_hotCount f_chainLen f_pieces f_halves f_stackTop f_outEdges f_outRings f_traced (j + 1) (nI j) a_vertX a_vertY a_ringStart a_ringPoly a_dirX a_dirY a_edgePoly a_isHot a_chainId a_chainKey a_pieceKey a_weightA a_weightB a_org a a_byEnds a_cw a_lastAt a_windA a_windB a_reached a_stack a_outDir a_used a_outHalf a_ringFrom
  | j, a, hj, G => by
    have hK : K ≤ 256 := A.2.2.2.2.2.2.2
    have fin : (j = 0 ∨ ¬ zx_tb og h (rd (j - 1))) → wX_sortHalfEdges_52 post J (nI h) (nI j) f_size f_maxEdges f_phase f_op f_rule f_stored f_rings f_hotCount f_chainLen f_pieces f_halves f_stackTop f_outEdges f_outRings f_traced a_vertX a_vertY a_ringStart a_ringPoly a_dirX a_dirY a_edgePoly a_isHot a_chainId a_chainKey a_pieceKey a_weightA a_weightB a_org a a_byEnds a_cw a_lastAt a_windA a_windB a_reached a_stack a_outDir a_used a_outHalf a_ringFrom := by
      intro x
      obtain ⟨rd', I'⟩ := zo_put (H := 2 * K) hh (fun x y hx hy hxy => za_tot A hx hy hxy) (fun x y z hx hy hz h1 h2 => za_tra A hx hy hz h1 h2) I G hj x
      unfold wX_sortHalfEdges_52
      simp only [nI_clamp (show j < 2 ^ 31 by omega)]
      refine ⟨vp_in_nI (by omega) (by omega), nm_e (xs_ends A hO hh Ib (fun b rb' Ib' => nm_r (nI_1 h) (k _ _ _ _ I' Ib')))⟩
    unfold wX_sortHalfEdges_12
    match j, hj, G, fin with
    | 0, hj, G, fin => exact br_t (by decide) (fin (Or.inl rfl))
    | j + 1, hj, G, fin =>
      have ih := xs_12 (post := post) A hO hh I Ib k j
      have rj := I.1 j (by omega)
      have aj : a j = nI (rd j) := by rw [G.1 j (by omega)]; exact rj.1
      refine br_f (nI_nle (by omega) (by omega)) ?_
      simp only [nI_pred, nI_clamp (show j < 2 ^ 31 by omega), nI_clamp (show j + 1 < 2 ^ 31 by omega), aj]
      have i1 : vp_in (nI j) 512 := vp_in_nI (by omega) (by omega)
      have i2 : vp_in (nI (j + 1)) 512 := vp_in_nI (by omega) (by omega)
      refine ⟨i1, xg_tb (za_org A hO) hh (show rd j < 2 * K by omega) (fun w => ?_) (fun w => ?_)⟩
      · refine br_f (by decide) ⟨i1, i2, nm_e (nm_r (zb_m1 j) ?_)⟩
        have G' := zo_mv G hj w
        rw [aj] at G'
        exact ih _ (by omega) G'
      · exact br_t rfl (fin (Or.inr w))
theorem xs_2 {post : SX → Prop} (A : zr_A N K su st sp og) (hO : ∀ h, h < 2 * K → a_org h = nI (og h)) (hH : f_halves = nI (2 * K))
    (k : ∀ a b rd rb, zo_inv (zx_tb og) (2 * K) a rd → zo_inv (zx_ek og) (2 * K) b rb → post (f_size, f_maxEdges, f_phase, f_op, f_rule, f_stored, f_rings, f_hotCount, f_chainLen, f_pieces, f_halves, f_stackTop, f_outEdges, f_outRings, f_traced, a_vertX, a_vertY, a_ringStart, a_ringPoly, a_dirX, a_dirY, a_edgePoly, a_isHot, a_chainId, a_chainKey, a_pieceKey, a_weightA, a_weightB, a_org, a, b, a_cw, a_lastAt, a_windA, a_windB, a_reached, a_stack, a_outDir, a_used, a_outHalf, a_ringFrom)) :
    ∀ (n h : Nat) (a b : Nat → Int32) (rd rb : Nat → Nat), 2 * K - h < n → h ≤ 2 * K → zo_inv (zx_tb og) h a rd → zo_inv (zx_ek og) h b rb → wX_sortHalfEdges_2 post n (nI h) f_size f_maxEdges f_phase f_op f_rule f_stored f_rings f_hotCount f_chainLen f_pieces f_halves f_stackTop f_outEdges f_outRings f_traced a_vertX a_vertY a_ringStart a_ringPoly a_dirX a_dirY a_edgePoly a_isHot a_chainId a_chainKey a_pieceKey a_weightA a_weightB a_org a b a_cw a_lastAt a_windA a_windB a_reached a_stack a_outDir a_used a_outHalf a_ringFrom
  | 0, h, a, b, rd, rb, hn, _, _, _ => by omega
  | n + 1, h, a, b, rd, rb, hn, hle, I, Ib => by
    have hK : K ≤ 256 := A.2.2.2.2.2.2.2
    have ih := xs_2 (post := post) A hO hH k n
    subst hH
    unfold wX_sortHalfEdges_2
    refine zb_leN (by omega) (by omega) (fun w => ?_) (fun w => ⟨h + 1, ?_⟩)
    · have : h = 2 * K := by omega
      subst this
      exact k _ _ _ _ I Ib
    · exact xs_12 A hO w I Ib (fun a' b' rd' rb' I' Ib' => ih (h + 1) a' b' rd' rb' (by omega) (by omega) I' Ib') h a (Nat.le_refl _) ⟨fun i hi => rfl, fun i hi hi' => absurd hi (by omega), fun i hi hi' => absurd hi (by omega)⟩
theorem xs_sort {post : SX → Prop} (A : zr_A N K su st sp og) (hO : ∀ h, h < 2 * K → a_org h = nI (og h)) (hH : f_halves = nI (2 * K))
    (k : ∀ a b rd rb, zo_inv (zx_tb og) (2 * K) a rd → zo_inv (zx_ek og) (2 * K) b rb → post (f_size, f_maxEdges, f_phase, f_op, f_rule, f_stored, f_rings, f_hotCount, f_chainLen, f_pieces, f_halves, f_stackTop, f_outEdges, f_outRings, f_traced, a_vertX, a_vertY, a_ringStart, a_ringPoly, a_dirX, a_dirY, a_edgePoly, a_isHot, a_chainId, a_chainKey, a_pieceKey, a_weightA, a_weightB, a_org, a, b, a_cw, a_lastAt, a_windA, a_windB, a_reached, a_stack, a_outDir, a_used, a_outHalf, a_ringFrom)) : wpX_sortHalfEdges post (f_size, f_maxEdges, f_phase, f_op, f_rule, f_stored, f_rings, f_hotCount, f_chainLen, f_pieces, f_halves, f_stackTop, f_outEdges, f_outRings, f_traced, a_vertX, a_vertY, a_ringStart, a_ringPoly, a_dirX, a_dirY, a_edgePoly, a_isHot, a_chainId, a_chainKey, a_pieceKey, a_weightA, a_weightB, a_org, a_round, a_byEnds, a_cw, a_lastAt, a_windA, a_windB, a_reached, a_stack, a_outDir, a_used, a_outHalf, a_ringFrom) := by
  unfold wpX_sortHalfEdges
  exact ⟨2 * K + 1, xs_2 A hO hH k (2 * K + 1) 0 _ _ (fun _ => 0) (fun _ => 0) (by omega) (by omega) ⟨fun i hi => absurd hi (by omega), fun i j _ hj => absurd hj (by omega), fun g hg => absurd hg (by omega)⟩ ⟨fun i hi => absurd hi (by omega), fun i j _ hj => absurd hj (by omega), fun g hg => absurd hg (by omega)⟩⟩
end
end
section
/-! half-edges: link; the loop of floods -/
section
variable {N K : Nat} {su st sp og : Nat → Nat} {rd : Nat → Nat}
/-- what linkHalfEdges has written up to k -/
def zk_inv (og : Nat → Nat) (H : Nat) (rd : Nat → Nat) (s k : Nat) (cw la : Nat → Int32) : Prop :=
  (k = 0 ∨ (s < k ∧ og (rd s) = og (rd (k - 1)) ∧ (s = 0 ∨ og (rd (s - 1)) ≠ og (rd s)))) ∧
  (∀ i, i < k → 0 < i → og (rd (i - 1)) = og (rd i) → cw (rd i) = nI (rd (i - 1))) ∧
  (∀ e, e < k → (e + 1 = H ∨ og (rd (e + 1)) ≠ og (rd e)) → la (og (rd e)) = nI (rd e) ∧ ∀ i, i ≤ e → og (rd i) = og (rd e) → (i = 0 ∨ og (rd (i - 1)) ≠ og (rd i)) → cw (rd i) = nI (rd e))
/-- the start of the block that holds k -/
theorem zk_start (r : zx_rd og (2 * K) rd) {s k : Nat} {cw la : Nat → Int32} (I : zk_inv og (2 * K) rd s k cw la) (hk : k < 2 * K) :
    (0 < k ∧ og (rd (k - 1)) = og (rd k) ∧ s < k ∧ og (rd s) = og (rd k) ∧ (s = 0 ∨ og (rd (s - 1)) ≠ og (rd s))) ∨ (k = 0 ∨ og (rd (k - 1)) ≠ og (rd k)) := by
  rcases I.1 with z | ⟨z1, z2, z3⟩
  · exact Or.inr (Or.inl z)
  · by_cases e : og (rd (k - 1)) = og (rd k)
    · exact Or.inl ⟨by omega, e, z1, by omega, z3⟩
    · exact Or.inr (Or.inr e)
/-- one turn: s' is the start of k's block; the clockwise neighbour of k is written unless k is the start; at a block's end the start's -/
theorem zk_step (A : zr_A N K su st sp og) (r : zx_rd og (2 * K) rd) {s k s' : Nat} {cw la cw1 cw2 la2 : Nat → Int32} (I : zk_inv og (2 * K) rd s k cw la) (hk : k < 2 * K)
    (hs : s' ≤ k ∧ og (rd s') = og (rd k) ∧ (s' = 0 ∨ og (rd (s' - 1)) ≠ og (rd s')))
    (h1 : (0 < k ∧ og (rd (k - 1)) = og (rd k) ∧ s' < k ∧ cw1 = upd cw (rd k) (nI (rd (k - 1)))) ∨ (s' = k ∧ cw1 = cw))
    (h2 : ((k + 1 = 2 * K ∨ og (rd (k + 1)) ≠ og (rd k)) ∧ cw2 = upd cw1 (rd s') (nI (rd k)) ∧ la2 = upd la (og (rd k)) (nI (rd k))) ∨ (¬ (k + 1 = 2 * K ∨ og (rd (k + 1)) ≠ og (rd k)) ∧ cw2 = cw1 ∧ la2 = la)) :
    zk_inv og (2 * K) rd s' (k + 1) cw2 la2 := by
  obtain ⟨i1, i2, i3⟩ := I
  have inj := fun {i j : Nat} (hi : i < 2 * K) (hj : j < 2 * K) (e : rd i = rd j) => za_rinj A r hi hj e
  have c1 : ∀ i, i < k + 1 → 0 < i → og (rd (i - 1)) = og (rd i) → cw1 (rd i) = nI (rd (i - 1)) := by
    intro i hi h0 he
    rcases h1 with ⟨a, b, c, d⟩ | ⟨a, d⟩
    · rw [d]
      by_cases e : i = k
      · rw [e, zu_s]
      · rw [zu_n (fun w => e (inj (by omega) hk w))]
        exact i2 i (by omega) h0 he
    · rw [d]
      refine i2 i ?_ h0 he
      rcases Nat.lt_or_ge i k with w | w
      · exact w
      · have : i = k := by omega
        subst this
        rcases hs.2.2 with z | z
        · omega
        · rw [a] at z; exact absurd he z
  have old : ∀ e, e < k → (e + 1 = 2 * K ∨ og (rd (e + 1)) ≠ og (rd e)) → og (rd e) ≠ og (rd k) := by
    intro e he hb w
    rcases hb with z | z
    · omega
    · have a := za_rle r (i := e) (j := e + 1) (by omega) (by omega)
      have b := za_rle r (i := e + 1) (j := k) (by omega) hk
      omega
  have c3 : ∀ e, e < k → (e + 1 = 2 * K ∨ og (rd (e + 1)) ≠ og (rd e)) → la (og (rd e)) = nI (rd e) ∧ ∀ i, i ≤ e → og (rd i) = og (rd e) → (i = 0 ∨ og (rd (i - 1)) ≠ og (rd i)) → cw1 (rd i) = nI (rd e) := by
    intro e he hb
    have q := i3 e he hb
    refine ⟨q.1, fun i hi hie his => ?_⟩
    have := q.2 i hi hie his
    rcases h1 with ⟨a, b, c, d⟩ | ⟨a, d⟩
    · rw [d, zu_n (fun w => by have := inj (by omega) hk w; omega)]; exact this
    · rw [d]; exact this
  refine ⟨Or.inr ⟨by omega, by rw [Nat.add_sub_cancel]; exact hs.2.1, hs.2.2⟩, ?_, ?_⟩
  · intro i hi h0 he
    rcases h2 with ⟨a, b, c⟩ | ⟨a, b, c⟩
    · rw [b, zu_n]
      · exact c1 i hi h0 he
      · intro w
        have := inj (by omega) (by omega) w
        subst this
        rcases hs.2.2 with z | z
        · omega
        · exact z he
    · rw [b]; exact c1 i hi h0 he
  · intro e he hb
    by_cases ek : e = k
    · subst ek
      rcases h2 with ⟨a, b, c⟩ | ⟨a, b, c⟩
      · refine ⟨by rw [c, zu_s], fun i hi hie his => ?_⟩
        have : i = s' := by
          rcases Nat.lt_trichotomy i s' with w | w | w
          · exfalso
            rcases hs.2.2 with z | z
            · omega
            · have x := za_rle r (i := i) (j := s' - 1) (by omega) (by omega)
              have y := za_rle r (i := s' - 1) (j := s') (by omega) (by omega)
              omega
          · exact w
          · exfalso
            rcases his with z | z
            · omega
            · have x := za_rle r (i := s') (j := i - 1) (by omega) (by omega)
              have y := za_rle r (i := i - 1) (j := i) (by omega) (by omega)
              omega
        rw [this, b, zu_s]
      · exact absurd hb a
    · have q := c3 e (by omega) hb
      have o := old e (by omega) hb
      rcases h2 with ⟨a, b, c⟩ | ⟨a, b, c⟩
      · refine ⟨by rw [c, zu_n o]; exact q.1, fun i hi hie his => ?_⟩
        rw [b, zu_n]
        · exact q.2 i hi hie his
        · intro w
          have := inj (by omega) (by omega) w
          subst this
          omega
      · refine ⟨by rw [c]; exact q.1, fun i hi hie his => ?_⟩
        rw [b]; exact q.2 i hi hie his
/-- the end of the block that holds i -/
theorem zk_bend (r : zx_rd og (2 * K) rd) : ∀ m i, i + m = 2 * K → i < 2 * K → ∃ e, i ≤ e ∧ e < 2 * K ∧ og (rd e) = og (rd i) ∧ (e + 1 = 2 * K ∨ og (rd (e + 1)) ≠ og (rd i))
  | 0, i, h, hi => by omega
  | m + 1, i, h, hi => by
    by_cases q : i + 1 = 2 * K
    · exact ⟨i, Nat.le_refl _, hi, rfl, Or.inl q⟩
    · by_cases q2 : og (rd (i + 1)) = og (rd i)
      · obtain ⟨e, a, b, c, d⟩ := zk_bend r m (i + 1) (by omega) (by omega)
        exact ⟨e, by omega, b, by omega, by omega⟩
      · exact ⟨i, Nat.le_refl _, hi, rfl, Or.inr q2⟩
theorem zk_done (A : zr_A N K su st sp og) (r : zx_rd og (2 * K) rd) {s : Nat} {cw la : Nat → Int32} (I : zk_inv og (2 * K) rd s (2 * K) cw la) :
    ∃ cwf, (∀ h, h < 2 * K → cw h = nI (cwf h)) ∧ zx_cw og (2 * K) rd cwf ∧ (∀ e, e < 2 * K → (e + 1 = 2 * K ∨ og (rd (e + 1)) ≠ og (rd e)) → la (og (rd e)) = nI (rd e)) := by
  obtain ⟨i1, i2, i3⟩ := I
  have hK : K ≤ 256 := A.2.2.2.2.2.2.2
  have key : ∀ i, i < 2 * K → (0 < i ∧ og (rd (i - 1)) = og (rd i) ∧ cw (rd i) = nI (rd (i - 1))) ∨ ((i = 0 ∨ og (rd (i - 1)) ≠ og (rd i)) ∧ ∃ e, i ≤ e ∧ e < 2 * K ∧ og (rd e) = og (rd i) ∧ (e + 1 = 2 * K ∨ og (rd (e + 1)) ≠ og (rd i)) ∧ cw (rd i) = nI (rd e)) := by
    intro i hi
    by_cases c : 0 < i ∧ og (rd (i - 1)) = og (rd i)
    · exact Or.inl ⟨c.1, c.2, i2 i hi c.1 c.2⟩
    · have his : i = 0 ∨ og (rd (i - 1)) ≠ og (rd i) := by
        rcases Nat.eq_zero_or_pos i with z | z
        · exact Or.inl z
        · exact Or.inr (fun w => c ⟨z, w⟩)
      obtain ⟨e, a, b, c', d⟩ := zk_bend r (2 * K - i) i (by omega) hi
      refine Or.inr ⟨his, e, a, b, c', d, ?_⟩
      exact (i3 e b (by rw [c']; exact d)).2 i a c'.symm his
  refine ⟨fun h => (cw h).toNatClampNeg, fun h hh => ?_, fun i hi => ?_, fun e he hb => (i3 e he hb).1⟩
  · obtain ⟨i, hi, rfl⟩ := r.2.2 h hh
    rcases key i hi with ⟨a, b, c⟩ | ⟨a, e, b, c, d, f, g⟩
    · have := r.1 (i - 1) (by omega)
      dsimp only
      rw [c, nI_clamp (by omega)]
    · have := r.1 e c
      dsimp only
      rw [g, nI_clamp (by omega)]
  · dsimp only
    rcases key i hi with ⟨a, b, c⟩ | ⟨a, e, b, c, d, f, g⟩
    · have := r.1 (i - 1) (by omega)
      exact Or.inl ⟨a, b, by rw [c, nI_clamp (by omega)]⟩
    · have := r.1 e c
      exact Or.inr ⟨a, e, b, c, d, f, by rw [g, nI_clamp (by omega)]⟩
theorem zk_rd {a : Nat → Int32} (I : zo_inv (zx_tb og) (2 * K) a rd) : zx_rd og (2 * K) rd := ⟨fun i hi => (I.1 i hi).2, I.2.1, I.2.2⟩
end
section
variable {f_size f_maxEdges f_phase f_op f_rule f_stored f_rings f_hotCount f_chainLen f_pieces f_halves f_stackTop f_outEdges f_outRings f_traced : Int32} {a_vertX a_vertY a_ringStart a_ringPoly a_dirX a_dirY a_edgePoly a_isHot a_chainId a_chainKey a_pieceKey a_weightA a_weightB a_org a_round a_byEnds a_cw a_lastAt a_windA a_windB a_reached a_stack a_outDir a_used a_outHalf a_ringFrom : Nat → Int32}
variable {N K : Nat} {su st sp og : Nat → Nat} {rd cwf : Nat → Nat}
theorem xk_4 {post : SX → Prop} (A : zr_A N K su st sp og) (hO : ∀ h, h < 2 * K → a_org h = nI (og h)) (hH : f_halves = nI (2 * K)) (I : zo_inv (zx_tb og) (2 * K) a_round rd)
    (k : ∀ s cw la, zk_inv og (2 * K) rd s (2 * K) cw la → post (f_size, f_maxEdges, f_phase, f_op, f_rule, f_stored, f_rings, f_hotCount, f_chainLen, f_pieces, f_halves, f_stackTop, f_outEdges, f_outRings, f_traced, a_vertX, a_vertY, a_ringStart, a_ringPoly, a_dirX, a_dirY, a_edgePoly, a_isHot, a_chainId, a_chainKey, a_pieceKey, a_weightA, a_weightB, a_org, a_round, a_byEnds, cw, la, a_windA, a_windB, a_reached, a_stack, a_outDir, a_used, a_outHalf, a_ringFrom)) :
    ∀ (n j s : Nat) (cw la : Nat → Int32), 2 * K - j < n → j ≤ 2 * K → s ≤ 2 * K → zk_inv og (2 * K) rd s j cw la → wX_linkHalfEdges_4 post f_size f_maxEdges f_phase f_op f_rule f_stored f_rings f_hotCount f_chainLen f_pieces f_halves f_stackTop f_outEdges f_outRings f_traced n (nI s) (nI j) a_vertX a_vertY a_ringStart a_ringPoly a_dirX a_dirY a_edgePoly a_isHot a_chainId a_chainKey a_pieceKey a_weightA a_weightB a_org a_round a_byEnds cw la a_windA a_windB a_reached a_stack a_outDir a_used a_outHalf a_ringFrom
  | 0, j, s, cw, la, h, _, _, _ => by omega
  | n + 1, j, s, cw, la, h, hj, hs, Z => by
    have hK : K ≤ 256 := A.2.2.2.2.2.2.2
    have ih := xk_4 (post := post) A hO hH I k n
    have r := zk_rd I
    subst hH
    unfold wX_linkHalfEdges_4
    refine zb_leN (by omega) (by omega) (fun w => ?_) (fun w => ?_)
    · have : j = 2 * K := by omega
      subst this
      exact k _ _ _ Z
    · have rj := I.1 j w
      have ov := A.2.2.1 (rd j) rj.2
      have ij : vp_in (nI j) 512 := vp_in_nI (by omega) (by omega)
      have irj : vp_in (nI (rd j)) 512 := vp_in_nI (by omega) (by omega)
      -- the second half
      have tail : ∀ (s' : Nat) (cw1 : Nat → Int32), s' ≤ j → og (rd s') = og (rd j) → (s' = 0 ∨ og (rd (s' - 1)) ≠ og (rd s')) →
          ((0 < j ∧ og (rd (j - 1)) = og (rd j) ∧ s' < j ∧ cw1 = upd cw (rd j) (nI (rd (j - 1)))) ∨ (s' = j ∧ cw1 = cw)) →
          wX_linkHalfEdges_64 post (wX_linkHalfEdges_4 post f_size f_maxEdges f_phase f_op f_rule f_stored f_rings f_hotCount f_chainLen f_pieces (nI (2 * K)) f_stackTop f_outEdges f_outRings f_traced n) (nI s') (nI j) (nI (rd j)) f_size f_maxEdges f_phase f_op f_rule f_stored f_rings f_hotCount f_chainLen f_pieces (nI (2 * K)) f_stackTop f_outEdges f_outRings f_traced a_vertX a_vertY a_ringStart a_ringPoly a_dirX a_dirY a_edgePoly a_isHot a_chainId a_chainKey a_pieceKey a_weightA a_weightB a_org a_round a_byEnds cw1 la a_windA a_windB a_reached a_stack a_outDir a_used a_outHalf a_ringFrom := by
        intro s' cw1 q1 q2 q3 q4
        have rs := I.1 s' (by omega)
        have fin : (j + 1 = 2 * K ∨ og (rd (j + 1)) ≠ og (rd j)) → wX_linkHalfEdges_96 post (wX_linkHalfEdges_4 post f_size f_maxEdges f_phase f_op f_rule f_stored f_rings f_hotCount f_chainLen f_pieces (nI (2 * K)) f_stackTop f_outEdges f_outRings f_traced n) (nI s') (nI j) (nI (rd j)) f_size f_maxEdges f_phase f_op f_rule f_stored f_rings f_hotCount f_chainLen f_pieces (nI (2 * K)) f_stackTop f_outEdges f_outRings f_traced a_vertX a_vertY a_ringStart a_ringPoly a_dirX a_dirY a_edgePoly a_isHot a_chainId a_chainKey a_pieceKey a_weightA a_weightB a_org a_round a_byEnds cw1 la a_windA a_windB a_reached a_stack a_outDir a_used a_outHalf a_ringFrom := by
          intro hb
          unfold wX_linkHalfEdges_96
          simp only [nI_clamp (show s' < 2 ^ 31 by omega), nI_clamp (show rd j < 2 ^ 31 by omega), rs.1, nI_clamp (show rd s' < 2 ^ 31 by omega), hO _ rj.2, nI_clamp (show og (rd j) < 2 ^ 31 by omega)]
          refine ⟨vp_in_nI (by omega) (by omega), vp_in_nI (by omega) (by omega), nm_e ⟨irj, vp_in_nI ov (by omega), nm_e (nm_r (nI_1 j) (ih (j + 1) s' _ _ (by omega) (by omega) (by omega) ?_))⟩⟩
          exact zk_step A r Z w ⟨q1, q2, q3⟩ q4 (Or.inl ⟨hb, rfl, rfl⟩)
        unfold wX_linkHalfEdges_64
        rw [nI_1]
        refine zb_eqN (by omega) (by omega) (fun e => fin (Or.inl e)) (fun e => ?_)
        have rj1 := I.1 (j + 1) (by omega)
        have ov1 := A.2.2.1 (rd (j + 1)) rj1.2
        simp only [nI_clamp (show j + 1 < 2 ^ 31 by omega), rj1.1, nI_clamp (show rd (j + 1) < 2 ^ 31 by omega), nI_clamp (show rd j < 2 ^ 31 by omega), hO _ rj1.2, hO _ rj.2]
        refine ⟨vp_in_nI (by omega) (by omega), vp_in_nI (by omega) (by omega), irj, zb_eqN (by omega) (by omega) (fun e' => ?_) (fun e' => fin (Or.inr e'))⟩
        refine nm_e (ih (j + 1) s' _ _ (by omega) (by omega) (by omega) ?_)
        exact zk_step A r Z w ⟨q1, q2, q3⟩ q4 (Or.inr ⟨by omega, rfl, rfl⟩)
      simp only [nI_clamp (show j < 2 ^ 31 by omega), rj.1]
      refine ⟨ij, nm_e ?_⟩
      have fresh : (j = 0 ∨ og (rd (j - 1)) ≠ og (rd j)) → wX_linkHalfEdges_62 post (wX_linkHalfEdges_4 post f_size f_maxEdges f_phase f_op f_rule f_stored f_rings f_hotCount f_chainLen f_pieces (nI (2 * K)) f_stackTop f_outEdges f_outRings f_traced n) (nI j) (nI (rd j)) f_size f_maxEdges f_phase f_op f_rule f_stored f_rings f_hotCount f_chainLen f_pieces (nI (2 * K)) f_stackTop f_outEdges f_outRings f_traced a_vertX a_vertY a_ringStart a_ringPoly a_dirX a_dirY a_edgePoly a_isHot a_chainId a_chainKey a_pieceKey a_weightA a_weightB a_org a_round a_byEnds cw la a_windA a_windB a_reached a_stack a_outDir a_used a_outHalf a_ringFrom := by
        intro q
        unfold wX_linkHalfEdges_62
        exact tail j cw (Nat.le_refl _) rfl q (Or.inr ⟨rfl, rfl⟩)
      match j, w, rj, ov, ij, irj, tail, fresh, Z with
      | 0, w, rj, ov, ij, irj, tail, fresh, Z => exact br_t (by decide) (fresh (Or.inl rfl))
      | j + 1, w, rj, ov, ij, irj, tail, fresh, Z =>
        have rp := I.1 j (by omega)
        have op := A.2.2.1 (rd j) rp.2
        refine br_f (nI_nle (by omega) (by omega)) ?_
        simp only [nI_pred, nI_clamp (show j < 2 ^ 31 by omega), rp.1, nI_clamp (show rd j < 2 ^ 31 by omega), nI_clamp (show rd (j + 1) < 2 ^ 31 by omega), hO _ rp.2, hO _ rj.2]
        refine ⟨vp_in_nI (by omega) (by omega), vp_in_nI (by omega) (by omega), irj, zb_eqN (by omega) (by omega) (fun e => ?_) (fun e => fresh (Or.inr e))⟩
        rcases zk_start r Z w with ⟨z1, z2, z3, z4, z5⟩ | z
        · exact ⟨vp_in_nI (by omega) (by omega), irj, nm_e (tail s _ (by omega) z4 z5 (Or.inl ⟨z1, e, z3, rfl⟩))⟩
        · exfalso
          rcases z with z | z
          · omega
          · exact z e
theorem xk_link {post : SX → Prop} (A : zr_A N K su st sp og) (hO : ∀ h, h < 2 * K → a_org h = nI (og h)) (hH : f_halves = nI (2 * K)) (I : zo_inv (zx_tb og) (2 * K) a_round rd)
    (k : ∀ cw la cwf, (∀ h, h < 2 * K → cw h = nI (cwf h)) → zx_cw og (2 * K) rd cwf → (∀ e, e < 2 * K → (e + 1 = 2 * K ∨ og (rd (e + 1)) ≠ og (rd e)) → la (og (rd e)) = nI (rd e)) → post (f_size, f_maxEdges, f_phase, f_op, f_rule, f_stored, f_rings, f_hotCount, f_chainLen, f_pieces, f_halves, f_stackTop, f_outEdges, f_outRings, f_traced, a_vertX, a_vertY, a_ringStart, a_ringPoly, a_dirX, a_dirY, a_edgePoly, a_isHot, a_chainId, a_chainKey, a_pieceKey, a_weightA, a_weightB, a_org, a_round, a_byEnds, cw, la, a_windA, a_windB, a_reached, a_stack, a_outDir, a_used, a_outHalf, a_ringFrom)) : wpX_linkHalfEdges post (f_size, f_maxEdges, f_phase, f_op, f_rule, f_stored, f_rings, f_hotCount, f_chainLen, f_pieces, f_halves, f_stackTop, f_outEdges, f_outRings, f_traced, a_vertX, a_vertY, a_ringStart, a_ringPoly, a_dirX, a_dirY, a_edgePoly, a_isHot, a_chainId, a_chainKey, a_pieceKey, a_weightA, a_weightB, a_org, a_round, a_byEnds, a_cw, a_lastAt, a_windA, a_windB, a_reached, a_stack, a_outDir, a_used, a_outHalf, a_ringFrom) := by
  unfold wpX_linkHalfEdges
  refine ⟨2 * K + 1, xk_4 A hO hH I (fun s cw la Z => ?_) (2 * K + 1) 0 0 _ _ (by omega) (by omega) (by omega) ⟨Or.inl rfl, fun i hi => absurd hi (by omega), fun e he => absurd he (by omega)⟩⟩
  obtain ⟨cwf, a, b, c⟩ := zk_done A (zk_rd I) Z
  exact k cw la cwf a b c
theorem xb_89 {post : Int32 → SX → Prop} (A : zr_A N K su st sp og) (r : zx_rd og (2 * K) rd) (c : zx_cw og (2 * K) rd cwf) (hO : ∀ h, h < 2 * K → a_org h = nI (og h)) (hcw : ∀ h, h < 2 * K → a_cw h = nI (cwf h))
    (hwA : ∀ p, p < K → a_weightA p = zi (zv_w N su st sp 0 (og (2 * p)) (og (2 * p + 1)))) (hwB : ∀ p, p < K → a_weightB p = zi (zv_w N su st sp 1 (og (2 * p)) (og (2 * p + 1)))) (hH : f_halves = nI (2 * K)) (hP : f_pieces = nI K)
    (hL : ∀ e, e < 2 * K → (e + 1 = 2 * K ∨ og (rd (e + 1)) ≠ og (rd e)) → a_lastAt (og (rd e)) = nI (rd e))
    (k : ∀ rc wa wb stk T, (∀ h, h < 2 * K → wa h = zi (zv_L N su st sp 0 (og h) (og (zt h))) ∧ wb h = zi (zv_L N su st sp 1 (og h) (og (zt h)))) → post (nI K) (f_size, f_maxEdges, 1, f_op, f_rule, f_stored, f_rings, f_hotCount, f_chainLen, f_pieces, f_halves, T, f_outEdges, f_outRings, f_traced, a_vertX, a_vertY, a_ringStart, a_ringPoly, a_dirX, a_dirY, a_edgePoly, a_isHot, a_chainId, a_chainKey, a_pieceKey, a_weightA, a_weightB, a_org, a_round, a_byEnds, a_cw, a_lastAt, wa, wb, rc, stk, a_outDir, a_used, a_outHalf, a_ringFrom)) :
    ∀ (n p : Nat) (T : Int32) (rc wa wb stk : Nat → Int32), K - p < n → p ≤ K → zf_cl N K su st sp og cwf rc wa wb → (∀ q, q < p → rc (2 * q) = 1) → wX_build_89 post n (nI p) f_size f_maxEdges f_phase f_op f_rule f_stored f_rings f_hotCount f_chainLen f_pieces f_halves T f_outEdges f_outRings f_traced a_vertX a_vertY a_ringStart a_ringPoly a_dirX a_dirY a_edgePoly a_isHot a_chainId a_chainKey a_pieceKey a_weightA a_weightB a_org a_round a_byEnds a_cw a_lastAt wa wb rc stk a_outDir a_used a_outHalf a_ringFrom
  | 0, p, T, rc, wa, wb, stk, h, _, _, _ => by omega
  | n + 1, p, T, rc, wa, wb, stk, h, hp, I, R => by
    have hK : K ≤ 256 := A.2.2.2.2.2.2.2
    have ih := xb_89 (post := post) A r c hO hcw hwA hwB hH hP hL k n
    subst hP
    unfold wX_build_89
    refine zb_leN (by omega) (by omega) (fun w => ?_) (fun w => ?_)
    · have e : p = K := by omega
      subst e
      refine k _ _ _ _ _ (fun h hh => I.2.1 h hh ?_)
      rcases za_ec h with ⟨q, e1, e2⟩ | ⟨q, e1, e2⟩
      · rw [e1]; exact R q (by omega)
      · have := (I.2.2 (2 * q) (by omega) (R q (by omega))).2
        rw [zt_e] at this
        rw [e1]; exact this
    · have m1 : (2 : Int32) * nI p = nI (2 * p) := by rw [show (2 : Int32) = nI 2 from rfl, zb_mul]
      simp only [m1, nI_clamp (show 2 * p < 2 ^ 31 by omega), hO (2 * p) (by omega)]
      have i1 : vp_in (nI (2 * p)) 512 := vp_in_nI (by omega) (by omega)
      refine ⟨i1, br_c (fun z => ⟨i1, ?_⟩) (fun z => nm_r (nI_1 p) (ih (p + 1) T rc wa wb stk (by omega) (by omega) I (fun q hq => ?_)))⟩
      · refine xf_comp A r c hO hcw hwA hwB hH rfl hL I w R z (fun rc' wa' wb' stk' T' I' M q => ?_)
        refine nm_r (nI_1 p) (ih (p + 1) _ _ _ _ _ (by omega) (by omega) I' (fun q' hq' => ?_))
        by_cases e : q' = p
        · subst e; exact q
        · exact M _ (by omega) (R q' (by omega))
      · by_cases e : q = p
        · subst e
          rcases I.1 (2 * q) (by omega) with x | x
          · exact absurd x z
          · exact x
        · exact R q (by omega)
end
end
section
/-! pieces: X's table of keys and weights -/
def zq_k (u t : Nat) : Nat := if u < t then 100 * u + t else 100 * t + u
/-- the table holds the first s steps -/
def zq_rep (s : Nat) (su st sp : Nat → Nat) (K : Nat) (key : Nat → Nat) (pk wA wB : Nat → Int32) : Prop :=
  (∀ p, p < K → pk p = nI (key p) ∧ key p / 100 < key p % 100 ∧ key p < 10000) ∧ (∀ p q, p < q → q < K → key p < key q) ∧
  (∀ i, i < s → ∃ p, p < K ∧ key p = zq_k (su i) (st i)) ∧ (∀ p, p < K → ∃ i, i < s ∧ key p = zq_k (su i) (st i)) ∧
  (∀ p, p < K → wA p = zi (zv_w s su st sp 0 (key p / 100) (key p % 100)) ∧ wB p = zi (zv_w s su st sp 1 (key p / 100) (key p % 100))) ∧ K ≤ s
/-- what one more step adds -/
def zq_d (u t a b : Nat) : Int := (if u = a ∧ t = b then 1 else 0) - (if u = b ∧ t = a then 1 else 0)
theorem zq_ws (s : Nat) (su st sp : Nat → Nat) (p a b : Nat) : zv_w (s + 1) su st sp p a b = zv_w s su st sp p a b + (if sp s = p then zq_d (su s) (st s) a b else 0) := rfl
theorem zq_kd {u t : Nat} (hu : u < 100) (ht : t < 100) (hne : u ≠ t) : zq_k u t / 100 < zq_k u t % 100 ∧ zq_k u t < 10000 ∧ zq_d u t (zq_k u t / 100) (zq_k u t % 100) = if u < t then 1 else -1 := by
  unfold zq_k zq_d
  by_cases h : u < t
  · rw [if_pos h, if_pos h, show (100 * u + t) / 100 = u by omega, show (100 * u + t) % 100 = t by omega, if_pos ⟨rfl, rfl⟩, if_neg (by omega)]
    exact ⟨h, by omega, rfl⟩
  · rw [if_neg h, if_neg h, show (100 * t + u) / 100 = t by omega, show (100 * t + u) % 100 = u by omega, if_neg (by omega), if_pos ⟨rfl, rfl⟩]
    exact ⟨by omega, by omega, rfl⟩
theorem zq_dn {u t key : Nat} (hu : u < 100) (ht : t < 100) (hk : key / 100 < key % 100) (hne : key ≠ zq_k u t) : zq_d u t (key / 100) (key % 100) = 0 := by
  unfold zq_d zq_k at *
  rw [if_neg, if_neg]
  · rfl
  · rintro ⟨a, b⟩
    apply hne
    rw [if_neg (by omega)]; omega
  · rintro ⟨a, b⟩
    apply hne
    rw [if_pos (by omega)]; omega
theorem zq_w0 {s : Nat} {su st sp : Nat → Nat} {p key : Nat} (hb : ∀ i, i < s → su i < 100 ∧ st i < 100) (hk : key / 100 < key % 100) (h : ∀ i, i < s → key ≠ zq_k (su i) (st i)) : zv_w s su st sp p (key / 100) (key % 100) = 0 := by
  unfold zv_w
  refine zs_0 (fun i hi _ => ?_)
  exact zq_dn (hb i hi).1 (hb i hi).2 hk (h i hi)
section
variable {f_size f_maxEdges f_phase f_op f_rule f_stored f_rings f_hotCount f_chainLen f_pieces f_halves f_stackTop f_outEdges f_outRings f_traced : Int32} {a_vertX a_vertY a_ringStart a_ringPoly a_dirX a_dirY a_edgePoly a_isHot a_chainId a_chainKey a_pieceKey a_weightA a_weightB a_org a_round a_byEnds a_cw a_lastAt a_windA a_windB a_reached a_stack a_outDir a_used a_outHalf a_ringFrom : Nat → Int32}
variable {s K : Nat} {su st sp key : Nat → Nat}
theorem xq_5 {post : SX → Prop} {pk0 wA0 wB0 : Nat → Int32} (hP : f_pieces = nI K) (hK : K < 256) {p : Nat} (hp : p ≤ K) (ky : Int32)
    (k : ∀ pk wA wB, (∀ i, i < p → pk i = pk0 i ∧ wA i = wA0 i ∧ wB i = wB0 i) → (pk p = ky ∧ wA p = 0 ∧ wB p = 0) → (∀ i, p < i → i ≤ K → pk i = pk0 (i - 1) ∧ wA i = wA0 (i - 1) ∧ wB i = wB0 (i - 1)) →
      post (f_size, f_maxEdges, f_phase, f_op, f_rule, f_stored, f_rings, f_hotCount, f_chainLen, nI (K + 1), f_halves, f_stackTop, f_outEdges, f_outRings, f_traced, a_vertX, a_vertY, a_ringStart, a_ringPoly, a_dirX, a_dirY, a_edgePoly, a_isHot, a_chainId, a_chainKey, pk, wA, wB, a_org, a_round, a_byEnds, a_cw, a_lastAt, a_windA, a_windB, a_reached, a_stack, a_outDir, a_used, a_outHalf, a_ringFrom)) :
    ∀ (d : Nat) (pk wA wB : Nat → Int32), p + d ≤ K → (∀ i, i < p + d → pk i = pk0 i ∧ wA i = wA0 i ∧ wB i = wB0 i) → (∀ i, p + d < i → i ≤ K → pk i = pk0 (i - 1) ∧ wA i = wA0 (i - 1) ∧ wB i = wB0 (i - 1)) →
      wX_insertPiece_5 post (nI p) ky f_size f_maxEdges f_phase f_op f_rule f_stored f_rings f_hotCount f_chainLen f_pieces f_halves f_stackTop f_outEdges f_outRings f_traced (d + 1) (nI (p + d)) a_vertX a_vertY a_ringStart a_ringPoly a_dirX a_dirY a_edgePoly a_isHot a_chainId a_chainKey pk wA wB a_org a_round a_byEnds a_cw a_lastAt a_windA a_windB a_reached a_stack a_outDir a_used a_outHalf a_ringFrom
  | 0, pk, wA, wB, hd, h1, h2 => by
    subst hP
    unfold wX_insertPiece_5
    rw [Nat.add_zero] at *
    refine br_t (nI_le (Nat.le_refl _) (by omega)) ?_
    simp only [nI_clamp (show p < 2 ^ 31 by omega)]
    have i1 : vp_in (nI p) 256 := vp_in_nI (by omega) (by omega)
    refine ⟨i1, nm_e ⟨i1, nm_e ⟨i1, nm_e (nm_r (nI_1 K) (k _ _ _ (fun i hi => ?_) ⟨zu_s, zu_s, zu_s⟩ (fun i hi hi' => ?_)))⟩⟩⟩
    · rw [zu_n (by omega), zu_n (by omega), zu_n (by omega)]; exact h1 i hi
    · rw [zu_n (by omega), zu_n (by omega), zu_n (by omega)]; exact h2 i hi hi'
  | d + 1, pk, wA, wB, hd, h1, h2 => by
    have ih := xq_5 (post := post) hP hK hp ky k d
    unfold wX_insertPiece_5
    refine br_f (nI_ge (by omega) (by omega)) ?_
    rw [← Nat.add_assoc] at *
    have h1' := h1 (p + d) (by omega)
    simp only [nI_pred, nI_clamp (show p + d < 2 ^ 31 by omega), nI_clamp (show p + d + 1 < 2 ^ 31 by omega)]
    have i1 : vp_in (nI (p + d)) 256 := vp_in_nI (by omega) (by omega)
    have i2 : vp_in (nI (p + d + 1)) 256 := vp_in_nI (by omega) (by omega)
    refine ⟨i1, i2, nm_e ⟨i1, i2, nm_e ⟨i1, i2, nm_e (nm_r (zb_m1 (p + d)) (ih _ _ _ (by omega) (fun i hi => ?_) (fun i hi hi' => ?_)))⟩⟩⟩
    · rw [zu_n (by omega), zu_n (by omega), zu_n (by omega)]; exact h1 i (by omega)
    · by_cases e : i = p + d + 1
      · subst e
        rw [zu_s, zu_s, zu_s]; exact h1'
      · rw [zu_n e, zu_n e, zu_n e]; exact h2 i (by omega) hi'
theorem xq_ins {post : SX → Prop} (hP : f_pieces = nI K) (hK : K < 256) {p : Nat} (hp : p ≤ K) (ky : Int32)
    (k : ∀ pk wA wB, (∀ i, i < p → pk i = a_pieceKey i ∧ wA i = a_weightA i ∧ wB i = a_weightB i) → (pk p = ky ∧ wA p = 0 ∧ wB p = 0) → (∀ i, p < i → i ≤ K → pk i = a_pieceKey (i - 1) ∧ wA i = a_weightA (i - 1) ∧ wB i = a_weightB (i - 1)) →
      post (f_size, f_maxEdges, f_phase, f_op, f_rule, f_stored, f_rings, f_hotCount, f_chainLen, nI (K + 1), f_halves, f_stackTop, f_outEdges, f_outRings, f_traced, a_vertX, a_vertY, a_ringStart, a_ringPoly, a_dirX, a_dirY, a_edgePoly, a_isHot, a_chainId, a_chainKey, pk, wA, wB, a_org, a_round, a_byEnds, a_cw, a_lastAt, a_windA, a_windB, a_reached, a_stack, a_outDir, a_used, a_outHalf, a_ringFrom)) : wpX_insertPiece post (f_size, f_maxEdges, f_phase, f_op, f_rule, f_stored, f_rings, f_hotCount, f_chainLen, f_pieces, f_halves, f_stackTop, f_outEdges, f_outRings, f_traced, a_vertX, a_vertY, a_ringStart, a_ringPoly, a_dirX, a_dirY, a_edgePoly, a_isHot, a_chainId, a_chainKey, a_pieceKey, a_weightA, a_weightB, a_org, a_round, a_byEnds, a_cw, a_lastAt, a_windA, a_windB, a_reached, a_stack, a_outDir, a_used, a_outHalf, a_ringFrom) (nI p) ky := by
  have h := xq_5 (post := post) (pk0 := a_pieceKey) (wA0 := a_weightA) (wB0 := a_weightB) hP hK hp ky k (K - p) a_pieceKey a_weightA a_weightB (by omega) (fun i hi => ⟨rfl, rfl, rfl⟩) (fun i hi hi' => by omega)
  rw [show p + (K - p) = K by omega] at h
  unfold wpX_insertPiece
  rw [hP] at h ⊢
  exact ⟨K - p + 1, h⟩
/-- the weight of the key is raised at place p -/
theorem xq_93 {post : SX → Prop} (hb : ∀ i, i < s + 1 → su i < 100 ∧ st i < 100 ∧ su i ≠ st i) (hK : K ≤ 256) {p : Nat} (hp : p < K) (hsp : sp s < 2)
    (r1 : ∀ p, p < K → a_pieceKey p = nI (key p) ∧ key p / 100 < key p % 100 ∧ key p < 10000) (r2 : ∀ p q, p < q → q < K → key p < key q)
    (r3 : ∀ i, i < s + 1 → ∃ p, p < K ∧ key p = zq_k (su i) (st i)) (r4 : ∀ p, p < K → ∃ i, i < s + 1 ∧ key p = zq_k (su i) (st i)) (r6 : K ≤ s + 1)
    (r5 : ∀ p, p < K → a_weightA p = zi (zv_w s su st sp 0 (key p / 100) (key p % 100)) ∧ a_weightB p = zi (zv_w s su st sp 1 (key p / 100) (key p % 100)))
    (hk : key p = zq_k (su s) (st s)) (k : ∀ wA wB, zq_rep (s + 1) su st sp K key a_pieceKey wA wB → post (f_size, f_maxEdges, f_phase, f_op, f_rule, f_stored, f_rings, f_hotCount, f_chainLen, f_pieces, f_halves, f_stackTop, f_outEdges, f_outRings, f_traced, a_vertX, a_vertY, a_ringStart, a_ringPoly, a_dirX, a_dirY, a_edgePoly, a_isHot, a_chainId, a_chainKey, a_pieceKey, wA, wB, a_org, a_round, a_byEnds, a_cw, a_lastAt, a_windA, a_windB, a_reached, a_stack, a_outDir, a_used, a_outHalf, a_ringFrom)) :
    wX_addStep_93 post (nI (sp s)) (if su s < st s then 1 else -1) (nI p) f_size f_maxEdges f_phase f_op f_rule f_stored f_rings f_hotCount f_chainLen f_pieces f_halves f_stackTop f_outEdges f_outRings f_traced a_vertX a_vertY a_ringStart a_ringPoly a_dirX a_dirY a_edgePoly a_isHot a_chainId a_chainKey a_pieceKey a_weightA a_weightB a_org a_round a_byEnds a_cw a_lastAt a_windA a_windB a_reached a_stack a_outDir a_used a_outHalf a_ringFrom := by
  have hbs := hb s (by omega)
  have kd := zq_kd hbs.1 hbs.2.1 hbs.2.2
  have i1 : vp_in (nI p) 256 := vp_in_nI (by omega) (by omega)
  have sg : (if su s < st s then (1 : Int32) else -1) = zi (if su s < st s then 1 else -1) := by split <;> rfl
  have oth : ∀ q, q < K → q ≠ p → zq_d (su s) (st s) (key q / 100) (key q % 100) = 0 := by
    intro q hq hne
    refine zq_dn hbs.1 hbs.2.1 (r1 q hq).2.1 ?_
    rw [← hk]
    rcases Nat.lt_or_ge q p with w | w
    · have := r2 q p w hp; omega
    · have := r2 p q (by omega) hq; omega
  unfold wX_addStep_93
  simp only [nI_clamp (show p < 2 ^ 31 by omega), (r5 p hp).1, (r5 p hp).2, sg, zi_add]
  refine zb_eqN (b := 0) (by omega) (by omega) (fun z => ⟨i1, i1, nm_e (k _ _ ⟨r1, r2, r3, r4, fun q hq => ?_, r6⟩)⟩) (fun z => ⟨i1, i1, nm_e (k _ _ ⟨r1, r2, r3, r4, fun q hq => ?_, r6⟩)⟩)
  · rw [zq_ws, zq_ws, if_pos z, if_neg (show ¬ sp s = 1 by omega), Int.add_zero]
    by_cases e : q = p
    · subst e
      rw [zu_s]
      refine ⟨?_, (r5 q hq).2⟩
      congr 1
      rw [hk] at *
      rw [kd.2.2]
    · rw [zu_n e, oth q hq e, Int.add_zero]; exact r5 q hq
  · have z1 : sp s = 1 := by omega
    rw [zq_ws, zq_ws, if_neg (show ¬ sp s = 0 by omega), if_pos z1, Int.add_zero]
    by_cases e : q = p
    · subst e
      rw [zu_s]
      refine ⟨(r5 q hq).1, ?_⟩
      congr 1
      rw [hk] at *
      rw [kd.2.2]
    · rw [zu_n e, oth q hq e, Int.add_zero]; exact r5 q hq
theorem xq_37 {post : SX → Prop} (R : zq_rep s su st sp K key a_pieceKey a_weightA a_weightB) (hP : f_pieces = nI K) (hs : s < 256) (hb : ∀ i, i < s + 1 → su i < 100 ∧ st i < 100 ∧ su i ≠ st i) (hsp : sp s < 2)
    (k : ∀ K' key' pk wA wB, zq_rep (s + 1) su st sp K' key' pk wA wB → post (f_size, f_maxEdges, f_phase, f_op, f_rule, f_stored, f_rings, f_hotCount, f_chainLen, nI K', f_halves, f_stackTop, f_outEdges, f_outRings, f_traced, a_vertX, a_vertY, a_ringStart, a_ringPoly, a_dirX, a_dirY, a_edgePoly, a_isHot, a_chainId, a_chainKey, pk, wA, wB, a_org, a_round, a_byEnds, a_cw, a_lastAt, a_windA, a_windB, a_reached, a_stack, a_outDir, a_used, a_outHalf, a_ringFrom)) :
    ∀ (n p : Nat), K - p < n → p ≤ K → (∀ q, q < p → key q < zq_k (su s) (st s)) → wX_addStep_37 post (nI (sp s)) (nI (zq_k (su s) (st s))) (if su s < st s then 1 else -1) f_size f_maxEdges f_phase f_op f_rule f_stored f_rings f_hotCount f_chainLen f_pieces f_halves f_stackTop f_outEdges f_outRings f_traced a_vertX a_vertY a_ringStart a_ringPoly a_dirX a_dirY a_edgePoly a_isHot a_chainId a_chainKey a_pieceKey a_weightA a_weightB a_org a_round a_byEnds a_cw a_lastAt a_windA a_windB a_reached a_stack a_outDir a_used a_outHalf a_ringFrom n (nI p)
  | 0, p, h, _, _ => by omega
  | n + 1, p, h, hp, lo => by
    have ih := xq_37 (post := post) R hP hs hb hsp k n
    have R' := R
    obtain ⟨r1, r2, r3, r4, r5, r6⟩ := R
    have hbs := hb s (by omega)
    have kd := zq_kd hbs.1 hbs.2.1 hbs.2.2
    subst hP
    -- the search has ended at p
    have fin : (p = K ∨ (p < K ∧ zq_k (su s) (st s) ≤ key p)) → wX_addStep_64 post (nI (sp s)) (nI (zq_k (su s) (st s))) (if su s < st s then 1 else -1) (nI p) f_size f_maxEdges f_phase f_op f_rule f_stored f_rings f_hotCount f_chainLen (nI K) f_halves f_stackTop f_outEdges f_outRings f_traced a_vertX a_vertY a_ringStart a_ringPoly a_dirX a_dirY a_edgePoly a_isHot a_chainId a_chainKey a_pieceKey a_weightA a_weightB a_org a_round a_byEnds a_cw a_lastAt a_windA a_windB a_reached a_stack a_outDir a_used a_outHalf a_ringFrom := by
      intro hx
      have put : (p = K ∨ key p ≠ zq_k (su s) (st s)) → wX_addStep_85 post (nI (sp s)) (nI (zq_k (su s) (st s))) (if su s < st s then 1 else -1) (nI p) f_size f_maxEdges f_phase f_op f_rule f_stored f_rings f_hotCount f_chainLen (nI K) f_halves f_stackTop f_outEdges f_outRings f_traced a_vertX a_vertY a_ringStart a_ringPoly a_dirX a_dirY a_edgePoly a_isHot a_chainId a_chainKey a_pieceKey a_weightA a_weightB a_org a_round a_byEnds a_cw a_lastAt a_windA a_windB a_reached a_stack a_outDir a_used a_outHalf a_ringFrom := by
        intro hne
        have hi : ∀ q, p ≤ q → q < K → zq_k (su s) (st s) < key q := by
          intro q h1 h2
          rcases hx with w | w
          · omega
          · rcases hne with v | v
            · omega
            · rcases Nat.lt_or_ge p q with u | u
              · have := r2 p q u h2; omega
              · have : q = p := by omega
                subst this; omega
        have fresh : ∀ i, i < s → zq_k (su s) (st s) ≠ zq_k (su i) (st i) := by
          intro i hi' e
          obtain ⟨q, hq, eq⟩ := r3 i hi'
          rcases Nat.lt_or_ge q p with w | w
          · have := lo q w; omega
          · have := hi q w hq; omega
        unfold wX_addStep_85
        refine xq_ins rfl (by omega) hp _ (fun pk wA wB q1 q2 q3 => ?_)
        have kk : ∀ q, q < K + 1 → (q < p ∧ q < K) ∨ q = p ∨ (p < q ∧ q - 1 < K ∧ p ≤ q - 1) := by intro q hq; omega
        refine xq_93 (key := fun q => if q < p then key q else if q = p then zq_k (su s) (st s) else key (q - 1)) (K := K + 1) hb (by omega) (p := p) (by omega) hsp (fun q hq => ?_) (fun a b hab hb' => ?_) (fun i hi' => ?_) (fun q hq => ?_) (by omega) (fun q hq => ?_) (by (try dsimp only); rw [if_neg (by omega), if_pos rfl]) (fun wA' wB' R2 => k _ _ _ _ _ R2)
        · (try dsimp only)
          rcases kk q hq with w | w | w
          · rw [if_pos w.1, (q1 q w.1).1]; exact r1 q w.2
          · rw [if_neg (by omega), if_pos w, w, q2.1]; exact ⟨rfl, kd.1, kd.2.1⟩
          · rw [if_neg (by omega), if_neg (by omega), (q3 q w.1 (by omega)).1]; exact r1 _ w.2.1
        · (try dsimp only)
          rcases kk a (by omega) with w | w | w
          · rw [if_pos w.1]
            rcases kk b hb' with v | v | v
            · rw [if_pos v.1]; exact r2 a b hab v.2
            · rw [if_neg (by omega), if_pos v]; exact lo a w.1
            · rw [if_neg (by omega), if_neg (by omega)]; exact r2 a (b - 1) (by omega) v.2.1
          · rw [if_neg (by omega), if_pos w, if_neg (by omega), if_neg (by omega)]
            exact hi (b - 1) (by omega) (by omega)
          · rw [if_neg (by omega), if_neg (by omega), if_neg (by omega), if_neg (by omega)]
            exact r2 (a - 1) (b - 1) (by omega) (by omega)
        · by_cases e : i = s
          · exact ⟨p, by omega, by (try dsimp only); rw [if_neg (by omega), if_pos rfl, e]⟩
          · obtain ⟨q, hq, eq⟩ := r3 i (by omega)
            rcases Nat.lt_or_ge q p with w | w
            · exact ⟨q, by omega, by (try dsimp only); rw [if_pos w]; exact eq⟩
            · exact ⟨q + 1, by omega, by (try dsimp only); rw [if_neg (by omega), if_neg (by omega), Nat.add_sub_cancel]; exact eq⟩
        · (try dsimp only)
          rcases kk q hq with w | w | w
          · rw [if_pos w.1]
            obtain ⟨i, hi', e⟩ := r4 q w.2
            exact ⟨i, by omega, e⟩
          · rw [if_neg (by omega), if_pos w]; exact ⟨s, by omega, rfl⟩
          · rw [if_neg (by omega), if_neg (by omega)]
            obtain ⟨i, hi', e⟩ := r4 _ w.2.1
            exact ⟨i, by omega, e⟩
        · (try dsimp only)
          rcases kk q hq with w | w | w
          · rw [if_pos w.1, (q1 q w.1).2.1, (q1 q w.1).2.2]; exact r5 q w.2
          · rw [if_neg (by omega), if_pos w, w, q2.2.1, q2.2.2]
            have z := fun pp => zq_w0 (sp := sp) (p := pp) (fun i hi' => ⟨(hb i (by omega)).1, (hb i (by omega)).2.1⟩) kd.1 fresh
            rw [z 0, z 1]; exact ⟨rfl, rfl⟩
          · rw [if_neg (by omega), if_neg (by omega), (q3 q w.1 (by omega)).2.1, (q3 q w.1 (by omega)).2.2]; exact r5 _ w.2.1
      unfold wX_addStep_64
      refine zb_eqN (by omega) (by omega) (fun e => put (Or.inl e)) (fun e => ?_)
      have hpK : p < K := by omega
      simp only [nI_clamp (show p < 2 ^ 31 by omega), (r1 p hpK).1]
      have := (r1 p hpK).2.2
      refine ⟨vp_in_nI (by omega) (by omega), zb_eqN (by omega) (by omega) (fun e' => ?_) (fun e' => put (Or.inr e'))⟩
      refine xq_93 (key := key) (K := K) hb (by omega) hpK hsp r1 r2 (fun i hi' => ?_) (fun q hq => ?_) (by omega) r5 e' (fun wA' wB' R2 => k _ _ _ _ _ R2)
      · by_cases ei : i = s
        · exact ⟨p, hpK, by rw [ei]; exact e'⟩
        · exact r3 i (by omega)
      · obtain ⟨i, hi', e⟩ := r4 q hq
        exact ⟨i, by omega, e⟩
    unfold wX_addStep_37
    refine zb_leN (by omega) (by omega) (fun w => fin (Or.inl (by omega))) (fun w => ?_)
    simp only [nI_clamp (show p < 2 ^ 31 by omega), (r1 p w).1]
    have := (r1 p w).2.2
    refine ⟨vp_in_nI (by omega) (by omega), zb_leN (by omega) (by omega) (fun w2 => fin (Or.inr ⟨w, w2⟩)) (fun w2 => nm_r (nI_1 p) (ih (p + 1) (by omega) (by omega) (fun q hq => ?_)))⟩
    by_cases e : q = p
    · subst e; exact w2
    · exact lo q (by omega)
theorem xq_step {post : SX → Prop} (R : zq_rep s su st sp K key a_pieceKey a_weightA a_weightB) (hP : f_pieces = nI K) (hs : s < 256) (hb : ∀ i, i < s + 1 → su i < 100 ∧ st i < 100 ∧ su i ≠ st i) (hsp : sp s < 2)
    (k : ∀ K' key' pk wA wB, zq_rep (s + 1) su st sp K' key' pk wA wB → post (f_size, f_maxEdges, f_phase, f_op, f_rule, f_stored, f_rings, f_hotCount, f_chainLen, nI K', f_halves, f_stackTop, f_outEdges, f_outRings, f_traced, a_vertX, a_vertY, a_ringStart, a_ringPoly, a_dirX, a_dirY, a_edgePoly, a_isHot, a_chainId, a_chainKey, pk, wA, wB, a_org, a_round, a_byEnds, a_cw, a_lastAt, a_windA, a_windB, a_reached, a_stack, a_outDir, a_used, a_outHalf, a_ringFrom)) : wpX_addStep post (f_size, f_maxEdges, f_phase, f_op, f_rule, f_stored, f_rings, f_hotCount, f_chainLen, f_pieces, f_halves, f_stackTop, f_outEdges, f_outRings, f_traced, a_vertX, a_vertY, a_ringStart, a_ringPoly, a_dirX, a_dirY, a_edgePoly, a_isHot, a_chainId, a_chainKey, a_pieceKey, a_weightA, a_weightB, a_org, a_round, a_byEnds, a_cw, a_lastAt, a_windA, a_windB, a_reached, a_stack, a_outDir, a_used, a_outHalf, a_ringFrom) (nI (su s)) (nI (st s)) (nI (sp s)) := by
  have hbs := hb s (by omega)
  have go := xq_37 (post := post) R hP hs hb hsp k (K + 1) 0 (by omega) (by omega) (fun q hq => absurd hq (by omega))
  unfold wpX_addStep
  rw [show (100 : Int32) = nI 100 from rfl]
  simp only [zb_mul, nI_add]
  refine zb_leN (by omega) (by omega) (fun w => ?_) (fun w => ?_)
  · unfold wX_addStep_20
    refine br_t (nI_le w (by omega)) ⟨K + 1, ?_⟩
    have e : zq_k (su s) (st s) = 100 * st s + su s := by unfold zq_k; rw [if_neg (by omega)]
    rw [e, if_neg (show ¬ su s < st s by omega)] at go
    exact go
  · unfold wX_addStep_20
    refine br_f (nI_ge w (by omega)) ⟨K + 1, ?_⟩
    have e : zq_k (su s) (st s) = 100 * su s + st s := by unfold zq_k; rw [if_pos w]
    rw [e, if_pos w] at go
    exact go
/-- the steps of one chain -/
theorem xq_chain2 {post : SX → Prop} {s0 m : Nat} {l : Nat → Nat} (hb : ∀ i, i < s0 + m → su i < 100 ∧ st i < 100 ∧ su i ≠ st i) (hsp : ∀ i, i < m → sp (s0 + i) = sp s0 ∧ sp (s0 + i) < 2)
    (hl : ∀ i, i < m → su (s0 + i) = l i ∧ st (s0 + i) = l (i + 1)) (hc : ∀ i, i < m + 1 → a_chainId i = nI (l i)) (hL : f_chainLen = nI (m + 1)) (hm : s0 + m ≤ 256) (hm2 : m < 100) (pl : Int32) (hpl : 0 < m → pl = nI (sp s0))
    (k : ∀ K' key' pk wA wB, zq_rep (s0 + m) su st sp K' key' pk wA wB → post (f_size, f_maxEdges, f_phase, f_op, f_rule, f_stored, f_rings, f_hotCount, f_chainLen, nI K', f_halves, f_stackTop, f_outEdges, f_outRings, f_traced, a_vertX, a_vertY, a_ringStart, a_ringPoly, a_dirX, a_dirY, a_edgePoly, a_isHot, a_chainId, a_chainKey, pk, wA, wB, a_org, a_round, a_byEnds, a_cw, a_lastAt, a_windA, a_windB, a_reached, a_stack, a_outDir, a_used, a_outHalf, a_ringFrom)) :
    ∀ (n j K : Nat) (key : Nat → Nat) (pk wA wB : Nat → Int32), m - j < n → j ≤ m → zq_rep (s0 + j) su st sp K key pk wA wB → wX_addChain_2 post pl n (nI (j + 1)) f_size f_maxEdges f_phase f_op f_rule f_stored f_rings f_hotCount f_chainLen (nI K) f_halves f_stackTop f_outEdges f_outRings f_traced a_vertX a_vertY a_ringStart a_ringPoly a_dirX a_dirY a_edgePoly a_isHot a_chainId a_chainKey pk wA wB a_org a_round a_byEnds a_cw a_lastAt a_windA a_windB a_reached a_stack a_outDir a_used a_outHalf a_ringFrom
  | 0, j, K, key, pk, wA, wB, h, _, _ => by omega
  | n + 1, j, K, key, pk, wA, wB, h, hj, R => by
    have ih := xq_chain2 (post := post) hb hsp hl hc hL hm hm2 pl hpl k n
    subst hL
    unfold wX_addChain_2
    refine zb_leN (by omega) (by omega) (fun w => ?_) (fun w => ?_)
    · have : j = m := by omega
      subst this
      exact k _ _ _ _ _ R
    · have hjm : j < m := by omega
      simp only [nI_pred, nI_clamp (show j < 2 ^ 31 by omega), nI_clamp (show j + 1 < 2 ^ 31 by omega), hc j (by omega), hc (j + 1) (by omega)]
      rw [← (hl j hjm).1, ← (hl j hjm).2, hpl (by omega), ← (hsp j hjm).1]
      refine ⟨vp_in_nI (by omega) (by omega), vp_in_nI (by omega) (by omega), xq_step R rfl (by omega) (fun i hi => hb i (by omega)) (hsp j hjm).2 (fun K' key' pk' wA' wB' R' => ?_)⟩
      refine nm_r (nI_1 (j + 1)) ?_
      have q := ih (j + 1) K' key' pk' wA' wB' (by omega) (by omega) R'
      rw [hpl (by omega), ← (hsp j hjm).1] at q
      exact q
end
end
section
/-! chains: the hot pixels along an edge. The edge begins at (a1, a2) and runs by (d1, d2) -/
def ze_s (d : Int) : Int := if 0 < d then 1 else if d < 0 then -1 else 0
/-- progress along the edge -/
def ze_g (d1 d2 : Int) (c : Nat) : Int := ze_s d1 * zc_x c + ze_s d2 * zc_y c
theorem ze_m1 {a d x x' k k' : Int} (h : 10080 * x - 5040 ≤ 10080 * a + k * d ∧ 10080 * a + k * d < 10080 * x + 5040) (h' : 10080 * x' - 5040 ≤ 10080 * a + k' * d ∧ 10080 * a + k' * d < 10080 * x' + 5040) (hk : k ≤ k') :
    ze_s d * x ≤ ze_s d * x' ∧ (ze_s d * x = ze_s d * x' → x = x') := by
  unfold ze_s
  rcases zg_sg d with z | z | z
  · rw [if_pos z]
    have := Int.mul_le_mul_of_nonneg_right hk (Int.le_of_lt z)
    omega
  · rw [if_neg (by omega), if_neg (by omega)]
    rw [z, Int.mul_zero] at h h'
    omega
  · rw [if_neg (by omega), if_pos z]
    have := Int.mul_le_mul_of_nonpos_right hk (Int.le_of_lt z)
    omega
/-- later samples lie further on -/
theorem ze_mono {a1 a2 d1 d2 k k' : Int} {c c' : Nat} (h : zp_px c (10080 * a1 + k * d1) (10080 * a2 + k * d2)) (h' : zp_px c' (10080 * a1 + k' * d1) (10080 * a2 + k' * d2)) (hk : k ≤ k') :
    ze_g d1 d2 c ≤ ze_g d1 d2 c' ∧ (ze_g d1 d2 c = ze_g d1 d2 c' → c = c') := by
  have m1 := ze_m1 h.1 h'.1 hk
  have m2 := ze_m1 h.2 h'.2 hk
  unfold ze_g
  generalize ze_s d1 * zc_x c = p at *
  generalize ze_s d1 * zc_x c' = q at *
  generalize ze_s d2 * zc_y c = r at *
  generalize ze_s d2 * zc_y c' = t at *
  refine ⟨by omega, fun e => ?_⟩
  have e1 := m1.2 (by omega)
  have e2 := m2.2 (by omega)
  exact zc_e e1 e2
/-- strictly growing lists are known by their members -/
theorem ze_uniq {g : Nat → Int} : ∀ {l l' : List Nat}, l.Pairwise (fun a b => g a < g b) → l'.Pairwise (fun a b => g a < g b) → (∀ c, c ∈ l ↔ c ∈ l') → l = l'
  | [], [], _, _, _ => rfl
  | [], b :: l', _, _, h => by have := (h b).mpr (List.mem_cons_self ..); exact absurd this (List.not_mem_nil)
  | a :: l, [], _, _, h => by have := (h a).mp (List.mem_cons_self ..); exact absurd this (List.not_mem_nil)
  | a :: l, b :: l', p, p', h => by
    have p1 := List.pairwise_cons.mp p
    have p2 := List.pairwise_cons.mp p'
    have ab : a = b := by
      rcases List.mem_cons.mp ((h a).mp (List.mem_cons_self ..)) with w | w
      · exact w
      · rcases List.mem_cons.mp ((h b).mpr (List.mem_cons_self ..)) with v | v
        · exact v.symm
        · have x := p2.1 a w
          have y := p1.1 b v
          omega
    subst ab
    have : l = l' := ze_uniq p1.2 p2.2 (fun c => by
      constructor
      · intro hc
        rcases List.mem_cons.mp ((h c).mp (List.mem_cons_of_mem _ hc)) with w | w
        · have := p1.1 c hc; rw [w] at this; omega
        · exact w
      · intro hc
        rcases List.mem_cons.mp ((h c).mpr (List.mem_cons_of_mem _ hc)) with w | w
        · have := p2.1 c hc; rw [w] at this; omega
        · exact w)
    rw [this]
/-- consecutive pairs -/
def ze_pr (p : Nat) : List Nat → List (Nat × Nat × Nat)
  | [] => []
  | [_] => []
  | a :: b :: l => (a, b, p) :: ze_pr p (b :: l)
theorem ze_pr_app (p a b : Nat) : ∀ l : List Nat, ze_pr p (l ++ [a] ++ [b]) = ze_pr p (l ++ [a]) ++ [(a, b, p)]
  | [] => rfl
  | [c] => rfl
  | c :: d :: l => by
    have := ze_pr_app p a b (d :: l)
    simp only [List.cons_append, ze_pr] at *
    rw [this]
theorem ze_pr_len (p : Nat) : ∀ l : List Nat, (ze_pr p l).length = l.length - 1
  | [] => rfl
  | [_] => rfl
  | a :: b :: l => by
    have := ze_pr_len p (b :: l)
    simp only [ze_pr, List.length_cons] at *
    omega
theorem ze_pr_get (p : Nat) : ∀ (l : List Nat) (i : Nat), i + 1 < l.length → (ze_pr p l).getD i (0, 0, 0) = (l.getD i 0, l.getD (i + 1) 0, p)
  | [], i, h => by simp at h
  | [_], i, h => by simp at h
  | a :: b :: l, 0, h => rfl
  | a :: b :: l, i + 1, h => by
    have := ze_pr_get p (b :: l) i (by simp only [List.length_cons] at *; omega)
    simp only [ze_pr, List.getD_cons_succ] at *
    exact this
/-- the walk: px k is the pixel of sample k -/
noncomputable def ze_f (px : Nat → Nat) (hot : Nat → Prop) (c0 : Nat) : Nat → List Nat
  | 0 => [c0]
  | k + 1 => @ite _ (hot (px k) ∧ px k ≠ (ze_f px hot c0 k).getLastD 0) (Classical.propDecidable _) (ze_f px hot c0 k ++ [px k]) (ze_f px hot c0 k)
theorem ze_f_t {px : Nat → Nat} {hot : Nat → Prop} {c0 k : Nat} (h : hot (px k) ∧ px k ≠ (ze_f px hot c0 k).getLastD 0) : ze_f px hot c0 (k + 1) = ze_f px hot c0 k ++ [px k] := by
  rw [ze_f, if_pos h]
theorem ze_f_n {px : Nat → Nat} {hot : Nat → Prop} {c0 k : Nat} (h : ¬ (hot (px k) ∧ px k ≠ (ze_f px hot c0 k).getLastD 0)) : ze_f px hot c0 (k + 1) = ze_f px hot c0 k := by
  rw [ze_f, if_neg h]
/-- what the walk has seen after k samples; the last one is b -/
def ze_I (hot : Nat → Prop) (a1 a2 d1 d2 : Int) (px : Nat → Nat) (k : Nat) (l : List Nat) (b : Nat) : Prop :=
  (∃ l', l = l' ++ [b]) ∧ l.Pairwise (fun x y => ze_g d1 d2 x < ze_g d1 d2 y) ∧ (∀ c, c ∈ l → hot c ∧ ∃ j, j < k ∧ px j = c) ∧ (∀ j, j < k → hot (px j) → px j ∈ l) ∧
  (∀ p x, x ∈ ze_pr p l → zp_lk hot a1 a2 d1 d2 x.1 x.2.1 ∧ x.1 ≠ x.2.1 ∧ x.2.2 = p)
theorem ze_lastmax {g : Nat → Int} {l l' : List Nat} {b : Nat} (e : l = l' ++ [b]) (h : l.Pairwise (fun x y => g x < g y)) {c : Nat} (hc : c ∈ l) : g c ≤ g b := by
  subst e
  rw [List.pairwise_append] at h
  rcases List.mem_append.mp hc with w | w
  · exact Int.le_of_lt (h.2.2 c w b (List.mem_singleton.mpr rfl))
  · rw [List.mem_singleton.mp w]; omega
section
variable {hot : Nat → Prop} {a1 a2 d1 d2 : Int} {px : Nat → Nat} {c0 : Nat}
theorem ze_I0 (hp : ∀ k, k ≤ 10080 → px k < 100 ∧ zp_px (px k) (10080 * a1 + (k : Int) * d1) (10080 * a2 + (k : Int) * d2)) (h0 : px 0 = c0) (hh : hot c0) : ze_I hot a1 a2 d1 d2 px 1 [c0] c0 := by
  refine ⟨⟨[], rfl⟩, List.pairwise_singleton _ _, fun c hc => ?_, fun j hj _ => ?_, fun p x hx => ?_⟩
  · rw [List.mem_singleton.mp hc]; exact ⟨hh, 0, by omega, h0⟩
  · have : j = 0 := by omega
    subst this; rw [h0]; exact List.mem_singleton.mpr rfl
  · exact absurd hx (List.not_mem_nil)
theorem ze_skip {k : Nat} {l : List Nat} {b : Nat} (I : ze_I hot a1 a2 d1 d2 px k l b) (h : ¬ (hot (px k) ∧ px k ≠ b)) : ze_I hot a1 a2 d1 d2 px (k + 1) l b := by
  obtain ⟨⟨l', e⟩, i2, i3, i4, i5⟩ := I
  refine ⟨⟨l', e⟩, i2, fun c hc => ?_, fun j hj hh => ?_, i5⟩
  · obtain ⟨h1, j, h2, h3⟩ := i3 c hc
    exact ⟨h1, j, by omega, h3⟩
  · by_cases ej : j = k
    · subst ej
      have : px j = b := Classical.byContradiction (fun w => h ⟨hh, w⟩)
      rw [this, e]; exact List.mem_append.mpr (Or.inr (List.mem_singleton.mpr rfl))
    · exact i4 j (by omega) hh
theorem ze_take (hp : ∀ k, k ≤ 10080 → px k < 100 ∧ zp_px (px k) (10080 * a1 + (k : Int) * d1) (10080 * a2 + (k : Int) * d2))
    (hu : ∀ (k : Int) c, 0 ≤ k → k ≤ 10080 → c < 100 → zp_px c (10080 * a1 + k * d1) (10080 * a2 + k * d2) → c = px k.toNat) {k : Nat} (hk : k ≤ 10080) {l : List Nat} {b : Nat} (I : ze_I hot a1 a2 d1 d2 px k l b) (h : hot (px k) ∧ px k ≠ b) :
    ze_I hot a1 a2 d1 d2 px (k + 1) (l ++ [px k]) (px k) := by
  obtain ⟨⟨l', e⟩, i2, i3, i4, i5⟩ := I
  have bm : b ∈ l := by rw [e]; exact List.mem_append.mpr (Or.inr (List.mem_singleton.mpr rfl))
  obtain ⟨hb, jb, jb1, jb2⟩ := i3 b bm
  have far : ∀ c, c ∈ l → ze_g d1 d2 c < ze_g d1 d2 (px k) := by
    intro c hc
    have x1 := ze_lastmax e i2 hc
    have pb := (hp jb (by omega)).2
    rw [jb2] at pb
    have m := ze_mono pb (hp k hk).2 (by omega)
    rcases Int.lt_or_le (ze_g d1 d2 b) (ze_g d1 d2 (px k)) with w | w
    · omega
    · exact absurd (m.2 (by omega)).symm h.2
  refine ⟨⟨l, rfl⟩, ?_, fun c hc => ?_, fun j hj hh => ?_, fun p x hx => ?_⟩
  · rw [List.pairwise_append]
    refine ⟨i2, List.pairwise_singleton _ _, fun x hx y hy => ?_⟩
    rw [List.mem_singleton.mp hy]; exact far x hx
  · rcases List.mem_append.mp hc with w | w
    · obtain ⟨h1, j, h2, h3⟩ := i3 c w
      exact ⟨h1, j, by omega, h3⟩
    · rw [List.mem_singleton.mp w]; exact ⟨h.1, k, by omega, rfl⟩
  · by_cases ej : j = k
    · subst ej; exact List.mem_append.mpr (Or.inr (List.mem_singleton.mpr rfl))
    · exact List.mem_append.mpr (Or.inl (i4 j (by omega) hh))
  · rw [e, ze_pr_app, ← e] at hx
    rcases List.mem_append.mp hx with w | w
    · exact i5 p x w
    · rw [List.mem_singleton.mp w]
      refine ⟨⟨(jb : Int), (k : Int), by omega, by omega, by omega, ?_, (hp k hk).2, ?_, (hp k hk).1, hb, h.1, fun k' c q1 q2 q3 q4 q5 => ?_⟩, Ne.symm h.2, rfl⟩
      · have := (hp jb (by omega)).2
        rw [jb2] at this; exact this
      · rw [← jb2]; exact (hp jb (by omega)).1
      · have ec := hu k' c (by omega) (by omega) q3 q5
        dsimp only
        by_cases ek : k'.toNat = k
        · right; rw [ec, ek]
        · left
          have lt : k'.toNat < k := by omega
          have hc : hot (px k'.toNat) := by rw [← ec]; exact q4
          have mem := i4 k'.toNat lt hc
          have x1 := ze_lastmax e i2 mem
          have pb := (hp jb (by omega)).2
          rw [jb2] at pb
          have m := ze_mono pb (hp k'.toNat (by omega)).2 (by omega)
          rw [ec]
          exact (m.2 (by omega)).symm
theorem ze_fI (hp : ∀ k, k ≤ 10080 → px k < 100 ∧ zp_px (px k) (10080 * a1 + (k : Int) * d1) (10080 * a2 + (k : Int) * d2))
    (hu : ∀ (k : Int) c, 0 ≤ k → k ≤ 10080 → c < 100 → zp_px c (10080 * a1 + k * d1) (10080 * a2 + k * d2) → c = px k.toNat) (h0 : px 0 = c0) (hh : hot c0) :
    ∀ k, k ≤ 10080 → ∃ b, ze_I hot a1 a2 d1 d2 px (k + 1) (ze_f px hot c0 (k + 1)) b
  | 0, _ => by
    have : ze_f px hot c0 1 = [c0] := ze_f_n (by rw [h0]; intro w; exact w.2 rfl)
    rw [this]
    exact ⟨c0, ze_I0 hp h0 hh⟩
  | k + 1, hk => by
    obtain ⟨b, I⟩ := ze_fI hp hu h0 hh k (by omega)
    have lb : (ze_f px hot c0 (k + 1)).getLastD 0 = b := by
      obtain ⟨l', e⟩ := I.1
      rw [e]; simp
    by_cases c : hot (px (k + 1)) ∧ px (k + 1) ≠ b
    · rw [ze_f_t (by rw [lb]; exact c)]
      exact ⟨_, ze_take hp hu hk I c⟩
    · rw [ze_f_n (by rw [lb]; exact c)]
      exact ⟨b, ze_skip I c⟩
theorem ze_inc {g : Nat → Int} : ∀ (l : List Nat) (a b : Nat), (a :: l).Pairwise (fun x y => g x < g y) → b ∈ a :: l → (∀ c, c ∈ a :: l → g c ≤ g b) → g a + l.length ≤ g b
  | [], a, b, _, hb, _ => by rw [List.mem_singleton.mp hb]; simp
  | c :: l, a, b, p, hb, hm => by
    have p1 := List.pairwise_cons.mp p
    have ac := p1.1 c (List.mem_cons_self ..)
    have hb' : b ∈ c :: l := by
      rcases List.mem_cons.mp hb with w | w
      · exfalso
        have := hm c (List.mem_cons_of_mem _ (List.mem_cons_self ..))
        rw [w] at this; omega
      · exact w
    have := ze_inc l c b p1.2 hb' (fun x hx => hm x (List.mem_cons_of_mem _ hx))
    simp only [List.length_cons]
    omega
end
end
section
/-! edges of the input -/
/-- the ring of vertex i among the first r + 1 -/
def ze_rr (R : Nat → Nat) (i : Nat) : Nat → Nat
  | 0 => 0
  | r + 1 => if R (r + 1) ≤ i then r + 1 else ze_rr R i r
def ze_hd (R : Nat → Nat) (rg i : Nat) : Nat := if i + 1 < R (ze_rr R i rg + 1) then i + 1 else R (ze_rr R i rg)
/-- one coordinate of the edge that begins at i -/
def ze_d (Z R : Nat → Nat) (rg i : Nat) : Int := (Z (ze_hd R rg i) : Int) - (Z i : Int)
def ze_c (X Y : Nat → Nat) (i : Nat) : Nat := 10 * X i + Y i
def ze_px (X Y R : Nat → Nat) (rg e k : Nat) : Nat := 10 * (((X e : Int) * 10080 + ze_d X R rg e * (k : Int) + 5040) / 10080).toNat + (((Y e : Int) * 10080 + ze_d Y R rg e * (k : Int) + 5040) / 10080).toNat
section
variable {n rg : Nat} {R X Y P : Nat → Nat}
theorem ze_mo (h : ∀ r, r < rg → R r + 3 ≤ R (r + 1)) : ∀ d r, r + d ≤ rg → R r + 3 * d ≤ R (r + d)
  | 0, r, _ => by simp
  | d + 1, r, hd => by
    have a := ze_mo h d r (by omega)
    have b := h (r + d) (by omega)
    rw [← Nat.add_assoc]; omega
theorem ze_rr_eq (h : ∀ r, r < rg → R r + 3 ≤ R (r + 1)) {r i : Nat} (h1 : R r ≤ i) (h2 : i < R (r + 1)) : ∀ q, r ≤ q → q ≤ rg → ze_rr R i q = r
  | 0, hq, _ => by unfold ze_rr; omega
  | q + 1, hq, hle => by
    unfold ze_rr
    by_cases e : r = q + 1
    · subst e; rw [if_pos h1]
    · have m := ze_mo h (q - r) (r + 1) (by omega)
      rw [show r + 1 + (q - r) = q + 1 by omega] at m
      rw [if_neg (by omega)]
      exact ze_rr_eq h h1 h2 q (by omega) (by omega)
theorem ze_rr_ex (h0 : R 0 = 0) {i : Nat} : ∀ q, i < R q → ∃ r, r < q ∧ R r ≤ i ∧ i < R (r + 1)
  | 0, h => by omega
  | q + 1, h => by
    by_cases c : i < R q
    · obtain ⟨r, a, b⟩ := ze_rr_ex h0 q c
      exact ⟨r, by omega, b⟩
    · exact ⟨q, by omega, by omega, h⟩
/-- a closed input, as build finds it -/
def ze_in (sz n rg : Nat) (R X Y P : Nat → Nat) : Prop := 4 ≤ sz ∧ sz ≤ 10 ∧ n ≤ 12 ∧ R 0 = 0 ∧ R rg = n ∧ (∀ r, r < rg → R r + 3 ≤ R (r + 1)) ∧ (∀ r, r < rg → P r < 2) ∧ (∀ i, i < n → X i < sz ∧ Y i < sz) ∧
  (∀ i, i + 1 < n → (∀ r, r ≤ rg → R r ≠ i + 1) → ¬ (X i = X (i + 1) ∧ Y i = Y (i + 1))) ∧ (∀ r, r < rg → ¬ (X (R r) = X (R (r + 1) - 1) ∧ Y (R r) = Y (R (r + 1) - 1)))
variable {sz : Nat}
theorem ze_ring (I : ze_in sz n rg R X Y P) {i : Nat} (hi : i < n) : ∃ r, r < rg ∧ R r ≤ i ∧ i < R (r + 1) ∧ R (r + 1) ≤ n ∧ ze_rr R i rg = r := by
  obtain ⟨r, a, b, c⟩ := ze_rr_ex I.2.2.2.1 rg (show i < R rg by rw [I.2.2.2.2.1]; exact hi)
  have m := ze_mo I.2.2.2.2.2.1 (rg - (r + 1)) (r + 1) (by omega)
  rw [show r + 1 + (rg - (r + 1)) = rg by omega, I.2.2.2.2.1] at m
  exact ⟨r, a, b, c, by omega, ze_rr_eq I.2.2.2.2.2.1 b c rg (by omega) (Nat.le_refl _)⟩
theorem ze_hd_lt (I : ze_in sz n rg R X Y P) {i : Nat} (hi : i < n) : ze_hd R rg i < n := by
  obtain ⟨r, a, b, c, d, e⟩ := ze_ring I hi
  unfold ze_hd
  rw [e]
  split <;> omega
theorem ze_hd_ne (I : ze_in sz n rg R X Y P) {i : Nat} (hi : i < n) : ¬ (ze_d X R rg i = 0 ∧ ze_d Y R rg i = 0) := by
  obtain ⟨r, a, b, c, d, e⟩ := ze_ring I hi
  have g3 := I.2.2.2.2.2.1 r a
  rintro ⟨h1, h2⟩
  unfold ze_d at h1 h2
  have hh : ze_hd R rg i = if i + 1 < R (r + 1) then i + 1 else R r := by unfold ze_hd; rw [e]
  by_cases q : i + 1 < R (r + 1)
  · rw [if_pos q] at hh
    rw [hh] at h1 h2
    refine I.2.2.2.2.2.2.2.2.1 i (by omega) (fun r' hr' w => ?_) ⟨by omega, by omega⟩
    rcases Nat.lt_trichotomy r' r with z | z | z
    · have m := ze_mo I.2.2.2.2.2.1 (r - r') r' (by omega)
      rw [show r' + (r - r') = r by omega] at m
      omega
    · subst z; omega
    · have m := ze_mo I.2.2.2.2.2.1 (r' - (r + 1)) (r + 1) (by omega)
      rw [show r + 1 + (r' - (r + 1)) = r' by omega] at m
      omega
  · rw [if_neg q] at hh
    rw [hh] at h1 h2
    have ei : i = R (r + 1) - 1 := by omega
    rw [ei] at h1 h2
    exact I.2.2.2.2.2.2.2.2.2 r a ⟨by omega, by omega⟩
theorem ze_db (I : ze_in sz n rg R X Y P) {i : Nat} (hi : i < n) : (-9 ≤ ze_d X R rg i ∧ ze_d X R rg i ≤ 9) ∧ (-9 ≤ ze_d Y R rg i ∧ ze_d Y R rg i ≤ 9) ∧ X i < sz ∧ Y i < sz ∧ X (ze_hd R rg i) < sz ∧ Y (ze_hd R rg i) < sz := by
  have a := I.2.2.2.2.2.2.2.1 i hi
  have b := I.2.2.2.2.2.2.2.1 _ (ze_hd_lt I hi)
  have s := I.2.1
  unfold ze_d
  omega
/-- one coordinate of a sample -/
theorem ze_1 {x x' k : Int} (h0 : 0 ≤ x) (h9 : x ≤ 9) (h0' : 0 ≤ x') (h9' : x' ≤ 9) (k0 : 0 ≤ k) (k1 : k ≤ 10080) :
    ∃ c : Nat, c < 10 ∧ ((x * 10080 + (x' - x) * k + 5040) / 10080).toNat = c ∧ (x * 10080 + (x' - x) * k + 5040) / 10080 = (c : Int) ∧ (10080 * (c : Int) - 5040 ≤ 10080 * x + k * (x' - x) ∧ 10080 * x + k * (x' - x) < 10080 * (c : Int) + 5040) ∧
      (∀ d : Int, 10080 * d - 5040 ≤ 10080 * x + k * (x' - x) → 10080 * x + k * (x' - x) < 10080 * d + 5040 → d = (c : Int)) ∧ 0 ≤ 10080 * x + k * (x' - x) ∧ 10080 * x + k * (x' - x) ≤ 90720 := by
  have e : 10080 * x + k * (x' - x) = (10080 - k) * x + k * x' := by grind
  have e' : x * 10080 + (x' - x) * k = (10080 - k) * x + k * x' := by grind
  have a1 := Int.mul_nonneg (show 0 ≤ 10080 - k by omega) h0
  have a2 := Int.mul_nonneg k0 h0'
  have a3 := Int.mul_le_mul_of_nonneg_left h9 (show 0 ≤ 10080 - k by omega)
  have a4 := Int.mul_le_mul_of_nonneg_left h9' k0
  rw [e, e']
  have q0 : 0 ≤ (10080 - k) * x + k * x' := by omega
  have q9 : (10080 - k) * x + k * x' ≤ 90720 := by omega
  clear e e' a1 a2 a3 a4
  generalize (10080 - k) * x + k * x' = q at *
  refine ⟨((q + 5040) / 10080).toNat, by omega, rfl, by omega, by omega, fun d h1 h2 => by omega, q0, q9⟩
theorem ze_pxp (I : ze_in sz n rg R X Y P) {e : Nat} (he : e < n) {k : Nat} (hk : k ≤ 10080) : ze_px X Y R rg e k < 100 ∧ zp_px (ze_px X Y R rg e k) (10080 * (X e : Int) + (k : Int) * ze_d X R rg e) (10080 * (Y e : Int) + (k : Int) * ze_d Y R rg e) := by
  have b := ze_db I he
  have s := I.2.1
  obtain ⟨c, c1, c2, c3, c4, c5, -⟩ := ze_1 (x := (X e : Int)) (x' := (X (ze_hd R rg e) : Int)) (k := (k : Int)) (by omega) (by omega) (by omega) (by omega) (by omega) (by omega)
  obtain ⟨c', c1', c2', c3', c4', c5', -⟩ := ze_1 (x := (Y e : Int)) (x' := (Y (ze_hd R rg e) : Int)) (k := (k : Int)) (by omega) (by omega) (by omega) (by omega) (by omega) (by omega)
  unfold ze_px ze_d
  rw [c2, c2']
  have hx : zc_x (10 * c + c') = (c : Int) := by unfold zc_x; omega
  have hy : zc_y (10 * c + c') = (c' : Int) := by unfold zc_y; omega
  refine ⟨by omega, ?_⟩
  unfold zp_px
  rw [hx, hy]
  exact ⟨c4, c4'⟩
theorem ze_pxu (I : ze_in sz n rg R X Y P) {e : Nat} (he : e < n) (k : Int) (c : Nat) (k0 : 0 ≤ k) (k1 : k ≤ 10080) (hc : c < 100) (h : zp_px c (10080 * (X e : Int) + k * ze_d X R rg e) (10080 * (Y e : Int) + k * ze_d Y R rg e)) : c = ze_px X Y R rg e k.toNat := by
  have b := ze_db I he
  have s := I.2.1
  obtain ⟨d, c1, c2, c3, c4, c5, -⟩ := ze_1 (x := (X e : Int)) (x' := (X (ze_hd R rg e) : Int)) (k := k) (by omega) (by omega) (by omega) (by omega) (by omega) (by omega)
  obtain ⟨d', c1', c2', c3', c4', c5', -⟩ := ze_1 (x := (Y e : Int)) (x' := (Y (ze_hd R rg e) : Int)) (k := k) (by omega) (by omega) (by omega) (by omega) (by omega) (by omega)
  have ek : ((k.toNat : Nat) : Int) = k := by omega
  unfold ze_px
  rw [ek]
  unfold ze_d at h ⊢
  rw [c2, c2']
  have x1 := c5 _ h.1.1 h.1.2
  have x2 := c5' _ h.2.1 h.2.2
  unfold zc_x at x1
  unfold zc_y at x2
  omega
theorem ze_px0 (I : ze_in sz n rg R X Y P) {e : Nat} (he : e < n) : ze_px X Y R rg e 0 = ze_c X Y e ∧ ze_px X Y R rg e 10080 = ze_c X Y (ze_hd R rg e) := by
  have b := ze_db I he
  have s := I.2.1
  have hc : ∀ i, i < n → zc_x (ze_c X Y i) = X i ∧ zc_y (ze_c X Y i) = Y i ∧ ze_c X Y i < 100 := by
    intro i hi
    have := I.2.2.2.2.2.2.2.1 i hi
    unfold ze_c zc_x zc_y
    omega
  refine ⟨?_, ?_⟩
  · have := hc e he
    refine (ze_pxu I he 0 _ (by omega) (by omega) this.2.2 ?_).symm
    unfold zp_px; rw [this.1, this.2.1]; omega
  · have := hc _ (ze_hd_lt I he)
    refine (ze_pxu I he 10080 _ (by omega) (by omega) this.2.2 ?_).symm
    unfold zp_px; rw [this.1, this.2.1]; unfold ze_d; omega
theorem ze_cb (I : ze_in sz n rg R X Y P) {i : Nat} (hi : i < n) : zc_x (ze_c X Y i) = X i ∧ zc_y (ze_c X Y i) = Y i ∧ ze_c X Y i < 100 := by
  have := I.2.2.2.2.2.2.2.1 i hi
  have s := I.2.1
  unfold ze_c zc_x zc_y
  omega
/-- hot pixels -/
def zh_in (num den c : Int) : Prop := (2 * c - 1) * den ≤ 2 * num ∧ 2 * num < (2 * c + 1) * den
def zh_den (X Y R : Nat → Nat) (rg e f : Nat) : Int := ze_d X R rg e * ze_d Y R rg f - ze_d Y R rg e * ze_d X R rg f
def zh_t (X Y R : Nat → Nat) (rg e f : Nat) : Int := ((X f : Int) - X e) * ze_d Y R rg f - ((Y f : Int) - Y e) * ze_d X R rg f
def zh_s (X Y R : Nat → Nat) (rg e f : Nat) : Int := ((X f : Int) - X e) * ze_d Y R rg e - ((Y f : Int) - Y e) * ze_d X R rg e
def zh_ok (den t s : Int) : Prop := 0 < den ∧ 0 ≤ t ∧ t ≤ den ∧ 0 ≤ s ∧ s ≤ den
def zh_cr (X Y R : Nat → Nat) (rg e f c : Nat) : Prop := ∃ sg : Int, (sg = 1 ∨ sg = -1) ∧ zh_ok (sg * zh_den X Y R rg e f) (sg * zh_t X Y R rg e f) (sg * zh_s X Y R rg e f) ∧
  zh_in ((X e : Int) * (sg * zh_den X Y R rg e f) + ze_d X R rg e * (sg * zh_t X Y R rg e f)) (sg * zh_den X Y R rg e f) (zc_x c) ∧ zh_in ((Y e : Int) * (sg * zh_den X Y R rg e f) + ze_d Y R rg e * (sg * zh_t X Y R rg e f)) (sg * zh_den X Y R rg e f) (zc_y c)
def zh (X Y R : Nat → Nat) (rg n c : Nat) : Prop := ∃ e, e < n ∧ (c = ze_c X Y e ∨ ∃ f, f < e ∧ zh_cr X Y R rg e f c)
/-- the pixel of a point between two grid coordinates -/
theorem zh_pix {x x' den t : Int} (h0 : 0 ≤ x) (h9 : x ≤ 9) (h0' : 0 ≤ x') (h9' : x' ≤ 9) (hd : 0 < den) (ht : 0 ≤ t) (ht' : t ≤ den) :
    0 ≤ 2 * (x * den + (x' - x) * t) + den ∧ 2 * (x * den + (x' - x) * t) + den ≤ 19 * den ∧ ∃ c : Nat, c < 10 ∧ (2 * (x * den + (x' - x) * t) + den) / (2 * den) = (c : Int) ∧ zh_in (x * den + (x' - x) * t) den (c : Int) ∧ ∀ d : Int, zh_in (x * den + (x' - x) * t) den d → d = (c : Int) := by
  have e : x * den + (x' - x) * t = (den - t) * x + t * x' := by grind
  have a1 := Int.mul_nonneg (show 0 ≤ den - t by omega) h0
  have a2 := Int.mul_nonneg ht h0'
  have a3 := Int.mul_le_mul_of_nonneg_left h9 (show 0 ≤ den - t by omega)
  have a4 := Int.mul_le_mul_of_nonneg_left h9' ht
  rw [e]
  have q0 : 0 ≤ (den - t) * x + t * x' := by omega
  have q9 : (den - t) * x + t * x' ≤ 9 * den := by omega
  clear e a1 a2 a3 a4
  generalize (den - t) * x + t * x' = q at *
  refine ⟨by omega, by omega, ((2 * q + den) / (2 * den)).toNat, ?_⟩
  have dm := Int.mul_ediv_add_emod (2 * q + den) (2 * den)
  have r0 := Int.emod_nonneg (2 * q + den) (show 2 * den ≠ 0 by omega)
  have r1 := Int.emod_lt_of_pos (2 * q + den) (show 0 < 2 * den by omega)
  have z0 : 0 ≤ (2 * q + den) / (2 * den) := Int.ediv_nonneg (by omega) (by omega)
  generalize hz : (2 * q + den) / (2 * den) = z at *
  generalize (2 * q + den) % (2 * den) = r at *
  have e2 : 2 * den * z = 2 * (den * z) := by clear dm; grind
  have z9 : z < 10 := by
    rcases Int.lt_or_le z 10 with w | w
    · exact w
    · have := Int.mul_le_mul_of_nonneg_left w (Int.le_of_lt hd); omega
  have ez : ((z.toNat : Nat) : Int) = z := by omega
  rw [ez]
  refine ⟨by omega, rfl, ?_, fun d hd' => ?_⟩
  · unfold zh_in
    have f1 : (2 * z - 1) * den = 2 * (den * z) - den := by clear dm e2; grind
    have f2 : (2 * z + 1) * den = 2 * (den * z) + den := by clear dm e2; grind
    omega
  · unfold zh_in at hd'
    have f1 : (2 * d - 1) * den = 2 * (den * d) - den := by clear dm e2 hd'; grind
    have f2 : (2 * d + 1) * den = 2 * (den * d) + den := by clear dm e2 hd'; grind
    rcases Int.lt_trichotomy d z with w | w | w
    · have := Int.mul_le_mul_of_nonneg_left (show d + 1 ≤ z by omega) (Int.le_of_lt hd)
      rw [Int.mul_add] at this
      omega
    · exact w
    · have := Int.mul_le_mul_of_nonneg_left (show z + 1 ≤ d by omega) (Int.le_of_lt hd)
      rw [Int.mul_add] at this
      omega
theorem zh_sc {den m a d t i c : Int} (hd : 0 < den) (h : m * t = i * den) (hin : zh_in (a * den + d * t) den c) (hm : 0 < m) : m * (2 * c - 1) ≤ 2 * (m * a + i * d) ∧ 2 * (m * a + i * d) < m * (2 * c + 1) := by
  obtain ⟨h1, h2⟩ := hin
  have a1 := Int.mul_le_mul_of_nonneg_left h1 (Int.le_of_lt hm)
  have a2 := Int.mul_lt_mul_of_pos_left h2 hm
  have e1 : m * ((2 * c - 1) * den) = den * (m * (2 * c - 1)) := by clear a1 a2 h1 h2 h; grind
  have e2 : m * ((2 * c + 1) * den) = den * (m * (2 * c + 1)) := by clear a1 a2 h1 h2 h e1; grind
  have e3 : m * (2 * (a * den + d * t)) = den * (2 * (m * a + i * d)) := by
    have : m * (2 * (a * den + d * t)) = 2 * (m * a * den + d * (m * t)) := by clear a1 a2 h1 h2 h e1 e2; grind
    rw [this, h]; clear a1 a2 h1 h2 h e1 e2 this; grind
  rw [e1, e3] at a1
  rw [e2, e3] at a2
  exact ⟨zp_cn hd a1, zp_ct hd a2⟩
theorem zh_cx1 (I : ze_in sz n rg R X Y P) {e f : Nat} (he : e < n) (hfe : f < e) : zp_cx (zh X Y R rg n) (X e) (Y e) (ze_d X R rg e) (ze_d Y R rg e) (X f) (Y f) (ze_d X R rg f) (ze_d Y R rg f) := by
  intro m i j hm hi0 hi hj0 hj e1 e2 par
  have b := ze_db I he
  have s := I.2.1
  have t1 : m * zh_t X Y R rg e f = i * zh_den X Y R rg e f := by
    unfold zh_t zh_den
    have : m * (((X f : Int) - X e) * ze_d Y R rg f - ((Y f : Int) - Y e) * ze_d X R rg f) = (m * X f - m * X e) * ze_d Y R rg f - (m * Y f - m * Y e) * ze_d X R rg f := by clear e1 e2; grind
    rw [this, show m * (X f : Int) - m * X e = i * ze_d X R rg e - j * ze_d X R rg f by omega, show m * (Y f : Int) - m * Y e = i * ze_d Y R rg e - j * ze_d Y R rg f by omega]
    clear e1 e2 this; grind
  have s1 : m * zh_s X Y R rg e f = j * zh_den X Y R rg e f := by
    unfold zh_s zh_den
    have : m * (((X f : Int) - X e) * ze_d Y R rg e - ((Y f : Int) - Y e) * ze_d X R rg e) = (m * X f - m * X e) * ze_d Y R rg e - (m * Y f - m * Y e) * ze_d X R rg e := by clear e1 e2 t1; grind
    rw [this, show m * (X f : Int) - m * X e = i * ze_d X R rg e - j * ze_d X R rg f by omega, show m * (Y f : Int) - m * Y e = i * ze_d Y R rg e - j * ze_d Y R rg f by omega]
    clear e1 e2 this t1; grind
  have par' : zh_den X Y R rg e f ≠ 0 := par
  obtain ⟨sg, hsg, hpos⟩ : ∃ sg : Int, (sg = 1 ∨ sg = -1) ∧ 0 < sg * zh_den X Y R rg e f := by
    rcases Int.lt_or_le 0 (zh_den X Y R rg e f) with w | w
    · exact ⟨1, Or.inl rfl, by omega⟩
    · exact ⟨-1, Or.inr rfl, by omega⟩
  have t2 : m * (sg * zh_t X Y R rg e f) = i * (sg * zh_den X Y R rg e f) := by rw [Int.mul_left_comm, t1, Int.mul_left_comm]
  have s2 : m * (sg * zh_s X Y R rg e f) = j * (sg * zh_den X Y R rg e f) := by rw [Int.mul_left_comm, s1, Int.mul_left_comm]
  have rng : ∀ v w : Int, m * v = w * (sg * zh_den X Y R rg e f) → 0 ≤ w → w ≤ m → 0 ≤ v ∧ v ≤ sg * zh_den X Y R rg e f := by
    intro v w h w0 w1
    have p1 := Int.mul_nonneg w0 (Int.le_of_lt hpos)
    have p2 := Int.mul_le_mul_of_nonneg_right w1 (Int.le_of_lt hpos)
    exact ⟨zp_cn hm (by rw [Int.mul_zero]; omega), zp_cn hm (by omega)⟩
  have tr := rng _ _ t2 hi0 hi
  have sr := rng _ _ s2 hj0 hj
  have hx := zh_pix (x := (X e : Int)) (x' := (X (ze_hd R rg e) : Int)) (by omega) (by omega) (by omega) (by omega) hpos tr.1 tr.2
  have hy := zh_pix (x := (Y e : Int)) (x' := (Y (ze_hd R rg e) : Int)) (by omega) (by omega) (by omega) (by omega) hpos tr.1 tr.2
  obtain ⟨-, -, c, c1, -, c2, -⟩ := hx
  obtain ⟨-, -, d, d1, -, d2, -⟩ := hy
  have ex : zc_x (10 * c + d) = (c : Int) := by unfold zc_x; omega
  have ey : zc_y (10 * c + d) = (d : Int) := by unfold zc_y; omega
  refine ⟨10 * c + d, by omega, ⟨e, he, Or.inr ⟨f, hfe, sg, hsg, ⟨hpos, tr.1, tr.2, sr.1, sr.2⟩, by rw [ex]; exact c2, by rw [ey]; exact d2⟩⟩, ?_, ?_⟩
  · rw [ex]; exact zh_sc hpos t2 c2 hm
  · rw [ey]; exact zh_sc hpos t2 d2 hm
theorem zh_cx (I : ze_in sz n rg R X Y P) {e f : Nat} (he : e < n) (hf : f < n) : zp_cx (zh X Y R rg n) (X e) (Y e) (ze_d X R rg e) (ze_d Y R rg e) (X f) (Y f) (ze_d X R rg f) (ze_d Y R rg f) := by
  rcases Nat.lt_trichotomy f e with w | w | w
  · exact zh_cx1 I he w
  · subst w
    intro m i j _ _ _ _ _ _ _ par
    exact absurd (by rw [Int.mul_comm]; omega) par
  · intro m i j hm hi0 hi hj0 hj e1 e2 par
    obtain ⟨c, c1, c2, c3, c4⟩ := zh_cx1 I hf w m j i hm hj0 hj hi0 hi e1.symm e2.symm (by
      intro z
      apply par
      have : ze_d X R rg e * ze_d Y R rg f - ze_d Y R rg e * ze_d X R rg f = -(ze_d X R rg f * ze_d Y R rg e - ze_d Y R rg f * ze_d X R rg e) := by clear e1 e2 z; grind
      omega)
    refine ⟨c, c1, c2, ?_, ?_⟩
    · rw [e1]; exact c3
    · rw [e2]; exact c4
end
end
section
/-! the steps of all edges, and that they make an arrangement -/
section
variable {sz n rg : Nat} {R X Y P : Nat → Nat}
noncomputable def ze_ch (X Y R : Nat → Nat) (rg n e : Nat) : List Nat := ze_f (ze_px X Y R rg e) (zh X Y R rg n) (ze_c X Y e) 10081
noncomputable def ze_SL (X Y R P : Nat → Nat) (rg n : Nat) : Nat → List (Nat × Nat × Nat)
  | 0 => []
  | e + 1 => ze_SL X Y R P rg n e ++ ze_pr (P (ze_rr R e rg)) (ze_ch X Y R rg n e)
theorem ze_fhead (px : Nat → Nat) (hot : Nat → Prop) (c0 : Nat) : ∀ k, ∃ l, ze_f px hot c0 k = c0 :: l
  | 0 => ⟨[], rfl⟩
  | k + 1 => by
    obtain ⟨l, h⟩ := ze_fhead px hot c0 k
    by_cases c : hot (px k) ∧ px k ≠ (ze_f px hot c0 k).getLastD 0
    · rw [ze_f_t c, h]; exact ⟨l ++ [px k], rfl⟩
    · rw [ze_f_n c, h]; exact ⟨l, rfl⟩
theorem zh_v (X Y R : Nat → Nat) (rg : Nat) {n i : Nat} (hi : i < n) : zh X Y R rg n (ze_c X Y i) := ⟨i, hi, Or.inl rfl⟩
theorem ze_sabs {d : Int} (h1 : -9 ≤ d) (h2 : d ≤ 9) : ze_s d * d ≤ 9 := by
  unfold ze_s
  split
  · omega
  · split <;> omega
/-- the chain of an edge -/
theorem ze_chI (I : ze_in sz n rg R X Y P) {e : Nat} (he : e < n) : ∃ l, ze_ch X Y R rg n e = ze_c X Y e :: l ∧ l.length ≤ 18 ∧
    ze_I (zh X Y R rg n) (X e) (Y e) (ze_d X R rg e) (ze_d Y R rg e) (ze_px X Y R rg e) 10081 (ze_ch X Y R rg n e) (ze_c X Y (ze_hd R rg e)) := by
  have hp : ∀ k, k ≤ 10080 → ze_px X Y R rg e k < 100 ∧ zp_px (ze_px X Y R rg e k) (10080 * (X e : Int) + (k : Int) * ze_d X R rg e) (10080 * (Y e : Int) + (k : Int) * ze_d Y R rg e) := fun k hk => ze_pxp I he hk
  have hu := fun k c a b c' d => ze_pxu I he k c a b c' d
  have p0 := ze_px0 I he
  obtain ⟨b, J⟩ := ze_fI (hot := zh X Y R rg n) hp hu p0.1 (zh_v X Y R rg he) 10080 (Nat.le_refl _)
  have eb : b = ze_c X Y (ze_hd R rg e) := by
    obtain ⟨⟨l', el⟩, j2, j3, j4, j5⟩ := J
    have bm : b ∈ ze_f (ze_px X Y R rg e) (zh X Y R rg n) (ze_c X Y e) (10080 + 1) := by rw [el]; exact List.mem_append.mpr (Or.inr (List.mem_singleton.mpr rfl))
    obtain ⟨-, jb, jb1, jb2⟩ := j3 b bm
    have em := j4 10080 (by omega) (by rw [p0.2]; exact zh_v X Y R rg (ze_hd_lt I he))
    have x1 := ze_lastmax el j2 em
    have pb := (hp jb (by omega)).2
    rw [jb2] at pb
    have m := ze_mono pb (hp 10080 (by omega)).2 (by omega)
    have := m.2 (by omega)
    rw [this, p0.2]
  subst eb
  obtain ⟨l, el⟩ := ze_fhead (ze_px X Y R rg e) (zh X Y R rg n) (ze_c X Y e) 10081
  refine ⟨l, el, ?_, J⟩
  have J' := J
  change ze_I _ _ _ _ _ _ _ (ze_f (ze_px X Y R rg e) (zh X Y R rg n) (ze_c X Y e) 10081) _ at J'
  rw [el] at J'
  obtain ⟨⟨l', el'⟩, j2, j3, j4, j5⟩ := J'
  have bm : ze_c X Y (ze_hd R rg e) ∈ ze_c X Y e :: l := by rw [el']; exact List.mem_append.mpr (Or.inr (List.mem_singleton.mpr rfl))
  have inc := ze_inc l _ _ j2 bm (fun c hc => ze_lastmax el' j2 hc)
  have b := ze_db I he
  have c1 := ze_cb I he
  have c2 := ze_cb I (ze_hd_lt I he)
  unfold ze_g at inc
  rw [c1.1, c1.2.1, c2.1, c2.2.1] at inc
  have s1 := ze_sabs b.1.1 b.1.2
  have s2 := ze_sabs b.2.1.1 b.2.1.2
  have f1 : ze_s (ze_d X R rg e) * (X (ze_hd R rg e) : Int) - ze_s (ze_d X R rg e) * (X e : Int) = ze_s (ze_d X R rg e) * ze_d X R rg e := by
    rw [← Int.mul_sub]; rfl
  have f2 : ze_s (ze_d Y R rg e) * (Y (ze_hd R rg e) : Int) - ze_s (ze_d Y R rg e) * (Y e : Int) = ze_s (ze_d Y R rg e) * ze_d Y R rg e := by
    rw [← Int.mul_sub]; rfl
  omega
theorem ze_SL_len (I : ze_in sz n rg R X Y P) : ∀ e, e ≤ n → (ze_SL X Y R P rg n e).length ≤ 18 * e
  | 0, _ => by simp [ze_SL]
  | e + 1, he => by
    have a := ze_SL_len I e (by omega)
    obtain ⟨l, h1, h2, -⟩ := ze_chI I (show e < n by omega)
    rw [ze_SL, List.length_append, ze_pr_len, h1]
    simp only [List.length_cons]
    omega
/-- every step is a link of an edge -/
theorem ze_SL_mem (I : ze_in sz n rg R X Y P) : ∀ e, e ≤ n → ∀ x, x ∈ ze_SL X Y R P rg n e → ∃ i, i < e ∧ zp_lk (zh X Y R rg n) (X i) (Y i) (ze_d X R rg i) (ze_d Y R rg i) x.1 x.2.1 ∧ x.1 ≠ x.2.1 ∧ x.2.2 = P (ze_rr R i rg)
  | 0, _, x, h => by exact absurd h (List.not_mem_nil)
  | e + 1, he, x, h => by
    rw [ze_SL] at h
    rcases List.mem_append.mp h with w | w
    · obtain ⟨i, a, b⟩ := ze_SL_mem I e (by omega) x w
      exact ⟨i, by omega, b⟩
    · obtain ⟨l, h1, h2, J⟩ := ze_chI I (show e < n by omega)
      exact ⟨e, by omega, J.2.2.2.2 _ x w⟩
/-- sums over lists -/
def zs_l (p : Nat) (F : Nat → Nat → Int) : List (Nat × Nat × Nat) → Int
  | [] => 0
  | x :: l => (if x.2.2 = p then F x.1 x.2.1 else 0) + zs_l p F l
theorem zs_l_app (p : Nat) (F : Nat → Nat → Int) (l' : List (Nat × Nat × Nat)) : ∀ l, zs_l p F (l ++ l') = zs_l p F l + zs_l p F l'
  | [] => by simp [zs_l]
  | x :: l => by
    have := zs_l_app p F l' l
    simp only [List.cons_append, zs_l] at *
    omega
theorem zs_spl (sp : Nat → Nat) (p a : Nat) (f : Nat → Int) : ∀ b, zs_S sp p (a + b) f = zs_S sp p a f + zs_S (fun i => sp (a + i)) p b (fun i => f (a + i))
  | 0 => by simp [zs_S]
  | b + 1 => by
    have h := zs_spl sp p a f b
    have e1 : zs_S sp p (a + b + 1) f = zs_S sp p (a + b) f + (if sp (a + b) = p then f (a + b) else 0) := rfl
    have e2 : zs_S (fun i => sp (a + i)) p (b + 1) (fun i => f (a + i)) = zs_S (fun i => sp (a + i)) p b (fun i => f (a + i)) + (if sp (a + b) = p then f (a + b) else 0) := rfl
    rw [← Nat.add_assoc, e1, e2, h]
    omega
theorem zs_lS (p : Nat) (F : Nat → Nat → Int) : ∀ l : List (Nat × Nat × Nat), zs_S (fun s => (l.getD s (0, 0, 0)).2.2) p l.length (fun s => F (l.getD s (0, 0, 0)).1 (l.getD s (0, 0, 0)).2.1) = zs_l p F l
  | [] => rfl
  | x :: l => by
    have ih := zs_lS p F l
    rw [List.length_cons, Nat.add_comm, zs_spl]
    have e : ∀ i, (x :: l).getD (1 + i) (0, 0, 0) = l.getD i (0, 0, 0) := by intro i; rw [Nat.add_comm, List.getD_cons_succ]
    simp only [e]
    rw [ih]
    simp [zs_S, zs_l]
theorem zs_tel (p q : Nat) (φ : Nat → Int) : ∀ (l : List Nat) (a b : Nat), (∃ l', a :: l = l' ++ [b]) → zs_l p (fun u t => φ t - φ u) (ze_pr q (a :: l)) = if q = p then φ b - φ a else 0
  | [], a, b, h => by
    obtain ⟨l', h⟩ := h
    have : a = b := by
      rcases l' with _ | ⟨c, l'⟩
      · simp at h; exact h
      · simp at h
    subst this
    simp [ze_pr, zs_l]
  | c :: l, a, b, h => by
    have h' : ∃ l', c :: l = l' ++ [b] := by
      obtain ⟨l', h⟩ := h
      rcases l' with _ | ⟨d, l'⟩
      · simp at h
      · simp at h; exact ⟨l', h.2⟩
    have ih := zs_tel p q φ l c b h'
    simp only [ze_pr, zs_l]
    rw [ih]
    split <;> omega
/-- the sum of the edges -/
def ze_T (X Y R P : Nat → Nat) (rg p : Nat) (φ : Nat → Int) (e : Nat) : Int := zs_S (fun i => P (ze_rr R i rg)) p e (fun i => φ (ze_c X Y (ze_hd R rg i)) - φ (ze_c X Y i))
theorem ze_SLT (I : ze_in sz n rg R X Y P) (p : Nat) (φ : Nat → Int) : ∀ e, e ≤ n → zs_l p (fun u t => φ t - φ u) (ze_SL X Y R P rg n e) = ze_T X Y R P rg p φ e
  | 0, _ => rfl
  | e + 1, he => by
    have ih := ze_SLT I p φ e (by omega)
    obtain ⟨l, h1, h2, J⟩ := ze_chI I (show e < n by omega)
    rw [ze_SL, zs_l_app, ih, h1]
    rw [h1] at J
    rw [zs_tel p _ φ l _ _ J.1]
    rfl
theorem ze_Tr (I : ze_in sz n rg R X Y P) (p : Nat) (φ : Nat → Int) {r : Nat} (hr : r < rg) : ∀ j, R r + j + 1 ≤ R (r + 1) → ze_T X Y R P rg p φ (R r + j) = ze_T X Y R P rg p φ (R r) + (if P r = p then φ (ze_c X Y (R r + j)) - φ (ze_c X Y (R r)) else 0)
  | 0, _ => by rw [Nat.add_zero]; split <;> omega
  | j + 1, hj => by
    have ih := ze_Tr I p φ hr j (by omega)
    have rr : ze_rr R (R r + j) rg = r := ze_rr_eq I.2.2.2.2.2.1 (by omega) (by omega) rg (by omega) (Nat.le_refl _)
    have hd : ze_hd R rg (R r + j) = R r + j + 1 := by unfold ze_hd; rw [rr, if_pos (by omega)]
    rw [← Nat.add_assoc]
    have e : ze_T X Y R P rg p φ (R r + j + 1) = ze_T X Y R P rg p φ (R r + j) + (if P (ze_rr R (R r + j) rg) = p then φ (ze_c X Y (ze_hd R rg (R r + j))) - φ (ze_c X Y (R r + j)) else 0) := rfl
    rw [e, ih, rr, hd]
    split <;> omega
theorem ze_T0 (I : ze_in sz n rg R X Y P) (p : Nat) (φ : Nat → Int) : ∀ r, r ≤ rg → ze_T X Y R P rg p φ (R r) = 0
  | 0, _ => by rw [I.2.2.2.1]; rfl
  | r + 1, hr => by
    have ih := ze_T0 I p φ r (by omega)
    have g := I.2.2.2.2.2.1 r (by omega)
    obtain ⟨j, hj⟩ : ∃ j, R (r + 1) = R r + j + 1 := ⟨R (r + 1) - R r - 1, by omega⟩
    have t := ze_Tr I p φ (show r < rg by omega) j (by omega)
    have rr : ze_rr R (R r + j) rg = r := ze_rr_eq I.2.2.2.2.2.1 (by omega) (by omega) rg (by omega) (Nat.le_refl _)
    have hd : ze_hd R rg (R r + j) = R r := by unfold ze_hd; rw [rr, if_neg (by omega)]
    have e : ze_T X Y R P rg p φ (R r + j + 1) = ze_T X Y R P rg p φ (R r + j) + (if P (ze_rr R (R r + j) rg) = p then φ (ze_c X Y (ze_hd R rg (R r + j))) - φ (ze_c X Y (R r + j)) else 0) := rfl
    rw [hj, e, t, ih, rr, hd]
    split <;> omega
/-- the steps as functions -/
noncomputable def ze_su (X Y R P : Nat → Nat) (rg n s : Nat) : Nat := ((ze_SL X Y R P rg n n).getD s (0, 0, 0)).1
noncomputable def ze_st (X Y R P : Nat → Nat) (rg n s : Nat) : Nat := ((ze_SL X Y R P rg n n).getD s (0, 0, 0)).2.1
noncomputable def ze_sp (X Y R P : Nat → Nat) (rg n s : Nat) : Nat := ((ze_SL X Y R P rg n n).getD s (0, 0, 0)).2.2
noncomputable def ze_N (X Y R P : Nat → Nat) (rg n : Nat) : Nat := (ze_SL X Y R P rg n n).length
theorem ze_cl (I : ze_in sz n rg R X Y P) : zv_cl (ze_N X Y R P rg n) (ze_su X Y R P rg n) (ze_st X Y R P rg n) (ze_sp X Y R P rg n) := by
  intro p φ
  have a := zs_lS p (fun u t => φ t - φ u) (ze_SL X Y R P rg n n)
  have b := ze_SLT I p φ n (Nat.le_refl _)
  have c := ze_T0 I p φ rg (Nat.le_refl _)
  rw [I.2.2.2.2.1] at c
  rw [b, c] at a
  exact a
theorem ze_get (I : ze_in sz n rg R X Y P) {s : Nat} (hs : s < ze_N X Y R P rg n) : ∃ i, i < n ∧ zp_lk (zh X Y R rg n) (X i) (Y i) (ze_d X R rg i) (ze_d Y R rg i) (ze_su X Y R P rg n s) (ze_st X Y R P rg n s) ∧ ze_su X Y R P rg n s ≠ ze_st X Y R P rg n s ∧ ze_sp X Y R P rg n s = P (ze_rr R i rg) := by
  refine ze_SL_mem I n (Nat.le_refl _) ((ze_SL X Y R P rg n n).getD s (0, 0, 0)) ?_
  unfold ze_N at hs
  rw [List.getD_eq_getElem?_getD, List.getElem?_eq_getElem hs, Option.getD_some]
  exact List.getElem_mem hs
theorem ze_ok (I : ze_in sz n rg R X Y P) : zv_ok (ze_N X Y R P rg n) (ze_su X Y R P rg n) (ze_st X Y R P rg n) := by
  intro s hs
  obtain ⟨i, hi, lk, ne, -⟩ := ze_get I hs
  obtain ⟨_, _, _, _, _, _, _, h1, h2, _⟩ := lk
  exact ⟨h1, h2, ne⟩
theorem ze_sp2 (I : ze_in sz n rg R X Y P) {s : Nat} (hs : s < ze_N X Y R P rg n) : ze_sp X Y R P rg n s < 2 := by
  obtain ⟨i, hi, -, -, e⟩ := ze_get I hs
  obtain ⟨r, a, b, c, d, f⟩ := ze_ring I hi
  rw [e, f]; exact I.2.2.2.2.2.2.1 r a
theorem ze_N216 (I : ze_in sz n rg R X Y P) : ze_N X Y R P rg n ≤ 216 := by
  have := ze_SL_len I n (Nat.le_refl _)
  have := I.2.2.1
  unfold ze_N; omega
/-- two steps that aren't the same piece don't cross -/
theorem ze_nc (I : ze_in sz n rg R X Y P) {s t : Nat} (hs : s < ze_N X Y R P rg n) (ht : t < ze_N X Y R P rg n) (hne : zq_k (ze_su X Y R P rg n s) (ze_st X Y R P rg n s) ≠ zq_k (ze_su X Y R P rg n t) (ze_st X Y R P rg n t)) :
    zc_nc (ze_su X Y R P rg n s) (ze_st X Y R P rg n s) (ze_su X Y R P rg n t) (ze_st X Y R P rg n t) := by
  obtain ⟨i, hi, lk, n1, -⟩ := ze_get I hs
  obtain ⟨j, hj, ll, n2, -⟩ := ze_get I ht
  have bi := ze_db I hi
  have bj := ze_db I hj
  refine zp_NC bi.1 bi.2.1 bj.1 bj.2.1 lk ll (zh_cx I hi hj) n1 n2 ⟨?_, ?_⟩
  · rintro ⟨a, b⟩; rw [a, b] at hne; exact hne rfl
  · rintro ⟨a, b⟩
    rw [a, b] at hne
    apply hne
    unfold zq_k
    split <;> split <;> omega
theorem ze_arr (I : ze_in sz n rg R X Y P) {K : Nat} {key : Nat → Nat} {pk wA wB : Nat → Int32} (Q : zq_rep (ze_N X Y R P rg n) (ze_su X Y R P rg n) (ze_st X Y R P rg n) (ze_sp X Y R P rg n) K key pk wA wB) :
    zr_A (ze_N X Y R P rg n) K (ze_su X Y R P rg n) (ze_st X Y R P rg n) (ze_sp X Y R P rg n) (zx_og key) := by
  obtain ⟨r1, r2, r3, r4, r5, r6⟩ := Q
  have ok := ze_ok I
  have N6 := ze_N216 I
  have ends : ∀ p, p < K → ∃ s, s < ze_N X Y R P rg n ∧ ((zx_og key (2 * p) = ze_su X Y R P rg n s ∧ zx_og key (2 * p + 1) = ze_st X Y R P rg n s) ∨ (zx_og key (2 * p) = ze_st X Y R P rg n s ∧ zx_og key (2 * p + 1) = ze_su X Y R P rg n s)) ∧ key p = zq_k (ze_su X Y R P rg n s) (ze_st X Y R P rg n s) := by
    intro p hp
    obtain ⟨s, hs, e⟩ := r4 p hp
    have o := ok s hs
    refine ⟨s, hs, ?_, e⟩
    rw [zx_og_e, zx_og_o, e]
    unfold zq_k
    split
    · left; omega
    · right; omega
  refine ⟨ok, ze_cl I, fun h hh => ?_, ⟨fun p hp => ?_, fun p q hp hq hpq => ?_⟩, fun s hs => ?_, fun p hp => ?_, fun p q hpq hq => ?_, by omega⟩
  · have := (r1 (h / 2) (by omega)).2.2
    unfold zx_og; split <;> omega
  · have := (r1 p hp).2
    rw [zx_og_e, zx_og_o]; omega
  · obtain ⟨s, hs, e, ks⟩ := ends p hp
    obtain ⟨t, ht, f, kt⟩ := ends q hq
    have hne : zq_k (ze_su X Y R P rg n s) (ze_st X Y R P rg n s) ≠ zq_k (ze_su X Y R P rg n t) (ze_st X Y R P rg n t) := by
      rw [← ks, ← kt]
      rcases Nat.lt_or_ge p q with w | w
      · have := r2 p q w hq; omega
      · have := r2 q p (by omega) hp; omega
    have nc := ze_nc I hs ht hne
    rcases e with ⟨e1, e2⟩ | ⟨e1, e2⟩ <;> rcases f with ⟨f1, f2⟩ | ⟨f1, f2⟩ <;> rw [e1, e2, f1, f2]
    · exact nc
    · exact zg_nc_s nc
    · exact zg_nc_r nc
    · exact zg_nc_r (zg_nc_s nc)
  · obtain ⟨p, hp, e⟩ := r3 s hs
    have o := ok s hs
    refine ⟨p, hp, ?_⟩
    rw [zx_og_e, zx_og_o, e]
    unfold zq_k
    split
    · left; omega
    · right; omega
  · rw [zx_og_e, zx_og_o]; exact (r1 p hp).2.1
  · have a := r2 p q hpq hq
    rw [zx_og_e, zx_og_o, zx_og_e, zx_og_o]
    omega
end
end
section
/-! the component: edges and hot pixels -/
/-- the input in X's arrays -/
def zx_in (n rg : Nat) (R X Y P : Nat → Nat) (vX vY rS rP : Nat → Int32) : Prop := (∀ r, r ≤ rg → rS r = nI (R r)) ∧ (∀ r, r < rg → rP r = nI (P r)) ∧ (∀ i, i < n → vX i = nI (X i) ∧ vY i = nI (Y i))
def zx_ed (X Y R P : Nat → Nat) (rg m : Nat) (dX dY eP : Nat → Int32) : Prop := ∀ i, i < m → dX i = zi (ze_d X R rg i) ∧ dY i = zi (ze_d Y R rg i) ∧ eP i = nI (P (ze_rr R i rg))
def zh_arr (a : Nat → Int32) (H : Nat → Prop) : Prop := ∀ c, c < 100 → (a c = 0 ∨ a c = 1) ∧ (a c = 1 ↔ H c)
theorem zh_arr_e {a : Nat → Int32} {H H' : Nat → Prop} (h : zh_arr a H) (e : ∀ c, c < 100 → (H c ↔ H' c)) : zh_arr a H' := fun c hc => ⟨(h c hc).1, (h c hc).2.trans (e c hc)⟩
theorem zh_arr_u {a : Nat → Int32} {H : Nat → Prop} (h : zh_arr a H) {c : Nat} (hc : c < 100) : zh_arr (upd a c 1) (fun d => H d ∨ d = c) := by
  intro d hd
  by_cases e : d = c
  · subst e; rw [zu_s]; exact ⟨Or.inr rfl, ⟨fun _ => Or.inr rfl, fun _ => rfl⟩⟩
  · rw [zu_n e]; exact ⟨(h d hd).1, (h d hd).2.trans ⟨Or.inl, fun w => w.elim id (fun w => absurd w e)⟩⟩
section
variable {f_size f_maxEdges f_phase f_op f_rule f_stored f_rings f_hotCount f_chainLen f_pieces f_halves f_stackTop f_outEdges f_outRings f_traced : Int32} {a_vertX a_vertY a_ringStart a_ringPoly a_dirX a_dirY a_edgePoly a_isHot a_chainId a_chainKey a_pieceKey a_weightA a_weightB a_org a_round a_byEnds a_cw a_lastAt a_windA a_windB a_reached a_stack a_outDir a_used a_outHalf a_ringFrom : Nat → Int32}
variable {sz n rg : Nat} {R X Y P : Nat → Nat}
theorem ze_rg4 (I : ze_in sz n rg R X Y P) : rg ≤ 4 := by
  have := ze_mo I.2.2.2.2.2.1 rg 0 (by omega)
  rw [Nat.zero_add] at this
  have := I.2.2.1
  have := I.2.2.2.2.1
  omega
theorem ze_Rle (I : ze_in sz n rg R X Y P) {r : Nat} (hr : r ≤ rg) : R r ≤ n := by
  have m := ze_mo I.2.2.2.2.2.1 (rg - r) r (by omega)
  rw [show r + (rg - r) = rg by omega, I.2.2.2.2.1] at m
  omega
theorem xe_26 {post : SX → Prop} {J : Int32 → (Nat → Int32) → (Nat → Int32) → (Nat → Int32) → (Nat → Int32) → (Nat → Int32) → (Nat → Int32) → (Nat → Int32) → (Nat → Int32) → (Nat → Int32) → (Nat → Int32) → (Nat → Int32) → (Nat → Int32) → (Nat → Int32) → (Nat → Int32) → (Nat → Int32) → (Nat → Int32) → (Nat → Int32) → (Nat → Int32) → (Nat → Int32) → (Nat → Int32) → (Nat → Int32) → (Nat → Int32) → (Nat → Int32) → (Nat → Int32) → (Nat → Int32) → (Nat → Int32) → Prop} (I : ze_in sz n rg R X Y P) (A : zx_in n rg R X Y P a_vertX a_vertY a_ringStart a_ringPoly) {r : Nat} (hr : r < rg)
    (k : ∀ dx dy ep, zx_ed X Y R P rg (R (r + 1)) dx dy ep → J (nI (r + 1)) a_vertX a_vertY a_ringStart a_ringPoly dx dy ep a_isHot a_chainId a_chainKey a_pieceKey a_weightA a_weightB a_org a_round a_byEnds a_cw a_lastAt a_windA a_windB a_reached a_stack a_outDir a_used a_outHalf a_ringFrom) :
    ∀ (m e : Nat) (dx dy ep : Nat → Int32), R (r + 1) - e < m → R r ≤ e → e ≤ R (r + 1) → zx_ed X Y R P rg e dx dy ep → wX_prepareEdges_26 post J (nI r) (nI (R (r + 1))) f_size f_maxEdges f_phase f_op f_rule f_stored f_rings f_hotCount f_chainLen f_pieces f_halves f_stackTop f_outEdges f_outRings f_traced m (nI e) a_vertX a_vertY a_ringStart a_ringPoly dx dy ep a_isHot a_chainId a_chainKey a_pieceKey a_weightA a_weightB a_org a_round a_byEnds a_cw a_lastAt a_windA a_windB a_reached a_stack a_outDir a_used a_outHalf a_ringFrom
  | 0, e, dx, dy, ep, h, _, _, _ => by omega
  | m + 1, e, dx, dy, ep, h, h1, h2, E => by
    have ih := xe_26 (post := post) I A hr k m
    have r4 := ze_rg4 I
    have rn := ze_Rle I (show r + 1 ≤ rg by omega)
    have n12 := I.2.2.1
    unfold wX_prepareEdges_26
    refine zb_leN (by omega) (by omega) (fun w => ?_) (fun w => ?_)
    · have : e = R (r + 1) := by omega
      subst this
      exact nm_r (nI_1 r) (k _ _ _ E)
    · have rr : ze_rr R e rg = r := ze_rr_eq I.2.2.2.2.2.1 h1 w rg (by omega) (Nat.le_refl _)
      have ve := A.2.2 e (by omega)
      have i3 : vp_in (nI e) 12 := vp_in_nI (by omega) (by omega)
      have i1 : vp_in (nI r) 5 := vp_in_nI (by omega) (by omega)
      have J50 : ∀ h, h = ze_hd R rg e → wX_prepareEdges_50 post J (wX_prepareEdges_26 post J (nI r) (nI (R (r + 1))) f_size f_maxEdges f_phase f_op f_rule f_stored f_rings f_hotCount f_chainLen f_pieces f_halves f_stackTop f_outEdges f_outRings f_traced m) (nI r) (nI (R (r + 1))) (nI e) (nI h) f_size f_maxEdges f_phase f_op f_rule f_stored f_rings f_hotCount f_chainLen f_pieces f_halves f_stackTop f_outEdges f_outRings f_traced a_vertX a_vertY a_ringStart a_ringPoly dx dy ep a_isHot a_chainId a_chainKey a_pieceKey a_weightA a_weightB a_org a_round a_byEnds a_cw a_lastAt a_windA a_windB a_reached a_stack a_outDir a_used a_outHalf a_ringFrom := by
        intro h eh
        have hl : h < n := by rw [eh]; exact ze_hd_lt I (by omega)
        have vh := A.2.2 h hl
        have ih2 : vp_in (nI h) 12 := vp_in_nI (by omega) (by omega)
        unfold wX_prepareEdges_50
        simp only [nI_clamp (show e < 2 ^ 31 by omega), nI_clamp (show h < 2 ^ 31 by omega), nI_clamp (show r < 2 ^ 31 by omega), ve.1, ve.2, vh.1, vh.2, A.2.1 r hr]
        refine ⟨ih2, i3, i3, nm_e ⟨ih2, i3, i3, nm_e ⟨i1, i3, nm_e (nm_r (nI_1 e) (ih (e + 1) _ _ _ (by omega) (by omega) (by omega) (fun i hi => ?_)))⟩⟩⟩
        by_cases ei : i = e
        · subst ei
          rw [zu_s, zu_s, zu_s, rr]
          unfold ze_d
          rw [← eh, zi_n, zi_n, zi_n, zi_n, zi_sub, zi_sub]
          exact ⟨rfl, rfl, rfl⟩
        · rw [zu_n ei, zu_n ei, zu_n ei]; exact E i (by omega)
      rw [nI_1]
      refine zb_leN (by omega) (by omega) (fun w2 => ⟨i1, ?_⟩) (fun w2 => J50 _ ?_)
      · rw [nI_clamp (show r < 2 ^ 31 by omega), A.1 r (by omega)]
        refine J50 _ ?_
        unfold ze_hd; rw [rr, if_neg (by omega)]
      · unfold ze_hd; rw [rr, if_pos (by omega)]
theorem xe_2 {post : SX → Prop} (I : ze_in sz n rg R X Y P) (A : zx_in n rg R X Y P a_vertX a_vertY a_ringStart a_ringPoly) (hg : f_rings = nI rg)
    (k : ∀ dx dy ep, zx_ed X Y R P rg n dx dy ep → post (f_size, f_maxEdges, f_phase, f_op, f_rule, f_stored, f_rings, f_hotCount, f_chainLen, f_pieces, f_halves, f_stackTop, f_outEdges, f_outRings, f_traced, a_vertX, a_vertY, a_ringStart, a_ringPoly, dx, dy, ep, a_isHot, a_chainId, a_chainKey, a_pieceKey, a_weightA, a_weightB, a_org, a_round, a_byEnds, a_cw, a_lastAt, a_windA, a_windB, a_reached, a_stack, a_outDir, a_used, a_outHalf, a_ringFrom)) :
    ∀ (m r : Nat) (dx dy ep : Nat → Int32), rg - r < m → r ≤ rg → zx_ed X Y R P rg (R r) dx dy ep → wX_prepareEdges_2 post f_size f_maxEdges f_phase f_op f_rule f_stored f_rings f_hotCount f_chainLen f_pieces f_halves f_stackTop f_outEdges f_outRings f_traced m (nI r) a_vertX a_vertY a_ringStart a_ringPoly dx dy ep a_isHot a_chainId a_chainKey a_pieceKey a_weightA a_weightB a_org a_round a_byEnds a_cw a_lastAt a_windA a_windB a_reached a_stack a_outDir a_used a_outHalf a_ringFrom
  | 0, r, dx, dy, ep, h, _, _ => by omega
  | m + 1, r, dx, dy, ep, h, h1, E => by
    have ih := xe_2 (post := post) I A hg k m
    have r4 := ze_rg4 I
    subst hg
    unfold wX_prepareEdges_2
    refine zb_leN (by omega) (by omega) (fun w => ?_) (fun w => ?_)
    · have : r = rg := by omega
      subst this
      rw [I.2.2.2.2.1] at E
      exact k _ _ _ E
    · have g := I.2.2.2.2.2.1 r w
      rw [nI_1]
      simp only [nI_clamp (show r < 2 ^ 31 by omega), nI_clamp (show r + 1 < 2 ^ 31 by omega), A.1 r (by omega), A.1 (r + 1) (by omega)]
      refine ⟨vp_in_nI (by omega) (by omega), nm_e ⟨vp_in_nI (by omega) (by omega), nm_e ⟨R (r + 1) - R r + 1, ?_⟩⟩⟩
      exact xe_26 I A w (fun dx' dy' ep' E' => ih (r + 1) _ _ _ (by omega) (by omega) E') _ _ _ _ _ (by omega) (Nat.le_refl _) (by omega) E
theorem xe_prep {post : SX → Prop} (I : ze_in sz n rg R X Y P) (A : zx_in n rg R X Y P a_vertX a_vertY a_ringStart a_ringPoly) (hg : f_rings = nI rg)
    (k : ∀ dx dy ep, zx_ed X Y R P rg n dx dy ep → post (f_size, f_maxEdges, f_phase, f_op, f_rule, f_stored, f_rings, f_hotCount, f_chainLen, f_pieces, f_halves, f_stackTop, f_outEdges, f_outRings, f_traced, a_vertX, a_vertY, a_ringStart, a_ringPoly, dx, dy, ep, a_isHot, a_chainId, a_chainKey, a_pieceKey, a_weightA, a_weightB, a_org, a_round, a_byEnds, a_cw, a_lastAt, a_windA, a_windB, a_reached, a_stack, a_outDir, a_used, a_outHalf, a_ringFrom)) : wpX_prepareEdges post (f_size, f_maxEdges, f_phase, f_op, f_rule, f_stored, f_rings, f_hotCount, f_chainLen, f_pieces, f_halves, f_stackTop, f_outEdges, f_outRings, f_traced, a_vertX, a_vertY, a_ringStart, a_ringPoly, a_dirX, a_dirY, a_edgePoly, a_isHot, a_chainId, a_chainKey, a_pieceKey, a_weightA, a_weightB, a_org, a_round, a_byEnds, a_cw, a_lastAt, a_windA, a_windB, a_reached, a_stack, a_outDir, a_used, a_outHalf, a_ringFrom) := by
  unfold wpX_prepareEdges
  refine ⟨rg + 1, xe_2 I A hg k (rg + 1) 0 _ _ _ (by omega) (by omega) (fun i hi => ?_)⟩
  rw [I.2.2.2.1] at hi; omega
theorem xh_mark {post : SX → Prop} {H : Nat → Prop} (hh : zh_arr a_isHot H) (hc : f_hotCount = nI (zf_cn a_isHot 100)) {x y : Nat} (hx : x < 10) (hy : y < 10)
    (k : ∀ a, zh_arr a (fun c => H c ∨ c = 10 * x + y) → post (f_size, f_maxEdges, f_phase, f_op, f_rule, f_stored, f_rings, nI (zf_cn a 100), f_chainLen, f_pieces, f_halves, f_stackTop, f_outEdges, f_outRings, f_traced, a_vertX, a_vertY, a_ringStart, a_ringPoly, a_dirX, a_dirY, a_edgePoly, a, a_chainId, a_chainKey, a_pieceKey, a_weightA, a_weightB, a_org, a_round, a_byEnds, a_cw, a_lastAt, a_windA, a_windB, a_reached, a_stack, a_outDir, a_used, a_outHalf, a_ringFrom)) : wpX_markHot post (f_size, f_maxEdges, f_phase, f_op, f_rule, f_stored, f_rings, f_hotCount, f_chainLen, f_pieces, f_halves, f_stackTop, f_outEdges, f_outRings, f_traced, a_vertX, a_vertY, a_ringStart, a_ringPoly, a_dirX, a_dirY, a_edgePoly, a_isHot, a_chainId, a_chainKey, a_pieceKey, a_weightA, a_weightB, a_org, a_round, a_byEnds, a_cw, a_lastAt, a_windA, a_windB, a_reached, a_stack, a_outDir, a_used, a_outHalf, a_ringFrom) (nI x) (nI y) := by
  subst hc
  unfold wpX_markHot
  refine nm_r (e' := nI (10 * x + y)) (by rw [show (10 : Int32) = nI 10 from rfl, zb_mul, nI_add]) ?_
  have i1 : vp_in (nI (10 * x + y)) 100 := vp_in_nI (by omega) (by omega)
  simp only [nI_clamp (show 10 * x + y < 2 ^ 31 by omega), zn_b1, nI_1]
  refine ⟨i1, br_c (fun z => ⟨i1, nm_e (nm_e ?_)⟩) (fun z => ?_)⟩
  · have := k _ (zh_arr_u hh (show 10 * x + y < 100 by omega))
    rw [zf_cn_u z 100 (by omega)] at this
    exact this
  · refine k _ (zh_arr_e hh (fun c hc => ⟨Or.inl, fun w => w.elim id (fun w => ?_)⟩))
    have q := hh (10 * x + y) (by omega)
    rw [w]
    refine q.2.mp ?_
    rcases q.1 with v | v
    · exact absurd v z
    · exact v
theorem xh_117 {post : SX → Prop} (I : ze_in sz n rg R X Y P) (A : zx_in n rg R X Y P a_vertX a_vertY a_ringStart a_ringPoly) (E : zx_ed X Y R P rg n a_dirX a_dirY a_edgePoly) {H : Nat → Prop} (hh : zh_arr a_isHot H) (hc : f_hotCount = nI (zf_cn a_isHot 100))
    {e f : Nat} (he : e < n) {den t s : Int} (bd : -200 ≤ den ∧ den ≤ 200) (bt : -200 ≤ t ∧ t ≤ 200) (bs : -200 ≤ s ∧ s ≤ 200)
    (hcr : ∀ c, c < 100 → (zh_cr X Y R rg e f c ↔ (zh_ok den t s ∧ zh_in ((X e : Int) * den + ze_d X R rg e * t) den (zc_x c) ∧ zh_in ((Y e : Int) * den + ze_d Y R rg e * t) den (zc_y c))))
    (k : ∀ a, zh_arr a (fun c => H c ∨ zh_cr X Y R rg e f c) → post (f_size, f_maxEdges, f_phase, f_op, f_rule, f_stored, f_rings, nI (zf_cn a 100), f_chainLen, f_pieces, f_halves, f_stackTop, f_outEdges, f_outRings, f_traced, a_vertX, a_vertY, a_ringStart, a_ringPoly, a_dirX, a_dirY, a_edgePoly, a, a_chainId, a_chainKey, a_pieceKey, a_weightA, a_weightB, a_org, a_round, a_byEnds, a_cw, a_lastAt, a_windA, a_windB, a_reached, a_stack, a_outDir, a_used, a_outHalf, a_ringFrom)) : wX_markCrossing_117 post (nI e) (zi den) (zi t) (zi s) f_size f_maxEdges f_phase f_op f_rule f_stored f_rings f_hotCount f_chainLen f_pieces f_halves f_stackTop f_outEdges f_outRings f_traced a_vertX a_vertY a_ringStart a_ringPoly a_dirX a_dirY a_edgePoly a_isHot a_chainId a_chainKey a_pieceKey a_weightA a_weightB a_org a_round a_byEnds a_cw a_lastAt a_windA a_windB a_reached a_stack a_outDir a_used a_outHalf a_ringFrom := by
  have n12 := I.2.2.1
  have no : ¬ zh_ok den t s → post (f_size, f_maxEdges, f_phase, f_op, f_rule, f_stored, f_rings, f_hotCount, f_chainLen, f_pieces, f_halves, f_stackTop, f_outEdges, f_outRings, f_traced, a_vertX, a_vertY, a_ringStart, a_ringPoly, a_dirX, a_dirY, a_edgePoly, a_isHot, a_chainId, a_chainKey, a_pieceKey, a_weightA, a_weightB, a_org, a_round, a_byEnds, a_cw, a_lastAt, a_windA, a_windB, a_reached, a_stack, a_outDir, a_used, a_outHalf, a_ringFrom) := by
    intro h
    have := k a_isHot (zh_arr_e hh (fun c hc => ⟨Or.inl, fun w => w.elim id (fun w => absurd ((hcr c hc).mp w).1 h)⟩))
    rw [hc]; exact this
  have ve := A.2.2 e he
  have ee := E e he
  have b := ze_db I he
  have s10 := I.2.1
  unfold wX_markCrossing_117
  refine zb_le (b := 0) (by omega) (by omega) (fun w => no (fun z => by have := z.1; omega)) (fun w1 => zb_lt (b := 0) (by omega) (by omega) (fun w => no (fun z => by have := z.2.1; omega)) (fun w2 => zb_lt (by omega) (by omega) (fun w => no (fun z => by have := z.2.2.1; omega)) (fun w3 =>
    zb_lt (b := 0) (by omega) (by omega) (fun w => no (fun z => by have := z.2.2.2.1; omega)) (fun w4 => zb_lt (by omega) (by omega) (fun w => no (fun z => by have := z.2.2.2.2; omega)) (fun w5 => ?_)))))
  have hx := zh_pix (x := (X e : Int)) (x' := (X (ze_hd R rg e) : Int)) (by omega) (by omega) (by omega) (by omega) w1 w2 w3
  have hy := zh_pix (x := (Y e : Int)) (x' := (Y (ze_hd R rg e) : Int)) (by omega) (by omega) (by omega) (by omega) w1 w2 w3
  obtain ⟨x1, x2, c, c1, c2, c3, c4⟩ := hx
  obtain ⟨y1, y2, d, d1, d2, d3, d4⟩ := hy
  have i1 : vp_in (nI e) 12 := vp_in_nI (by omega) (by omega)
  have nz : ¬ zi 2 * zi den = 0 := by
    rw [zi_mul, show (0 : Int32) = zi 0 from rfl, zi_eq (by omega) (by omega)]; omega
  have ex : (zi 2 * ((nI (X e) * zi den) + (zi t * zi (ze_d X R rg e))) + zi den) / (zi 2 * zi den) = nI c := by
    rw [zi_n, zi_mul, zi_mul, zi_mul, zi_add, zi_mul, zi_add, Int.mul_comm t]
    unfold ze_d
    rw [zi_div ⟨x1, by omega⟩ (by omega), c2, ← zi_n]
  have ey : (zi 2 * ((nI (Y e) * zi den) + (zi t * zi (ze_d Y R rg e))) + zi den) / (zi 2 * zi den) = nI d := by
    rw [zi_n, zi_mul, zi_mul, zi_mul, zi_add, zi_mul, zi_add, Int.mul_comm t]
    unfold ze_d
    rw [zi_div ⟨y1, by omega⟩ (by omega), d2, ← zi_n]
  rw [show (2 : Int32) = zi 2 from rfl]
  simp only [nI_clamp (show e < 2 ^ 31 by omega), ve.1, ve.2, ee.1, ee.2.1]
  refine ⟨i1, i1, nz, nm_r ex ⟨i1, i1, nz, nm_r ey (xh_mark hh hc c1 d1 (fun a ha => k a (zh_arr_e ha (fun q hq => ?_))))⟩⟩
  have hqx : zc_x q = ((q / 10 : Nat) : Int) := rfl
  have hqy : zc_y q = ((q % 10 : Nat) : Int) := rfl
  constructor
  · rintro (w | w)
    · exact Or.inl w
    · refine Or.inr ((hcr q hq).mpr ⟨⟨w1, w2, w3, w4, w5⟩, ?_, ?_⟩)
      · rw [hqx, show q / 10 = c by omega]; exact c3
      · rw [hqy, show q % 10 = d by omega]; exact d3
  · rintro (w | w)
    · exact Or.inl w
    · have z := (hcr q hq).mp w
      have z1 := c4 _ z.2.1
      have z2 := d4 _ z.2.2
      rw [hqx] at z1
      rw [hqy] at z2
      exact Or.inr (by omega)
theorem zh_bnd (I : ze_in sz n rg R X Y P) {e f : Nat} (he : e < n) (hf : f < n) : (-200 ≤ zh_den X Y R rg e f ∧ zh_den X Y R rg e f ≤ 200) ∧ (-200 ≤ zh_t X Y R rg e f ∧ zh_t X Y R rg e f ≤ 200) ∧ (-200 ≤ zh_s X Y R rg e f ∧ zh_s X Y R rg e f ≤ 200) := by
  have b := ze_db I he
  have c := ze_db I hf
  have s := I.2.1
  have w1 : -9 ≤ (X f : Int) - X e ∧ (X f : Int) - X e ≤ 9 := by omega
  have w2 : -9 ≤ (Y f : Int) - Y e ∧ (Y f : Int) - Y e ≤ 9 := by omega
  have p1 := zg_bd b.1.1 b.1.2 c.2.1.1 c.2.1.2
  have p2 := zg_bd b.2.1.1 b.2.1.2 c.1.1 c.1.2
  have p3 := zg_bd w1.1 w1.2 c.2.1.1 c.2.1.2
  have p4 := zg_bd w2.1 w2.2 c.1.1 c.1.2
  have p5 := zg_bd w1.1 w1.2 b.2.1.1 b.2.1.2
  have p6 := zg_bd w2.1 w2.2 b.1.1 b.1.2
  unfold zh_den zh_t zh_s
  omega
theorem zh_cr1 {e f c : Nat} (h : 0 ≤ zh_den X Y R rg e f) : zh_cr X Y R rg e f c ↔ (zh_ok (zh_den X Y R rg e f) (zh_t X Y R rg e f) (zh_s X Y R rg e f) ∧ zh_in ((X e : Int) * zh_den X Y R rg e f + ze_d X R rg e * zh_t X Y R rg e f) (zh_den X Y R rg e f) (zc_x c) ∧ zh_in ((Y e : Int) * zh_den X Y R rg e f + ze_d Y R rg e * zh_t X Y R rg e f) (zh_den X Y R rg e f) (zc_y c)) := by
  constructor
  · rintro ⟨sg, hs, h1, h2, h3⟩
    rcases hs with hs | hs
    · subst hs; rw [Int.one_mul, Int.one_mul] at h1 h2 h3; rw [Int.one_mul] at h1; exact ⟨h1, h2, h3⟩
    · subst hs; have := h1.1; omega
  · rintro ⟨h1, h2, h3⟩
    exact ⟨1, Or.inl rfl, by rw [Int.one_mul, Int.one_mul, Int.one_mul]; exact h1, by rw [Int.one_mul, Int.one_mul]; exact h2, by rw [Int.one_mul, Int.one_mul]; exact h3⟩
theorem zh_cr2 {e f c : Nat} (h : zh_den X Y R rg e f < 0) : zh_cr X Y R rg e f c ↔ (zh_ok (-zh_den X Y R rg e f) (-zh_t X Y R rg e f) (-zh_s X Y R rg e f) ∧ zh_in ((X e : Int) * -zh_den X Y R rg e f + ze_d X R rg e * -zh_t X Y R rg e f) (-zh_den X Y R rg e f) (zc_x c) ∧ zh_in ((Y e : Int) * -zh_den X Y R rg e f + ze_d Y R rg e * -zh_t X Y R rg e f) (-zh_den X Y R rg e f) (zc_y c)) := by
  constructor
  · rintro ⟨sg, hs, h1, h2, h3⟩
    rcases hs with hs | hs
    · subst hs; have := h1.1; omega
    · subst hs
      rw [Int.neg_one_mul, Int.neg_one_mul] at h1 h2 h3; rw [Int.neg_one_mul] at h1; exact ⟨h1, h2, h3⟩
  · rintro ⟨h1, h2, h3⟩
    exact ⟨-1, Or.inr rfl, by rw [Int.neg_one_mul, Int.neg_one_mul, Int.neg_one_mul]; exact h1, by rw [Int.neg_one_mul, Int.neg_one_mul]; exact h2, by rw [Int.neg_one_mul, Int.neg_one_mul]; exact h3⟩
theorem xh_cross {post : SX → Prop} (I : ze_in sz n rg R X Y P) (A : zx_in n rg R X Y P a_vertX a_vertY a_ringStart a_ringPoly) (E : zx_ed X Y R P rg n a_dirX a_dirY a_edgePoly) {H : Nat → Prop} (hh : zh_arr a_isHot H) (hc : f_hotCount = nI (zf_cn a_isHot 100))
    {e f : Nat} (he : e < n) (hf : f < n) (k : ∀ a, zh_arr a (fun c => H c ∨ zh_cr X Y R rg e f c) → post (f_size, f_maxEdges, f_phase, f_op, f_rule, f_stored, f_rings, nI (zf_cn a 100), f_chainLen, f_pieces, f_halves, f_stackTop, f_outEdges, f_outRings, f_traced, a_vertX, a_vertY, a_ringStart, a_ringPoly, a_dirX, a_dirY, a_edgePoly, a, a_chainId, a_chainKey, a_pieceKey, a_weightA, a_weightB, a_org, a_round, a_byEnds, a_cw, a_lastAt, a_windA, a_windB, a_reached, a_stack, a_outDir, a_used, a_outHalf, a_ringFrom)) : wpX_markCrossing post (f_size, f_maxEdges, f_phase, f_op, f_rule, f_stored, f_rings, f_hotCount, f_chainLen, f_pieces, f_halves, f_stackTop, f_outEdges, f_outRings, f_traced, a_vertX, a_vertY, a_ringStart, a_ringPoly, a_dirX, a_dirY, a_edgePoly, a_isHot, a_chainId, a_chainKey, a_pieceKey, a_weightA, a_weightB, a_org, a_round, a_byEnds, a_cw, a_lastAt, a_windA, a_windB, a_reached, a_stack, a_outDir, a_used, a_outHalf, a_ringFrom) (nI e) (nI f) := by
  have n12 := I.2.2.1
  have i1 : vp_in (nI e) 12 := vp_in_nI (by omega) (by omega)
  have i2 : vp_in (nI f) 12 := vp_in_nI (by omega) (by omega)
  have b := zh_bnd I he hf
  unfold wpX_markCrossing
  simp only [nI_clamp (show e < 2 ^ 31 by omega), nI_clamp (show f < 2 ^ 31 by omega), (A.2.2 e he).1, (A.2.2 e he).2, (A.2.2 f hf).1, (A.2.2 f hf).2, (E e he).1, (E e he).2.1, (E f hf).1, (E f hf).2.1]
  simp only [zi_n, zi_mul, zi_sub]
  simp only [← zi_n]
  refine ⟨i1, i2, i1, i2, nm_e ⟨i2, i1, nm_e ⟨i2, i1, nm_e ?_⟩⟩⟩
  simp only [zi_n, zi_mul, zi_sub]
  simp only [← zi_n]
  refine ⟨i2, i2, nm_e ⟨i1, i1, nm_e ?_⟩⟩
  refine zb_le (a := 0) (b := zh_den X Y R rg e f) (by omega) (by omega) (fun w => ?_) (fun w => nm_r (zi_neg _) (nm_r (zi_neg _) (nm_r (zi_neg _) ?_)))
  · exact xh_117 I A E hh hc he b.1 b.2.1 b.2.2 (fun c _ => zh_cr1 w) k
  · exact xh_117 I A E hh hc he (den := -zh_den X Y R rg e f) (t := -zh_t X Y R rg e f) (s := -zh_s X Y R rg e f) (by omega) (by omega) (by omega) (fun c _ => zh_cr2 w) k
/-- hot so far: the edges below e, the vertex of e, and its crossings with the edges below j -/
def zh_part (X Y R : Nat → Nat) (rg e j c : Nat) : Prop := zh X Y R rg e c ∨ c = ze_c X Y e ∨ ∃ f, f < j ∧ zh_cr X Y R rg e f c
theorem zh_part_e (X Y R : Nat → Nat) (rg e c : Nat) : zh_part X Y R rg e e c ↔ zh X Y R rg (e + 1) c := by
  constructor
  · rintro (⟨i, hi, w⟩ | w | ⟨f, hf, w⟩)
    · exact ⟨i, by omega, w⟩
    · exact ⟨e, by omega, Or.inl w⟩
    · exact ⟨e, by omega, Or.inr ⟨f, hf, w⟩⟩
  · rintro ⟨i, hi, w⟩
    by_cases c : i = e
    · subst c
      exact Or.inr (w.elim Or.inl (fun w => Or.inr w))
    · exact Or.inl ⟨i, by omega, w⟩
theorem xh_54 {post : SX → Prop} {J : Int32 → Int32 → Int32 → Int32 → Int32 → Int32 → Int32 → Int32 → Int32 → Int32 → Int32 → Int32 → Int32 → Int32 → Int32 → Int32 → (Nat → Int32) → (Nat → Int32) → (Nat → Int32) → (Nat → Int32) → (Nat → Int32) → (Nat → Int32) → (Nat → Int32) → (Nat → Int32) → (Nat → Int32) → (Nat → Int32) → (Nat → Int32) → (Nat → Int32) → (Nat → Int32) → (Nat → Int32) → (Nat → Int32) → (Nat → Int32) → (Nat → Int32) → (Nat → Int32) → (Nat → Int32) → (Nat → Int32) → (Nat → Int32) → (Nat → Int32) → (Nat → Int32) → (Nat → Int32) → (Nat → Int32) → (Nat → Int32) → Prop} (I : ze_in sz n rg R X Y P) (A : zx_in n rg R X Y P a_vertX a_vertY a_ringStart a_ringPoly) (E : zx_ed X Y R P rg n a_dirX a_dirY a_edgePoly) {e : Nat} (he : e < n)
    (k : ∀ a, zh_arr a (zh X Y R rg (e + 1)) → J (nI (e + 1)) f_size f_maxEdges f_phase f_op f_rule f_stored f_rings (nI (zf_cn a 100)) f_chainLen f_pieces f_halves f_stackTop f_outEdges f_outRings f_traced a_vertX a_vertY a_ringStart a_ringPoly a_dirX a_dirY a_edgePoly a a_chainId a_chainKey a_pieceKey a_weightA a_weightB a_org a_round a_byEnds a_cw a_lastAt a_windA a_windB a_reached a_stack a_outDir a_used a_outHalf a_ringFrom) :
    ∀ (m j : Nat) (a : Nat → Int32), e - j < m → j ≤ e → zh_arr a (zh_part X Y R rg e j) → wX_findHotPixels_54 post J (nI e) m (nI j) f_size f_maxEdges f_phase f_op f_rule f_stored f_rings (nI (zf_cn a 100)) f_chainLen f_pieces f_halves f_stackTop f_outEdges f_outRings f_traced a_vertX a_vertY a_ringStart a_ringPoly a_dirX a_dirY a_edgePoly a a_chainId a_chainKey a_pieceKey a_weightA a_weightB a_org a_round a_byEnds a_cw a_lastAt a_windA a_windB a_reached a_stack a_outDir a_used a_outHalf a_ringFrom
  | 0, j, a, h, _, _ => by omega
  | m + 1, j, a, h, hj, ha => by
    have ih := xh_54 (post := post) I A E he k m
    have n12 := I.2.2.1
    unfold wX_findHotPixels_54
    refine zb_leN (by omega) (by omega) (fun w => nm_r (nI_1 e) (k a ?_)) (fun w => ?_)
    · have : j = e := by omega
      subst this
      exact zh_arr_e ha (fun c _ => zh_part_e X Y R rg j c)
    · refine xh_cross I A E ha rfl he (show j < n by omega) (fun a' ha' => nm_r (nI_1 j) (ih (j + 1) a' (by omega) (by omega) (zh_arr_e ha' (fun c _ => ?_))))
      constructor
      · rintro ((w | w | ⟨f, hf, w⟩) | w)
        · exact Or.inl w
        · exact Or.inr (Or.inl w)
        · exact Or.inr (Or.inr ⟨f, by omega, w⟩)
        · exact Or.inr (Or.inr ⟨j, by omega, w⟩)
      · rintro (v | v | ⟨f, hf, v⟩)
        · exact Or.inl (Or.inl v)
        · exact Or.inl (Or.inr (Or.inl v))
        · by_cases q : f = j
          · rw [q] at v; exact Or.inr v
          · exact Or.inl (Or.inr (Or.inr ⟨f, by omega, v⟩))
theorem xh_28 {post : SX → Prop} (I : ze_in sz n rg R X Y P) (A : zx_in n rg R X Y P a_vertX a_vertY a_ringStart a_ringPoly) (E : zx_ed X Y R P rg n a_dirX a_dirY a_edgePoly) (hs : f_stored = nI n)
    (k : ∀ a, zh_arr a (zh X Y R rg n) → post (f_size, f_maxEdges, f_phase, f_op, f_rule, f_stored, f_rings, nI (zf_cn a 100), f_chainLen, f_pieces, f_halves, f_stackTop, f_outEdges, f_outRings, f_traced, a_vertX, a_vertY, a_ringStart, a_ringPoly, a_dirX, a_dirY, a_edgePoly, a, a_chainId, a_chainKey, a_pieceKey, a_weightA, a_weightB, a_org, a_round, a_byEnds, a_cw, a_lastAt, a_windA, a_windB, a_reached, a_stack, a_outDir, a_used, a_outHalf, a_ringFrom)) :
    ∀ (m e : Nat) (a : Nat → Int32), n - e < m → e ≤ n → zh_arr a (zh X Y R rg e) → wX_findHotPixels_28 post m (nI e) f_size f_maxEdges f_phase f_op f_rule f_stored f_rings (nI (zf_cn a 100)) f_chainLen f_pieces f_halves f_stackTop f_outEdges f_outRings f_traced a_vertX a_vertY a_ringStart a_ringPoly a_dirX a_dirY a_edgePoly a a_chainId a_chainKey a_pieceKey a_weightA a_weightB a_org a_round a_byEnds a_cw a_lastAt a_windA a_windB a_reached a_stack a_outDir a_used a_outHalf a_ringFrom
  | 0, e, a, h, _, _ => by omega
  | m + 1, e, a, h, he, ha => by
    have ih := xh_28 (post := post) I A E hs k m
    have n12 := I.2.2.1
    have s10 := I.2.1
    subst hs
    unfold wX_findHotPixels_28
    refine zb_leN (by omega) (by omega) (fun w => ?_) (fun w => ?_)
    · have : e = n := by omega
      subst this
      exact k a ha
    · have b := I.2.2.2.2.2.2.2.1 e w
      have i1 : vp_in (nI e) 12 := vp_in_nI (by omega) (by omega)
      simp only [nI_clamp (show e < 2 ^ 31 by omega), (A.2.2 e w).1, (A.2.2 e w).2]
      refine ⟨i1, i1, xh_mark ha rfl (show X e < 10 by omega) (show Y e < 10 by omega) (fun a' ha' => ⟨e + 1, ?_⟩)⟩
      refine xh_54 I A E w (fun a2 ha2 => ih (e + 1) a2 (by omega) (by omega) ha2) (e + 1) 0 a' (by omega) (by omega) (zh_arr_e ha' (fun c _ => ?_))
      constructor
      · rintro (w | w)
        · exact Or.inl w
        · exact Or.inr (Or.inl w)
      · rintro (w | w | ⟨f, hf, w⟩)
        · exact Or.inl w
        · exact Or.inr w
        · omega
theorem zf_cn0 {a : Nat → Int32} : ∀ m, (∀ c, c < m → a c = 0) → zf_cn a m = 0
  | 0, _ => rfl
  | m + 1, h => by
    unfold zf_cn
    rw [zf_cn0 m (fun c hc => h c (by omega)), h m (by omega), if_neg (by decide)]
theorem xh_2 {post : SX → Prop} (I : ze_in sz n rg R X Y P) (A : zx_in n rg R X Y P a_vertX a_vertY a_ringStart a_ringPoly) (E : zx_ed X Y R P rg n a_dirX a_dirY a_edgePoly) (hs : f_stored = nI n)
    (k : ∀ a, zh_arr a (zh X Y R rg n) → post (f_size, f_maxEdges, f_phase, f_op, f_rule, f_stored, f_rings, nI (zf_cn a 100), f_chainLen, f_pieces, f_halves, f_stackTop, f_outEdges, f_outRings, f_traced, a_vertX, a_vertY, a_ringStart, a_ringPoly, a_dirX, a_dirY, a_edgePoly, a, a_chainId, a_chainKey, a_pieceKey, a_weightA, a_weightB, a_org, a_round, a_byEnds, a_cw, a_lastAt, a_windA, a_windB, a_reached, a_stack, a_outDir, a_used, a_outHalf, a_ringFrom)) :
    ∀ (m j : Nat) (a : Nat → Int32), 100 - j < m → j ≤ 100 → (∀ c, c < j → a c = 0) → wX_findHotPixels_2 post f_size f_maxEdges f_phase f_op f_rule f_stored f_rings f_hotCount f_chainLen f_pieces f_halves f_stackTop f_outEdges f_outRings f_traced m (nI j) a_vertX a_vertY a_ringStart a_ringPoly a_dirX a_dirY a_edgePoly a a_chainId a_chainKey a_pieceKey a_weightA a_weightB a_org a_round a_byEnds a_cw a_lastAt a_windA a_windB a_reached a_stack a_outDir a_used a_outHalf a_ringFrom
  | 0, j, a, h, _, _ => by omega
  | m + 1, j, a, h, hj, ha => by
    have ih := xh_2 (post := post) I A E hs k m
    unfold wX_findHotPixels_2
    refine zb_leN (a := 100) (by omega) (by omega) (fun w => ⟨n + 1, ?_⟩) (fun w => ⟨vp_in_nI w (by omega), ?_⟩)
    · have e : j = 100 := by omega
      subst e
      have := xh_28 I A E hs k (n + 1) 0 a (by omega) (by omega) (fun c hc => ⟨Or.inl (ha c hc), ⟨fun w => by rw [ha c hc] at w; exact absurd w (by decide), fun ⟨i, hi, _⟩ => by omega⟩⟩)
      rw [zf_cn0 100 ha] at this
      exact this
    · rw [nI_clamp (show j < 2 ^ 31 by omega), zn_b0]
      refine nm_e (nm_r (nI_1 j) (ih (j + 1) _ (by omega) (by omega) (fun c hc => ?_)))
      by_cases e : c = j
      · subst e; exact zu_s
      · rw [zu_n e]; exact ha c (by omega)
theorem xh_hot {post : SX → Prop} (I : ze_in sz n rg R X Y P) (A : zx_in n rg R X Y P a_vertX a_vertY a_ringStart a_ringPoly) (E : zx_ed X Y R P rg n a_dirX a_dirY a_edgePoly) (hs : f_stored = nI n)
    (k : ∀ a, zh_arr a (zh X Y R rg n) → post (f_size, f_maxEdges, f_phase, f_op, f_rule, f_stored, f_rings, nI (zf_cn a 100), f_chainLen, f_pieces, f_halves, f_stackTop, f_outEdges, f_outRings, f_traced, a_vertX, a_vertY, a_ringStart, a_ringPoly, a_dirX, a_dirY, a_edgePoly, a, a_chainId, a_chainKey, a_pieceKey, a_weightA, a_weightB, a_org, a_round, a_byEnds, a_cw, a_lastAt, a_windA, a_windB, a_reached, a_stack, a_outDir, a_used, a_outHalf, a_ringFrom)) : wpX_findHotPixels post (f_size, f_maxEdges, f_phase, f_op, f_rule, f_stored, f_rings, f_hotCount, f_chainLen, f_pieces, f_halves, f_stackTop, f_outEdges, f_outRings, f_traced, a_vertX, a_vertY, a_ringStart, a_ringPoly, a_dirX, a_dirY, a_edgePoly, a_isHot, a_chainId, a_chainKey, a_pieceKey, a_weightA, a_weightB, a_org, a_round, a_byEnds, a_cw, a_lastAt, a_windA, a_windB, a_reached, a_stack, a_outDir, a_used, a_outHalf, a_ringFrom) := by
  unfold wpX_findHotPixels
  exact ⟨101, xh_2 I A E hs k 101 0 _ (by omega) (by omega) (fun c hc => absurd hc (by omega))⟩
end
end
section
/-! the component: the share of an edge in a pixel -/
def zy_ext (d : Int) : Int := if d = 0 then 1 else if d < 0 then -d else d
def zy_lb (d off sc : Int) : Int := if 0 < d then 2 * (2 * off - 1) * sc else if d < 0 then 2 * (-2 * off - 1) * sc + 1 else if off = 0 then 0 else 1000000
def zy_hb (d off sc : Int) : Int := if 0 < d then 2 * (2 * off + 1) * sc - 1 else if d < 0 then 2 * (1 - 2 * off) * sc else 1000000
theorem zy_ext_b {d : Int} (h : -9 ≤ d ∧ d ≤ 9) : 1 ≤ zy_ext d ∧ zy_ext d ≤ 9 := by
  unfold zy_ext; split
  · omega
  · split <;> omega
theorem zy_1d {d off sc m H : Int} (hsc : 0 < sc) (hH : H = 2 * (zy_ext d * sc)) (m0 : 0 ≤ m) (m1 : m ≤ 1000) :
    (zy_lb d off sc ≤ m ∧ m ≤ zy_hb d off sc) ↔ (2 * (H * off) - H ≤ m * d ∧ m * d < 2 * (H * off) + H) := by
  unfold zy_lb zy_hb zy_ext at *
  rcases zg_sg d with z | z | z
  · rw [if_pos z, if_pos z]
    rw [if_neg (by omega), if_neg (by omega)] at hH
    subst hH
    have e1 : 2 * (2 * (d * sc) * off) - 2 * (d * sc) = d * (2 * (2 * off - 1) * sc) := by grind
    have e2 : 2 * (2 * (d * sc) * off) + 2 * (d * sc) = d * (2 * (2 * off + 1) * sc) := by grind
    rw [e1, e2, Int.mul_comm m d]
    constructor
    · rintro ⟨a, b⟩
      exact ⟨Int.mul_le_mul_of_nonneg_left a (Int.le_of_lt z), Int.mul_lt_mul_of_pos_left (by omega) z⟩
    · rintro ⟨a, b⟩
      have a' := zp_cn z a
      have b' := zp_ct z b
      exact ⟨a', by omega⟩
  · subst z
    simp only [if_neg (show ¬ (0 : Int) < 0 by omega)]
    rw [if_pos rfl] at hH
    rw [Int.mul_zero]
    have hH0 : 0 < H := by omega
    by_cases o : off = 0
    · subst o
      rw [if_pos rfl, Int.mul_zero]
      omega
    · rw [if_neg o]
      constructor
      · omega
      · rintro ⟨a, b⟩
        exfalso
        rcases Int.lt_or_le 0 off with w | w
        · have := Int.mul_le_mul_of_nonneg_left (show 1 ≤ off by omega) (Int.le_of_lt hH0)
          omega
        · have := Int.mul_le_mul_of_nonneg_left (show off ≤ -1 by omega) (Int.le_of_lt hH0)
          omega
  · obtain ⟨D, rfl⟩ : ∃ D, d = -D := ⟨-d, by omega⟩
    have hD : 0 < D := by omega
    rw [if_neg (by omega), if_pos z, if_neg (by omega), if_pos z]
    rw [if_neg (by omega), if_pos z] at hH
    have hH' : H = 2 * (D * sc) := by rw [hH]; grind
    subst hH'
    have e1 : 2 * (2 * (D * sc) * off) - 2 * (D * sc) = -(D * (2 * (1 - 2 * off) * sc)) := by clear hH; grind
    have e2 : 2 * (2 * (D * sc) * off) + 2 * (D * sc) = -(D * (2 * (-2 * off - 1) * sc)) := by clear hH; grind
    have e3 : m * -D = -(D * m) := by clear hH; grind
    rw [e1, e2, e3]
    constructor
    · rintro ⟨a, b⟩
      have a' := Int.mul_lt_mul_of_pos_left (show 2 * (-2 * off - 1) * sc < m by omega) hD
      have b' := Int.mul_le_mul_of_nonneg_left b (Int.le_of_lt hD)
      omega
    · rintro ⟨a, b⟩
      have a' := zp_cn hD (show D * m ≤ D * (2 * (1 - 2 * off) * sc) by omega)
      have b' := zp_ct hD (show D * (2 * (-2 * off - 1) * sc) < D * m by omega)
      omega
/-- sample m of M = 4 mx my lies in the pixel (c1, c2) -/
def zy_at (a1 a2 d1 d2 c1 c2 m : Int) : Prop := (2 * (2 * (zy_ext d1 * zy_ext d2) * (c1 - a1)) - 2 * (zy_ext d1 * zy_ext d2) ≤ m * d1 ∧ m * d1 < 2 * (2 * (zy_ext d1 * zy_ext d2) * (c1 - a1)) + 2 * (zy_ext d1 * zy_ext d2)) ∧
  (2 * (2 * (zy_ext d1 * zy_ext d2) * (c2 - a2)) - 2 * (zy_ext d1 * zy_ext d2) ≤ m * d2 ∧ m * d2 < 2 * (2 * (zy_ext d1 * zy_ext d2) * (c2 - a2)) + 2 * (zy_ext d1 * zy_ext d2))
/-- the answer of shareStart -/
def zy_ans (a1 a2 d1 d2 c1 c2 r : Int) : Prop := (r = -1 ∧ ∀ m : Int, 0 ≤ m → m ≤ 4 * (zy_ext d1 * zy_ext d2) → ¬ zy_at a1 a2 d1 d2 c1 c2 m) ∨ (0 ≤ r ∧ r ≤ 4 * (zy_ext d1 * zy_ext d2) ∧ zy_at a1 a2 d1 d2 c1 c2 r ∧ ∀ m : Int, 0 ≤ m → m < r → ¬ zy_at a1 a2 d1 d2 c1 c2 m)
theorem zy_iff {a1 a2 d1 d2 c1 c2 m : Int} (h1 : -9 ≤ d1 ∧ d1 ≤ 9) (h2 : -9 ≤ d2 ∧ d2 ≤ 9) (m0 : 0 ≤ m) (m1 : m ≤ 1000) :
    zy_at a1 a2 d1 d2 c1 c2 m ↔ ((zy_lb d1 (c1 - a1) (zy_ext d2) ≤ m ∧ m ≤ zy_hb d1 (c1 - a1) (zy_ext d2)) ∧ (zy_lb d2 (c2 - a2) (zy_ext d1) ≤ m ∧ m ≤ zy_hb d2 (c2 - a2) (zy_ext d1))) := by
  have e1 := zy_ext_b h1
  have e2 := zy_ext_b h2
  rw [zy_1d (H := 2 * (zy_ext d1 * zy_ext d2)) (by omega) rfl m0 m1, zy_1d (H := 2 * (zy_ext d1 * zy_ext d2)) (by omega) (by rw [Int.mul_comm (zy_ext d2)]) m0 m1]
  rfl
theorem zy_res {a1 a2 d1 d2 c1 c2 lo hi M : Int} (h1 : -9 ≤ d1 ∧ d1 ≤ 9) (h2 : -9 ≤ d2 ∧ d2 ≤ 9) (hM : M = 4 * (zy_ext d1 * zy_ext d2)) (hM' : 0 ≤ M ∧ M ≤ 324)
    (hl : zy_lb d1 (c1 - a1) (zy_ext d2) ≤ lo ∧ zy_lb d2 (c2 - a2) (zy_ext d1) ≤ lo ∧ 0 ≤ lo ∧ (lo = zy_lb d1 (c1 - a1) (zy_ext d2) ∨ lo = zy_lb d2 (c2 - a2) (zy_ext d1) ∨ lo = 0))
    (hh : hi ≤ zy_hb d1 (c1 - a1) (zy_ext d2) ∧ hi ≤ zy_hb d2 (c2 - a2) (zy_ext d1) ∧ hi ≤ M ∧ (hi = zy_hb d1 (c1 - a1) (zy_ext d2) ∨ hi = zy_hb d2 (c2 - a2) (zy_ext d1) ∨ hi = M)) :
    zy_ans a1 a2 d1 d2 c1 c2 (if hi < lo then -1 else lo) := by
  unfold zy_ans
  rw [← hM]
  by_cases c : hi < lo
  · rw [if_pos c]
    refine Or.inl ⟨rfl, fun m m0 m1 w => ?_⟩
    rw [zy_iff h1 h2 m0 (by omega)] at w
    omega
  · rw [if_neg c]
    refine Or.inr ⟨hl.2.2.1, by omega, ?_, fun m m0 m1 w => ?_⟩
    · rw [zy_iff h1 h2 hl.2.2.1 (by omega)]; omega
    · rw [zy_iff h1 h2 m0 (by omega)] at w
      omega
section
variable {f_size f_maxEdges f_phase f_op f_rule f_stored f_rings f_hotCount f_chainLen f_pieces f_halves f_stackTop f_outEdges f_outRings f_traced : Int32} {a_vertX a_vertY a_ringStart a_ringPoly a_dirX a_dirY a_edgePoly a_isHot a_chainId a_chainKey a_pieceKey a_weightA a_weightB a_org a_round a_byEnds a_cw a_lastAt a_windA a_windB a_reached a_stack a_outDir a_used a_outHalf a_ringFrom : Nat → Int32}
variable {sz n rg : Nat} {R X Y P : Nat → Nat}
theorem xy_ext {post : Int32 → Prop} {d : Int} (h : -9 ≤ d ∧ d ≤ 9) (k : post (zi (zy_ext d))) : wpX_extent post (f_size, f_maxEdges, f_phase, f_op, f_rule, f_stored, f_rings, f_hotCount, f_chainLen, f_pieces, f_halves, f_stackTop, f_outEdges, f_outRings, f_traced, a_vertX, a_vertY, a_ringStart, a_ringPoly, a_dirX, a_dirY, a_edgePoly, a_isHot, a_chainId, a_chainKey, a_pieceKey, a_weightA, a_weightB, a_org, a_round, a_byEnds, a_cw, a_lastAt, a_windA, a_windB, a_reached, a_stack, a_outDir, a_used, a_outHalf, a_ringFrom) (zi d) := by
  unfold wpX_extent
  unfold zy_ext at k
  refine zb_eq (b := 0) (by omega) (by omega) (fun w => ?_) (fun w => zb_le (a := 0) (by omega) (by omega) (fun w2 => ?_) (fun w2 => ?_))
  · rw [if_pos w] at k; exact k
  · rw [if_neg w, if_neg (by omega)] at k; exact k
  · rw [if_neg w, if_pos w2] at k; rw [zi_neg]; exact k
theorem xy_lb {post : Int32 → Prop} {d off sc : Int} (h : -9 ≤ d ∧ d ≤ 9) (ho : -9 ≤ off ∧ off ≤ 9) (k : post (zi (zy_lb d off sc))) : wpX_lowBound post (f_size, f_maxEdges, f_phase, f_op, f_rule, f_stored, f_rings, f_hotCount, f_chainLen, f_pieces, f_halves, f_stackTop, f_outEdges, f_outRings, f_traced, a_vertX, a_vertY, a_ringStart, a_ringPoly, a_dirX, a_dirY, a_edgePoly, a_isHot, a_chainId, a_chainKey, a_pieceKey, a_weightA, a_weightB, a_org, a_round, a_byEnds, a_cw, a_lastAt, a_windA, a_windB, a_reached, a_stack, a_outDir, a_used, a_outHalf, a_ringFrom) (zi d) (zi off) (zi sc) := by
  unfold wpX_lowBound
  unfold zy_lb at k
  refine zb_le (b := 0) (by omega) (by omega) (fun w => zb_le (a := 0) (by omega) (by omega) (fun w2 => zb_eq (b := 0) (by omega) (by omega) (fun w3 => ?_) (fun w3 => ?_)) (fun w2 => ?_)) (fun w => ?_)
  · rw [if_neg (by omega), if_neg (by omega), if_pos w3] at k; exact k
  · rw [if_neg (by omega), if_neg (by omega), if_neg w3] at k; exact k
  · rw [if_neg (by omega), if_pos w2] at k
    rw [show (-2 : Int32) = zi (-2) from rfl, show (2 : Int32) = zi 2 from rfl, show (1 : Int32) = zi 1 from rfl]
    simp only [zi_mul, zi_sub, zi_add]
    exact k
  · rw [if_pos w] at k
    rw [show (2 : Int32) = zi 2 from rfl, show (1 : Int32) = zi 1 from rfl]
    simp only [zi_mul, zi_sub, zi_add]
    exact k
theorem xy_hb {post : Int32 → Prop} {d off sc : Int} (h : -9 ≤ d ∧ d ≤ 9) (k : post (zi (zy_hb d off sc))) : wpX_highBound post (f_size, f_maxEdges, f_phase, f_op, f_rule, f_stored, f_rings, f_hotCount, f_chainLen, f_pieces, f_halves, f_stackTop, f_outEdges, f_outRings, f_traced, a_vertX, a_vertY, a_ringStart, a_ringPoly, a_dirX, a_dirY, a_edgePoly, a_isHot, a_chainId, a_chainKey, a_pieceKey, a_weightA, a_weightB, a_org, a_round, a_byEnds, a_cw, a_lastAt, a_windA, a_windB, a_reached, a_stack, a_outDir, a_used, a_outHalf, a_ringFrom) (zi d) (zi off) (zi sc) := by
  unfold wpX_highBound
  unfold zy_hb at k
  refine zb_le (b := 0) (by omega) (by omega) (fun w => zb_le (a := 0) (by omega) (by omega) (fun w2 => ?_) (fun w2 => ?_)) (fun w => ?_)
  · rw [if_neg (by omega), if_neg (by omega)] at k; exact k
  · rw [if_neg (by omega), if_pos w2] at k
    rw [show (2 : Int32) = zi 2 from rfl, show (1 : Int32) = zi 1 from rfl]
    simp only [zi_mul, zi_sub, zi_add]
    exact k
  · rw [if_pos w] at k
    rw [show (2 : Int32) = zi 2 from rfl, show (1 : Int32) = zi 1 from rfl]
    simp only [zi_mul, zi_sub, zi_add]
    exact k
theorem zy_lbb {d off sc : Int} (h : -9 ≤ d ∧ d ≤ 9) (ho : -9 ≤ off ∧ off ≤ 9) (hs : 1 ≤ sc ∧ sc ≤ 9) : (-1000 ≤ zy_lb d off sc ∧ zy_lb d off sc ≤ 1000000) ∧ (-1000 ≤ zy_hb d off sc ∧ zy_hb d off sc ≤ 1000000) := by
  have p1 := zx_prod (x := 2 * (2 * off - 1)) (y := sc) (A := 40) (B := 9) (by omega) (by omega)
  have p2 := zx_prod (x := 2 * (-2 * off - 1)) (y := sc) (A := 40) (B := 9) (by omega) (by omega)
  have p3 := zx_prod (x := 2 * (2 * off + 1)) (y := sc) (A := 40) (B := 9) (by omega) (by omega)
  have p4 := zx_prod (x := 2 * (1 - 2 * off)) (y := sc) (A := 40) (B := 9) (by omega) (by omega)
  unfold zy_lb zy_hb
  refine ⟨?_, ?_⟩
  · split
    · omega
    · split
      · omega
      · split <;> omega
  · split
    · omega
    · split <;> omega
theorem xy_share {post : Int32 → Prop} (I : ze_in sz n rg R X Y P) (A : zx_in n rg R X Y P a_vertX a_vertY a_ringStart a_ringPoly) (E : zx_ed X Y R P rg n a_dirX a_dirY a_edgePoly) {e x y : Nat} (he : e < n) (hx : x < 10) (hy : y < 10)
    (k : ∀ r : Int, zy_ans (X e) (Y e) (ze_d X R rg e) (ze_d Y R rg e) x y r → -1 ≤ r → r ≤ 324 → post (zi r)) : wpX_shareStart post (f_size, f_maxEdges, f_phase, f_op, f_rule, f_stored, f_rings, f_hotCount, f_chainLen, f_pieces, f_halves, f_stackTop, f_outEdges, f_outRings, f_traced, a_vertX, a_vertY, a_ringStart, a_ringPoly, a_dirX, a_dirY, a_edgePoly, a_isHot, a_chainId, a_chainKey, a_pieceKey, a_weightA, a_weightB, a_org, a_round, a_byEnds, a_cw, a_lastAt, a_windA, a_windB, a_reached, a_stack, a_outDir, a_used, a_outHalf, a_ringFrom) (nI e) (nI x) (nI y) := by
  have n12 := I.2.2.1
  have s10 := I.2.1
  have b := ze_db I he
  have i1 : vp_in (nI e) 12 := vp_in_nI (by omega) (by omega)
  have ex := zy_ext_b b.1
  have ey := zy_ext_b b.2.1
  have ox : -9 ≤ (x : Int) - X e ∧ (x : Int) - X e ≤ 9 := by omega
  have oy : -9 ≤ (y : Int) - Y e ∧ (y : Int) - Y e ≤ 9 := by omega
  have l1 := zy_lbb b.1 ox ey
  have l2 := zy_lbb b.2.1 oy ex
  have pm := zx_prod (x := zy_ext (ze_d X R rg e)) (y := zy_ext (ze_d Y R rg e)) (A := 9) (B := 9) (by omega) (by omega)
  have pm0 := Int.mul_nonneg (show 0 ≤ zy_ext (ze_d X R rg e) by omega) (show 0 ≤ zy_ext (ze_d Y R rg e) by omega)
  unfold wpX_shareStart
  simp only [nI_clamp (show e < 2 ^ 31 by omega), (A.2.2 e he).1, (A.2.2 e he).2, (E e he).1, (E e he).2.1]
  refine ⟨i1, xy_ext b.1 ⟨i1, xy_ext b.2.1 ⟨i1, nm_r (e' := zi ((x : Int) - X e)) (by rw [zi_n, zi_n, zi_sub]) ⟨i1, nm_r (e' := zi ((y : Int) - Y e)) (by rw [zi_n, zi_n, zi_sub]) ⟨i1, xy_lb b.1 ox ⟨i1, xy_lb b.2.1 oy ⟨i1, xy_hb b.1 ⟨i1, xy_hb b.2.1 ?_⟩⟩⟩⟩⟩⟩⟩⟩
  have m4 : (4 : Int32) * zi (zy_ext (ze_d X R rg e)) * zi (zy_ext (ze_d Y R rg e)) = zi (4 * (zy_ext (ze_d X R rg e) * zy_ext (ze_d Y R rg e))) := by
    rw [show (4 : Int32) = zi 4 from rfl, zi_mul, zi_mul, Int.mul_assoc]
  -- the clamps
  have fin : ∀ lo hi : Int, (zy_lb (ze_d X R rg e) ((x : Int) - X e) (zy_ext (ze_d Y R rg e)) ≤ lo ∧ zy_lb (ze_d Y R rg e) ((y : Int) - Y e) (zy_ext (ze_d X R rg e)) ≤ lo ∧ (lo = zy_lb (ze_d X R rg e) ((x : Int) - X e) (zy_ext (ze_d Y R rg e)) ∨ lo = zy_lb (ze_d Y R rg e) ((y : Int) - Y e) (zy_ext (ze_d X R rg e)))) →
      (hi ≤ zy_hb (ze_d X R rg e) ((x : Int) - X e) (zy_ext (ze_d Y R rg e)) ∧ hi ≤ zy_hb (ze_d Y R rg e) ((y : Int) - Y e) (zy_ext (ze_d X R rg e)) ∧ (hi = zy_hb (ze_d X R rg e) ((x : Int) - X e) (zy_ext (ze_d Y R rg e)) ∨ hi = zy_hb (ze_d Y R rg e) ((y : Int) - Y e) (zy_ext (ze_d X R rg e)))) →
      wX_shareStart_138 post (zi (zy_ext (ze_d X R rg e))) (zi (zy_ext (ze_d Y R rg e))) (zi lo) (zi hi) f_size f_maxEdges f_phase f_op f_rule f_stored f_rings f_hotCount f_chainLen f_pieces f_halves f_stackTop f_outEdges f_outRings f_traced a_vertX a_vertY a_ringStart a_ringPoly a_dirX a_dirY a_edgePoly a_isHot a_chainId a_chainKey a_pieceKey a_weightA a_weightB a_org a_round a_byEnds a_cw a_lastAt a_windA a_windB a_reached a_stack a_outDir a_used a_outHalf a_ringFrom := by
    intro lo hi hlo hhi
    have f2 : ∀ lo' : Int, (0 ≤ lo' ∧ lo ≤ lo' ∧ (lo' = lo ∨ lo' = 0)) → wX_shareStart_148 post (zi (zy_ext (ze_d X R rg e))) (zi (zy_ext (ze_d Y R rg e))) (zi lo') (zi hi) f_size f_maxEdges f_phase f_op f_rule f_stored f_rings f_hotCount f_chainLen f_pieces f_halves f_stackTop f_outEdges f_outRings f_traced a_vertX a_vertY a_ringStart a_ringPoly a_dirX a_dirY a_edgePoly a_isHot a_chainId a_chainKey a_pieceKey a_weightA a_weightB a_org a_round a_byEnds a_cw a_lastAt a_windA a_windB a_reached a_stack a_outDir a_used a_outHalf a_ringFrom := by
      intro lo' hlo'
      have f3 : ∀ hi' : Int, (hi' ≤ hi ∧ hi' ≤ 4 * (zy_ext (ze_d X R rg e) * zy_ext (ze_d Y R rg e)) ∧ (hi' = hi ∨ hi' = 4 * (zy_ext (ze_d X R rg e) * zy_ext (ze_d Y R rg e)))) → wX_shareStart_169 post (zi lo') (zi hi') f_size f_maxEdges f_phase f_op f_rule f_stored f_rings f_hotCount f_chainLen f_pieces f_halves f_stackTop f_outEdges f_outRings f_traced a_vertX a_vertY a_ringStart a_ringPoly a_dirX a_dirY a_edgePoly a_isHot a_chainId a_chainKey a_pieceKey a_weightA a_weightB a_org a_round a_byEnds a_cw a_lastAt a_windA a_windB a_reached a_stack a_outDir a_used a_outHalf a_ringFrom := by
        intro hi' hhi'
        have res := zy_res (a1 := X e) (a2 := Y e) (c1 := x) (c2 := y) (lo := lo') (hi := hi') b.1 b.2.1 rfl ⟨by omega, by omega⟩ ⟨by omega, by omega, by omega, by omega⟩ ⟨by omega, by omega, by omega, by omega⟩
        unfold wX_shareStart_169
        refine zb_lt (by omega) (by omega) (fun w => ?_) (fun w => ?_)
        · rw [if_pos w] at res; exact k _ res (by omega) (by omega)
        · rw [if_neg (by omega)] at res; exact k _ res (by omega) (by omega)
      unfold wX_shareStart_148
      rw [m4]
      refine zb_le (by omega) (by omega) (fun w => f3 _ (by omega)) (fun w => nm_e (f3 _ (by omega)))
    unfold wX_shareStart_138
    exact zb_le (a := 0) (by omega) (by omega) (fun w => f2 _ (by omega)) (fun w => f2 0 (by omega))
  have f0 : ∀ lo : Int, (zy_lb (ze_d X R rg e) ((x : Int) - X e) (zy_ext (ze_d Y R rg e)) ≤ lo ∧ zy_lb (ze_d Y R rg e) ((y : Int) - Y e) (zy_ext (ze_d X R rg e)) ≤ lo ∧ (lo = zy_lb (ze_d X R rg e) ((x : Int) - X e) (zy_ext (ze_d Y R rg e)) ∨ lo = zy_lb (ze_d Y R rg e) ((y : Int) - Y e) (zy_ext (ze_d X R rg e)))) →
      wX_shareStart_122 post (zi (zy_ext (ze_d X R rg e))) (zi (zy_ext (ze_d Y R rg e))) (zi (zy_hb (ze_d X R rg e) ((x : Int) - X e) (zy_ext (ze_d Y R rg e)))) (zi (zy_hb (ze_d Y R rg e) ((y : Int) - Y e) (zy_ext (ze_d X R rg e)))) (zi lo) f_size f_maxEdges f_phase f_op f_rule f_stored f_rings f_hotCount f_chainLen f_pieces f_halves f_stackTop f_outEdges f_outRings f_traced a_vertX a_vertY a_ringStart a_ringPoly a_dirX a_dirY a_edgePoly a_isHot a_chainId a_chainKey a_pieceKey a_weightA a_weightB a_org a_round a_byEnds a_cw a_lastAt a_windA a_windB a_reached a_stack a_outDir a_used a_outHalf a_ringFrom := by
    intro lo hlo
    unfold wX_shareStart_122
    exact zb_le (by omega) (by omega) (fun w => fin _ _ hlo (by omega)) (fun w => fin _ _ hlo (by omega))
  exact zb_le (by omega) (by omega) (fun w => f0 _ (by omega)) (fun w => f0 _ (by omega))
end
end
section
/-! the component: the chain of an edge -/
theorem zy_ww {d1 d2 : Int} (h2 : 1 ≤ zy_ext d2) : zp_w (2 * (zy_ext d1 * zy_ext d2)) d1 := by
  refine ⟨zy_ext d2, ?_⟩
  unfold zy_ext at *
  rcases zg_sg d1 with z | z | z
  · right; left
    rw [if_neg (show ¬ d1 = 0 by omega), if_neg (show ¬ d1 < 0 by omega)]
    exact ⟨by omega, z, rfl⟩
  · exact Or.inl z
  · right; right
    rw [if_neg (show ¬ d1 = 0 by omega), if_pos z]
    refine ⟨by omega, z, ?_⟩
    rw [Int.neg_mul]; omega
theorem zy_to {a c d m E : Int} (h : 2 * (2 * E * (c - a)) - 2 * E ≤ m * d ∧ m * d < 2 * (2 * E * (c - a)) + 2 * E) :
    4 * E * (2 * (5040 * c) - 5040) ≤ (4 * E - m) * (2 * (5040 * a) + 0 * d) + m * (2 * (5040 * a) + 10080 * d) ∧ (4 * E - m) * (2 * (5040 * a) + 0 * d) + m * (2 * (5040 * a) + 10080 * d) < 4 * E * (2 * (5040 * c) + 5040) := by
  have e1 : 4 * E * (2 * (5040 * c) - 5040) = 10080 * (2 * (2 * E * (c - a)) - 2 * E) + 40320 * (E * a) := by clear h; grind
  have e2 : 4 * E * (2 * (5040 * c) + 5040) = 10080 * (2 * (2 * E * (c - a)) + 2 * E) + 40320 * (E * a) := by clear h e1; grind
  have e3 : (4 * E - m) * (2 * (5040 * a) + 0 * d) + m * (2 * (5040 * a) + 10080 * d) = 10080 * (m * d) + 40320 * (E * a) := by clear h e1 e2; grind
  omega
theorem zy_fro {a c d k E : Int} (hE : 0 < E) (h : 10080 * c - 5040 ≤ 10080 * a + k * d ∧ 10080 * a + k * d < 10080 * c + 5040) :
    10080 * (2 * (2 * E * c) - 2 * E) ≤ (10080 - k) * (2 * (2 * E * a) + 0 * d) + k * (2 * (2 * E * a) + 4 * E * d) ∧ (10080 - k) * (2 * (2 * E * a) + 0 * d) + k * (2 * (2 * E * a) + 4 * E * d) < 10080 * (2 * (2 * E * c) + 2 * E) := by
  have e1 : 10080 * (2 * (2 * E * c) - 2 * E) = 4 * (E * (10080 * c - 5040)) := by clear h; grind
  have e2 : 10080 * (2 * (2 * E * c) + 2 * E) = 4 * (E * (10080 * c + 5040)) := by clear h e1; grind
  have e3 : (10080 - k) * (2 * (2 * E * a) + 0 * d) + k * (2 * (2 * E * a) + 4 * E * d) = 4 * (E * (10080 * a + k * d)) := by clear h e1 e2; grind
  have a1 := Int.mul_le_mul_of_nonneg_left h.1 (Int.le_of_lt hE)
  have a2 := Int.mul_lt_mul_of_pos_left h.2 hE
  omega
/-- X's samples see what the reference's samples see -/
theorem zy_k {a1 a2 d1 d2 : Int} (b1 : -9 ≤ d1 ∧ d1 ≤ 9) (b2 : -9 ≤ d2 ∧ d2 ≤ 9) (c : Nat) :
    (∃ m : Int, 0 ≤ m ∧ m ≤ 4 * (zy_ext d1 * zy_ext d2) ∧ zy_at a1 a2 d1 d2 (zc_x c) (zc_y c) m) ↔ (∃ k : Int, 0 ≤ k ∧ k ≤ 10080 ∧ zp_px c (10080 * a1 + k * d1) (10080 * a2 + k * d2)) := by
  have e1 := zy_ext_b b1
  have e2 := zy_ext_b b2
  have w1 := zy_ww (d1 := d1) (d2 := d2) e2.1
  have w2 := zy_ww (d1 := d2) (d2 := d1) e1.1
  rw [Int.mul_comm (zy_ext d2)] at w2
  have hE : 0 < zy_ext d1 * zy_ext d2 := Int.mul_pos (by omega) (by omega)
  unfold zy_at
  generalize zy_ext d1 * zy_ext d2 = E at *
  constructor
  · rintro ⟨m, m0, m1, h1, h2⟩
    obtain ⟨k, p1, p2, p3, p4⟩ := zp_smp (H := 5040) (zp_w5040 b1.1 b1.2) (zp_w5040 b2.1 b2.2) (n := 4 * E) (i := m) (k1 := 0) (k2 := 10080) (by omega) m0 m1 (by omega) (zy_to h1) (zy_to h2)
    exact ⟨k, p1, p2, ⟨by omega, by omega⟩, ⟨by omega, by omega⟩⟩
  · rintro ⟨k, k0, k1, h1, h2⟩
    obtain ⟨m, p1, p2, p3, p4⟩ := zp_smp (H := 2 * E) w1 w2 (n := 10080) (i := k) (k1 := 0) (k2 := 4 * E) (by omega) k0 k1 (by omega) (zy_fro hE h1) (zy_fro hE h2)
    have q : ∀ c a : Int, 2 * (2 * E * (c - a)) = 2 * (2 * E * c) - 2 * (2 * E * a) := by intro c a; clear p3 p4 h1 h2; grind
    refine ⟨m, p1, p2, ⟨?_, ?_⟩, ⟨?_, ?_⟩⟩
    · rw [q]; omega
    · rw [q]; omega
    · rw [q]; omega
    · rw [q]; omega
theorem zy_m1 {x x' d m m' E : Int} (hE : 0 < E) (h : 2 * (2 * E * x) - 2 * E ≤ m * d ∧ m * d < 2 * (2 * E * x) + 2 * E) (h' : 2 * (2 * E * x') - 2 * E ≤ m' * d ∧ m' * d < 2 * (2 * E * x') + 2 * E) (hm : m ≤ m') :
    ze_s d * x ≤ ze_s d * x' ∧ (ze_s d * x = ze_s d * x' → x = x') := by
  have cmp : ∀ u v : Int, 2 * (2 * E * u) - 2 * E < 2 * (2 * E * v) + 2 * E → u ≤ v := by
    intro u v w
    have e1 : 2 * (2 * E * u) = 4 * (E * u) := by clear h h' w; grind
    have e2 : 2 * (2 * E * v) = 4 * (E * v) := by clear h h' w e1; grind
    have : E * u < E * (v + 1) := by rw [Int.mul_add]; omega
    have := zp_ct hE this
    omega
  unfold ze_s
  rcases zg_sg d with z | z | z
  · rw [if_pos z]
    have := Int.mul_le_mul_of_nonneg_right hm (Int.le_of_lt z)
    have := cmp x x' (by omega)
    omega
  · rw [if_neg (by omega), if_neg (by omega)]
    rw [z, Int.mul_zero] at h h'
    have p := cmp x x' (by omega)
    have q := cmp x' x (by omega)
    omega
  · rw [if_neg (by omega), if_pos z]
    have := Int.mul_le_mul_of_nonpos_right hm (Int.le_of_lt z)
    have := cmp x' x (by omega)
    omega
theorem zy_mono {a1 a2 d1 d2 m m' : Int} {c c' : Nat} (hE : 0 < zy_ext d1 * zy_ext d2) (h : zy_at a1 a2 d1 d2 (zc_x c) (zc_y c) m) (h' : zy_at a1 a2 d1 d2 (zc_x c') (zc_y c') m') (hm : m ≤ m') :
    ze_g d1 d2 c ≤ ze_g d1 d2 c' ∧ (ze_g d1 d2 c = ze_g d1 d2 c' → c = c') := by
  have m1 := zy_m1 hE h.1 h'.1 hm
  have m2 := zy_m1 hE h.2 h'.2 hm
  rw [Int.mul_sub, Int.mul_sub] at m1 m2
  unfold ze_g
  generalize ze_s d1 * zc_x c = p at *
  generalize ze_s d1 * zc_x c' = q at *
  generalize ze_s d2 * zc_y c = r at *
  generalize ze_s d2 * zc_y c' = t at *
  generalize ze_s d1 * a1 = u at *
  generalize ze_s d2 * a2 = v at *
  refine ⟨by omega, fun e => ?_⟩
  have e1 := m1.2 (by omega)
  have e2 := m2.2 (by omega)
  exact zc_e (by omega) (by omega)
/-- a list from a function -/
def zx_fl (f : Nat → Nat) : Nat → List Nat
  | 0 => []
  | m + 1 => zx_fl f m ++ [f m]
theorem zx_fl_mem (f : Nat → Nat) (c : Nat) : ∀ m, c ∈ zx_fl f m ↔ ∃ i, i < m ∧ f i = c
  | 0 => ⟨fun h => absurd h (List.not_mem_nil), fun ⟨i, h, _⟩ => by omega⟩
  | m + 1 => by
    unfold zx_fl
    rw [List.mem_append, zx_fl_mem f c m, List.mem_singleton]
    constructor
    · rintro (⟨i, a, b⟩ | w)
      · exact ⟨i, by omega, b⟩
      · exact ⟨m, by omega, w.symm⟩
    · rintro ⟨i, a, b⟩
      by_cases e : i = m
      · subst e; exact Or.inr b.symm
      · exact Or.inl ⟨i, by omega, b⟩
theorem zx_fl_len (f : Nat → Nat) : ∀ m, (zx_fl f m).length = m
  | 0 => rfl
  | m + 1 => by unfold zx_fl; rw [List.length_append, zx_fl_len f m]; rfl
theorem zx_fl_pw (f : Nat → Nat) (g : Nat → Int) : ∀ m, (∀ i j, i < j → j < m → g (f i) < g (f j)) → (zx_fl f m).Pairwise (fun a b => g a < g b)
  | 0, _ => List.Pairwise.nil
  | m + 1, h => by
    unfold zx_fl
    rw [List.pairwise_append]
    refine ⟨zx_fl_pw f g m (fun i j a b => h i j a (by omega)), List.pairwise_singleton _ _, fun x hx y hy => ?_⟩
    rw [List.mem_singleton.mp hy]
    obtain ⟨i, a, b⟩ := (zx_fl_mem f x m).mp hx
    rw [← b]; exact h i m a (by omega)
theorem zx_fl_get (f : Nat → Nat) : ∀ m i, i < m → (zx_fl f m).getD i 0 = f i
  | 0, i, h => by omega
  | m + 1, i, h => by
    unfold zx_fl
    have l := zx_fl_len f m
    rw [List.getD_eq_getElem?_getD]
    by_cases e : i = m
    · subst e
      rw [List.getElem?_append_right (by omega), l]
      simp
    · rw [List.getElem?_append_left (by omega), ← List.getD_eq_getElem?_getD]
      exact zx_fl_get f m i (by omega)
/-- what findChain has collected of the pixels below S -/
def zx_ci (T : Nat → Nat → Prop) (len S : Nat) (ci ck : Nat → Int32) (id ky : Nat → Nat) : Prop :=
  (∀ i, i < len → ci i = nI (id i) ∧ ck i = nI (ky i) ∧ id i < S ∧ T (id i) (ky i) ∧ ky i ≤ 324) ∧ (∀ i j, i < j → j < len → ky i < ky j) ∧ (∀ c m, c < S → T c m → ∃ i, i < len ∧ id i = c) ∧ len ≤ S
theorem zx_ci_n {T : Nat → Nat → Prop} {len S S' : Nat} {ci ck : Nat → Int32} {id ky : Nat → Nat} (h : zx_ci T len S ci ck id ky) (hS : S ≤ S') (no : ∀ c m, S ≤ c → c < S' → ¬ T c m) : zx_ci T len S' ci ck id ky := by
  obtain ⟨h1, h2, h3, h4⟩ := h
  refine ⟨fun i hi => ?_, h2, fun c m hc ht => ?_, by omega⟩
  · obtain ⟨a, b, c, d, e⟩ := h1 i hi
    exact ⟨a, b, by omega, d, e⟩
  · rcases Nat.lt_or_ge c S with w | w
    · exact h3 c m w ht
    · exact absurd ht (no c m w hc)
section
variable {f_size f_maxEdges f_phase f_op f_rule f_stored f_rings f_hotCount f_chainLen f_pieces f_halves f_stackTop f_outEdges f_outRings f_traced : Int32} {a_vertX a_vertY a_ringStart a_ringPoly a_dirX a_dirY a_edgePoly a_isHot a_chainId a_chainKey a_pieceKey a_weightA a_weightB a_org a_round a_byEnds a_cw a_lastAt a_windA a_windB a_reached a_stack a_outDir a_used a_outHalf a_ringFrom : Nat → Int32}
variable {sz n rg : Nat} {R X Y P : Nat → Nat}
theorem xc_5 {post : SX → Prop} {T : Nat → Nat → Prop} {len S : Nat} {ci0 ck0 : Nat → Int32} {id ky : Nat → Nat} (hL : f_chainLen = nI len) (C : zx_ci T len S ci0 ck0 id ky) (hS : S < 100) {m : Nat} (hm : m ≤ 324) (ht : T S m) (tu : ∀ c m', T c m' → ∀ c', T c' m' → c = c')
    (tf : ∀ m', T S m' → m' = m)
    (k : ∀ ci ck id' ky', zx_ci T (len + 1) (S + 1) ci ck id' ky' → post (f_size, f_maxEdges, f_phase, f_op, f_rule, f_stored, f_rings, f_hotCount, nI (len + 1), f_pieces, f_halves, f_stackTop, f_outEdges, f_outRings, f_traced, a_vertX, a_vertY, a_ringStart, a_ringPoly, a_dirX, a_dirY, a_edgePoly, a_isHot, ci, ck, a_pieceKey, a_weightA, a_weightB, a_org, a_round, a_byEnds, a_cw, a_lastAt, a_windA, a_windB, a_reached, a_stack, a_outDir, a_used, a_outHalf, a_ringFrom)) :
    ∀ (j : Nat) (ci ck : Nat → Int32), j ≤ len → (∀ i, i < j → ci i = ci0 i ∧ ck i = ck0 i) → (∀ i, j < i → i ≤ len → ci i = ci0 (i - 1) ∧ ck i = ck0 (i - 1)) → (∀ i, j ≤ i → i < len → m < ky i) →
      wX_insertInChain_5 post (nI S) (nI m) f_size f_maxEdges f_phase f_op f_rule f_stored f_rings f_hotCount f_chainLen f_pieces f_halves f_stackTop f_outEdges f_outRings f_traced (j + 1) (nI j) a_vertX a_vertY a_ringStart a_ringPoly a_dirX a_dirY a_edgePoly a_isHot ci ck a_pieceKey a_weightA a_weightB a_org a_round a_byEnds a_cw a_lastAt a_windA a_windB a_reached a_stack a_outDir a_used a_outHalf a_ringFrom
  | j, ci, ck, hj, g1, g2, g3 => by
    obtain ⟨c1, c2, c3, c4⟩ := C
    have fin : (j = 0 ∨ ky (j - 1) ≤ m) → wX_insertInChain_55 post (nI S) (nI m) (nI j) f_size f_maxEdges f_phase f_op f_rule f_stored f_rings f_hotCount f_chainLen f_pieces f_halves f_stackTop f_outEdges f_outRings f_traced a_vertX a_vertY a_ringStart a_ringPoly a_dirX a_dirY a_edgePoly a_isHot ci ck a_pieceKey a_weightA a_weightB a_org a_round a_byEnds a_cw a_lastAt a_windA a_windB a_reached a_stack a_outDir a_used a_outHalf a_ringFrom := by
      intro x
      subst hL
      unfold wX_insertInChain_55
      have i1 : vp_in (nI j) 100 := vp_in_nI (by omega) (by omega)
      simp only [nI_clamp (show j < 2 ^ 31 by omega)]
      have low : ∀ i, i < j → ky i < m := by
        intro i hi
        have q : ky (j - 1) < m := by
          rcases x with x | x
          · omega
          · rcases Nat.lt_or_ge (ky (j - 1)) m with w | w
            · exact w
            · exfalso
              have e : ky (j - 1) = m := by omega
              have z := c1 (j - 1) (by omega)
              have := tu _ _ z.2.2.2.1 S (by rw [e]; exact ht)
              omega
        by_cases e : i = j - 1
        · rw [e]; exact q
        · have := c2 i (j - 1) (by omega) (by omega); omega
      refine ⟨i1, nm_e ⟨i1, nm_e (nm_r (nI_1 len) (k _ _ (fun i => if i < j then id i else if i = j then S else id (i - 1)) (fun i => if i < j then ky i else if i = j then m else ky (i - 1)) ⟨fun i hi => ?_, fun a b hab hb => ?_, fun c m' hc ht' => ?_, by omega⟩))⟩⟩
      · dsimp only
        by_cases w1 : i < j
        · rw [if_pos w1, if_pos w1, zu_n (by omega), zu_n (by omega), (g1 i w1).1, (g1 i w1).2]
          obtain ⟨p1, p2, p3, p4, p5⟩ := c1 i (by omega)
          exact ⟨p1, p2, by omega, p4, p5⟩
        · by_cases w2 : i = j
          · subst w2
            rw [if_neg w1, if_neg w1, if_pos rfl, if_pos rfl, zu_s, zu_s]; exact ⟨rfl, rfl, by omega, ht, hm⟩
          · rw [if_neg w1, if_neg w1, if_neg w2, if_neg w2, zu_n w2, zu_n w2, (g2 i (by omega) (by omega)).1, (g2 i (by omega) (by omega)).2]
            obtain ⟨p1, p2, p3, p4, p5⟩ := c1 (i - 1) (by omega)
            exact ⟨p1, p2, by omega, p4, p5⟩
      · dsimp only
        by_cases w1 : a < j
        · rw [if_pos w1]
          by_cases w2 : b < j
          · rw [if_pos w2]; exact c2 a b hab (by omega)
          · rw [if_neg w2]
            by_cases w3 : b = j
            · rw [if_pos w3]; exact low a w1
            · rw [if_neg w3]; exact c2 a (b - 1) (by omega) (by omega)
        · rw [if_neg w1, if_neg (show ¬ b < j by omega), if_neg (show ¬ b = j by omega)]
          by_cases w2 : a = j
          · rw [if_pos w2]; exact g3 (b - 1) (by omega) (by omega)
          · rw [if_neg w2]; exact c2 (a - 1) (b - 1) (by omega) (by omega)
      · by_cases e : c = S
        · exact ⟨j, by omega, by dsimp only; rw [if_neg (by omega), if_pos rfl, e]⟩
        · obtain ⟨i, hi, e'⟩ := c3 c m' (by omega) ht'
          by_cases w1 : i < j
          · exact ⟨i, by omega, by dsimp only; rw [if_pos w1, e']⟩
          · exact ⟨i + 1, by omega, by dsimp only; rw [if_neg (by omega), if_neg (by omega), Nat.add_sub_cancel, e']⟩
    unfold wX_insertInChain_5
    match j, hj, g1, g2, g3, fin with
    | 0, hj, g1, g2, g3, fin => exact br_t (by decide) (fin (Or.inl rfl))
    | j + 1, hj, g1, g2, g3, fin =>
      have ih := xc_5 (post := post) hL ⟨c1, c2, c3, c4⟩ hS hm ht tu tf k j
      have z := c1 j (by omega)
      have gj := g1 j (by omega)
      refine br_f (nI_nle (by omega) (by omega)) ?_
      have e1 : ck j = nI (ky j) := gj.2.trans z.2.1
      have e2 : ci j = nI (id j) := gj.1.trans z.1
      simp only [nI_pred, nI_clamp (show j < 2 ^ 31 by omega), nI_clamp (show j + 1 < 2 ^ 31 by omega), e1, e2]
      have i1 : vp_in (nI j) 100 := vp_in_nI (by omega) (by omega)
      have i2 : vp_in (nI (j + 1)) 100 := vp_in_nI (by omega) (by omega)
      refine ⟨i1, zb_leN (by omega) (by omega) (fun w => fin (Or.inr w)) (fun w => ⟨i1, i2, nm_e ⟨i1, i2, nm_e (nm_r (zb_m1 j) (ih _ _ (by omega) (fun i hi => ?_) (fun i hi hi' => ?_) (fun i hi hi' => ?_)))⟩⟩)⟩
      · rw [zu_n (by omega), zu_n (by omega)]; exact g1 i (by omega)
      · by_cases e : i = j + 1
        · subst e
          rw [zu_s, zu_s, Nat.add_sub_cancel, ← e1, ← e2]; exact gj
        · rw [zu_n e, zu_n e]; exact g2 i (by omega) hi'
      · by_cases e : i = j
        · subst e; exact w
        · exact g3 i (by omega) hi'
theorem xc_ins {post : SX → Prop} {T : Nat → Nat → Prop} {len S : Nat} {id ky : Nat → Nat} (hL : f_chainLen = nI len) (C : zx_ci T len S a_chainId a_chainKey id ky) (hS : S < 100) {m : Nat} (hm : m ≤ 324) (ht : T S m) (tu : ∀ c m', T c m' → ∀ c', T c' m' → c = c')
    (tf : ∀ m', T S m' → m' = m)
    (k : ∀ ci ck id' ky', zx_ci T (len + 1) (S + 1) ci ck id' ky' → post (f_size, f_maxEdges, f_phase, f_op, f_rule, f_stored, f_rings, f_hotCount, nI (len + 1), f_pieces, f_halves, f_stackTop, f_outEdges, f_outRings, f_traced, a_vertX, a_vertY, a_ringStart, a_ringPoly, a_dirX, a_dirY, a_edgePoly, a_isHot, ci, ck, a_pieceKey, a_weightA, a_weightB, a_org, a_round, a_byEnds, a_cw, a_lastAt, a_windA, a_windB, a_reached, a_stack, a_outDir, a_used, a_outHalf, a_ringFrom)) : wpX_insertInChain post (f_size, f_maxEdges, f_phase, f_op, f_rule, f_stored, f_rings, f_hotCount, f_chainLen, f_pieces, f_halves, f_stackTop, f_outEdges, f_outRings, f_traced, a_vertX, a_vertY, a_ringStart, a_ringPoly, a_dirX, a_dirY, a_edgePoly, a_isHot, a_chainId, a_chainKey, a_pieceKey, a_weightA, a_weightB, a_org, a_round, a_byEnds, a_cw, a_lastAt, a_windA, a_windB, a_reached, a_stack, a_outDir, a_used, a_outHalf, a_ringFrom) (nI S) (nI m) := by
  have h := xc_5 (post := post) hL C hS hm ht tu tf k len a_chainId a_chainKey (Nat.le_refl _) (fun i _ => ⟨rfl, rfl⟩) (fun i a b => by omega) (fun i a b => by omega)
  unfold wpX_insertInChain
  rw [hL] at h ⊢
  exact ⟨len + 1, h⟩
/-- c is hot and m is the least of X's samples in it -/
def zx_T (X Y R : Nat → Nat) (rg n sz e c m : Nat) : Prop := c / 10 < sz ∧ c % 10 < sz ∧ zh X Y R rg n c ∧ zy_ans (X e) (Y e) (ze_d X R rg e) (ze_d Y R rg e) (zc_x c) (zc_y c) (m : Int)
theorem xc_17 {post : SX → Prop} {J : Int32 → Int32 → Int32 → Int32 → Int32 → Int32 → Int32 → Int32 → Int32 → Int32 → Int32 → Int32 → Int32 → Int32 → Int32 → Int32 → (Nat → Int32) → (Nat → Int32) → (Nat → Int32) → (Nat → Int32) → (Nat → Int32) → (Nat → Int32) → (Nat → Int32) → (Nat → Int32) → (Nat → Int32) → (Nat → Int32) → (Nat → Int32) → (Nat → Int32) → (Nat → Int32) → (Nat → Int32) → (Nat → Int32) → (Nat → Int32) → (Nat → Int32) → (Nat → Int32) → (Nat → Int32) → (Nat → Int32) → (Nat → Int32) → (Nat → Int32) → (Nat → Int32) → (Nat → Int32) → (Nat → Int32) → (Nat → Int32) → Prop} (I : ze_in sz n rg R X Y P) (A : zx_in n rg R X Y P a_vertX a_vertY a_ringStart a_ringPoly) (E : zx_ed X Y R P rg n a_dirX a_dirY a_edgePoly) (hh : zh_arr a_isHot (zh X Y R rg n)) (hz : f_size = nI sz) {e x : Nat} (he : e < n) (hx : x < sz)
    (k : ∀ len ci ck id ky, zx_ci (zx_T X Y R rg n sz e) len (10 * (x + 1)) ci ck id ky → J (nI (x + 1)) f_size f_maxEdges f_phase f_op f_rule f_stored f_rings f_hotCount (nI len) f_pieces f_halves f_stackTop f_outEdges f_outRings f_traced a_vertX a_vertY a_ringStart a_ringPoly a_dirX a_dirY a_edgePoly a_isHot ci ck a_pieceKey a_weightA a_weightB a_org a_round a_byEnds a_cw a_lastAt a_windA a_windB a_reached a_stack a_outDir a_used a_outHalf a_ringFrom) :
    ∀ (f y len : Nat) (ci ck : Nat → Int32) (id ky : Nat → Nat), sz - y < f → y ≤ sz → zx_ci (zx_T X Y R rg n sz e) len (10 * x + y) ci ck id ky → wX_findChain_17 post J (nI e) (nI x) f (nI y) f_size f_maxEdges f_phase f_op f_rule f_stored f_rings f_hotCount (nI len) f_pieces f_halves f_stackTop f_outEdges f_outRings f_traced a_vertX a_vertY a_ringStart a_ringPoly a_dirX a_dirY a_edgePoly a_isHot ci ck a_pieceKey a_weightA a_weightB a_org a_round a_byEnds a_cw a_lastAt a_windA a_windB a_reached a_stack a_outDir a_used a_outHalf a_ringFrom
  | 0, y, len, ci, ck, id, ky, h, _, _ => by omega
  | f + 1, y, len, ci, ck, id, ky, h, hy, C => by
    have ih := xc_17 (post := post) I A E hh hz he hx k f
    have s10 := I.2.1
    have b := ze_db I he
    have e1 := zy_ext_b b.1
    have e2 := zy_ext_b b.2.1
    have hE : 0 < zy_ext (ze_d X R rg e) * zy_ext (ze_d Y R rg e) := Int.mul_pos (by omega) (by omega)
    subst hz
    unfold wX_findChain_17
    refine zb_leN (by omega) (by omega) (fun w => nm_r (nI_1 x) (k _ _ _ _ _ (zx_ci_n C (by omega) (fun c m h1 h2 ht => ?_)))) (fun w => ?_)
    · have := ht.2.1; omega
    · have ec : (10 : Int32) * nI x + nI y = nI (10 * x + y) := by rw [show (10 : Int32) = nI 10 from rfl, zb_mul, nI_add]
      have qx : zc_x (10 * x + y) = (x : Int) := by unfold zc_x; omega
      have qy : zc_y (10 * x + y) = (y : Int) := by unfold zc_y; omega
      have skip : (∀ m, ¬ zx_T X Y R rg n sz e (10 * x + y) m) → ∀ z0, z0 < (0 : Int32) → wX_findChain_50 post J (wX_findChain_17 post J (nI e) (nI x) f) (nI e) (nI x) (nI y) z0 (nI sz) f_maxEdges f_phase f_op f_rule f_stored f_rings f_hotCount (nI len) f_pieces f_halves f_stackTop f_outEdges f_outRings f_traced a_vertX a_vertY a_ringStart a_ringPoly a_dirX a_dirY a_edgePoly a_isHot ci ck a_pieceKey a_weightA a_weightB a_org a_round a_byEnds a_cw a_lastAt a_windA a_windB a_reached a_stack a_outDir a_used a_outHalf a_ringFrom := by
        intro hn z0 hz0
        unfold wX_findChain_50
        refine br_t hz0 (nm_r (nI_1 y) (ih (y + 1) len ci ck id ky (by omega) (by omega) (zx_ci_n C (by omega) (fun c m h1 h2 ht => hn m ?_))))
        have : c = 10 * x + y := by omega
        rw [← this]; exact ht
      rw [ec]
      simp only [nI_clamp (show 10 * x + y < 2 ^ 31 by omega)]
      refine ⟨vp_in_nI (by omega) (by omega), br_c (fun z => skip (fun m ht => ?_) _ (by decide)) (fun z => ?_)⟩
      · have q := (hh (10 * x + y) (by omega)).2.mpr ht.2.2.1
        rw [z] at q; exact absurd q (by decide)
      · have hot : zh X Y R rg n (10 * x + y) := by
          refine (hh (10 * x + y) (by omega)).2.mp ?_
          rcases (hh (10 * x + y) (by omega)).1 with v | v
          · exact absurd v z
          · exact v
        refine xy_share I A E he (show x < 10 by omega) (show y < 10 by omega) (fun r ans r0 r1 => ?_)
        rw [← qx, ← qy] at ans
        rcases Int.lt_or_le r 0 with w2 | w2
        · have er : r = -1 := by omega
          subst er
          refine skip (fun m ht => ?_) _ (by decide)
          rcases ht.2.2.2 with v | v
          · omega
          · rcases ans with u | u
            · exact u.2 m v.1 v.2.1 v.2.2.1
            · omega
        · obtain ⟨m, rfl⟩ : ∃ m : Nat, r = (m : Int) := ⟨r.toNat, by omega⟩
          rw [← zi_n]
          unfold wX_findChain_50
          refine br_f (nI_pos (by omega)) ?_
          rw [ec]
          have at_of : ∀ {c m : Nat}, zx_T X Y R rg n sz e c m → zy_at (X e) (Y e) (ze_d X R rg e) (ze_d Y R rg e) (zc_x c) (zc_y c) (m : Int) ∧ ∀ j : Int, 0 ≤ j → j < m → ¬ zy_at (X e) (Y e) (ze_d X R rg e) (ze_d Y R rg e) (zc_x c) (zc_y c) j := by
            intro c m ht
            rcases ht.2.2.2 with v | v
            · omega
            · exact ⟨v.2.2.1, v.2.2.2⟩
          have ht : zx_T X Y R rg n sz e (10 * x + y) m := ⟨by omega, by omega, hot, ans⟩
          refine xc_ins rfl C (by omega) (by omega) ht (fun c m' t c' t' => ?_) (fun m' t => ?_) (fun ci' ck' id' ky' C' => nm_r (nI_1 y) (ih (y + 1) _ _ _ _ _ (by omega) (by omega) C'))
          · have u := zy_mono hE (at_of t).1 (at_of t').1 (Int.le_refl _)
            have v := zy_mono hE (at_of t').1 (at_of t).1 (Int.le_refl _)
            exact u.2 (by omega)
          · rcases Nat.lt_trichotomy m' m with u | u | u
            · exact absurd (at_of t).1 ((at_of ht).2 _ (by omega) (by omega))
            · exact u
            · exact absurd (at_of ht).1 ((at_of t).2 _ (by omega) (by omega))
theorem xc_7 {post : SX → Prop} (I : ze_in sz n rg R X Y P) (A : zx_in n rg R X Y P a_vertX a_vertY a_ringStart a_ringPoly) (E : zx_ed X Y R P rg n a_dirX a_dirY a_edgePoly) (hh : zh_arr a_isHot (zh X Y R rg n)) (hz : f_size = nI sz) {e : Nat} (he : e < n)
    (k : ∀ len ci ck id ky, zx_ci (zx_T X Y R rg n sz e) len (10 * sz) ci ck id ky → post (f_size, f_maxEdges, f_phase, f_op, f_rule, f_stored, f_rings, f_hotCount, nI len, f_pieces, f_halves, f_stackTop, f_outEdges, f_outRings, f_traced, a_vertX, a_vertY, a_ringStart, a_ringPoly, a_dirX, a_dirY, a_edgePoly, a_isHot, ci, ck, a_pieceKey, a_weightA, a_weightB, a_org, a_round, a_byEnds, a_cw, a_lastAt, a_windA, a_windB, a_reached, a_stack, a_outDir, a_used, a_outHalf, a_ringFrom)) :
    ∀ (f x len : Nat) (ci ck : Nat → Int32) (id ky : Nat → Nat), sz - x < f → x ≤ sz → zx_ci (zx_T X Y R rg n sz e) len (10 * x) ci ck id ky → wX_findChain_7 post (nI e) f (nI x) f_size f_maxEdges f_phase f_op f_rule f_stored f_rings f_hotCount (nI len) f_pieces f_halves f_stackTop f_outEdges f_outRings f_traced a_vertX a_vertY a_ringStart a_ringPoly a_dirX a_dirY a_edgePoly a_isHot ci ck a_pieceKey a_weightA a_weightB a_org a_round a_byEnds a_cw a_lastAt a_windA a_windB a_reached a_stack a_outDir a_used a_outHalf a_ringFrom
  | 0, x, len, ci, ck, id, ky, h, _, _ => by omega
  | f + 1, x, len, ci, ck, id, ky, h, hx, C => by
    have ih := xc_7 (post := post) I A E hh hz he k f
    have s10 := I.2.1
    subst hz
    unfold wX_findChain_7
    refine zb_leN (by omega) (by omega) (fun w => ?_) (fun w => ⟨sz + 1, ?_⟩)
    · have : x = sz := by omega
      subst this
      exact k _ _ _ _ _ C
    · exact xc_17 I A E hh rfl he w (fun len' ci' ck' id' ky' C' => ih (x + 1) _ _ _ _ _ (by omega) (by omega) C') (sz + 1) 0 len ci ck id ky (by omega) (by omega) C
/-- X's chain is the reference's -/
theorem zx_same (I : ze_in sz n rg R X Y P) {e len : Nat} (he : e < n) {ci ck : Nat → Int32} {id ky : Nat → Nat} (C : zx_ci (zx_T X Y R rg n sz e) len (10 * sz) ci ck id ky) : zx_fl id len = ze_ch X Y R rg n e := by
  obtain ⟨c1, c2, c3, c4⟩ := C
  have b := ze_db I he
  have s10 := I.2.1
  have e1 := zy_ext_b b.1
  have e2 := zy_ext_b b.2.1
  have hE : 0 < zy_ext (ze_d X R rg e) * zy_ext (ze_d Y R rg e) := Int.mul_pos (by omega) (by omega)
  have at_of : ∀ {c m : Nat}, zx_T X Y R rg n sz e c m → (m : Int) ≤ 4 * (zy_ext (ze_d X R rg e) * zy_ext (ze_d Y R rg e)) ∧ zy_at (X e) (Y e) (ze_d X R rg e) (ze_d Y R rg e) (zc_x c) (zc_y c) (m : Int) := by
    intro c m ht
    rcases ht.2.2.2 with v | v
    · omega
    · exact ⟨v.2.1, v.2.2.1⟩
  obtain ⟨l, h1, h2, J⟩ := ze_chI I he
  refine ze_uniq (g := ze_g (ze_d X R rg e) (ze_d Y R rg e)) (zx_fl_pw id _ len (fun i j hij hj => ?_)) J.2.1 (fun c => ?_)
  · have zi := c1 i (by omega)
    have zj := c1 j hj
    have kk := c2 i j hij hj
    have u := zy_mono hE (at_of zi.2.2.2.1).2 (at_of zj.2.2.2.1).2 (by omega)
    rcases Int.lt_or_le (ze_g (ze_d X R rg e) (ze_d Y R rg e) (id i)) (ze_g (ze_d X R rg e) (ze_d Y R rg e) (id j)) with w | w
    · exact w
    · exfalso
      have ec := u.2 (by omega)
      have ti := zi.2.2.2.1
      have tj := zj.2.2.2.1
      rw [ec] at ti
      rcases tj.2.2.2 with v | v
      · omega
      · exact v.2.2.2 (ky i : Int) (by omega) (by omega) (at_of ti).2
  · rw [zx_fl_mem]
    constructor
    · rintro ⟨i, hi, ei⟩
      have z := c1 i hi
      rw [ei] at z
      obtain ⟨k, k0, k1, kp⟩ := (zy_k b.1 b.2.1 c).mp ⟨_, by omega, (at_of z.2.2.2.1).1, (at_of z.2.2.2.1).2⟩
      have ec := ze_pxu I he k c k0 k1 (by omega) kp
      have := J.2.2.2.1 k.toNat (by omega) (by rw [← ec]; exact z.2.2.2.1.2.2.1)
      rw [← ec] at this; exact this
    · intro hc
      obtain ⟨hot, j, hj, ej⟩ := J.2.2.1 c hc
      have pp := ze_pxp I he (show j ≤ 10080 by omega)
      rw [ej] at pp
      obtain ⟨m, m0, m1, ma⟩ := (zy_k b.1 b.2.1 c).mpr ⟨(j : Int), by omega, by omega, pp.2⟩
      -- the least sample
      have least : ∀ (t : Nat) (m : Int), m.toNat = t → 0 ≤ m → m ≤ 4 * (zy_ext (ze_d X R rg e) * zy_ext (ze_d Y R rg e)) → zy_at (X e) (Y e) (ze_d X R rg e) (ze_d Y R rg e) (zc_x c) (zc_y c) m → ∃ r : Nat, zy_ans (X e) (Y e) (ze_d X R rg e) (ze_d Y R rg e) (zc_x c) (zc_y c) (r : Int) := by
        intro t
        induction t using Nat.strongRecOn with
        | ind t ih =>
          intro m et m0 m1 ma
          by_cases q : ∃ j : Int, 0 ≤ j ∧ j < m ∧ zy_at (X e) (Y e) (ze_d X R rg e) (ze_d Y R rg e) (zc_x c) (zc_y c) j
          · obtain ⟨j, j0, j1, ja⟩ := q
            exact ih j.toNat (by omega) j rfl j0 (by omega) ja
          · exact ⟨m.toNat, Or.inr ⟨by omega, by omega, by rw [show ((m.toNat : Nat) : Int) = m by omega]; exact ma, fun j j0 j1 ja => q ⟨j, j0, by omega, ja⟩⟩⟩
      obtain ⟨r, ans⟩ := least _ m rfl m0 m1 ma
      -- the pixel lies in the grid
      have q1 := ze_1 (x := (X e : Int)) (x' := (X (ze_hd R rg e) : Int)) (k := (j : Int)) (by omega) (by omega) (by omega) (by omega) (by omega) (by omega)
      have gx : zc_x c < sz := by
        have h := pp.2.1.1
        have t : 10080 * (X e : Int) + (j : Int) * ze_d X R rg e ≤ 10080 * ((sz : Int) - 1) := by
          unfold ze_d
          have ee : 10080 * (X e : Int) + (j : Int) * ((X (ze_hd R rg e) : Int) - X e) = (10080 - (j : Int)) * X e + (j : Int) * X (ze_hd R rg e) := by clear h ma ans; grind
          have p1 := Int.mul_le_mul_of_nonneg_left (show (X e : Int) ≤ (sz : Int) - 1 by omega) (show 0 ≤ 10080 - (j : Int) by omega)
          have p2 := Int.mul_le_mul_of_nonneg_left (show (X (ze_hd R rg e) : Int) ≤ (sz : Int) - 1 by omega) (show 0 ≤ (j : Int) by omega)
          have ef : (10080 - (j : Int)) * ((sz : Int) - 1) + (j : Int) * ((sz : Int) - 1) = 10080 * ((sz : Int) - 1) := by clear h ma ans ee p1 p2; grind
          omega
        omega
      have gy : zc_y c < sz := by
        have h := pp.2.2.1
        have t : 10080 * (Y e : Int) + (j : Int) * ze_d Y R rg e ≤ 10080 * ((sz : Int) - 1) := by
          unfold ze_d
          have ee : 10080 * (Y e : Int) + (j : Int) * ((Y (ze_hd R rg e) : Int) - Y e) = (10080 - (j : Int)) * Y e + (j : Int) * Y (ze_hd R rg e) := by clear h ma ans; grind
          have p1 := Int.mul_le_mul_of_nonneg_left (show (Y e : Int) ≤ (sz : Int) - 1 by omega) (show 0 ≤ 10080 - (j : Int) by omega)
          have p2 := Int.mul_le_mul_of_nonneg_left (show (Y (ze_hd R rg e) : Int) ≤ (sz : Int) - 1 by omega) (show 0 ≤ (j : Int) by omega)
          have ef : (10080 - (j : Int)) * ((sz : Int) - 1) + (j : Int) * ((sz : Int) - 1) = 10080 * ((sz : Int) - 1) := by clear h ma ans ee p1 p2; grind
          omega
        omega
      unfold zc_x at gx
      unfold zc_y at gy
      exact c3 c r (by omega) ⟨by omega, by omega, hot, ans⟩
theorem xc_find {post : SX → Prop} (I : ze_in sz n rg R X Y P) (A : zx_in n rg R X Y P a_vertX a_vertY a_ringStart a_ringPoly) (E : zx_ed X Y R P rg n a_dirX a_dirY a_edgePoly) (hh : zh_arr a_isHot (zh X Y R rg n)) (hz : f_size = nI sz) {e : Nat} (he : e < n)
    (k : ∀ ci ck, (∀ i, i < (ze_ch X Y R rg n e).length → ci i = nI ((ze_ch X Y R rg n e).getD i 0)) → post (f_size, f_maxEdges, f_phase, f_op, f_rule, f_stored, f_rings, f_hotCount, nI (ze_ch X Y R rg n e).length, f_pieces, f_halves, f_stackTop, f_outEdges, f_outRings, f_traced, a_vertX, a_vertY, a_ringStart, a_ringPoly, a_dirX, a_dirY, a_edgePoly, a_isHot, ci, ck, a_pieceKey, a_weightA, a_weightB, a_org, a_round, a_byEnds, a_cw, a_lastAt, a_windA, a_windB, a_reached, a_stack, a_outDir, a_used, a_outHalf, a_ringFrom)) : wpX_findChain post (f_size, f_maxEdges, f_phase, f_op, f_rule, f_stored, f_rings, f_hotCount, f_chainLen, f_pieces, f_halves, f_stackTop, f_outEdges, f_outRings, f_traced, a_vertX, a_vertY, a_ringStart, a_ringPoly, a_dirX, a_dirY, a_edgePoly, a_isHot, a_chainId, a_chainKey, a_pieceKey, a_weightA, a_weightB, a_org, a_round, a_byEnds, a_cw, a_lastAt, a_windA, a_windB, a_reached, a_stack, a_outDir, a_used, a_outHalf, a_ringFrom) (nI e) := by
  unfold wpX_findChain
  refine ⟨sz + 1, xc_7 I A E hh hz he (fun len ci ck id ky C => ?_) (sz + 1) 0 0 _ _ (fun _ => 0) (fun _ => 0) (by omega) (by omega) ⟨fun i hi => absurd hi (by omega), fun i j _ hj => absurd hj (by omega), fun c m hc => absurd hc (by omega), by omega⟩⟩
  have s := zx_same I he C
  have l : (ze_ch X Y R rg n e).length = len := by rw [← s, zx_fl_len]
  have := k ci ck (fun i hi => by
    rw [l] at hi
    rw [← s, zx_fl_get id len i hi]
    exact (C.1 i hi).1)
  rw [l] at this
  exact this
end
end
section
/-! the component: build -/
section
variable {sz n rg : Nat} {R X Y P : Nat → Nat}
theorem ze_SL_pre (X Y R P : Nat → Nat) (rg n e : Nat) : ∀ d, ∃ r, ze_SL X Y R P rg n (e + d) = ze_SL X Y R P rg n e ++ r
  | 0 => ⟨[], by simp⟩
  | d + 1 => by
    obtain ⟨r, h⟩ := ze_SL_pre X Y R P rg n e d
    refine ⟨r ++ ze_pr (P (ze_rr R (e + d) rg)) (ze_ch X Y R rg n (e + d)), ?_⟩
    rw [← Nat.add_assoc, ze_SL, h, List.append_assoc]
theorem ze_getA {α : Type} (a b r : List α) (d : α) {i : Nat} (h : i < b.length) : (a ++ (b ++ r)).getD (a.length + i) d = b.getD i d := by
  rw [List.getD_eq_getElem?_getD, List.getD_eq_getElem?_getD, List.getElem?_append_right (by omega), Nat.add_sub_cancel_left, List.getElem?_append_left h]
/-- the steps of edge e -/
theorem ze_ed (I : ze_in sz n rg R X Y P) {e : Nat} (he : e < n) : ∀ i, i + 1 < (ze_ch X Y R rg n e).length →
    ze_su X Y R P rg n ((ze_SL X Y R P rg n e).length + i) = (ze_ch X Y R rg n e).getD i 0 ∧ ze_st X Y R P rg n ((ze_SL X Y R P rg n e).length + i) = (ze_ch X Y R rg n e).getD (i + 1) 0 ∧ ze_sp X Y R P rg n ((ze_SL X Y R P rg n e).length + i) = P (ze_rr R e rg) := by
  intro i hi
  obtain ⟨r, h⟩ := ze_SL_pre X Y R P rg n (e + 1) (n - (e + 1))
  rw [show e + 1 + (n - (e + 1)) = n by omega, ze_SL, List.append_assoc] at h
  have g := ze_getA (ze_SL X Y R P rg n e) (ze_pr (P (ze_rr R e rg)) (ze_ch X Y R rg n e)) r (0, 0, 0) (i := i) (by rw [ze_pr_len]; omega)
  rw [← h, ze_pr_get _ _ _ hi] at g
  unfold ze_su ze_st ze_sp
  rw [g]
  exact ⟨rfl, rfl, rfl⟩
theorem ze_lenS (I : ze_in sz n rg R X Y P) {e : Nat} (he : e < n) : (ze_SL X Y R P rg n (e + 1)).length = (ze_SL X Y R P rg n e).length + ((ze_ch X Y R rg n e).length - 1) ∧ 0 < (ze_ch X Y R rg n e).length ∧ (ze_ch X Y R rg n e).length ≤ 19 ∧ (ze_SL X Y R P rg n (e + 1)).length ≤ ze_N X Y R P rg n := by
  obtain ⟨l, h1, h2, -⟩ := ze_chI I he
  obtain ⟨r, h⟩ := ze_SL_pre X Y R P rg n (e + 1) (n - (e + 1))
  rw [show e + 1 + (n - (e + 1)) = n by omega] at h
  refine ⟨by rw [ze_SL, List.length_append, ze_pr_len], by rw [h1]; simp, by rw [h1]; simp; omega, ?_⟩
  unfold ze_N
  rw [h, List.length_append]; omega
/-- what build leaves behind, in X's arrays -/
def zb_X (X Y R P : Nat → Nat) (rg n K : Nat) (key rd cwf rb : Nat → Nat) (a_isHot a_weightA a_weightB a_org a_cw a_byEnds a_windA a_windB : Nat → Int32) : Prop :=
  zr_A (ze_N X Y R P rg n) K (ze_su X Y R P rg n) (ze_st X Y R P rg n) (ze_sp X Y R P rg n) (zx_og key) ∧
  ((∀ p, p < K → key p / 100 < key p % 100 ∧ key p < 10000) ∧ (∀ p q, p < q → q < K → key p < key q) ∧ (∀ i, i < ze_N X Y R P rg n → ∃ p, p < K ∧ key p = zq_k (ze_su X Y R P rg n i) (ze_st X Y R P rg n i)) ∧ (∀ p, p < K → ∃ i, i < ze_N X Y R P rg n ∧ key p = zq_k (ze_su X Y R P rg n i) (ze_st X Y R P rg n i)) ∧ K ≤ ze_N X Y R P rg n) ∧
  zh_arr a_isHot (zh X Y R rg n) ∧ (∀ h, h < 2 * K → a_org h = nI (zx_og key h)) ∧
  (∀ p, p < K → a_weightA p = zi (zv_w (ze_N X Y R P rg n) (ze_su X Y R P rg n) (ze_st X Y R P rg n) (ze_sp X Y R P rg n) 0 (key p / 100) (key p % 100)) ∧ a_weightB p = zi (zv_w (ze_N X Y R P rg n) (ze_su X Y R P rg n) (ze_st X Y R P rg n) (ze_sp X Y R P rg n) 1 (key p / 100) (key p % 100))) ∧
  (∀ h, h < 2 * K → a_cw h = nI (cwf h)) ∧ zx_rd (zx_og key) (2 * K) rd ∧ zx_cw (zx_og key) (2 * K) rd cwf ∧ zo_inv (zx_ek (zx_og key)) (2 * K) a_byEnds rb ∧
  (∀ h, h < 2 * K → a_windA h = zi (zv_L (ze_N X Y R P rg n) (ze_su X Y R P rg n) (ze_st X Y R P rg n) (ze_sp X Y R P rg n) 0 (zx_og key h) (zx_og key (zt h))) ∧ a_windB h = zi (zv_L (ze_N X Y R P rg n) (ze_su X Y R P rg n) (ze_st X Y R P rg n) (ze_sp X Y R P rg n) 1 (zx_og key h) (zx_og key (zt h))))
end
section
variable {f_size f_maxEdges f_phase f_op f_rule f_stored f_rings f_hotCount f_chainLen f_pieces f_halves f_stackTop f_outEdges f_outRings f_traced : Int32} {a_vertX a_vertY a_ringStart a_ringPoly a_dirX a_dirY a_edgePoly a_isHot a_chainId a_chainKey a_pieceKey a_weightA a_weightB a_org a_round a_byEnds a_cw a_lastAt a_windA a_windB a_reached a_stack a_outDir a_used a_outHalf a_ringFrom : Nat → Int32}
variable {sz n rg : Nat} {R X Y P : Nat → Nat}
theorem xb_46 {post : Int32 → SX → Prop} (I : ze_in sz n rg R X Y P) (A : zx_in n rg R X Y P a_vertX a_vertY a_ringStart a_ringPoly) (E : zx_ed X Y R P rg n a_dirX a_dirY a_edgePoly) (hh : zh_arr a_isHot (zh X Y R rg n)) (hz : f_size = nI sz) (hs : f_stored = nI n)
    (k : ∀ K key rd cwf rb cl st ci ck pk wA wB og ro be cw la wa wb rc stk, zb_X X Y R P rg n K key rd cwf rb a_isHot wA wB og cw be wa wb →
      post (nI K) (f_size, f_maxEdges, 1, f_op, f_rule, f_stored, f_rings, f_hotCount, cl, nI K, nI (2 * K), st, f_outEdges, f_outRings, f_traced, a_vertX, a_vertY, a_ringStart, a_ringPoly, a_dirX, a_dirY, a_edgePoly, a_isHot, ci, ck, pk, wA, wB, og, ro, be, cw, la, wa, wb, rc, stk, a_outDir, a_used, a_outHalf, a_ringFrom)) :
    ∀ (m e K : Nat) (key : Nat → Nat) (cl : Int32) (ci ck pk wA wB : Nat → Int32), n - e < m → e ≤ n → zq_rep (ze_SL X Y R P rg n e).length (ze_su X Y R P rg n) (ze_st X Y R P rg n) (ze_sp X Y R P rg n) K key pk wA wB →
      wX_build_46 post m (nI e) f_size f_maxEdges f_phase f_op f_rule f_stored f_rings f_hotCount cl (nI K) f_halves f_stackTop f_outEdges f_outRings f_traced a_vertX a_vertY a_ringStart a_ringPoly a_dirX a_dirY a_edgePoly a_isHot ci ck pk wA wB a_org a_round a_byEnds a_cw a_lastAt a_windA a_windB a_reached a_stack a_outDir a_used a_outHalf a_ringFrom
  | 0, e, K, key, cl, ci, ck, pk, wA, wB, h, _, _ => by omega
  | m + 1, e, K, key, cl, ci, ck, pk, wA, wB, h, he, Q => by
    have ih := xb_46 (post := post) I A E hh hz hs k m
    have n12 := I.2.2.1
    have N6 := ze_N216 I
    subst hs
    unfold wX_build_46
    refine zb_leN (by omega) (by omega) (fun w => ?_) (fun w => ?_)
    · have en : e = n := by omega
      subst en
      have AR := ze_arr I Q
      have Q' := Q
      obtain ⟨r1, r2, r3, r4, r5, r6⟩ := Q
      have hK : K ≤ 256 := AR.2.2.2.2.2.2.2
      refine xm_make rfl hK (fun p hp => ⟨(r1 p hp).1, (r1 p hp).2.2⟩) (fun o rc hO hrc => ?_)
      refine xs_sort AR hO rfl (fun ro be rd rb I1 I2 => ?_)
      refine xk_link AR hO rfl I1 (fun cw la cwf c1 c2 c3 => ⟨K + 1, ?_⟩)
      have w1 : ∀ p, p < K → wA p = zi (zv_w (ze_N X Y R P rg e) (ze_su X Y R P rg e) (ze_st X Y R P rg e) (ze_sp X Y R P rg e) 0 (zx_og key (2 * p)) (zx_og key (2 * p + 1))) := by
        intro p hp; rw [zx_og_e, zx_og_o]; exact (r5 p hp).1
      have w2 : ∀ p, p < K → wB p = zi (zv_w (ze_N X Y R P rg e) (ze_su X Y R P rg e) (ze_st X Y R P rg e) (ze_sp X Y R P rg e) 1 (zx_og key (2 * p)) (zx_og key (2 * p + 1))) := by
        intro p hp; rw [zx_og_e, zx_og_o]; exact (r5 p hp).2
      refine xb_89 AR (zk_rd I1) c2 hO c1 w1 w2 rfl rfl c3 (fun rc' wa wb stk T W => ?_) (K + 1) 0 _ rc _ _ _ (by omega) (by omega) ⟨fun h hh => Or.inl (hrc h hh), fun h hh z => ?_, fun h hh z => ?_⟩ (fun q hq => absurd hq (by omega))
      · exact k K key rd cwf rb _ _ _ _ _ _ _ _ _ _ _ _ _ _ _ _ ⟨AR, ⟨fun p hp => (r1 p hp).2, r2, r3, r4, r6⟩, hh, hO, r5, c1, zk_rd I1, c2, I2, W⟩
      · rw [hrc h hh] at z; exact absurd z (by decide)
      · rw [hrc h hh] at z; exact absurd z (by decide)
    · have L := ze_lenS I w
      have ed := ze_ed I w
      refine xc_find I A E hh hz w (fun ci' ck' hc => ⟨vp_in_nI (by omega) (by omega), ?_⟩)
      rw [nI_clamp (show e < 2 ^ 31 by omega), (E e w).2.2]
      unfold wpX_addChain
      obtain ⟨l, hl⟩ : ∃ l, (ze_ch X Y R rg n e).length = l + 1 := ⟨(ze_ch X Y R rg n e).length - 1, by omega⟩
      rw [hl] at L hc ed
      rw [Nat.add_sub_cancel] at L
      refine ⟨l + 1, ?_⟩
      rw [hl]
      refine xq_chain2 (s0 := (ze_SL X Y R P rg n e).length) (m := l) (l := fun i => (ze_ch X Y R rg n e).getD i 0) (fun i hi => ?_) (fun i hi => ?_) (fun i hi => ?_) (fun i hi => hc i hi) rfl (by omega) (by omega) _ (fun hl0 => ?_) (fun K' key' pk' wA' wB' Q' => ?_) (l + 1) 0 K key pk wA wB (by omega) (by omega) Q
      · exact ze_ok I i (by omega)
      · have a := ed i (by omega)
        have b := ed 0 (by omega)
        rw [Nat.add_zero] at b
        refine ⟨by rw [a.2.2, b.2.2], ze_sp2 I (by omega)⟩
      · have a := ed i (by omega)
        exact ⟨a.1, a.2.1⟩
      · have b := ed 0 (by omega)
        rw [Nat.add_zero] at b
        rw [b.2.2]
      · refine nm_r (nI_1 e) (ih (e + 1) K' key' _ _ _ _ _ _ (by omega) (by omega) ?_)
        rw [L.1]; exact Q'
theorem xb_build {post : Int32 → SX → Prop} (I : ze_in sz n rg R X Y P) (A : zx_in n rg R X Y P a_vertX a_vertY a_ringStart a_ringPoly) (hz : f_size = nI sz) (hs : f_stored = nI n) (hg : f_rings = nI rg) (hph : f_phase = 0)
    (k : ∀ K key rd cwf rb cl st dx dy ep hot ci ck pk wA wB og ro be cw la wa wb rc stk, zb_X X Y R P rg n K key rd cwf rb hot wA wB og cw be wa wb →
      post (nI K) (f_size, f_maxEdges, 1, f_op, f_rule, f_stored, f_rings, nI (zf_cn hot 100), cl, nI K, nI (2 * K), st, f_outEdges, f_outRings, f_traced, a_vertX, a_vertY, a_ringStart, a_ringPoly, dx, dy, ep, hot, ci, ck, pk, wA, wB, og, ro, be, cw, la, wa, wb, rc, stk, a_outDir, a_used, a_outHalf, a_ringFrom)) :
    wpX_build post (f_size, f_maxEdges, f_phase, f_op, f_rule, f_stored, f_rings, f_hotCount, f_chainLen, f_pieces, f_halves, f_stackTop, f_outEdges, f_outRings, f_traced, a_vertX, a_vertY, a_ringStart, a_ringPoly, a_dirX, a_dirY, a_edgePoly, a_isHot, a_chainId, a_chainKey, a_pieceKey, a_weightA, a_weightB, a_org, a_round, a_byEnds, a_cw, a_lastAt, a_windA, a_windB, a_reached, a_stack, a_outDir, a_used, a_outHalf, a_ringFrom) := by
  have r4 := ze_rg4 I
  unfold wpX_build
  refine br_t hph ⟨?_, ?_⟩
  · rw [hg]; exact vp_in_nI (by omega) (by omega)
  · have e : f_stored = a_ringStart f_rings.toNatClampNeg := by
      rw [hs, hg, nI_clamp (by omega), A.1 rg (by omega), I.2.2.2.2.1]
    refine br_t e (xe_prep I A hg (fun dx dy ep E => xh_hot I A E hs (fun hot hh => ⟨n + 1, ?_⟩)))
    refine xb_46 I A E hh hz hs (fun K key rd cwf rb cl st ci ck pk wA wB og ro be cw la wa wb rc stk Z => ?_) (n + 1) 0 0 (fun _ => 0) _ _ _ _ _ _ (by omega) (by omega) ?_
    · exact k K key rd cwf rb _ _ _ _ _ _ _ _ _ _ _ _ _ _ _ _ _ _ _ _ Z
    · refine ⟨fun p hp => absurd hp (by omega), fun p q _ hq => absurd hq (by omega), fun i hi => ?_, fun p hp => absurd hp (by omega), fun p hp => absurd hp (by omega), by omega⟩
      have z : (ze_SL X Y R P rg n 0).length = 0 := rfl
      omega
end
end
section
/-! the reference: edges, hot pixels, walks -/
def zy_in (n rg : Nat) (R X Y P : Nat → Nat) (vx vy rn po : Nat → Int32) : Prop := (∀ i, i < n → vx i = nI (X i) ∧ vy i = nI (Y i) ∧ rn i = nI (ze_rr R i rg)) ∧ (∀ r, r < rg → po r = nI (P r))
def zy_rep (L : List (Nat × Nat × Nat)) (st sp : Nat → Int32) : Prop := ∀ j, j < L.length → st j = nI (100 * (L.getD j (0, 0, 0)).1 + (L.getD j (0, 0, 0)).2.1) ∧ sp j = nI (L.getD j (0, 0, 0)).2.2
theorem zy_rep_a {L : List (Nat × Nat × Nat)} {st sp : Nat → Int32} (h : zy_rep L st sp) (u t p : Nat) : zy_rep (L ++ [(u, t, p)]) (upd st L.length (nI (100 * u + t))) (upd sp L.length (nI p)) := by
  intro j hj
  rw [List.length_append] at hj
  simp only [List.length_singleton] at hj
  by_cases e : j = L.length
  · subst e
    rw [zu_s, zu_s, List.getD_eq_getElem?_getD, List.getElem?_append_right (Nat.le_refl _), Nat.sub_self]
    exact ⟨rfl, rfl⟩
  · rw [zu_n e, zu_n e, List.getD_eq_getElem?_getD, List.getElem?_append_left (by omega), ← List.getD_eq_getElem?_getD]
    exact h j (by omega)
theorem ze_flen (px : Nat → Nat) (hot : Nat → Prop) (c0 k : Nat) : (ze_f px hot c0 k).length ≤ (ze_f px hot c0 (k + 1)).length := by
  by_cases c : hot (px k) ∧ px k ≠ (ze_f px hot c0 k).getLastD 0
  · rw [ze_f_t c, List.length_append]; omega
  · rw [ze_f_n c]; omega
theorem ze_flen2 (px : Nat → Nat) (hot : Nat → Prop) (c0 k : Nat) : ∀ d, (ze_f px hot c0 k).length ≤ (ze_f px hot c0 (k + d)).length
  | 0 => Nat.le_refl _
  | d + 1 => Nat.le_trans (ze_flen2 px hot c0 k d) (ze_flen px hot c0 (k + d))
theorem ze_flast (px : Nat → Nat) (hot : Nat → Prop) (c0 : Nat) : ∀ k, ∃ l, ze_f px hot c0 k = l ++ [(ze_f px hot c0 k).getLastD 0]
  | 0 => ⟨[], rfl⟩
  | k + 1 => by
    obtain ⟨l, h⟩ := ze_flast px hot c0 k
    by_cases c : hot (px k) ∧ px k ≠ (ze_f px hot c0 k).getLastD 0
    · rw [ze_f_t c]; exact ⟨ze_f px hot c0 k, by simp⟩
    · rw [ze_f_n c]; exact ⟨l, h⟩
section
variable {g_size g_most g_phase g_n g_open g_rings g_op g_rule g_hots g_steps g_pieces g_outs g_loops : Int32} {b_vx b_vy b_ring b_polyOf b_hot b_used b_step b_stepPoly b_pieceKey b_way b_out b_loop : Nat → Int32}
variable {sz n rg : Nat} {R X Y P : Nat → Nat}
theorem yb_33 {post : Int32 → Prop} (I : ze_in sz n rg R X Y P) (A : zy_in n rg R X Y P b_vx b_vy b_ring b_polyOf) {i r : Nat} (hi : i < n) (hr : r < rg) (h1 : R r < i) (h2 : i < R (r + 1)) (k : post (nI (R r))) :
    ∀ (m j : Nat), R r - j < m → j ≤ R r → wY_end_33 post (nI i) g_size g_most g_phase g_n g_open g_rings g_op g_rule g_hots g_steps g_pieces g_outs g_loops b_vx b_vy b_ring b_polyOf b_hot b_used b_step b_stepPoly b_pieceKey b_way b_out b_loop m (nI j)
  | 0, j, h, _ => by omega
  | m + 1, j, h, hj => by
    have ih := yb_33 I A hi hr h1 h2 k m
    have n12 := I.2.2.1
    have r4 := ze_rg4 I
    have ri : ze_rr R i rg = r := ze_rr_eq I.2.2.2.2.2.1 (by omega) h2 rg (by omega) (Nat.le_refl _)
    obtain ⟨r', a', b', c', d', e'⟩ := ze_ring I (show j < n by omega)
    unfold wY_end_33
    refine zb_leN (by omega) (by omega) (fun w => by omega) (fun w => ?_)
    simp only [nI_clamp (show j < 2 ^ 31 by omega), nI_clamp (show i < 2 ^ 31 by omega), (A.1 i hi).2.2, (A.1 j (by omega)).2.2, ri, e']
    refine ⟨vp_in_nI (by omega) (by omega), vp_in_nI (by omega) (by omega), zb_eqN (by omega) (by omega) (fun e => ?_) (fun e => ?_)⟩
    · subst e
      have : j = R r' := by omega
      rw [this]; exact k
    · have q : j < R r := by
        rcases Nat.lt_or_ge j (R r) with q | q
        · exact q
        · exfalso
          have ej : j = R r := by omega
          have g := I.2.2.2.2.2.1 r hr
          have := ze_rr_eq I.2.2.2.2.2.1 (r := r) (i := j) (by omega) (by omega) rg (by omega) (Nat.le_refl _)
          omega
      exact nm_r (nI_1 j) (ih (j + 1) (by omega) (by omega))
theorem yb_end {post : Int32 → Prop} (I : ze_in sz n rg R X Y P) (A : zy_in n rg R X Y P b_vx b_vy b_ring b_polyOf) (hn : g_n = nI n) {i : Nat} (hi : i < n) (k : post (nI (ze_hd R rg i))) : wpY_end post (g_size, g_most, g_phase, g_n, g_open, g_rings, g_op, g_rule, g_hots, g_steps, g_pieces, g_outs, g_loops, b_vx, b_vy, b_ring, b_polyOf, b_hot, b_used, b_step, b_stepPoly, b_pieceKey, b_way, b_out, b_loop) (nI i) := by
  have n12 := I.2.2.1
  have r4 := ze_rg4 I
  obtain ⟨r, a, b, c, d, e⟩ := ze_ring I hi
  have g := I.2.2.2.2.2.1 r a
  subst hn
  unfold wpY_end
  rw [nI_1]
  unfold ze_hd at k
  rw [e] at k
  have last : ¬ i + 1 < R (r + 1) → ∃ n33, wY_end_33 post (nI i) g_size g_most g_phase (nI n) g_open g_rings g_op g_rule g_hots g_steps g_pieces g_outs g_loops b_vx b_vy b_ring b_polyOf b_hot b_used b_step b_stepPoly b_pieceKey b_way b_out b_loop n33 0 := by
    intro q
    rw [if_neg q] at k
    exact ⟨R r + 1, yb_33 I A hi a (by omega) c k (R r + 1) 0 (by omega) (by omega)⟩
  refine zb_leN (by omega) (by omega) (fun w => last (by omega)) (fun w => ?_)
  obtain ⟨r', a', b', c', d', e'⟩ := ze_ring I w
  simp only [nI_clamp (show i + 1 < 2 ^ 31 by omega), nI_clamp (show i < 2 ^ 31 by omega), (A.1 i hi).2.2, (A.1 (i + 1) w).2.2, e, e']
  refine ⟨vp_in_nI (by omega) (by omega), vp_in_nI (by omega) (by omega), zb_eqN (by omega) (by omega) (fun q => ?_) (fun q => last (fun z => q ?_))⟩
  · subst q
    rw [if_pos (by omega)] at k; exact k
  · have := ze_rr_eq I.2.2.2.2.2.1 (r := r) (i := i + 1) (by omega) (by omega) rg (by omega) (Nat.le_refl _)
    omega
theorem yb_holds {post : Int32 → Prop} {num den c : Int} (h1 : -100000 ≤ num ∧ num ≤ 100000) (h2 : 0 ≤ den ∧ den ≤ 1000) (h3 : 0 ≤ c ∧ c ≤ 100) (k1 : zh_in num den c → post 1) (k0 : ¬ zh_in num den c → post 0) : wpY_holds post (g_size, g_most, g_phase, g_n, g_open, g_rings, g_op, g_rule, g_hots, g_steps, g_pieces, g_outs, g_loops, b_vx, b_vy, b_ring, b_polyOf, b_hot, b_used, b_step, b_stepPoly, b_pieceKey, b_way, b_out, b_loop) (zi num) (zi den) (zi c) := by
  have p1 := zx_prod (x := 2 * c - 1) (y := den) (A := 201) (B := 1000) (by omega) (by omega)
  have p2 := zx_prod (x := 2 * c + 1) (y := den) (A := 201) (B := 1000) (by omega) (by omega)
  unfold wpY_holds
  rw [show (2 : Int32) = zi 2 from rfl, show (1 : Int32) = zi 1 from rfl]
  simp only [zi_mul, zi_sub, zi_add]
  refine zb_lt (by omega) (by omega) (fun w => k0 (fun z => ?_)) (fun w => zb_le (by omega) (by omega) (fun w2 => k0 (fun z => ?_)) (fun w2 => k1 ⟨by omega, by omega⟩))
  · have := z.1; omega
  · have := z.2; omega
theorem yb_231 {post : SY → Prop} {H T : Nat → Prop} {den nx ny : Int} (h1 : -100000 ≤ nx ∧ nx ≤ 100000) (h1' : -100000 ≤ ny ∧ ny ≤ 100000) (h2 : 0 ≤ den ∧ den ≤ 1000) (hT : ∀ c, c < 100 → (T c ↔ (zh_in nx den (zc_x c) ∧ zh_in ny den (zc_y c))))
    (k : ∀ a, zh_arr a (fun c => H c ∨ T c) → post (g_size, g_most, g_phase, g_n, g_open, g_rings, g_op, g_rule, g_hots, g_steps, g_pieces, g_outs, g_loops, b_vx, b_vy, b_ring, b_polyOf, a, b_used, b_step, b_stepPoly, b_pieceKey, b_way, b_out, b_loop)) :
    ∀ (m j : Nat) (a : Nat → Int32), 100 - j < m → j ≤ 100 → zh_arr a (fun c => H c ∨ (c < j ∧ T c)) → wY_meet_231 post (zi den) (zi nx) (zi ny) g_size g_most g_phase g_n g_open g_rings g_op g_rule g_hots g_steps g_pieces g_outs g_loops m (nI j) b_vx b_vy b_ring b_polyOf a b_used b_step b_stepPoly b_pieceKey b_way b_out b_loop
  | 0, j, a, h, _, _ => by omega
  | m + 1, j, a, h, hj, ha => by
    have ih := yb_231 (post := post) h1 h1' h2 hT k m
    unfold wY_meet_231
    refine zb_leN (a := 100) (by omega) (by omega) (fun w => k a (zh_arr_e ha (fun c hc => ?_))) (fun w => ?_)
    · constructor
      · rintro (q | q)
        · exact Or.inl q
        · exact Or.inr q.2
      · rintro (q | q)
        · exact Or.inl q
        · exact Or.inr ⟨by omega, q⟩
    · have b := zc_b w
      have nxt : (∀ c, c < 100 → ((H c ∨ (c < j ∧ T c)) ↔ (H c ∨ (c < j + 1 ∧ T c)))) → (∀ y, y = nI j + 1 → wY_meet_231 post (zi den) (zi nx) (zi ny) g_size g_most g_phase g_n g_open g_rings g_op g_rule g_hots g_steps g_pieces g_outs g_loops m y b_vx b_vy b_ring b_polyOf a b_used b_step b_stepPoly b_pieceKey b_way b_out b_loop) := by
        intro e
        exact nm_r (nI_1 j) (ih (j + 1) a (by omega) (by omega) (zh_arr_e ha e))
      have noT : ¬ T j → ∀ c, c < 100 → ((H c ∨ (c < j ∧ T c)) ↔ (H c ∨ (c < j + 1 ∧ T c))) := by
        intro nt c hc
        constructor
        · rintro (q | q)
          · exact Or.inl q
          · exact Or.inr ⟨by omega, q.2⟩
        · rintro (q | q)
          · exact Or.inl q
          · by_cases e : c = j
            · subst e; exact absurd q.2 nt
            · exact Or.inr ⟨by omega, q.2⟩
      rw [zx_y w, zx_x w]
      refine ⟨by decide, yb_holds h1 h2 (by omega) (fun q => br_f (by decide) ⟨by decide, yb_holds h1' h2 (by omega) (fun q2 => br_f (by decide) ⟨vp_in_nI w (by omega), ?_⟩) (fun q2 => br_t rfl (nxt (noT (fun t => q2 ((hT j w).mp t).2)))) ⟩) (fun q => br_t rfl (nxt (noT (fun t => q ((hT j w).mp t).1))))⟩
      rw [nI_clamp (show j < 2 ^ 31 by omega), zn_b1]
      refine nm_e (nm_r (nI_1 j) (ih (j + 1) _ (by omega) (by omega) (zh_arr_e (zh_arr_u ha w) (fun c hc => ?_))))
      constructor
      · rintro ((v | v) | v)
        · exact Or.inl v
        · exact Or.inr ⟨by omega, v.2⟩
        · rw [v]; exact Or.inr ⟨by omega, (hT j w).mpr ⟨q, q2⟩⟩
      · rintro (v | v)
        · exact Or.inl (Or.inl v)
        · by_cases e : c = j
          · exact Or.inr e
          · exact Or.inl (Or.inr ⟨by omega, v.2⟩)
theorem yb_164 {post : SY → Prop} (I : ze_in sz n rg R X Y P) (A : zy_in n rg R X Y P b_vx b_vy b_ring b_polyOf) {H : Nat → Prop} (hh : zh_arr b_hot H) {e f : Nat} (he : e < n) {den t s : Int} (bd : 0 ≤ den ∧ den ≤ 200) (bt : -200 ≤ t ∧ t ≤ 200) (bs : -200 ≤ s ∧ s ≤ 200)
    (hcr : ∀ c, c < 100 → (zh_cr X Y R rg e f c ↔ (zh_ok den t s ∧ zh_in ((X e : Int) * den + ze_d X R rg e * t) den (zc_x c) ∧ zh_in ((Y e : Int) * den + ze_d Y R rg e * t) den (zc_y c))))
    (k : ∀ a, zh_arr a (fun c => H c ∨ zh_cr X Y R rg e f c) → post (g_size, g_most, g_phase, g_n, g_open, g_rings, g_op, g_rule, g_hots, g_steps, g_pieces, g_outs, g_loops, b_vx, b_vy, b_ring, b_polyOf, a, b_used, b_step, b_stepPoly, b_pieceKey, b_way, b_out, b_loop)) : wY_meet_164 post (nI e) (zi (ze_d X R rg e)) (zi (ze_d Y R rg e)) (zi den) (zi t) (zi s) g_size g_most g_phase g_n g_open g_rings g_op g_rule g_hots g_steps g_pieces g_outs g_loops b_vx b_vy b_ring b_polyOf b_hot b_used b_step b_stepPoly b_pieceKey b_way b_out b_loop := by
  have n12 := I.2.2.1
  have no : ¬ zh_ok den t s → post (g_size, g_most, g_phase, g_n, g_open, g_rings, g_op, g_rule, g_hots, g_steps, g_pieces, g_outs, g_loops, b_vx, b_vy, b_ring, b_polyOf, b_hot, b_used, b_step, b_stepPoly, b_pieceKey, b_way, b_out, b_loop) := fun h => k b_hot (zh_arr_e hh (fun c hc => ⟨Or.inl, fun w => w.elim id (fun w => absurd ((hcr c hc).mp w).1 h)⟩))
  have b := ze_db I he
  have s10 := I.2.1
  unfold wY_meet_164
  refine zb_eq (b := 0) (by omega) (by omega) (fun w => no (fun z => by have := z.1; omega)) (fun w1 => zb_lt (b := 0) (by omega) (by omega) (fun w => no (fun z => by have := z.2.1; omega)) (fun w2 => zb_lt (by omega) (by omega) (fun w => no (fun z => by have := z.2.2.1; omega)) (fun w3 =>
    zb_lt (b := 0) (by omega) (by omega) (fun w => no (fun z => by have := z.2.2.2.1; omega)) (fun w4 => zb_le (by omega) (by omega) (fun w5 => ?_) (fun w5 => no (fun z => by have := z.2.2.2.2; omega))))))
  have d0 : 0 < den := by omega
  have hx := zh_pix (x := (X e : Int)) (x' := (X (ze_hd R rg e) : Int)) (by omega) (by omega) (by omega) (by omega) d0 w2 w3
  have hy := zh_pix (x := (Y e : Int)) (x' := (Y (ze_hd R rg e) : Int)) (by omega) (by omega) (by omega) (by omega) d0 w2 w3
  have x1 := hx.1
  have x2 := hx.2.1
  have y1 := hy.1
  have y2 := hy.2.1
  have i1 : vp_in (nI e) 12 := vp_in_nI (by omega) (by omega)
  simp only [nI_clamp (show e < 2 ^ 31 by omega), (A.1 e he).1, (A.1 e he).2.1]
  refine ⟨i1, nm_r (e' := zi ((X e : Int) * den + ze_d X R rg e * t)) (by rw [zi_n, zi_mul, zi_mul, zi_add]) ⟨i1, nm_r (e' := zi ((Y e : Int) * den + ze_d Y R rg e * t)) (by rw [zi_n, zi_mul, zi_mul, zi_add]) ⟨101, ?_⟩⟩⟩
  unfold ze_d
  refine yb_231 (H := H) (T := zh_cr X Y R rg e f) (by omega) (by omega) (by omega) (fun c hc => ?_) k 101 0 b_hot (by omega) (by omega) (zh_arr_e hh (fun c hc => ⟨Or.inl, fun q => q.elim id (fun q => absurd q.1 (by omega))⟩))
  rw [hcr c hc]
  unfold ze_d
  exact ⟨fun z => z.2, fun z => ⟨⟨d0, w2, w3, w4, w5⟩, z⟩⟩
theorem yb_meet {post : SY → Prop} (I : ze_in sz n rg R X Y P) (A : zy_in n rg R X Y P b_vx b_vy b_ring b_polyOf) (hn : g_n = nI n) {H : Nat → Prop} (hh : zh_arr b_hot H) {e f : Nat} (he : e < n) (hf : f < n)
    (k : ∀ a, zh_arr a (fun c => H c ∨ zh_cr X Y R rg e f c) → post (g_size, g_most, g_phase, g_n, g_open, g_rings, g_op, g_rule, g_hots, g_steps, g_pieces, g_outs, g_loops, b_vx, b_vy, b_ring, b_polyOf, a, b_used, b_step, b_stepPoly, b_pieceKey, b_way, b_out, b_loop)) : wpY_meet post (g_size, g_most, g_phase, g_n, g_open, g_rings, g_op, g_rule, g_hots, g_steps, g_pieces, g_outs, g_loops, b_vx, b_vy, b_ring, b_polyOf, b_hot, b_used, b_step, b_stepPoly, b_pieceKey, b_way, b_out, b_loop) (nI e) (nI f) := by
  have n12 := I.2.2.1
  have i1 : vp_in (nI e) 12 := vp_in_nI (by omega) (by omega)
  have i2 : vp_in (nI f) 12 := vp_in_nI (by omega) (by omega)
  have h1 := ze_hd_lt I he
  have h2 := ze_hd_lt I hf
  have i3 : vp_in (nI (ze_hd R rg e)) 12 := vp_in_nI (by omega) (by omega)
  have i4 : vp_in (nI (ze_hd R rg f)) 12 := vp_in_nI (by omega) (by omega)
  have b := zh_bnd I he hf
  unfold wpY_meet
  refine yb_end I A hn he (yb_end I A hn hf ?_)
  simp only [nI_clamp (show e < 2 ^ 31 by omega), nI_clamp (show f < 2 ^ 31 by omega), nI_clamp (show ze_hd R rg e < 2 ^ 31 by omega), nI_clamp (show ze_hd R rg f < 2 ^ 31 by omega), (A.1 e he).1, (A.1 e he).2.1, (A.1 f hf).1, (A.1 f hf).2.1, (A.1 _ h1).1, (A.1 _ h1).2.1, (A.1 _ h2).1, (A.1 _ h2).2.1]
  have sb : ∀ a b : Nat, nI a - nI b = zi ((a : Int) - b) := by intro a b; rw [zi_n, zi_n, zi_sub]
  refine ⟨i2, i1, nm_r (sb _ _) ⟨i2, i1, nm_r (sb _ _) ⟨i3, i1, nm_r (sb _ _) ⟨i3, i1, nm_r (sb _ _) ⟨i4, i2, nm_r (sb _ _) ⟨i4, i2, nm_r (sb _ _) ?_⟩⟩⟩⟩⟩⟩
  simp only [zi_mul, zi_sub]
  refine nm_e (nm_e (nm_e ?_))
  refine zb_le (a := 0) (b := zh_den X Y R rg e f) (by omega) (by omega) (fun w => ?_) (fun w => nm_r (zi_neg _) (nm_r (zi_neg _) (nm_r (zi_neg _) ?_)))
  · exact yb_164 I A hh he ⟨w, b.1.2⟩ b.2.1 b.2.2 (fun c _ => zh_cr1 w) k
  · exact yb_164 I A hh he (den := -zh_den X Y R rg e f) (t := -zh_t X Y R rg e f) (s := -zh_s X Y R rg e f) (by omega) (by omega) (by omega) (fun c _ => zh_cr2 w) k
/-- the walk along one edge -/
theorem yb_26 {post : SY → Prop} (I : ze_in sz n rg R X Y P) (A : zy_in n rg R X Y P b_vx b_vy b_ring b_polyOf) (hh : zh_arr b_hot (zh X Y R rg n)) {e : Nat} (he : e < n)
    (k : ∀ st sp, zy_rep (ze_SL X Y R P rg n (e + 1)) st sp → post (g_size, g_most, g_phase, g_n, g_open, g_rings, g_op, g_rule, g_hots, nI (ze_SL X Y R P rg n (e + 1)).length, g_pieces, g_outs, g_loops, b_vx, b_vy, b_ring, b_polyOf, b_hot, b_used, st, sp, b_pieceKey, b_way, b_out, b_loop)) :
    ∀ (m j : Nat) (st sp : Nat → Int32), 10081 - j < m → j ≤ 10081 → zy_rep (ze_SL X Y R P rg n e ++ ze_pr (P (ze_rr R e rg)) (ze_f (ze_px X Y R rg e) (zh X Y R rg n) (ze_c X Y e) j)) st sp →
      wY_walk_26 post (nI e) (nI (ze_hd R rg e)) g_size g_most g_phase g_n g_open g_rings g_op g_rule g_hots g_pieces g_outs g_loops m (nI ((ze_f (ze_px X Y R rg e) (zh X Y R rg n) (ze_c X Y e) j).getLastD 0)) (nI j) (nI (ze_SL X Y R P rg n e ++ ze_pr (P (ze_rr R e rg)) (ze_f (ze_px X Y R rg e) (zh X Y R rg n) (ze_c X Y e) j)).length) b_vx b_vy b_ring b_polyOf b_hot b_used st sp b_pieceKey b_way b_out b_loop
  | 0, j, st, sp, h, _, _ => by omega
  | m + 1, j, st, sp, h, hj, Rp => by
    have ih := yb_26 (post := post) I A hh he k m
    have n12 := I.2.2.1
    have r4 := ze_rg4 I
    have s10 := I.2.1
    have hd := ze_hd_lt I he
    unfold wY_walk_26
    refine zb_ltN (a := 10080) (by omega) (by omega) (fun w => ?_) (fun w => ?_)
    · have e : j = 10081 := by omega
      subst e
      exact k st sp Rp
    · obtain ⟨r, a, bb, c, d, er⟩ := ze_ring I he
      subst er
      have i1 : vp_in (nI e) 12 := vp_in_nI (by omega) (by omega)
      have i2 : vp_in (nI (ze_hd R rg e)) 12 := vp_in_nI (by omega) (by omega)
      have d1 : ¬ (10080 : Int32) = 0 := by decide
      have b := ze_db I he
      have pp := ze_pxp I he w
      have px1 := ze_1 (x := (X e : Int)) (x' := (X (ze_hd R rg e) : Int)) (k := (j : Int)) (by omega) (by omega) (by omega) (by omega) (by omega) (by omega)
      have py1 := ze_1 (x := (Y e : Int)) (x' := (Y (ze_hd R rg e) : Int)) (k := (j : Int)) (by omega) (by omega) (by omega) (by omega) (by omega) (by omega)
      obtain ⟨cx, x1, x2, x3, x4, -, x6, x7⟩ := px1
      obtain ⟨cy, y1, y2, y3, y4, -, y6, y7⟩ := py1
      have ecode : ze_px X Y R rg e j = 10 * cx + cy := by unfold ze_px ze_d; rw [x2, y2]
      have sb : ∀ a b : Nat, nI a - nI b = zi ((a : Int) - b) := by intro a b; rw [zi_n, zi_n, zi_sub]
      have ex : ((nI (X e) * 10080 + (nI (X (ze_hd R rg e)) - nI (X e)) * nI j) + 5040) / 10080 = nI cx := by
        rw [sb, zi_n (X e), zi_n j, show (10080 : Int32) = zi 10080 from rfl, show (5040 : Int32) = zi 5040 from rfl, zi_mul, zi_mul, zi_add, zi_add, zi_div (by rw [Int.mul_comm (X e : Int), Int.mul_comm _ (j : Int)]; omega) (by omega), x3, ← zi_n]
      have ey : ((nI (Y e) * 10080 + (nI (Y (ze_hd R rg e)) - nI (Y e)) * nI j) + 5040) / 10080 = nI cy := by
        rw [sb, zi_n (Y e), zi_n j, show (10080 : Int32) = zi 10080 from rfl, show (5040 : Int32) = zi 5040 from rfl, zi_mul, zi_mul, zi_add, zi_add, zi_div (by rw [Int.mul_comm (Y e : Int), Int.mul_comm _ (j : Int)]; omega) (by omega), y3, ← zi_n]
      have ec : nI cx * 10 + nI cy = nI (ze_px X Y R rg e j) := by
        rw [show (10 : Int32) = nI 10 from rfl, zb_mul, nI_add, ecode, Nat.mul_comm]
      simp only [nI_clamp (show e < 2 ^ 31 by omega), nI_clamp (show ze_hd R rg e < 2 ^ 31 by omega), (A.1 e he).1, (A.1 e he).2.1, (A.1 e he).2.2, (A.1 _ hd).1, (A.1 _ hd).2.1, nI_clamp (show ze_rr R e rg < 2 ^ 31 by omega), A.2 _ a]
      refine ⟨i1, i2, i1, d1, nm_r ex ⟨i1, i2, i1, d1, nm_r ey (nm_r ec ?_)⟩⟩
      have pl := pp.1
      have hq := hh _ pl
      simp only [nI_clamp (show ze_px X Y R rg e j < 2 ^ 31 by omega)]
      -- the walk's own list
      have stay : ¬ (zh X Y R rg n (ze_px X Y R rg e j) ∧ ze_px X Y R rg e j ≠ (ze_f (ze_px X Y R rg e) (zh X Y R rg n) (ze_c X Y e) j).getLastD 0) → ∀ y, y = nI j + 1 →
          wY_walk_26 post (nI e) (nI (ze_hd R rg e)) g_size g_most g_phase g_n g_open g_rings g_op g_rule g_hots g_pieces g_outs g_loops m (nI ((ze_f (ze_px X Y R rg e) (zh X Y R rg n) (ze_c X Y e) j).getLastD 0)) y (nI (ze_SL X Y R P rg n e ++ ze_pr (P (ze_rr R e rg)) (ze_f (ze_px X Y R rg e) (zh X Y R rg n) (ze_c X Y e) j)).length) b_vx b_vy b_ring b_polyOf b_hot b_used st sp b_pieceKey b_way b_out b_loop := by
        intro hno
        refine nm_r (nI_1 j) ?_
        have q := ih (j + 1) st sp (by omega) (by omega)
        rw [ze_f_n hno] at q
        exact q Rp
      obtain ⟨l, hl⟩ := ze_flast (ze_px X Y R rg e) (zh X Y R rg n) (ze_c X Y e) j
      have lastlt : (ze_f (ze_px X Y R rg e) (zh X Y R rg n) (ze_c X Y e) j).getLastD 0 < 100 := by
        rcases Nat.eq_zero_or_pos j with z | z
        · subst z
          exact (ze_cb I he).2.2
        · obtain ⟨b', J⟩ := ze_fI (hot := zh X Y R rg n) (fun k hk => ze_pxp I he hk) (fun k c a b c' d => ze_pxu I he k c a b c' d) (ze_px0 I he).1 (zh_v X Y R rg he) (j - 1) (by omega)
          rw [show j - 1 + 1 = j by omega] at J
          obtain ⟨-, j', hj', ej'⟩ := J.2.2.1 ((ze_f (ze_px X Y R rg e) (zh X Y R rg n) (ze_c X Y e) j).getLastD 0) (by rw [hl]; simp)
          rw [← ej']
          exact (ze_pxp I he (by omega)).1
      have len1 := ze_flen2 (ze_px X Y R rg e) (zh X Y R rg n) (ze_c X Y e) j (10081 - j)
      rw [show j + (10081 - j) = 10081 by omega] at len1
      have L := ze_lenS I he
      have N6 := ze_N216 I
      have len2 : (ze_SL X Y R P rg n e ++ ze_pr (P (ze_rr R e rg)) (ze_f (ze_px X Y R rg e) (zh X Y R rg n) (ze_c X Y e) j)).length ≤ 216 := by
        rw [List.length_append, ze_pr_len]
        have : (ze_ch X Y R rg n e).length = (ze_f (ze_px X Y R rg e) (zh X Y R rg n) (ze_c X Y e) 10081).length := rfl
        omega
      generalize hLL : (ze_SL X Y R P rg n e ++ ze_pr (P (ze_rr R e rg)) (ze_f (ze_px X Y R rg e) (zh X Y R rg n) (ze_c X Y e) j)) = LL at *
      refine ⟨vp_in_nI pl (by omega), br_c (fun z => stay (fun q => ?_)) (fun z => zb_eqN (by omega) (by omega) (fun q => stay (fun v => v.2 q)) (fun q => zb_leN (a := 300) (by omega) (by omega) (fun v => by omega) (fun v => ?_)))⟩
      · have := hq.2.mpr q.1
        rw [z] at this; exact absurd this (by decide)
      · have hot : zh X Y R rg n (ze_px X Y R rg e j) := by
          refine hq.2.mp ?_
          rcases hq.1 with u | u
          · exact absurd u z
          · exact u
        have tk : zh X Y R rg n (ze_px X Y R rg e j) ∧ ze_px X Y R rg e j ≠ (ze_f (ze_px X Y R rg e) (zh X Y R rg n) (ze_c X Y e) j).getLastD 0 := ⟨hot, q⟩
        have i5 : vp_in (nI LL.length) 300 := vp_in_nI (by omega) (by omega)
        simp only [nI_clamp (show LL.length < 2 ^ 31 by omega)]
        refine ⟨i5, nm_e ⟨i1, vp_in_nI (by omega) (by omega), i5, nm_e (nm_r (nI_1 _) (nm_r (nI_1 j) ?_))⟩⟩
        have g := ih (j + 1) (upd st LL.length (nI (100 * (ze_f (ze_px X Y R rg e) (zh X Y R rg n) (ze_c X Y e) j).getLastD 0 + ze_px X Y R rg e j))) (upd sp LL.length (nI (P (ze_rr R e rg)))) (by omega) (by omega)
        have e1 : ze_SL X Y R P rg n e ++ ze_pr (P (ze_rr R e rg)) (ze_f (ze_px X Y R rg e) (zh X Y R rg n) (ze_c X Y e) (j + 1)) = LL ++ [((ze_f (ze_px X Y R rg e) (zh X Y R rg n) (ze_c X Y e) j).getLastD 0, ze_px X Y R rg e j, P (ze_rr R e rg))] := by
          rw [ze_f_t tk]
          have := ze_pr_app (P (ze_rr R e rg)) ((ze_f (ze_px X Y R rg e) (zh X Y R rg n) (ze_c X Y e) j).getLastD 0) (ze_px X Y R rg e j) l
          rw [← hl] at this
          rw [this, ← List.append_assoc, hLL]
        have e2 : (ze_f (ze_px X Y R rg e) (zh X Y R rg n) (ze_c X Y e) (j + 1)).getLastD 0 = ze_px X Y R rg e j := by rw [ze_f_t tk]; simp
        rw [e1, e2, List.length_append] at g
        have g' := g (zy_rep_a Rp _ _ _)
        rw [show nI ((ze_f (ze_px X Y R rg e) (zh X Y R rg n) (ze_c X Y e) j).getLastD 0) * 100 + nI (ze_px X Y R rg e j) = nI (100 * (ze_f (ze_px X Y R rg e) (zh X Y R rg n) (ze_c X Y e) j).getLastD 0 + ze_px X Y R rg e j) from by
          rw [show (100 : Int32) = nI 100 from rfl, zb_mul, nI_add, Nat.mul_comm]]
        exact g'
theorem yb_walk {post : SY → Prop} (I : ze_in sz n rg R X Y P) (A : zy_in n rg R X Y P b_vx b_vy b_ring b_polyOf) (hn : g_n = nI n) (hh : zh_arr b_hot (zh X Y R rg n)) {e : Nat} (he : e < n) (hs : g_steps = nI (ze_SL X Y R P rg n e).length) (Rp : zy_rep (ze_SL X Y R P rg n e) b_step b_stepPoly)
    (k : ∀ st sp, zy_rep (ze_SL X Y R P rg n (e + 1)) st sp → post (g_size, g_most, g_phase, g_n, g_open, g_rings, g_op, g_rule, g_hots, nI (ze_SL X Y R P rg n (e + 1)).length, g_pieces, g_outs, g_loops, b_vx, b_vy, b_ring, b_polyOf, b_hot, b_used, st, sp, b_pieceKey, b_way, b_out, b_loop)) : wpY_walk post (g_size, g_most, g_phase, g_n, g_open, g_rings, g_op, g_rule, g_hots, g_steps, g_pieces, g_outs, g_loops, b_vx, b_vy, b_ring, b_polyOf, b_hot, b_used, b_step, b_stepPoly, b_pieceKey, b_way, b_out, b_loop) (nI e) := by
  have n12 := I.2.2.1
  subst hs
  have i1 : vp_in (nI e) 12 := vp_in_nI (by omega) (by omega)
  unfold wpY_walk
  refine yb_end I A hn he ?_
  simp only [nI_clamp (show e < 2 ^ 31 by omega), (A.1 e he).1, (A.1 e he).2.1]
  refine ⟨i1, i1, nm_r (e' := nI (ze_c X Y e)) (by rw [show (10 : Int32) = nI 10 from rfl, zb_mul, nI_add, Nat.mul_comm]; rfl) ⟨10082, ?_⟩⟩
  have g := yb_26 (post := post) I A hh he k 10082 0 b_step b_stepPoly (by omega) (by omega)
  have e0 : ze_SL X Y R P rg n e ++ ze_pr (P (ze_rr R e rg)) (ze_f (ze_px X Y R rg e) (zh X Y R rg n) (ze_c X Y e) 0) = ze_SL X Y R P rg n e := by simp [ze_f, ze_pr]
  rw [e0] at g
  exact g Rp
end
end
section
/-! the reference: least, build -/
def zl_ls (wv : Nat → Int) (cnt : Nat) (aft r : Int) : Prop := (r = -1 ∧ ∀ i, i < cnt → wv i ≤ aft) ∨ (aft < r ∧ (∃ i, i < cnt ∧ wv i = r) ∧ ∀ j, j < cnt → aft < wv j → r ≤ wv j)
/-- the values in order -/
theorem zl_enum {wv : Nat → Int} {N K : Nat} {key : Nat → Nat} (so : ∀ p q, p < q → q < K → key p < key q) (h1 : ∀ s, s < N → wv s = -1 ∨ ∃ p, p < K ∧ wv s = (key p : Int)) (h2 : ∀ p, p < K → ∃ s, s < N ∧ (key p : Int) = wv s) {i : Nat} (hi : i ≤ K) {aft r : Int}
    (ha : aft = if i = 0 then -1 else (key (i - 1) : Int)) (h : zl_ls wv N aft r) : r = if i < K then (key i : Int) else -1 := by
  have big : ∀ p, p < K → (aft < (key p : Int) ↔ i ≤ p) := by
    intro p hp
    rw [ha]
    by_cases z : i = 0
    · rw [if_pos z]; omega
    · rw [if_neg z]
      constructor
      · intro w
        rcases Nat.lt_or_ge p i with q | q
        · exfalso
          by_cases e : p = i - 1
          · rw [e] at w; omega
          · have := so p (i - 1) (by omega) (by omega); omega
        · exact q
      · intro w
        have := so (i - 1) p (by omega) hp; omega
  by_cases c : i < K
  · rw [if_pos c]
    obtain ⟨s, hs, es⟩ := h2 i c
    have gi := (big i c).mpr (Nat.le_refl _)
    rcases h with ⟨-, q2⟩ | ⟨q1, ⟨t, ht, et⟩, q3⟩
    · have := q2 s hs; omega
    · have a := q3 s hs (by omega)
      rcases h1 t ht with w | ⟨p, hp, ep⟩
      · rw [ha] at q1
        split at q1 <;> omega
      · have b := (big p hp).mp (by omega)
        rcases Nat.lt_or_ge i p with w | w
        · have := so i p w hp; omega
        · have : p = i := by omega
          subst this; omega
  · rw [if_neg c]
    rcases h with q | ⟨q1, ⟨t, ht, et⟩, q3⟩
    · exact q.1
    · exfalso
      rcases h1 t ht with w | ⟨p, hp, ep⟩
      · rw [ha] at q1
        split at q1 <;> omega
      · have b := (big p hp).mp (by omega)
        omega
section
variable {g_size g_most g_phase g_n g_open g_rings g_op g_rule g_hots g_steps g_pieces g_outs g_loops : Int32} {b_vx b_vy b_ring b_polyOf b_hot b_used b_step b_stepPoly b_pieceKey b_way b_out b_loop : Nat → Int32}
variable {sz n rg : Nat} {R X Y P : Nat → Nat}
theorem yl_5 {post : Int32 → Prop} {cnt : Nat} {wv : Nat → Int} {aft : Int} (hc : cnt ≤ 300) (ha : -1 ≤ aft ∧ aft ≤ 10000) (hw : ∀ i, i < cnt → b_way i = zi (wv i) ∧ -1 ≤ wv i ∧ wv i ≤ 10000) (k : ∀ r, zl_ls wv cnt aft r → post (zi r)) :
    ∀ (m j : Nat) (r : Int), cnt - j < m → j ≤ cnt → zl_ls wv j aft r → -1 ≤ r → r ≤ 10000 → wY_least_5 post (zi aft) (nI cnt) g_size g_most g_phase g_n g_open g_rings g_op g_rule g_hots g_steps g_pieces g_outs g_loops b_vx b_vy b_ring b_polyOf b_hot b_used b_step b_stepPoly b_pieceKey b_way b_out b_loop m (zi r) (nI j)
  | 0, j, r, h, _, _, _, _ => by omega
  | m + 1, j, r, h, hj, L, r0, r1 => by
    have ih := yl_5 (post := post) hc ha hw k m
    unfold wY_least_5
    refine zb_leN (by omega) (by omega) (fun w => ?_) (fun w => ?_)
    · have : j = cnt := by omega
      subst this
      exact k r L
    · obtain ⟨e1, l1, l2⟩ := hw j w
      have i1 : vp_in (nI j) 300 := vp_in_nI (by omega) (by omega)
      simp only [nI_clamp (show j < 2 ^ 31 by omega), e1]
      have take : aft < wv j → (r = -1 ∨ wv j < r) → zl_ls wv (j + 1) aft (wv j) := by
        intro h1 h2
        refine Or.inr ⟨h1, ⟨j, by omega, rfl⟩, fun i hi hgt => ?_⟩
        by_cases e : i = j
        · subst e; omega
        · rcases L with q | q
          · have := q.2 i (by omega); omega
          · have := q.2.2 i (by omega) hgt
            omega
      have keep : (wv j ≤ aft ∨ (0 ≤ r ∧ r ≤ wv j)) → zl_ls wv (j + 1) aft r := by
        intro h1
        rcases L with q | ⟨q1, ⟨t, ht, et⟩, q3⟩
        · refine Or.inl ⟨q.1, fun i hi => ?_⟩
          by_cases e : i = j
          · subst e; omega
          · exact q.2 i (by omega)
        · refine Or.inr ⟨q1, ⟨t, by omega, et⟩, fun i hi hgt => ?_⟩
          by_cases e : i = j
          · subst e; omega
          · exact q3 i (by omega) hgt
      refine ⟨i1, zb_le (by omega) (by omega) (fun w1 => nm_r (nI_1 j) (ih (j + 1) r (by omega) (by omega) (keep (Or.inl w1)) r0 r1)) (fun w1 => zb_lt (b := 0) (by omega) (by omega) (fun w2 => ⟨i1, nm_e (nm_r (nI_1 j) (ih (j + 1) _ (by omega) (by omega) (take w1 (Or.inl (by omega))) l1 l2))⟩) (fun w2 => ⟨i1, zb_le (by omega) (by omega) (fun w3 => nm_r (nI_1 j) (ih (j + 1) r (by omega) (by omega) (keep (Or.inr ⟨w2, w3⟩)) r0 r1)) (fun w3 => ⟨i1, nm_e (nm_r (nI_1 j) (ih (j + 1) _ (by omega) (by omega) (take w1 (Or.inr w3)) l1 l2))⟩)⟩))⟩
theorem yl_least {post : Int32 → Prop} {cnt : Nat} {wv : Nat → Int} {aft : Int} (hc : cnt ≤ 300) (ha : -1 ≤ aft ∧ aft ≤ 10000) (hw : ∀ i, i < cnt → b_way i = zi (wv i) ∧ -1 ≤ wv i ∧ wv i ≤ 10000) (k : ∀ r, zl_ls wv cnt aft r → post (zi r)) : wpY_least post (g_size, g_most, g_phase, g_n, g_open, g_rings, g_op, g_rule, g_hots, g_steps, g_pieces, g_outs, g_loops, b_vx, b_vy, b_ring, b_polyOf, b_hot, b_used, b_step, b_stepPoly, b_pieceKey, b_way, b_out, b_loop) (zi aft) (nI cnt) := by
  unfold wpY_least
  exact ⟨cnt + 1, yl_5 hc ha hw k (cnt + 1) 0 (-1) (by omega) (by omega) (Or.inl ⟨rfl, fun i hi => absurd hi (by omega)⟩) (by omega) (by omega)⟩
theorem yl_flip {post : Int32 → Prop} {u t : Nat} (hu : u < 100) (ht : t < 100) (k : post (nI (100 * t + u))) : wpY_flip post (g_size, g_most, g_phase, g_n, g_open, g_rings, g_op, g_rule, g_hots, g_steps, g_pieces, g_outs, g_loops, b_vx, b_vy, b_ring, b_polyOf, b_hot, b_used, b_step, b_stepPoly, b_pieceKey, b_way, b_out, b_loop) (nI (100 * u + t)) := by
  unfold wpY_flip
  refine ⟨by decide, by decide, ?_⟩
  have e1 : nI (100 * u + t) - nI (100 * u + t) / 100 * 100 = nI t := by
    rw [show (100 : Int32) = nI 100 from rfl, zb_rem (by omega) (by omega) (by omega), show (100 * u + t) % 100 = t by omega]
  have e2 : nI (100 * u + t) / 100 = nI u := by
    rw [show (100 : Int32) = nI 100 from rfl, zb_div (by omega) (by omega) (by omega), show (100 * u + t) / 100 = u by omega]
  rw [e1, e2, show (100 : Int32) = nI 100 from rfl, zb_mul, nI_add, Nat.mul_comm]
  exact k
/-- the sorted table of the pieces, as both sides hold it -/
def zq_so (N K : Nat) (su st key : Nat → Nat) : Prop := (∀ p, p < K → key p / 100 < key p % 100 ∧ key p < 10000) ∧ (∀ p q, p < q → q < K → key p < key q) ∧ (∀ i, i < N → ∃ p, p < K ∧ key p = zq_k (su i) (st i)) ∧ (∀ p, p < K → ∃ i, i < N ∧ key p = zq_k (su i) (st i)) ∧ K ≤ N
theorem yl_200 {post : Int32 → SY → Prop} {N K : Nat} {su st key : Nat → Nat} (Q : zq_so N K su st key) (hN : N ≤ 216) (hs : g_steps = nI N) (hw : ∀ i, i < N → b_way i = zi (zq_k (su i) (st i) : Int) ∧ zq_k (su i) (st i) < 10000)
    (k : ∀ pk, (∀ p, p < K → pk p = nI (key p)) → post (nI K) (g_size, g_most, 1, g_n, g_open, g_rings, g_op, g_rule, g_hots, g_steps, nI K, g_outs, g_loops, b_vx, b_vy, b_ring, b_polyOf, b_hot, b_used, b_step, b_stepPoly, pk, b_way, b_out, b_loop)) :
    ∀ (m i : Nat) (pk : Nat → Int32), K - i < m → i ≤ K → (∀ p, p < i → pk p = nI (key p)) → wY_build_200 post g_size g_most g_phase g_n g_open g_rings g_op g_rule g_hots g_steps g_outs g_loops m (zi (if i < K then (key i : Int) else -1)) (nI i) b_vx b_vy b_ring b_polyOf b_hot b_used b_step b_stepPoly pk b_way b_out b_loop
  | 0, i, pk, h, _, _ => by omega
  | m + 1, i, pk, h, hi, hp => by
    have ih := yl_200 (post := post) Q hN hs hw k m
    obtain ⟨q1, q2, q3, q4, q5⟩ := Q
    subst hs
    unfold wY_build_200
    by_cases c : i < K
    · have b := (q1 i c).2
      rw [if_pos c]
      refine br_f (nI_ge (by omega) (by omega)) (br_f (by rw [show (0 : Int32) = zi 0 from rfl, zi_lt (by omega) (by omega)]; omega) ⟨vp_in_nI (by omega) (by omega), ?_⟩)
      rw [nI_clamp (show i < 2 ^ 31 by omega)]
      refine nm_e (nm_r (nI_1 i) (yl_least (wv := fun j => (zq_k (su j) (st j) : Int)) (by omega) (by omega) (fun j hj => ⟨(hw j hj).1, by omega, by have := (hw j hj).2; omega⟩) (fun r L => ?_)))
      have er := zl_enum (i := i + 1) q2 (fun s hs => Or.inr ?_) (fun p hp' => ?_) (by omega) (by rw [if_neg (by omega), Nat.add_sub_cancel]) L
      · rw [er]
        refine ih (i + 1) _ (by omega) (by omega) (fun p hp' => ?_)
        by_cases e : p = i
        · subst e; rw [zu_s, zi_n]
        · rw [zu_n e]; exact hp p (by omega)
      · obtain ⟨p, a, b⟩ := q3 s hs
        exact ⟨p, a, by rw [b]⟩
      · obtain ⟨s, a, b⟩ := q4 p hp'
        exact ⟨s, a, by rw [b]⟩
    · rw [if_neg c]
      have e : i = K := by omega
      subst e
      exact br_c (fun _ => k pk hp) (fun _ => br_t (by decide) (k pk hp))
theorem yl_139 {post : Int32 → SY → Prop} (I : ze_in sz n rg R X Y P) {K : Nat} {key : Nat → Nat} (Q : zq_so (ze_N X Y R P rg n) K (ze_su X Y R P rg n) (ze_st X Y R P rg n) key) (hs : g_steps = nI (ze_N X Y R P rg n)) (hp : g_pieces = 0) (Rp : zy_rep (ze_SL X Y R P rg n n) b_step b_stepPoly)
    (k : ∀ wy pk, (∀ p, p < K → pk p = nI (key p)) → post (nI K) (g_size, g_most, 1, g_n, g_open, g_rings, g_op, g_rule, g_hots, g_steps, nI K, g_outs, g_loops, b_vx, b_vy, b_ring, b_polyOf, b_hot, b_used, b_step, b_stepPoly, pk, wy, b_out, b_loop)) :
    ∀ (m j : Nat) (wy : Nat → Int32), ze_N X Y R P rg n - j < m → j ≤ ze_N X Y R P rg n → (∀ i, i < j → wy i = zi (zq_k (ze_su X Y R P rg n i) (ze_st X Y R P rg n i) : Int)) → wY_build_139 post g_size g_most g_phase g_n g_open g_rings g_op g_rule g_hots g_steps g_pieces g_outs g_loops m (nI j) b_vx b_vy b_ring b_polyOf b_hot b_used b_step b_stepPoly b_pieceKey wy b_out b_loop
  | 0, j, wy, h, _, _ => by omega
  | m + 1, j, wy, h, hj, hw => by
    have ih := yl_139 (post := post) I Q hs hp Rp k m
    have N6 := ze_N216 I
    have ok := ze_ok I
    subst hs
    unfold wY_build_139
    refine zb_leN (by omega) (by omega) (fun w => ?_) (fun w => ?_)
    · have e : j = ze_N X Y R P rg n := by omega
      subst e
      have hw' : ∀ i, i < ze_N X Y R P rg n → wy i = zi (zq_k (ze_su X Y R P rg n i) (ze_st X Y R P rg n i) : Int) ∧ zq_k (ze_su X Y R P rg n i) (ze_st X Y R P rg n i) < 10000 := fun i hi => ⟨hw i hi, (zq_kd (ok i hi).1 (ok i hi).2.1 (ok i hi).2.2).2.1⟩
      refine yl_least (aft := -1) (wv := fun j => (zq_k (ze_su X Y R P rg n j) (ze_st X Y R P rg n j) : Int)) (by omega) (by omega) (fun i hi => ⟨(hw' i hi).1, by omega, by have := (hw' i hi).2; omega⟩) (fun r L => ?_)
      have er := zl_enum (i := 0) Q.2.1 (fun s hs => Or.inr ?_) (fun p hp' => ?_) (by omega) (by rw [if_pos rfl]) L
      · rw [er, hp]
        refine ⟨K + 1, ?_⟩
        exact yl_200 (N := ze_N X Y R P rg n) Q N6 rfl hw' (fun pk hpk => k _ pk hpk) (K + 1) 0 _ (by omega) (by omega) (fun p hp' => absurd hp' (by omega))
      · obtain ⟨p, a, b⟩ := Q.2.2.1 s hs
        exact ⟨p, a, by rw [b]⟩
      · obtain ⟨s, a, b⟩ := Q.2.2.2.1 p hp'
        exact ⟨s, a, by rw [b]⟩
    · have st := (Rp j w).1
      change b_step j = nI (100 * ze_su X Y R P rg n j + ze_st X Y R P rg n j) at st
      have o := ok j w
      have i1 : vp_in (nI j) 300 := vp_in_nI (by omega) (by omega)
      simp only [nI_clamp (show j < 2 ^ 31 by omega), st]
      refine ⟨i1, yl_flip o.1 o.2.1 ⟨i1, zb_leN (by omega) (by omega) (fun v => ⟨i1, nm_e (nm_r (nI_1 j) (ih (j + 1) _ (by omega) (by omega) (fun i hi => ?_)))⟩) (fun v => ⟨i1, i1, nm_e (nm_r (nI_1 j) (ih (j + 1) _ (by omega) (by omega) (fun i hi => ?_)))⟩)⟩⟩
      · by_cases e : i = j
        · subst e
          rw [zu_s, ← zi_n]
          unfold zq_k; rw [if_neg (by omega)]
        · rw [zu_n e]; exact hw i (by omega)
      · by_cases e : i = j
        · subst e
          rw [zu_s, ← zi_n]
          unfold zq_k; rw [if_pos (by omega)]
        · rw [zu_n e]; exact hw i (by omega)
theorem yl_118 {post : Int32 → SY → Prop} (I : ze_in sz n rg R X Y P) (A : zy_in n rg R X Y P b_vx b_vy b_ring b_polyOf) (hn : g_n = nI n) (hh : zh_arr b_hot (zh X Y R rg n)) {K : Nat} {key : Nat → Nat} (Q : zq_so (ze_N X Y R P rg n) K (ze_su X Y R P rg n) (ze_st X Y R P rg n) key) (hp : g_pieces = 0)
    (k : ∀ st sp wy pk, zy_rep (ze_SL X Y R P rg n n) st sp → (∀ p, p < K → pk p = nI (key p)) → post (nI K) (g_size, g_most, 1, g_n, g_open, g_rings, g_op, g_rule, g_hots, nI (ze_N X Y R P rg n), nI K, g_outs, g_loops, b_vx, b_vy, b_ring, b_polyOf, b_hot, b_used, st, sp, pk, wy, b_out, b_loop)) :
    ∀ (m e : Nat) (st sp : Nat → Int32), n - e < m → e ≤ n → zy_rep (ze_SL X Y R P rg n e) st sp → wY_build_118 post m (nI e) g_size g_most g_phase g_n g_open g_rings g_op g_rule g_hots (nI (ze_SL X Y R P rg n e).length) g_pieces g_outs g_loops b_vx b_vy b_ring b_polyOf b_hot b_used st sp b_pieceKey b_way b_out b_loop
  | 0, e, st, sp, h, _, _ => by omega
  | m + 1, e, st, sp, h, he, Rp => by
    have ih := yl_118 (post := post) I A hn hh Q hp k m
    have n12 := I.2.2.1
    unfold wY_build_118
    rw [hn]
    refine zb_leN (by omega) (by omega) (fun w => ⟨ze_N X Y R P rg n + 1, ?_⟩) (fun w => ?_)
    · have en : e = n := by omega
      subst en
      rw [← hn]
      exact yl_139 I Q rfl hp Rp (fun wy pk hpk => k st sp wy pk Rp hpk) _ 0 _ (by omega) (by omega) (fun i hi => absurd hi (by omega))
    · refine yb_walk I A rfl hh w rfl Rp (fun st' sp' Rp' => nm_r (nI_1 e) ?_)
      rw [← hn]
      exact ih (e + 1) st' sp' (by omega) (by omega) Rp'
theorem yl_85 {post : Int32 → SY → Prop} {a : Nat → Int32} (hb : ∀ c, c < 100 → a c = 0 ∨ a c = 1)
    (k : ∃ n118, wY_build_118 post n118 0 g_size g_most g_phase g_n g_open g_rings g_op g_rule (nI (zf_cn a 100)) g_steps g_pieces g_outs g_loops b_vx b_vy b_ring b_polyOf a b_used b_step b_stepPoly b_pieceKey b_way b_out b_loop) : ∀ (m j : Nat), 100 - j < m → j ≤ 100 → wY_build_85 post g_size g_most g_phase g_n g_open g_rings g_op g_rule g_steps g_pieces g_outs g_loops b_vx b_vy b_ring b_polyOf a b_used b_step b_stepPoly b_pieceKey b_way b_out b_loop m (nI j) (nI (zf_cn a j))
  | 0, j, h, _ => by omega
  | m + 1, j, h, hj => by
    have ih := yl_85 (post := post) hb k m
    have cl := zf_cn_le a j
    unfold wY_build_85
    refine zb_leN (a := 100) (by omega) (by omega) (fun w => ?_) (fun w => ⟨vp_in_nI w (by omega), ?_⟩)
    · have e : j = 100 := by omega
      subst e; exact k
    · rw [nI_clamp (show j < 2 ^ 31 by omega)]
      have g := ih (j + 1) (by omega) (by omega)
      unfold zf_cn at g
      refine br_c (fun z => nm_r (nI_1 j) ?_) (fun z => nm_r (nI_1 _) (nm_r (nI_1 j) ?_))
      · rw [if_neg (by rw [z]; decide)] at g; exact g
      · rw [if_pos ((hb j w).resolve_left z)] at g; exact g
theorem yl_60 {post : Int32 → SY → Prop} {J : Int32 → Int32 → Int32 → Int32 → Int32 → Int32 → Int32 → Int32 → Int32 → Int32 → Int32 → Int32 → Int32 → Int32 → (Nat → Int32) → (Nat → Int32) → (Nat → Int32) → (Nat → Int32) → (Nat → Int32) → (Nat → Int32) → (Nat → Int32) → (Nat → Int32) → (Nat → Int32) → (Nat → Int32) → (Nat → Int32) → (Nat → Int32) → Prop} (I : ze_in sz n rg R X Y P) (A : zy_in n rg R X Y P b_vx b_vy b_ring b_polyOf) (hn : g_n = nI n) {e : Nat} (he : e < n)
    (k : ∀ a, zh_arr a (zh X Y R rg (e + 1)) → J (nI (e + 1)) g_size g_most g_phase g_n g_open g_rings g_op g_rule g_hots g_steps g_pieces g_outs g_loops b_vx b_vy b_ring b_polyOf a b_used b_step b_stepPoly b_pieceKey b_way b_out b_loop) :
    ∀ (m j : Nat) (a : Nat → Int32), e - j < m → j ≤ e → zh_arr a (zh_part X Y R rg e j) → wY_build_60 post J (nI e) m (nI j) g_size g_most g_phase g_n g_open g_rings g_op g_rule g_hots g_steps g_pieces g_outs g_loops b_vx b_vy b_ring b_polyOf a b_used b_step b_stepPoly b_pieceKey b_way b_out b_loop
  | 0, j, a, h, _, _ => by omega
  | m + 1, j, a, h, hj, ha => by
    have ih := yl_60 (post := post) I A hn he k m
    have n12 := I.2.2.1
    unfold wY_build_60
    refine zb_leN (by omega) (by omega) (fun w => nm_r (nI_1 e) (k a ?_)) (fun w => ?_)
    · have : j = e := by omega
      subst this
      exact zh_arr_e ha (fun c _ => zh_part_e X Y R rg j c)
    · refine yb_meet I A hn ha he (show j < n by omega) (fun a' ha' => nm_r (nI_1 j) (ih (j + 1) a' (by omega) (by omega) (zh_arr_e ha' (fun c _ => ?_))))
      constructor
      · rintro ((v | v | ⟨f, hf, v⟩) | v)
        · exact Or.inl v
        · exact Or.inr (Or.inl v)
        · exact Or.inr (Or.inr ⟨f, by omega, v⟩)
        · exact Or.inr (Or.inr ⟨j, by omega, v⟩)
      · rintro (v | v | ⟨f, hf, v⟩)
        · exact Or.inl (Or.inl v)
        · exact Or.inl (Or.inr (Or.inl v))
        · by_cases q : f = j
          · rw [q] at v; exact Or.inr v
          · exact Or.inl (Or.inr (Or.inr ⟨f, by omega, v⟩))
theorem yl_28 {post : Int32 → SY → Prop} (I : ze_in sz n rg R X Y P) (A : zy_in n rg R X Y P b_vx b_vy b_ring b_polyOf) (hn : g_n = nI n) (hz : g_hots = 0)
    (k : ∀ a, zh_arr a (zh X Y R rg n) → ∃ n118, wY_build_118 post n118 0 g_size g_most g_phase g_n g_open g_rings g_op g_rule (nI (zf_cn a 100)) g_steps g_pieces g_outs g_loops b_vx b_vy b_ring b_polyOf a b_used b_step b_stepPoly b_pieceKey b_way b_out b_loop) :
    ∀ (m e : Nat) (a : Nat → Int32), n - e < m → e ≤ n → zh_arr a (zh X Y R rg e) → wY_build_28 post m (nI e) g_size g_most g_phase g_n g_open g_rings g_op g_rule g_hots g_steps g_pieces g_outs g_loops b_vx b_vy b_ring b_polyOf a b_used b_step b_stepPoly b_pieceKey b_way b_out b_loop
  | 0, e, a, h, _, _ => by omega
  | m + 1, e, a, h, he, ha => by
    have ih := yl_28 (post := post) I A hn hz k m
    have n12 := I.2.2.1
    have s10 := I.2.1
    subst hz
    subst hn
    unfold wY_build_28
    refine zb_leN (by omega) (by omega) (fun w => ⟨101, ?_⟩) (fun w => ?_)
    · have en : e = n := by omega
      subst en
      exact yl_85 (fun c hc => (ha c hc).1) (k a ha) 101 0 (by omega) (by omega)
    · have b := I.2.2.2.2.2.2.2.1 e w
      have i1 : vp_in (nI e) 12 := vp_in_nI (by omega) (by omega)
      simp only [nI_clamp (show e < 2 ^ 31 by omega), (A.1 e w).1, (A.1 e w).2.1]
      have ec : nI (X e) * 10 + nI (Y e) = nI (ze_c X Y e) := by rw [show (10 : Int32) = nI 10 from rfl, zb_mul, nI_add, Nat.mul_comm]; rfl
      have cb := (ze_cb I w).2.2
      rw [ec, nI_clamp (show ze_c X Y e < 2 ^ 31 by omega), zn_b1]
      refine ⟨i1, i1, vp_in_nI cb (by omega), nm_e ⟨e + 1, ?_⟩⟩
      refine yl_60 I A rfl w (fun a2 ha2 => ih (e + 1) a2 (by omega) (by omega) ha2) (e + 1) 0 _ (by omega) (by omega) (zh_arr_e (zh_arr_u ha cb) (fun c _ => ?_))
      constructor
      · rintro (v | v)
        · exact Or.inl v
        · exact Or.inr (Or.inl v)
      · rintro (v | v | ⟨f, hf, v⟩)
        · exact Or.inl v
        · exact Or.inr v
        · omega
theorem yl_build {post : Int32 → SY → Prop} (I : ze_in sz n rg R X Y P) (A : zy_in n rg R X Y P b_vx b_vy b_ring b_polyOf) (hn : g_n = nI n) (ho : g_open = nI n) (hph : g_phase = 0) (hz : g_hots = 0) (hs : g_steps = 0) (hp : g_pieces = 0) (h0 : ∀ c, c < 100 → b_hot c = 0)
    {K : Nat} {key : Nat → Nat} (Q : zq_so (ze_N X Y R P rg n) K (ze_su X Y R P rg n) (ze_st X Y R P rg n) key)
    (k : ∀ hot st sp wy pk, zh_arr hot (zh X Y R rg n) → zy_rep (ze_SL X Y R P rg n n) st sp → (∀ p, p < K → pk p = nI (key p)) →
      post (nI K) (g_size, g_most, 1, g_n, g_open, g_rings, g_op, g_rule, nI (zf_cn hot 100), nI (ze_N X Y R P rg n), nI K, g_outs, g_loops, b_vx, b_vy, b_ring, b_polyOf, hot, b_used, st, sp, pk, wy, b_out, b_loop)) : wpY_build post (g_size, g_most, g_phase, g_n, g_open, g_rings, g_op, g_rule, g_hots, g_steps, g_pieces, g_outs, g_loops, b_vx, b_vy, b_ring, b_polyOf, b_hot, b_used, b_step, b_stepPoly, b_pieceKey, b_way, b_out, b_loop) := by
  have n12 := I.2.2.1
  subst hn ho hz hs hp
  unfold wpY_build
  refine br_t hph ?_
  refine br_t (nI_le (Nat.le_refl _) (by omega)) ⟨n + 1, ?_⟩
  refine yl_28 I A rfl rfl (fun a ha => ⟨n + 1, ?_⟩) (n + 1) 0 b_hot (by omega) (by omega) (fun c hc => ⟨Or.inl (h0 c hc), ⟨fun w => by rw [h0 c hc] at w; exact absurd w (by decide), fun ⟨i, hi, _⟩ => by omega⟩⟩)
  exact yl_118 I A rfl ha Q rfl (fun st sp wy pk Rp hpk => k a st sp wy pk ha Rp hpk) (n + 1) 0 _ _ (by omega) (by omega) (fun j hj => absurd hj (by simp [ze_SL]))
end
end
section
/-! points on steps -/
/-- the step (u, t) holds the point -/
def zw_on (S q1 q2 : Int) (u t : Nat) : Prop := (zc_x t - zc_x u) * (q2 - S * zc_y u) - (zc_y t - zc_y u) * (q1 - S * zc_x u) = 0 ∧ (q1 - S * zc_x u) * (q1 - S * zc_x t) ≤ 0 ∧ (q2 - S * zc_y u) * (q2 - S * zc_y t) ≤ 0
theorem zw_on_sw {S q1 q2 : Int} {u t : Nat} (h : zw_on S q1 q2 u t) : zw_on S q1 q2 t u := by
  obtain ⟨h1, h2, h3⟩ := h
  refine ⟨?_, by rw [Int.mul_comm]; exact h2, by rw [Int.mul_comm]; exact h3⟩
  have e : (zc_x u - zc_x t) * (q2 - S * zc_y t) - (zc_y u - zc_y t) * (q1 - S * zc_x t) = -((zc_x t - zc_x u) * (q2 - S * zc_y u) - (zc_y t - zc_y u) * (q1 - S * zc_x u)) := by clear h1 h2 h3; grind
  omega
/-- a point between two points of one side -/
theorem zo_far {p1 p2 v1 v2 w1 w2 : Int} (hc : v1 * w2 - v2 * w1 = 0) (h1 : v1 * w1 ≤ 0) (h2 : v2 * w2 ≤ 0) (hd : (0 < p1 * v2 - p2 * v1 ∧ 0 < p1 * w2 - p2 * w1) ∨ (p1 * v2 - p2 * v1 < 0 ∧ p1 * w2 - p2 * w1 < 0)) : False := by
  have hw : ¬ (w1 = 0 ∧ w2 = 0) := by
    rintro ⟨a, b⟩
    rw [a, b, Int.mul_zero, Int.mul_zero] at hd
    omega
  have W := zg_sq hw
  have id : (p1 * v2 - p2 * v1) * (w1 * w1 + w2 * w2) = (v1 * w1 + v2 * w2) * (p1 * w2 - p2 * w1) - (v1 * w2 - v2 * w1) * (p1 * w1 + p2 * w2) := by clear hc h1 h2 hd hw W; grind
  rw [hc, Int.zero_mul, Int.sub_zero] at id
  have s : v1 * w1 + v2 * w2 ≤ 0 := by omega
  rcases hd with ⟨a, b⟩ | ⟨a, b⟩
  · have x := Int.mul_pos a W
    have y := Int.mul_nonpos_of_nonpos_of_nonneg s (Int.le_of_lt b)
    omega
  · have x := Int.mul_neg_of_neg_of_pos a W
    have y := Int.mul_nonneg_of_nonpos_of_nonpos s (Int.le_of_lt b)
    omega
/-- no step holds a side point -/
theorem zv_off {a b u t : Nat} {sg : Int} (ha : a < 100) (hb : b < 100) (hu : u < 100) (ht : t < 100) (hab : a ≠ b) (hut : u ≠ t) (hsg : sg = 1 ∨ sg = -1) (hn : (u = a ∧ t = b) ∨ (u = b ∧ t = a) ∨ zc_nc a b u t) : ¬ zw_on 2000 (zv_q1 a b sg) (zv_q2 a b sg) u t := by
  have ba := zc_b ha
  have bb := zc_b hb
  have bu := zc_b hu
  have bt := zc_b ht
  have g1 : zv_q1 a b sg - 2000 * zc_x a = 1000 * (zc_x b - zc_x a) - 2 * (sg * (zc_y b - zc_y a)) := by unfold zv_q1; omega
  have g2 : zv_q2 a b sg - 2000 * zc_y a = 1000 * (zc_y b - zc_y a) + 2 * (sg * (zc_x b - zc_x a)) := by unfold zv_q2; omega
  -- a step at a
  have inc : ∀ t : Nat, t < 100 → t ≠ a → ¬ zw_on 2000 (zv_q1 a b sg) (zv_q2 a b sg) a t := by
    intro t ht hta h
    have bt := zc_b ht
    have hp := zc_ne (Ne.symm hab)
    have hw := zc_ne hta
    have h1 := h.1
    rw [g1, g2] at h1
    have e : (zc_x t - zc_x a) * (1000 * (zc_y b - zc_y a) + 2 * (sg * (zc_x b - zc_x a))) - (zc_y t - zc_y a) * (1000 * (zc_x b - zc_x a) - 2 * (sg * (zc_y b - zc_y a)))
        = -(1000 * ((zc_x b - zc_x a) * (zc_y t - zc_y a) - (zc_y b - zc_y a) * (zc_x t - zc_x a)) - 2 * (sg * ((zc_x b - zc_x a) * (zc_x t - zc_x a) + (zc_y b - zc_y a) * (zc_y t - zc_y a)))) := by clear h h1 g1 g2; grind
    rw [e] at h1
    have b3 := zg_bd (x := zc_x b - zc_x a) (y := zc_x t - zc_x a) (by omega) (by omega) (by omega) (by omega)
    have b4 := zg_bd (x := zc_y b - zc_y a) (y := zc_y t - zc_y a) (by omega) (by omega) (by omega) (by omega)
    have z : (zc_x b - zc_x a) * (zc_y t - zc_y a) - (zc_y b - zc_y a) * (zc_x t - zc_x a) = 0 := by
      generalize (zc_x b - zc_x a) * (zc_x t - zc_x a) = x1 at *
      generalize (zc_y b - zc_y a) * (zc_y t - zc_y a) = x2 at *
      rcases hsg with hs | hs <;> subst hs <;> omega
    rcases zg_par hp hw z with q | q
    · rw [z] at h1
      rcases hsg with hs | hs <;> subst hs <;> omega
    · rw [z] at h1
      rcases hsg with hs | hs <;> subst hs <;> omega
  by_cases hua : u = a
  · subst hua
    exact inc t ht (Ne.symm hut)
  · by_cases hta : t = a
    · subst hta
      exact fun h => inc u hu hut (zw_on_sw h)
    · have hn : zc_nc a b u t := by
        rcases hn with h | h | h
        · exact absurd h.1 hua
        · exact absurd h.2 hta
        · exact h
      rintro ⟨h1, h2, h3⟩
      have s := zg_sep (a1 := zc_x a) (a2 := zc_y a) (p1 := zc_x b - zc_x a) (p2 := zc_y b - zc_y a) (v1 := zc_x u - zc_x a) (v2 := zc_y u - zc_y a) (w1 := zc_x t - zc_x a) (w2 := zc_y t - zc_y a) (sg := sg)
        (by
          have e : ∀ x y : Int, x + (y - x) = y := by intro x y; omega
          rw [e, e, e, e, e, e]; exact hn)
        (zc_ne (Ne.symm hab)) (zc_ne hua) (zc_ne hta) hsg (by omega) (by omega) (by omega) (by omega) (by omega) (by omega) (by omega) (by omega) _ _ _ _ _ rfl rfl rfl rfl rfl
      -- E(Q) is zero
      have eq : 1000 * ((zc_x u - zc_x a) * (zc_y t - zc_y a) - (zc_y u - zc_y a) * (zc_x t - zc_x a) + ((zc_x u - zc_x a) * (zc_y t - zc_y a) - (zc_y u - zc_y a) * (zc_x t - zc_x a) - ((zc_x b - zc_x a) * (zc_y t - zc_y a) - (zc_y b - zc_y a) * (zc_x t - zc_x a)) + ((zc_x b - zc_x a) * (zc_y u - zc_y a) - (zc_y b - zc_y a) * (zc_x u - zc_x a)))) + 2 * (sg * ((zc_x b - zc_x a) * (zc_x t - zc_x a) + (zc_y b - zc_y a) * (zc_y t - zc_y a) - ((zc_x b - zc_x a) * (zc_x u - zc_x a) + (zc_y b - zc_y a) * (zc_y u - zc_y a))))
          = (zc_x t - zc_x u) * (zv_q2 a b sg - 2000 * zc_y u) - (zc_y t - zc_y u) * (zv_q1 a b sg - 2000 * zc_x u) := by
        clear s h1 h2 h3 g1 g2 inc; unfold zv_q1 zv_q2; grind
      rw [eq, h1] at s
      -- D(U), D(T) about Q
      have f1 : ∀ v : Nat, 2000 * (1000 * ((zc_x b - zc_x a) * (zc_y v - zc_y a) - (zc_y b - zc_y a) * (zc_x v - zc_x a)) - 2 * (sg * ((zc_x b - zc_x a) * (zc_x v - zc_x a) + (zc_y b - zc_y a) * (zc_y v - zc_y a))))
          = -((zv_q1 a b sg - 2000 * zc_x a) * (zv_q2 a b sg - 2000 * zc_y v) - (zv_q2 a b sg - 2000 * zc_y a) * (zv_q1 a b sg - 2000 * zc_x v)) := by
        intro v
        clear s h1 h2 h3 g1 g2 inc eq; unfold zv_q1 zv_q2; grind
      have fu := f1 u
      have ft := f1 t
      refine zo_far (p1 := zv_q1 a b sg - 2000 * zc_x a) (p2 := zv_q2 a b sg - 2000 * zc_y a) (v1 := zv_q1 a b sg - 2000 * zc_x u) (v2 := zv_q2 a b sg - 2000 * zc_y u) (w1 := zv_q1 a b sg - 2000 * zc_x t) (w2 := zv_q2 a b sg - 2000 * zc_y t) ?_ h2 h3 (by omega)
      have e : (zv_q1 a b sg - 2000 * zc_x u) * (zv_q2 a b sg - 2000 * zc_y t) - (zv_q2 a b sg - 2000 * zc_y u) * (zv_q1 a b sg - 2000 * zc_x t) = 2000 * ((zc_x t - zc_x u) * (zv_q2 a b sg - 2000 * zc_y u) - (zc_y t - zc_y u) * (zv_q1 a b sg - 2000 * zc_x u)) := by
        clear s h1 h2 h3 g1 g2 inc eq fu ft f1; grind
      rw [e, h1]; rfl
/-- a spanning step through the point holds it -/
theorem zo_span1 {S x1 y1 x2 y2 q1 q2 : Int} (hS : 0 < S) (h1 : S * y1 ≤ q2) (h2 : q2 < S * y2) (hc : (x2 - x1) * (q2 - S * y1) - (y2 - y1) * (q1 - S * x1) = 0) : (q1 - S * x1) * (q1 - S * x2) ≤ 0 ∧ (q2 - S * y1) * (q2 - S * y2) ≤ 0 := by
  have dy : 0 < y2 - y1 := by
    have := ((zl_sc hS y1 y2).2).mp (by omega)
    omega
  have D2 := Int.mul_pos dy dy
  refine ⟨?_, Int.mul_nonpos_of_nonneg_of_nonpos (by omega) (by omega)⟩
  have k1 : (y2 - y1) * (q1 - S * x1) = (x2 - x1) * (q2 - S * y1) := by omega
  have k2 : (y2 - y1) * (q1 - S * x2) = (x2 - x1) * (q2 - S * y2) := by
    have : (y2 - y1) * (q1 - S * x2) = (y2 - y1) * (q1 - S * x1) - (y2 - y1) * (S * (x2 - x1)) := by clear hc k1; grind
    rw [this, k1]; clear this hc k1; grind
  have k3 : ((q1 - S * x1) * (q1 - S * x2)) * ((y2 - y1) * (y2 - y1)) = ((y2 - y1) * (q1 - S * x1)) * ((y2 - y1) * (q1 - S * x2)) := by clear hc k1 k2; grind
  rw [k1, k2] at k3
  have k4 : (x2 - x1) * (q2 - S * y1) * ((x2 - x1) * (q2 - S * y2)) = ((x2 - x1) * (x2 - x1)) * ((q2 - S * y1) * (q2 - S * y2)) := by clear hc k1 k2 k3; grind
  have n1 : (q2 - S * y1) * (q2 - S * y2) ≤ 0 := Int.mul_nonpos_of_nonneg_of_nonpos (by omega) (by omega)
  have n2 : 0 ≤ (x2 - x1) * (x2 - x1) := by
    rcases zg_mc (x2 - x1) (x2 - x1) with z | z | z | z | z | z <;> omega
  have n3 := Int.mul_nonpos_of_nonneg_of_nonpos n2 n1
  rw [k4] at k3
  rcases Int.lt_or_le 0 ((q1 - S * x1) * (q1 - S * x2)) with w | w
  · have := Int.mul_pos w D2; omega
  · exact w
theorem zo_span {S q1 q2 : Int} (hS : 0 < S) {u t : Nat} (h : (S * zc_y u ≤ q2 ∧ q2 < S * zc_y t) ∨ (S * zc_y t ≤ q2 ∧ q2 < S * zc_y u)) (hc : (zc_x t - zc_x u) * (q2 - S * zc_y u) - (zc_y t - zc_y u) * (q1 - S * zc_x u) = 0) : zw_on S q1 q2 u t := by
  rcases h with ⟨h1, h2⟩ | ⟨h1, h2⟩
  · exact ⟨hc, zo_span1 hS h1 h2 hc⟩
  · have e : (zc_x u - zc_x t) * (q2 - S * zc_y t) - (zc_y u - zc_y t) * (q1 - S * zc_x t) = 0 := by
      have : (zc_x u - zc_x t) * (q2 - S * zc_y t) - (zc_y u - zc_y t) * (q1 - S * zc_x t) = -((zc_x t - zc_x u) * (q2 - S * zc_y u) - (zc_y t - zc_y u) * (q1 - S * zc_x u)) := by clear hc; grind
      omega
    exact zw_on_sw ⟨e, zo_span1 hS h1 h2 e⟩
/-- bounds of sums -/
theorem zs_b {sp : Nat → Nat} {p : Nat} {f : Nat → Int} : ∀ n, (∀ i, i < n → -1 ≤ f i ∧ f i ≤ 1) → -(n : Int) ≤ zs_S sp p n f ∧ zs_S sp p n f ≤ n
  | 0, _ => by unfold zs_S; omega
  | n + 1, h => by
    have a := zs_b (sp := sp) (p := p) n (fun i hi => h i (by omega))
    have b := h n (by omega)
    have e : zs_S sp p (n + 1) f = zs_S sp p n f + (if sp n = p then f n else 0) := rfl
    rw [e]
    split <;> omega
theorem zg_ce_b (yU yT yQ e : Int) : -1 ≤ zg_ce yU yT yQ e ∧ zg_ce yU yT yQ e ≤ 1 := by
  unfold zg_ce
  split <;> split <;> omega
theorem zv_Wb (N : Nat) (su st sp : Nat → Nat) (p : Nat) (S q1 q2 : Int) : -(N : Int) ≤ zv_W N su st sp p S q1 q2 ∧ zv_W N su st sp p S q1 q2 ≤ N := by
  unfold zv_W
  exact zs_b N (fun i _ => zg_ce_b _ _ _ _)
end
section
/-! the reference: wind, side, in, direction; the component: isInside, onPiece -/
def zn_fl (rule a : Int32) : Int32 := if rule = 0 then (if a &&& 1 = 0 then 0 else 1) else (if a = 0 then 0 else 1)
def zn_op (op x y : Int32) : Int32 := if op = 0 then (if x = 0 then (if y = 0 then 0 else 1) else 1) else if op = 1 then (if x = 0 then 0 else if y = 0 then 0 else 1) else if op = 2 then (if x = 0 then 0 else if y = 0 then 1 else 0) else (if x = y then 0 else 1)
def zn_in (op rule a b : Int32) : Int32 := zn_op op (zn_fl rule a) (zn_fl rule b)
theorem zn_fl01 (rule a : Int32) : zn_fl rule a = 0 ∨ zn_fl rule a = 1 := by
  unfold zn_fl
  split
  · split
    · exact Or.inl rfl
    · exact Or.inr rfl
  · split
    · exact Or.inl rfl
    · exact Or.inr rfl
theorem zn_in01 (op rule a b : Int32) : zn_in op rule a b = 0 ∨ zn_in op rule a b = 1 := by
  unfold zn_in zn_op
  split
  · split
    · split
      · exact Or.inl rfl
      · exact Or.inr rfl
    · exact Or.inr rfl
  · split
    · split
      · exact Or.inl rfl
      · split
        · exact Or.inl rfl
        · exact Or.inr rfl
    · split
      · split
        · exact Or.inl rfl
        · split
          · exact Or.inr rfl
          · exact Or.inl rfl
      · split
        · exact Or.inl rfl
        · exact Or.inr rfl
theorem zn_par {z : Int} (h1 : -300 ≤ z) (h2 : z ≤ 300) : (zi z &&& 1 = 0) ↔ (zi z - zi z / 2 * 2 = 0) := by
  have t : ∀ k : Fin 601, (zi ((k.val : Int) - 300) &&& 1 = 0) ↔ (zi ((k.val : Int) - 300) - zi ((k.val : Int) - 300) / 2 * 2 = 0) := by decide +kernel
  have := t ⟨(z + 300).toNat, by omega⟩
  rw [show (((z + 300).toNat : Nat) : Int) - 300 = z by omega] at this
  exact this
/-- digits of a step -/
theorem yw_d {u t : Nat} (hu : u < 100) (ht : t < 100) : nI (100 * u + t) / 1000 = zi (zc_x u) ∧ nI (100 * u + t) / 100 - nI (100 * u + t) / 100 / 10 * 10 = zi (zc_y u) ∧ nI (100 * u + t) / 10 - nI (100 * u + t) / 10 / 10 * 10 = zi (zc_x t) ∧ nI (100 * u + t) - nI (100 * u + t) / 10 * 10 = zi (zc_y t) := by
  rw [show (1000 : Int32) = nI 1000 from rfl, show (100 : Int32) = nI 100 from rfl, show (10 : Int32) = nI 10 from rfl]
  rw [zb_div (a := 100 * u + t) (d := 1000) (by omega) (by omega) (by omega), zb_div (a := 100 * u + t) (d := 100) (by omega) (by omega) (by omega), zb_rem (a := 100 * u + t) (d := 10) (by omega) (by omega) (by omega), zb_div (a := 100 * u + t) (d := 10) (by omega) (by omega) (by omega)]
  rw [zb_rem (by omega) (by omega) (by omega), zb_rem (by omega) (by omega) (by omega)]
  unfold zc_x zc_y
  rw [show (100 * u + t) / 1000 = u / 10 by omega, show (100 * u + t) / 100 % 10 = u % 10 by omega, show (100 * u + t) / 10 % 10 = t / 10 by omega, show (100 * u + t) % 10 = t % 10 by omega]
  rw [zi_n, zi_n, zi_n, zi_n]
  exact ⟨rfl, rfl, rfl, rfl⟩
/-- the steps in the reference's arrays -/
def zy_st (N : Nat) (su st sp : Nat → Nat) (a p : Nat → Int32) : Prop := N ≤ 216 ∧ ∀ s, s < N → a s = nI (100 * su s + st s) ∧ p s = nI (sp s) ∧ su s < 100 ∧ st s < 100 ∧ su s ≠ st s ∧ sp s < 2
section
variable {g_size g_most g_phase g_n g_open g_rings g_op g_rule g_hots g_steps g_pieces g_outs g_loops : Int32} {b_vx b_vy b_ring b_polyOf b_hot b_used b_step b_stepPoly b_pieceKey b_way b_out b_loop : Nat → Int32}
variable {N : Nat} {su st sp : Nat → Nat}
theorem yw_dx {post : Int32 → Prop} {u t : Nat} (hu : u < 100) (ht : t < 100) (k : post (zi (zc_x t - zc_x u))) : wpY_dx post (g_size, g_most, g_phase, g_n, g_open, g_rings, g_op, g_rule, g_hots, g_steps, g_pieces, g_outs, g_loops, b_vx, b_vy, b_ring, b_polyOf, b_hot, b_used, b_step, b_stepPoly, b_pieceKey, b_way, b_out, b_loop) (nI (100 * u + t)) := by
  have d := yw_d hu ht
  unfold wpY_dx
  rw [d.2.2.1, d.1, zi_sub]
  exact ⟨by decide, by decide, by decide, k⟩
theorem yw_dy {post : Int32 → Prop} {u t : Nat} (hu : u < 100) (ht : t < 100) (k : post (zi (zc_y t - zc_y u))) : wpY_dy post (g_size, g_most, g_phase, g_n, g_open, g_rings, g_op, g_rule, g_hots, g_steps, g_pieces, g_outs, g_loops, b_vx, b_vy, b_ring, b_polyOf, b_hot, b_used, b_step, b_stepPoly, b_pieceKey, b_way, b_out, b_loop) (nI (100 * u + t)) := by
  have d := yw_d hu ht
  unfold wpY_dy
  rw [d.2.1, d.2.2.2, zi_sub]
  exact ⟨by decide, by decide, by decide, k⟩
theorem yw_160 {post : Int32 → Prop} {J : Int32 → Int32 → Prop} {p s sp' : Nat} {q2 w yu yt c : Int} {x2 x4 : Int32} (hs : s < 300) (hp : p < 2) (hsp : sp' < 2) (e : b_stepPoly s = nI sp') (r1 : -100000 ≤ q2 ∧ q2 ≤ 100000) (r2 : -100000 ≤ yu ∧ yu ≤ 100000) (r3 : -100000 ≤ yt ∧ yt ≤ 100000) (r4 : -1000000 ≤ c ∧ c ≤ 1000000)
    (k : J (zi (w - (if sp' = p then (if yt ≤ q2 ∧ q2 < yu ∧ c < 0 then 1 else 0) else 0))) (nI (s + 1))) : wY_wind_160 post J (nI p) x2 (zi q2) x4 (zi w) (nI s) (zi yu) (zi yt) (zi c) g_size g_most g_phase g_n g_open g_rings g_op g_rule g_hots g_steps g_pieces g_outs g_loops b_vx b_vy b_ring b_polyOf b_hot b_used b_step b_stepPoly b_pieceKey b_way b_out b_loop := by
  unfold wY_wind_160
  rw [nI_clamp (show s < 2 ^ 31 by omega), e]
  have sk : (sp' = p → ¬ (yt ≤ q2 ∧ q2 < yu ∧ c < 0)) → J (zi w) (nI (s + 1)) := by
    intro h
    have : (if sp' = p then (if yt ≤ q2 ∧ q2 < yu ∧ c < 0 then (1 : Int) else 0) else 0) = 0 := by
      split
      · rename_i z; rw [if_neg (h z)]
      · rfl
    rw [this, Int.sub_zero] at k; exact k
  refine ⟨vp_in_nI hs (by omega), zb_eqN (by omega) (by omega) (fun z => zb_lt (by omega) (by omega) (fun v => nm_r (nI_1 s) (sk (fun _ => by omega))) (fun v1 => zb_le (by omega) (by omega) (fun v => nm_r (nI_1 s) (sk (fun _ => by omega))) (fun v2 => zb_le (a := 0) (by omega) (by omega) (fun v => nm_r (nI_1 s) (sk (fun _ => by omega))) (fun v3 => nm_r (e' := zi (w - 1)) (by rw [show (-1 : Int32) = zi (-1) from rfl, zi_add]; rfl) (nm_r (nI_1 s) ?_))))) (fun z => nm_r (nI_1 s) (sk (fun q => absurd q z)))⟩
  rw [if_pos z, if_pos ⟨v1, v2, v3⟩] at k
  exact k
theorem yw_129 {post : Int32 → Prop} {J : Int32 → Int32 → Prop} {p s sp' : Nat} {q2 w yu yt c : Int} {x2 x4 : Int32} (hs : s < 300) (hp : p < 2) (hsp : sp' < 2) (e : b_stepPoly s = nI sp') (r1 : -100000 ≤ q2 ∧ q2 ≤ 100000) (r2 : -100000 ≤ yu ∧ yu ≤ 100000) (r3 : -100000 ≤ yt ∧ yt ≤ 100000) (r4 : -1000000 ≤ c ∧ c ≤ 1000000)
    (k : J (zi (w + (if sp' = p then zg_ce yu yt q2 c else 0))) (nI (s + 1))) : wY_wind_129 post J (nI p) x2 (zi q2) x4 (zi w) (nI s) (zi yu) (zi yt) (zi c) g_size g_most g_phase g_n g_open g_rings g_op g_rule g_hots g_steps g_pieces g_outs g_loops b_vx b_vy b_ring b_polyOf b_hot b_used b_step b_stepPoly b_pieceKey b_way b_out b_loop := by
  unfold wY_wind_129
  rw [nI_clamp (show s < 2 ^ 31 by omega), e]
  have go : ∀ w' : Int, w' = w + (if sp' = p then (if yu ≤ q2 ∧ q2 < yt ∧ 0 < c then 1 else 0) else 0) → wY_wind_160 post J (nI p) x2 (zi q2) x4 (zi w') (nI s) (zi yu) (zi yt) (zi c) g_size g_most g_phase g_n g_open g_rings g_op g_rule g_hots g_steps g_pieces g_outs g_loops b_vx b_vy b_ring b_polyOf b_hot b_used b_step b_stepPoly b_pieceKey b_way b_out b_loop := by
    intro w' hw'
    refine yw_160 hs hp hsp e r1 r2 r3 r4 ?_
    have : w' - (if sp' = p then (if yt ≤ q2 ∧ q2 < yu ∧ c < 0 then 1 else 0) else 0) = w + (if sp' = p then zg_ce yu yt q2 c else 0) := by
      rw [hw']
      unfold zg_ce
      split
      · omega
      · omega
    rw [this]; exact k
  refine ⟨vp_in_nI hs (by omega), zb_eqN (by omega) (by omega) (fun z => zb_lt (by omega) (by omega) (fun v => go w ?_) (fun v1 => zb_le (by omega) (by omega) (fun v => go w ?_) (fun v2 => zb_le (b := 0) (by omega) (by omega) (fun v => go w ?_) (fun v3 => nm_r (e' := zi (w + 1)) (by rw [show (1 : Int32) = zi 1 from rfl, zi_add]) (go _ ?_))))) (fun z => go w ?_)⟩
  · rw [if_pos z, if_neg (by omega)]; omega
  · rw [if_pos z, if_neg (by omega)]; omega
  · rw [if_pos z, if_neg (by omega)]; omega
  · rw [if_pos z, if_pos ⟨v1, v2, v3⟩]
  · rw [if_neg z]; omega
theorem yw_6 {post : Int32 → Prop} (Z : zy_st N su st sp b_step b_stepPoly) (hN : g_steps = nI N) {p : Nat} (hp : p < 2) {S q1 q2 : Int} (hS : 0 ≤ S ∧ S ≤ 2000) (r1 : -20000 ≤ q1 ∧ q1 ≤ 20000) (r2 : -20000 ≤ q2 ∧ q2 ≤ 20000)
    (k1 : (∃ s, s < N ∧ zw_on S q1 q2 (su s) (st s)) → post 1000) (k0 : (∀ s, s < N → ¬ zw_on S q1 q2 (su s) (st s)) → post (zi (zv_W N su st sp p S q1 q2))) :
    ∀ (m s : Nat), N - s < m → s ≤ N → (∀ i, i < s → ¬ zw_on S q1 q2 (su i) (st i)) → wY_wind_6 post (nI p) (zi q1) (zi q2) (zi S) g_size g_most g_phase g_n g_open g_rings g_op g_rule g_hots g_steps g_pieces g_outs g_loops b_vx b_vy b_ring b_polyOf b_hot b_used b_step b_stepPoly b_pieceKey b_way b_out b_loop m (zi (zs_S sp p s (fun i => zw_ce S q1 q2 (su i) (st i)))) (nI s)
  | 0, s, h, _, _ => by omega
  | m + 1, s, h, hs, no => by
    have ih := yw_6 (post := post) Z hN hp hS r1 r2 k1 k0 m
    subst hN
    have N6 := Z.1
    unfold wY_wind_6
    refine zb_leN (by omega) (by omega) (fun w => ?_) (fun w => ?_)
    · have : s = N := by omega
      subst this
      exact k0 no
    · obtain ⟨e1, e2, hu, ht, hne, hsp⟩ := Z.2 s w
      have d := yw_d hu ht
      have bu := zc_b hu
      have bt := zc_b ht
      have p1 := Int.mul_le_mul_of_nonneg_left (show zc_x (su s) ≤ 9 by omega) hS.1
      have p2 := Int.mul_le_mul_of_nonneg_left (show zc_y (su s) ≤ 9 by omega) hS.1
      have p3 := Int.mul_le_mul_of_nonneg_left (show zc_x (st s) ≤ 9 by omega) hS.1
      have p4 := Int.mul_le_mul_of_nonneg_left (show zc_y (st s) ≤ 9 by omega) hS.1
      have n1 := Int.mul_nonneg hS.1 bu.1
      have n2 := Int.mul_nonneg hS.1 bu.2.2.1
      have n3 := Int.mul_nonneg hS.1 bt.1
      have n4 := Int.mul_nonneg hS.1 bt.2.2.1
      have c1 := zx_prod (x := zc_x (st s) - zc_x (su s)) (y := q2 - S * zc_y (su s)) (A := 9) (B := 40000) (by omega) (by omega)
      have c2 := zx_prod (x := zc_y (st s) - zc_y (su s)) (y := q1 - S * zc_x (su s)) (A := 9) (B := 40000) (by omega) (by omega)
      have c3 := zx_prod (x := q1 - S * zc_x (su s)) (y := q1 - S * zc_x (st s)) (A := 40000) (B := 40000) (by omega) (by omega)
      have c4 := zx_prod (x := q2 - S * zc_y (su s)) (y := q2 - S * zc_y (st s)) (A := 40000) (B := 40000) (by omega) (by omega)
      have d0 : ¬ (1000 : Int32) = 0 := by decide
      have d1 : ¬ (100 : Int32) = 0 := by decide
      have d2 : ¬ (10 : Int32) = 0 := by decide
      simp only [nI_clamp (show s < 2 ^ 31 by omega), e1]
      refine ⟨vp_in_nI (by omega) (by omega), nm_e ⟨d0, nm_r (e' := zi (S * zc_x (su s))) (by rw [d.1, zi_mul, Int.mul_comm]) ⟨d1, d2, nm_r (e' := zi (S * zc_y (su s))) (by rw [d.2.1, zi_mul, Int.mul_comm]) ⟨d2, d2, nm_r (e' := zi (S * zc_x (st s))) (by rw [d.2.2.1, zi_mul, Int.mul_comm]) ⟨d2, nm_r (e' := zi (S * zc_y (st s))) (by rw [d.2.2.2, zi_mul, Int.mul_comm]) ?_⟩⟩⟩⟩⟩
      refine yw_dx hu ht (yw_dy hu ht ?_)
      simp only [zi_sub, zi_mul]
      have nxt : ¬ zw_on S q1 q2 (su s) (st s) → wY_wind_129 post (wY_wind_6 post (nI p) (zi q1) (zi q2) (zi S) g_size g_most g_phase g_n g_open g_rings g_op g_rule g_hots (nI N) g_pieces g_outs g_loops b_vx b_vy b_ring b_polyOf b_hot b_used b_step b_stepPoly b_pieceKey b_way b_out b_loop m) (nI p) (zi q1) (zi q2) (zi S) (zi (zs_S sp p s (fun i => zw_ce S q1 q2 (su i) (st i)))) (nI s) (zi (S * zc_y (su s))) (zi (S * zc_y (st s))) (zi ((zc_x (st s) - zc_x (su s)) * (q2 - S * zc_y (su s)) - (zc_y (st s) - zc_y (su s)) * (q1 - S * zc_x (su s)))) g_size g_most g_phase g_n g_open g_rings g_op g_rule g_hots (nI N) g_pieces g_outs g_loops b_vx b_vy b_ring b_polyOf b_hot b_used b_step b_stepPoly b_pieceKey b_way b_out b_loop := by
        intro hno
        refine yw_129 (sp' := sp s) (by omega) hp hsp e2 (by omega) (by omega) (by omega) (by omega) ?_
        refine ih (s + 1) (by omega) (by omega) (fun i hi => ?_)
        by_cases e : i = s
        · subst e; exact hno
        · exact no i (by omega)
      refine nm_e (zb_eq (b := 0) (by omega) (by omega) (fun z => zb_lt (a := 0) (by omega) (by omega) (fun v => nxt (fun q => ?_)) (fun v1 => zb_lt (a := 0) (by omega) (by omega) (fun v => nxt (fun q => ?_)) (fun v2 => k1 ⟨s, w, z, v1, v2⟩))) (fun z => nxt (fun q => z q.1)))
      · have := q.2.1; omega
      · have := q.2.2; omega
theorem yw_wind {post : Int32 → Prop} (Z : zy_st N su st sp b_step b_stepPoly) (hN : g_steps = nI N) {p : Nat} (hp : p < 2) {S q1 q2 : Int} (hS : 0 ≤ S ∧ S ≤ 2000) (r1 : -20000 ≤ q1 ∧ q1 ≤ 20000) (r2 : -20000 ≤ q2 ∧ q2 ≤ 20000)
    (k1 : (∃ s, s < N ∧ zw_on S q1 q2 (su s) (st s)) → post 1000) (k0 : (∀ s, s < N → ¬ zw_on S q1 q2 (su s) (st s)) → post (zi (zv_W N su st sp p S q1 q2))) : wpY_wind post (g_size, g_most, g_phase, g_n, g_open, g_rings, g_op, g_rule, g_hots, g_steps, g_pieces, g_outs, g_loops, b_vx, b_vy, b_ring, b_polyOf, b_hot, b_used, b_step, b_stepPoly, b_pieceKey, b_way, b_out, b_loop) (nI p) (zi q1) (zi q2) (zi S) := by
  unfold wpY_wind
  exact ⟨N + 1, yw_6 Z hN hp hS r1 r2 k1 k0 (N + 1) 0 (by omega) (by omega) (fun i hi => absurd hi (by omega))⟩
/-- W on both sides of a piece -/
theorem yw_side {post : Int32 → Prop} (Z : zy_st N su st sp b_step b_stepPoly) (hN : g_steps = nI N) {p : Nat} (hp : p < 2) {a b : Nat} {sg : Int} (hsg : sg = 1 ∨ sg = -1) (hn : zv_nc N su st a b)
    (k : post (zi (if sg = 1 then zv_L N su st sp p a b else zv_L N su st sp p b a))) : wpY_side post (g_size, g_most, g_phase, g_n, g_open, g_rings, g_op, g_rule, g_hots, g_steps, g_pieces, g_outs, g_loops, b_vx, b_vy, b_ring, b_polyOf, b_hot, b_used, b_step, b_stepPoly, b_pieceKey, b_way, b_out, b_loop) (nI (100 * a + b)) (nI p) (zi sg) := by
  obtain ⟨ha, hb, hab, hnc⟩ := hn
  have d := yw_d ha hb
  have ba := zc_b ha
  have bb := zc_b hb
  have d0 : ¬ (1000 : Int32) = 0 := by decide
  have d1 : ¬ (100 : Int32) = 0 := by decide
  have d2 : ¬ (10 : Int32) = 0 := by decide
  unfold wpY_side
  rw [d.1, d.2.1, d.2.2.1, d.2.2.2]
  rw [show (1000 : Int32) = zi 1000 from rfl] at *
  refine ⟨d0, d2, d2, yw_dy ha hb (nm_r (e' := zi (zv_q1 a b sg)) ?_ ⟨d1, d2, d2, yw_dx ha hb (nm_r (e' := zi (zv_q2 a b sg)) ?_ ?_)⟩)⟩
  · rw [show (2 : Int32) = zi 2 from rfl]
    simp only [zi_mul, zi_add, zi_sub]
    unfold zv_q1
    rw [Int.mul_assoc]
  · rw [show (2 : Int32) = zi 2 from rfl]
    simp only [zi_mul, zi_add, zi_sub]
    unfold zv_q2
    rw [Int.mul_assoc]
  · have q1b : -20000 ≤ zv_q1 a b sg ∧ zv_q1 a b sg ≤ 20000 := by
      unfold zv_q1
      rcases hsg with h | h <;> subst h <;> omega
    have q2b : -20000 ≤ zv_q2 a b sg ∧ zv_q2 a b sg ≤ 20000 := by
      unfold zv_q2
      rcases hsg with h | h <;> subst h <;> omega
    have off : ∀ s, s < N → ¬ zw_on 2000 (zv_q1 a b sg) (zv_q2 a b sg) (su s) (st s) := by
      intro s hs
      obtain ⟨-, -, hu, ht, hne, -⟩ := Z.2 s hs
      exact zv_off ha hb hu ht hab hne hsg (hnc s hs)
    refine yw_wind Z hN hp (S := 2000) (by omega) q1b q2b (fun ⟨s, hs, h⟩ => absurd h (off s hs)) (fun _ => ?_)
    rcases hsg with h | h
    · subst h
      rw [if_pos rfl] at k; exact k
    · subst h
      rw [if_neg (by decide)] at k
      have e1 : zv_q1 b a 1 = zv_q1 a b (-1) := by unfold zv_q1; omega
      have e2 : zv_q2 b a 1 = zv_q2 a b (-1) := by unfold zv_q2; omega
      unfold zv_L at k
      rw [e1, e2] at k
      exact k
theorem yw_61 {post : Int32 → Prop} {x y : Int32} (k : post (zn_op g_op x y)) : wY_in_61 post x y g_size g_most g_phase g_n g_open g_rings g_op g_rule g_hots g_steps g_pieces g_outs g_loops b_vx b_vy b_ring b_polyOf b_hot b_used b_step b_stepPoly b_pieceKey b_way b_out b_loop := by
  unfold wY_in_61
  unfold zn_op at k
  refine br_c (fun z => ?_) (fun z => br_c (fun z1 => ?_) (fun z1 => br_c (fun z2 => ?_) (fun z2 => ?_)))
  · rw [if_pos z] at k
    refine br_c (fun v => br_c (fun v2 => ?_) (fun v2 => ?_)) (fun v => ?_)
    · rw [if_pos v, if_pos v2] at k; exact k
    · rw [if_pos v, if_neg v2] at k; exact k
    · rw [if_neg v] at k; exact k
  · rw [if_neg z, if_pos z1] at k
    refine br_c (fun v => ?_) (fun v => br_c (fun v2 => ?_) (fun v2 => ?_))
    · rw [if_pos v] at k; exact k
    · rw [if_neg v, if_pos v2] at k; exact k
    · rw [if_neg v, if_neg v2] at k; exact k
  · rw [if_neg z, if_neg z1, if_pos z2] at k
    refine br_c (fun v => ?_) (fun v => br_c (fun v2 => ?_) (fun v2 => ?_))
    · rw [if_pos v] at k; exact k
    · rw [if_neg v, if_pos v2] at k; exact k
    · rw [if_neg v, if_neg v2] at k; exact k
  · rw [if_neg z, if_neg z1, if_neg z2] at k
    refine br_c (fun v => ?_) (fun v => ?_)
    · rw [if_pos v] at k; exact k
    · rw [if_neg v] at k; exact k
theorem yw_30 {post : Int32 → Prop} {z : Int} {x : Int32} (h1 : -300 ≤ z) (h2 : z ≤ 300) (k : post (zn_op g_op x (zn_fl g_rule (zi z)))) : wY_in_30 post (zi z) x g_size g_most g_phase g_n g_open g_rings g_op g_rule g_hots g_steps g_pieces g_outs g_loops b_vx b_vy b_ring b_polyOf b_hot b_used b_step b_stepPoly b_pieceKey b_way b_out b_loop := by
  have pr := zn_par h1 h2
  unfold wY_in_30
  unfold zn_fl at k
  refine br_c (fun v => ⟨by decide, br_c (fun v2 => yw_61 ?_) (fun v2 => yw_61 ?_)⟩) (fun v => br_c (fun v2 => yw_61 ?_) (fun v2 => yw_61 ?_))
  · rw [if_pos v, if_pos (pr.mpr v2)] at k; exact k
  · rw [if_pos v, if_neg (fun q => v2 (pr.mp q))] at k; exact k
  · rw [if_neg v, if_pos v2] at k; exact k
  · rw [if_neg v, if_neg v2] at k; exact k
theorem yw_in {post : Int32 → Prop} {z z' : Int} (h1 : -300 ≤ z) (h2 : z ≤ 300) (h1' : -300 ≤ z') (h2' : z' ≤ 300) (k : post (zn_in g_op g_rule (zi z) (zi z'))) : wpY_in post (g_size, g_most, g_phase, g_n, g_open, g_rings, g_op, g_rule, g_hots, g_steps, g_pieces, g_outs, g_loops, b_vx, b_vy, b_ring, b_polyOf, b_hot, b_used, b_step, b_stepPoly, b_pieceKey, b_way, b_out, b_loop) (zi z) (zi z') := by
  have pr := zn_par h1 h2
  unfold wpY_in
  unfold zn_in at k
  have k' := k
  unfold zn_fl at k'
  refine br_c (fun v => ⟨by decide, br_c (fun v2 => yw_30 h1' h2' ?_) (fun v2 => yw_30 h1' h2' ?_)⟩) (fun v => br_c (fun v2 => yw_30 h1' h2' ?_) (fun v2 => yw_30 h1' h2' ?_))
  · have : zn_fl g_rule (zi z) = 0 := by unfold zn_fl; rw [if_pos v, if_pos (pr.mpr v2)]
    rw [this] at k; exact k
  · have : zn_fl g_rule (zi z) = 1 := by unfold zn_fl; rw [if_pos v, if_neg (fun q => v2 (pr.mp q))]
    rw [this] at k; exact k
  · have : zn_fl g_rule (zi z) = 0 := by unfold zn_fl; rw [if_neg v, if_pos v2]
    rw [this] at k; exact k
  · have : zn_fl g_rule (zi z) = 1 := by unfold zn_fl; rw [if_neg v, if_neg v2]
    rw [this] at k; exact k
/-- inside to the left of a to b -/
def zn_L (N : Nat) (su st sp : Nat → Nat) (op rule : Int32) (a b : Nat) : Int32 := zn_in op rule (zi (zv_L N su st sp 0 a b)) (zi (zv_L N su st sp 1 a b))
def zn_dir (N : Nat) (su st sp : Nat → Nat) (op rule : Int32) (a b : Nat) : Int := if zn_L N su st sp op rule a b = zn_L N su st sp op rule b a then 0 else if zn_L N su st sp op rule a b = 0 then -1 else 1
theorem yw_s01 {post : Int32 → Prop} (Z : zy_st N su st sp b_step b_stepPoly) (hN : g_steps = nI N) {a b : Nat} (hn : zv_nc N su st a b) (k : post (zi (zv_L N su st sp 0 a b))) : wpY_side post (g_size, g_most, g_phase, g_n, g_open, g_rings, g_op, g_rule, g_hots, g_steps, g_pieces, g_outs, g_loops, b_vx, b_vy, b_ring, b_polyOf, b_hot, b_used, b_step, b_stepPoly, b_pieceKey, b_way, b_out, b_loop) (nI (100 * a + b)) 0 1 := by
  have h := yw_side (post := post) (g_size := g_size) (g_most := g_most) (g_phase := g_phase) (g_n := g_n) (g_open := g_open) (g_rings := g_rings) (g_op := g_op) (g_rule := g_rule) (g_hots := g_hots) (g_pieces := g_pieces) (g_outs := g_outs) (g_loops := g_loops) (b_vx := b_vx) (b_vy := b_vy) (b_ring := b_ring) (b_polyOf := b_polyOf) (b_hot := b_hot) (b_used := b_used) (b_pieceKey := b_pieceKey) (b_way := b_way) (b_out := b_out) (b_loop := b_loop) Z hN (p := 0) (sg := 1) (by omega) (Or.inl rfl) hn (by rw [if_pos rfl]; exact k)
  rw [show zi 1 = (1 : Int32) from rfl, show nI 0 = (0 : Int32) from rfl] at h
  exact h
theorem yw_s11 {post : Int32 → Prop} (Z : zy_st N su st sp b_step b_stepPoly) (hN : g_steps = nI N) {a b : Nat} (hn : zv_nc N su st a b) (k : post (zi (zv_L N su st sp 1 a b))) : wpY_side post (g_size, g_most, g_phase, g_n, g_open, g_rings, g_op, g_rule, g_hots, g_steps, g_pieces, g_outs, g_loops, b_vx, b_vy, b_ring, b_polyOf, b_hot, b_used, b_step, b_stepPoly, b_pieceKey, b_way, b_out, b_loop) (nI (100 * a + b)) 1 1 := by
  have h := yw_side (post := post) (g_size := g_size) (g_most := g_most) (g_phase := g_phase) (g_n := g_n) (g_open := g_open) (g_rings := g_rings) (g_op := g_op) (g_rule := g_rule) (g_hots := g_hots) (g_pieces := g_pieces) (g_outs := g_outs) (g_loops := g_loops) (b_vx := b_vx) (b_vy := b_vy) (b_ring := b_ring) (b_polyOf := b_polyOf) (b_hot := b_hot) (b_used := b_used) (b_pieceKey := b_pieceKey) (b_way := b_way) (b_out := b_out) (b_loop := b_loop) Z hN (p := 1) (sg := 1) (by omega) (Or.inl rfl) hn (by rw [if_pos rfl]; exact k)
  rw [show zi 1 = (1 : Int32) from rfl, show nI 1 = (1 : Int32) from rfl] at h
  exact h
theorem yw_s0m {post : Int32 → Prop} (Z : zy_st N su st sp b_step b_stepPoly) (hN : g_steps = nI N) {a b : Nat} (hn : zv_nc N su st a b) (k : post (zi (zv_L N su st sp 0 b a))) : wpY_side post (g_size, g_most, g_phase, g_n, g_open, g_rings, g_op, g_rule, g_hots, g_steps, g_pieces, g_outs, g_loops, b_vx, b_vy, b_ring, b_polyOf, b_hot, b_used, b_step, b_stepPoly, b_pieceKey, b_way, b_out, b_loop) (nI (100 * a + b)) 0 (-1) := by
  have h := yw_side (post := post) (g_size := g_size) (g_most := g_most) (g_phase := g_phase) (g_n := g_n) (g_open := g_open) (g_rings := g_rings) (g_op := g_op) (g_rule := g_rule) (g_hots := g_hots) (g_pieces := g_pieces) (g_outs := g_outs) (g_loops := g_loops) (b_vx := b_vx) (b_vy := b_vy) (b_ring := b_ring) (b_polyOf := b_polyOf) (b_hot := b_hot) (b_used := b_used) (b_pieceKey := b_pieceKey) (b_way := b_way) (b_out := b_out) (b_loop := b_loop) Z hN (p := 0) (sg := -1) (by omega) (Or.inr rfl) hn (by rw [if_neg (by decide)]; exact k)
  rw [show zi (-1) = (-1 : Int32) from rfl, show nI 0 = (0 : Int32) from rfl] at h
  exact h
theorem yw_s1m {post : Int32 → Prop} (Z : zy_st N su st sp b_step b_stepPoly) (hN : g_steps = nI N) {a b : Nat} (hn : zv_nc N su st a b) (k : post (zi (zv_L N su st sp 1 b a))) : wpY_side post (g_size, g_most, g_phase, g_n, g_open, g_rings, g_op, g_rule, g_hots, g_steps, g_pieces, g_outs, g_loops, b_vx, b_vy, b_ring, b_polyOf, b_hot, b_used, b_step, b_stepPoly, b_pieceKey, b_way, b_out, b_loop) (nI (100 * a + b)) 1 (-1) := by
  have h := yw_side (post := post) (g_size := g_size) (g_most := g_most) (g_phase := g_phase) (g_n := g_n) (g_open := g_open) (g_rings := g_rings) (g_op := g_op) (g_rule := g_rule) (g_hots := g_hots) (g_pieces := g_pieces) (g_outs := g_outs) (g_loops := g_loops) (b_vx := b_vx) (b_vy := b_vy) (b_ring := b_ring) (b_polyOf := b_polyOf) (b_hot := b_hot) (b_used := b_used) (b_pieceKey := b_pieceKey) (b_way := b_way) (b_out := b_out) (b_loop := b_loop) Z hN (p := 1) (sg := -1) (by omega) (Or.inr rfl) hn (by rw [if_neg (by decide)]; exact k)
  rw [show zi (-1) = (-1 : Int32) from rfl, show nI 1 = (1 : Int32) from rfl] at h
  exact h
theorem yw_Lb (Z : N ≤ 216) (p a b : Nat) : -300 ≤ zv_L N su st sp p a b ∧ zv_L N su st sp p a b ≤ 300 := by
  have := zv_Wb N su st sp p 2000 (zv_q1 a b 1) (zv_q2 a b 1)
  unfold zv_L
  omega
theorem yw_dir {post : Int32 → Prop} (Z : zy_st N su st sp b_step b_stepPoly) (hN : g_steps = nI N) {a b : Nat} (hn : zv_nc N su st a b) (k : post (zi (zn_dir N su st sp g_op g_rule a b))) : wpY_direction post (g_size, g_most, g_phase, g_n, g_open, g_rings, g_op, g_rule, g_hots, g_steps, g_pieces, g_outs, g_loops, b_vx, b_vy, b_ring, b_polyOf, b_hot, b_used, b_step, b_stepPoly, b_pieceKey, b_way, b_out, b_loop) (nI (100 * a + b)) := by
  have lb := yw_Lb (N := N) (su := su) (st := st) (sp := sp) Z.1
  unfold wpY_direction
  refine yw_s01 Z hN hn ?_
  refine yw_s11 Z hN hn ?_
  refine yw_s0m Z hN hn ?_
  refine yw_s1m Z hN hn ?_
  refine yw_in (lb 0 a b).1 (lb 0 a b).2 (lb 1 a b).1 (lb 1 a b).2 ?_
  refine yw_in (lb 0 b a).1 (lb 0 b a).2 (lb 1 b a).1 (lb 1 b a).2 ?_
  unfold zn_dir zn_L at k
  refine br_c (fun v => ?_) (fun v => br_c (fun v2 => ?_) (fun v2 => ?_))
  · rw [if_pos v] at k; exact k
  · rw [if_neg v, if_pos v2] at k; exact k
  · rw [if_neg v, if_neg v2] at k; exact k
end
section
variable {f_size f_maxEdges f_phase f_op f_rule f_stored f_rings f_hotCount f_chainLen f_pieces f_halves f_stackTop f_outEdges f_outRings f_traced : Int32} {a_vertX a_vertY a_ringStart a_ringPoly a_dirX a_dirY a_edgePoly a_isHot a_chainId a_chainKey a_pieceKey a_weightA a_weightB a_org a_round a_byEnds a_cw a_lastAt a_windA a_windB a_reached a_stack a_outDir a_used a_outHalf a_ringFrom : Nat → Int32}
variable {og : Nat → Nat} {K : Nat}
theorem xn_fl {post : Int32 → Prop} {a : Int32} (k : post (zn_fl f_rule a)) : wpX_isFilled post (f_size, f_maxEdges, f_phase, f_op, f_rule, f_stored, f_rings, f_hotCount, f_chainLen, f_pieces, f_halves, f_stackTop, f_outEdges, f_outRings, f_traced, a_vertX, a_vertY, a_ringStart, a_ringPoly, a_dirX, a_dirY, a_edgePoly, a_isHot, a_chainId, a_chainKey, a_pieceKey, a_weightA, a_weightB, a_org, a_round, a_byEnds, a_cw, a_lastAt, a_windA, a_windB, a_reached, a_stack, a_outDir, a_used, a_outHalf, a_ringFrom) a := by
  unfold wpX_isFilled
  unfold zn_fl at k
  refine br_c (fun v => br_c (fun v2 => ?_) (fun v2 => ?_)) (fun v => br_c (fun v2 => ?_) (fun v2 => ?_))
  · rw [if_pos v, if_pos v2] at k; exact k
  · rw [if_pos v, if_neg v2] at k; exact k
  · rw [if_neg v, if_pos v2] at k; exact k
  · rw [if_neg v, if_neg v2] at k; exact k
theorem xn_in {post : Int32 → Prop} {a b : Int32} (k : post (zn_in f_op f_rule a b)) : wpX_isInside post (f_size, f_maxEdges, f_phase, f_op, f_rule, f_stored, f_rings, f_hotCount, f_chainLen, f_pieces, f_halves, f_stackTop, f_outEdges, f_outRings, f_traced, a_vertX, a_vertY, a_ringStart, a_ringPoly, a_dirX, a_dirY, a_edgePoly, a_isHot, a_chainId, a_chainKey, a_pieceKey, a_weightA, a_weightB, a_org, a_round, a_byEnds, a_cw, a_lastAt, a_windA, a_windB, a_reached, a_stack, a_outDir, a_used, a_outHalf, a_ringFrom) a b := by
  unfold wpX_isInside
  refine xn_fl (xn_fl ?_)
  unfold zn_in zn_op at k
  generalize zn_fl f_rule a = x at *
  generalize zn_fl f_rule b = y at *
  refine br_c (fun z => ?_) (fun z => br_c (fun z1 => ?_) (fun z1 => br_c (fun z2 => ?_) (fun z2 => ?_)))
  · rw [if_pos z] at k
    refine br_c (fun v => br_c (fun v2 => ?_) (fun v2 => ?_)) (fun v => ?_)
    · rw [if_pos v, if_pos v2] at k; exact k
    · rw [if_pos v, if_neg v2] at k; exact k
    · rw [if_neg v] at k; exact k
  · rw [if_neg z, if_pos z1] at k
    refine br_c (fun v => ?_) (fun v => br_c (fun v2 => ?_) (fun v2 => ?_))
    · rw [if_pos v] at k; exact k
    · rw [if_neg v, if_pos v2] at k; exact k
    · rw [if_neg v, if_neg v2] at k; exact k
  · rw [if_neg z, if_neg z1, if_pos z2] at k
    refine br_c (fun v => ?_) (fun v => br_c (fun v2 => ?_) (fun v2 => ?_))
    · rw [if_pos v] at k; exact k
    · rw [if_neg v, if_pos v2] at k; exact k
    · rw [if_neg v, if_neg v2] at k; exact k
  · rw [if_neg z, if_neg z1, if_neg z2] at k
    refine br_c (fun v => ?_) (fun v => ?_)
    · rw [if_pos v] at k; exact k
    · rw [if_neg v] at k; exact k
theorem zx_bt {v a b : Int} : ((a ≤ v ∧ v ≤ b) ∨ (b ≤ v ∧ v ≤ a)) ↔ (v - a) * (v - b) ≤ 0 := by
  constructor
  · rintro (h | h)
    · exact Int.mul_nonpos_of_nonneg_of_nonpos (by omega) (by omega)
    · exact Int.mul_nonpos_of_nonpos_of_nonneg (by omega) (by omega)
  · intro h
    rcases zg_mc (v - a) (v - b) with z | z | z | z | z | z <;> omega
theorem xn_bt {post : Int32 → Prop} {v a b : Int} (r1 : -100000 ≤ v ∧ v ≤ 100000) (r2 : -100000 ≤ a ∧ a ≤ 100000) (r3 : -100000 ≤ b ∧ b ≤ 100000) (k1 : (v - a) * (v - b) ≤ 0 → post 1) (k0 : ¬ (v - a) * (v - b) ≤ 0 → post 0) : wpX_between post (f_size, f_maxEdges, f_phase, f_op, f_rule, f_stored, f_rings, f_hotCount, f_chainLen, f_pieces, f_halves, f_stackTop, f_outEdges, f_outRings, f_traced, a_vertX, a_vertY, a_ringStart, a_ringPoly, a_dirX, a_dirY, a_edgePoly, a_isHot, a_chainId, a_chainKey, a_pieceKey, a_weightA, a_weightB, a_org, a_round, a_byEnds, a_cw, a_lastAt, a_windA, a_windB, a_reached, a_stack, a_outDir, a_used, a_outHalf, a_ringFrom) (zi v) (zi a) (zi b) := by
  rw [← zx_bt] at k1 k0
  have j : (v < a ∨ b < v) → wX_between_10 post (zi v) (zi a) (zi b) f_size f_maxEdges f_phase f_op f_rule f_stored f_rings f_hotCount f_chainLen f_pieces f_halves f_stackTop f_outEdges f_outRings f_traced a_vertX a_vertY a_ringStart a_ringPoly a_dirX a_dirY a_edgePoly a_isHot a_chainId a_chainKey a_pieceKey a_weightA a_weightB a_org a_round a_byEnds a_cw a_lastAt a_windA a_windB a_reached a_stack a_outDir a_used a_outHalf a_ringFrom := by
    intro h
    unfold wX_between_10
    exact zb_lt (by omega) (by omega) (fun w => k0 (by omega)) (fun w => zb_lt (by omega) (by omega) (fun w2 => k0 (by omega)) (fun w2 => k1 (by omega)))
  unfold wpX_between
  exact zb_lt (by omega) (by omega) (fun w => j (Or.inl w)) (fun w => zb_le (by omega) (by omega) (fun w2 => k1 (by omega)) (fun w2 => j (Or.inr w2)))
theorem xn_on2 {post : Int32 → Prop} (hO : zx_org a_org og K) (hp : f_pieces = nI K) {px py : Int} (bx : -1000 ≤ px ∧ px ≤ 1000) (bz : -1000 ≤ py ∧ py ≤ 1000)
    (k1 : (∃ p, p < K ∧ zw_on 16 px py (og (2 * p)) (og (2 * p + 1))) → post 1) (k0 : (∀ p, p < K → ¬ zw_on 16 px py (og (2 * p)) (og (2 * p + 1))) → post 0) :
    ∀ (m p : Nat), K - p < m → p ≤ K → (∀ q, q < p → ¬ zw_on 16 px py (og (2 * q)) (og (2 * q + 1))) → wX_onPiece_2 post (zi px) (zi py) f_size f_maxEdges f_phase f_op f_rule f_stored f_rings f_hotCount f_chainLen f_pieces f_halves f_stackTop f_outEdges f_outRings f_traced a_vertX a_vertY a_ringStart a_ringPoly a_dirX a_dirY a_edgePoly a_isHot a_chainId a_chainKey a_pieceKey a_weightA a_weightB a_org a_round a_byEnds a_cw a_lastAt a_windA a_windB a_reached a_stack a_outDir a_used a_outHalf a_ringFrom m (nI p)
  | 0, p, h, _, _ => by omega
  | m + 1, p, h, hpK, no => by
    have ih := xn_on2 (post := post) hO hp bx bz k1 k0 m
    have hO' := hO
    obtain ⟨hK, hO⟩ := hO
    subst hp
    unfold wX_onPiece_2
    refine zb_leN (by omega) (by omega) (fun w => k0 ?_) (fun w => ?_)
    · have : p = K := by omega
      rw [← this]; exact no
    · obtain ⟨e1, l1⟩ := hO (2 * p) (by omega)
      obtain ⟨e2, l2⟩ := hO (2 * p + 1) (by omega)
      have b1 := zc_b l1
      have b2 := zc_b l2
      have bs := zx_sdb l1 l2 bx bz
      have m1 : (2 : Int32) * nI p = nI (2 * p) := by rw [show (2 : Int32) = nI 2 from rfl, zb_mul]
      have d10 : ¬ (10 : Int32) = 0 := by decide
      rw [m1, nI_1]
      simp only [nI_clamp (show 2 * p < 2 ^ 31 by omega), nI_clamp (show 2 * p + 1 < 2 ^ 31 by omega), e1, e2]
      have nx : ¬ zw_on 16 px py (og (2 * p)) (og (2 * p + 1)) → (∀ y, y = nI p + 1 → wX_onPiece_2 post (zi px) (zi py) f_size f_maxEdges f_phase f_op f_rule f_stored f_rings f_hotCount f_chainLen (nI K) f_halves f_stackTop f_outEdges f_outRings f_traced a_vertX a_vertY a_ringStart a_ringPoly a_dirX a_dirY a_edgePoly a_isHot a_chainId a_chainKey a_pieceKey a_weightA a_weightB a_org a_round a_byEnds a_cw a_lastAt a_windA a_windB a_reached a_stack a_outDir a_used a_outHalf a_ringFrom m y) := by
        intro hno
        refine nm_r (nI_1 p) (ih (p + 1) (by omega) (by omega) (fun q hq => ?_))
        by_cases e : q = p
        · subst e; exact hno
        · exact no q (by omega)
      refine ⟨vp_in_nI (by omega) (by omega), nm_e ⟨vp_in_nI (by omega) (by omega), nm_e (xg_side hO' (show 2 * p < 2 * K by omega) px py ?_)⟩⟩
      rw [zt_e, zx_y l1, zx_y l2, zx_x l1, zx_x l2, show (16 : Int32) = zi 16 from rfl]
      simp only [zi_mul]
      refine zb_eq (b := 0) (by omega) (by omega) (fun z => ⟨d10, d10, xn_bt (by omega) (by omega) (by omega) (fun v1 => br_f (by decide) ⟨d10, d10, xn_bt (by omega) (by omega) (by omega) (fun v2 => br_f (by decide) (k1 ⟨p, w, z, v1, v2⟩)) (fun v2 => br_t rfl (nx (fun q => v2 q.2.2)))⟩) (fun v1 => br_t rfl (nx (fun q => v1 q.2.1)))⟩) (fun z => nx (fun q => z q.1))
theorem xn_on {post : Int32 → Prop} (hO : zx_org a_org og K) (hp : f_pieces = nI K) {px py : Int} (bx : -1000 ≤ px ∧ px ≤ 1000) (bz : -1000 ≤ py ∧ py ≤ 1000)
    (k1 : (∃ p, p < K ∧ zw_on 16 px py (og (2 * p)) (og (2 * p + 1))) → post 1) (k0 : (∀ p, p < K → ¬ zw_on 16 px py (og (2 * p)) (og (2 * p + 1))) → post 0) : wpX_onPiece post (f_size, f_maxEdges, f_phase, f_op, f_rule, f_stored, f_rings, f_hotCount, f_chainLen, f_pieces, f_halves, f_stackTop, f_outEdges, f_outRings, f_traced, a_vertX, a_vertY, a_ringStart, a_ringPoly, a_dirX, a_dirY, a_edgePoly, a_isHot, a_chainId, a_chainKey, a_pieceKey, a_weightA, a_weightB, a_org, a_round, a_byEnds, a_cw, a_lastAt, a_windA, a_windB, a_reached, a_stack, a_outDir, a_used, a_outHalf, a_ringFrom) (zi px) (zi py) := by
  unfold wpX_onPiece
  exact ⟨K + 1, xn_on2 hO hp bx bz k1 k0 (K + 1) 0 (by omega) (by omega) (fun q hq => absurd hq (by omega))⟩
end
end
section
/-! turning clockwise: the component's order and the reference's angles -/
def zt_E (v1 v2 : Int) : Prop := 0 < v1 ∨ (v1 = 0 ∧ 0 < v2)
theorem zt_xaE {b1 b2 v1 v2 : Int} : zg_xa b1 b2 v1 v2 = 1 ↔ ((zt_E b1 b2 ∧ ¬ zt_E v1 v2) ∨ ((zt_E b1 b2 ↔ zt_E v1 v2) ∧ 0 < b1 * v2 - b2 * v1)) := by
  unfold zg_xa zt_E
  constructor
  · intro h
    split at h
    · assumption
    · omega
  · intro h
    rw [if_pos h]
theorem zt_neg {v1 v2 : Int} (h0 : ¬ (v1 = 0 ∧ v2 = 0)) : zt_E (-v1) (-v2) ↔ ¬ zt_E v1 v2 := by unfold zt_E; omega
/-- a vector between two of one half plane lies in it -/
theorem zt_cone {g1 g2 k1 k2 f1 f2 : Int} (hg : zt_E g1 g2) (hk : zt_E k1 k2) (h1 : 0 < g1 * k2 - g2 * k1) (h2 : 0 < f1 * k2 - f2 * k1) (h3 : 0 ≤ g1 * f2 - g2 * f1) : zt_E f1 f2 := by
  have id : f1 * (g1 * k2 - g2 * k1) = g1 * (f1 * k2 - f2 * k1) + k1 * (g1 * f2 - g2 * f1) := by clear hg hk h1 h2 h3; grind
  unfold zt_E at *
  left
  have g0 : 0 < g1 := by
    rcases hg with z | z
    · exact z
    · exfalso
      rw [z.1, Int.zero_mul] at h1
      have := Int.mul_nonneg (show 0 ≤ g2 by omega) (show 0 ≤ k1 by omega)
      omega
  have p1 := Int.mul_pos g0 h2
  have p2 := Int.mul_nonneg (show 0 ≤ k1 by omega) h3
  exact zg_pp h1 (by omega)
theorem zt_cone' {g1 g2 k1 k2 f1 f2 : Int} (g0 : ¬ (g1 = 0 ∧ g2 = 0)) (k0 : ¬ (k1 = 0 ∧ k2 = 0)) (f0 : ¬ (f1 = 0 ∧ f2 = 0)) (hc : zt_E g1 g2 ↔ zt_E k1 k2) (h1 : 0 < g1 * k2 - g2 * k1) (h2 : 0 < f1 * k2 - f2 * k1) (h3 : 0 ≤ g1 * f2 - g2 * f1) : zt_E f1 f2 ↔ zt_E g1 g2 := by
  by_cases c : zt_E g1 g2
  · exact ⟨fun _ => c, fun _ => zt_cone c (hc.mp c) h1 h2 h3⟩
  · have ng := (zt_neg g0).mpr c
    have nk := (zt_neg k0).mpr (fun q => c (hc.mpr q))
    have r := zt_cone (f1 := -f1) (f2 := -f2) ng nk (by simp only [Int.neg_mul_neg]; exact h1) (by simp only [Int.neg_mul_neg]; exact h2) (by simp only [Int.neg_mul_neg]; exact h3)
    have := (zt_neg f0).mp r
    exact ⟨fun q => absurd q this, fun q => absurd q c⟩
theorem zt_trE {b1 b2 v1 v2 w1 w2 : Int} (b0 : ¬ (b1 = 0 ∧ b2 = 0)) (v0 : ¬ (v1 = 0 ∧ v2 = 0)) (w0 : ¬ (w1 = 0 ∧ w2 = 0)) (e1 : zt_E b1 b2 ↔ zt_E v1 v2) (e2 : zt_E v1 v2 ↔ zt_E w1 w2) (h1 : 0 < b1 * v2 - b2 * v1) (h2 : 0 < v1 * w2 - v2 * w1) : 0 < b1 * w2 - b2 * w1 := by
  by_cases c : zt_E b1 b2
  · exact za_tr0 c (e1.mp c) (e2.mp (e1.mp c)) h1 h2
  · have nb := (zt_neg b0).mpr c
    have nv := (zt_neg v0).mpr (fun q => c (e1.mpr q))
    have nw := (zt_neg w0).mpr (fun q => c (e1.mpr (e2.mpr q)))
    have r := za_tr0 nb nv nw (by simp only [Int.neg_mul_neg]; exact h1) (by simp only [Int.neg_mul_neg]; exact h2)
    simp only [Int.neg_mul_neg] at r
    exact r
/-- the class of the clockwise angle from k to f -/
def zt_T (k1 k2 f1 f2 : Int) : Int := if 0 < f1 * k2 - f2 * k1 then 0 else if f1 * k2 - f2 * k1 < 0 then 2 else if k1 * f1 + k2 * f2 < 0 then 1 else 3
/-- g comes before f, turning clockwise from k -/
def zt_so (k1 k2 g1 g2 f1 f2 : Int) : Prop := zt_T k1 k2 g1 g2 < zt_T k1 k2 f1 f2 ∨ (zt_T k1 k2 g1 g2 = zt_T k1 k2 f1 f2 ∧ g1 * f2 - g2 * f1 < 0)
theorem zt_Tv {k1 k2 f1 f2 : Int} (hk : ¬ (k1 = 0 ∧ k2 = 0)) (hf : ¬ (f1 = 0 ∧ f2 = 0)) (hs : zg_sd k1 k2 f1 f2 = 0) : (0 < f1 * k2 - f2 * k1 ∧ zt_T k1 k2 f1 f2 = 0) ∨ (f1 * k2 - f2 * k1 < 0 ∧ zt_T k1 k2 f1 f2 = 2) ∨ (f1 * k2 - f2 * k1 = 0 ∧ zt_T k1 k2 f1 f2 = 1 ∧ (zt_E f1 f2 ↔ ¬ zt_E k1 k2)) := by
  unfold zt_T
  rcases zg_sg (f1 * k2 - f2 * k1) with z | z | z
  · left; rw [if_pos z]; exact ⟨z, rfl⟩
  · right; right
    have e : k1 * f2 - k2 * f1 = 0 := by
      have : k1 * f2 - k2 * f1 = -(f1 * k2 - f2 * k1) := by clear z hs; grind
      omega
    rcases zg_par hk hf e with w | w
    · unfold zg_sd at hs
      rw [if_pos ⟨e, w.1⟩] at hs; omega
    · rw [if_neg (by omega), if_neg (by omega), if_pos w.1]
      refine ⟨z, rfl, ?_⟩
      unfold zt_E; omega
  · right; left; rw [if_neg (by omega), if_pos z]; exact ⟨z, rfl⟩
/-- f, g in one half plane, k in the other, f before g: the angle to f is not the smaller -/
theorem zt_half {k1 k2 g1 g2 f1 f2 : Int} (hk : ¬ (k1 = 0 ∧ k2 = 0)) (hg : ¬ (g1 = 0 ∧ g2 = 0)) (hf : ¬ (f1 = 0 ∧ f2 = 0)) (sg : zg_sd k1 k2 g1 g2 = 0) (sf : zg_sd k1 k2 f1 f2 = 0) (e1 : zt_E f1 f2 ↔ zt_E g1 g2) (e2 : zt_E g1 g2 ↔ ¬ zt_E k1 k2) (h : 0 < f1 * g2 - f2 * g1) : zt_T k1 k2 g1 g2 ≤ zt_T k1 k2 f1 f2 := by
  have a := zt_Tv hk hg sg
  have b := zt_Tv hk hf sf
  have nk := zt_neg hk
  have k0 : ¬ (-k1 = 0 ∧ -k2 = 0) := by omega
  have x1 : ∀ u v : Int, u * -k2 - v * -k1 = -(u * k2 - v * k1) := by intro u v; clear a b h sg sf; grind
  have x2 : ∀ u v : Int, -k1 * v - -k2 * u = (u * k2 - v * k1) := by intro u v; clear a b h sg sf; grind
  rcases Int.lt_or_le (zt_T k1 k2 f1 f2) (zt_T k1 k2 g1 g2) with w | w
  · exfalso
    rcases a with a | a | a <;> rcases b with b | b | b
    · omega
    · omega
    · omega
    · -- g left of k, f right of it
      have t := zt_trE (b1 := g1) (b2 := g2) (v1 := -k1) (v2 := -k2) (w1 := f1) (w2 := f2) hg k0 hf (e2.trans nk.symm) (nk.trans (e2.symm.trans e1.symm)) (by rw [x1]; omega) (by rw [x2]; exact b.1)
      have : g1 * f2 - g2 * f1 = -(f1 * g2 - f2 * g1) := by clear a b h t sg sf x1 x2; grind
      omega
    · omega
    · -- f opposite to k, g left of k
      have par : -k1 * f2 - -k2 * f1 = 0 := by rw [x2]; exact b.1
      rcases zg_par k0 hf par with p | p
      · have idn : (g1 * f2 - g2 * f1) * (k1 * k1 + k2 * k2) = (g1 * -k2 - g2 * -k1) * (-k1 * f1 + -k2 * f2) + (g1 * -k1 + g2 * -k2) * (-k1 * f2 - -k2 * f1) := by clear a b h sg sf x1 x2 par p; grind
        rw [par, Int.mul_zero, Int.add_zero] at idn
        have P := zg_sq hk
        have q := Int.mul_pos (show 0 < g1 * -k2 - g2 * -k1 by rw [x1]; omega) p.1
        have r := zg_pp P (show 0 < (g1 * f2 - g2 * f1) * (k1 * k1 + k2 * k2) by omega)
        have : g1 * f2 - g2 * f1 = -(f1 * g2 - f2 * g1) := by clear a b h idn q r P sg sf x1 x2 par p; grind
        omega
      · have q1 := b.2.2
        unfold zt_E at q1
        omega
    · -- g opposite to k, f right of k
      have par : -k1 * g2 - -k2 * g1 = 0 := by rw [x2]; exact a.1
      rcases zg_par k0 hg par with p | p
      · have idn : (g1 * f2 - g2 * f1) * (k1 * k1 + k2 * k2) = (-k1 * g1 + -k2 * g2) * (-k1 * f2 - -k2 * f1) - (-k1 * g2 - -k2 * g1) * (-k1 * f1 + -k2 * f2) := by clear a b h sg sf x1 x2 par p; grind
        rw [par, Int.zero_mul, Int.sub_zero] at idn
        have P := zg_sq hk
        have q := Int.mul_pos p.1 (show 0 < -k1 * f2 - -k2 * f1 by rw [x2]; exact b.1)
        have r := zg_pp P (show 0 < (g1 * f2 - g2 * f1) * (k1 * k1 + k2 * k2) by omega)
        have : g1 * f2 - g2 * f1 = -(f1 * g2 - f2 * g1) := by clear a b h idn q r P sg sf x1 x2 par p; grind
        omega
      · have q1 := a.2.2
        unfold zt_E at q1
        omega
    · omega
    · omega
  · exact w
/-- the cyclic order gives the turning order -/
theorem zt_main {k1 k2 g1 g2 f1 f2 : Int} (hk : ¬ (k1 = 0 ∧ k2 = 0)) (hg : ¬ (g1 = 0 ∧ g2 = 0)) (hf : ¬ (f1 = 0 ∧ f2 = 0)) (sg : zg_sd k1 k2 g1 g2 = 0) (sf : zg_sd k1 k2 f1 f2 = 0)
    (h : (zg_xa f1 f2 g1 g2 = 1 ∧ zg_xa g1 g2 k1 k2 = 1) ∨ (zg_xa g1 g2 k1 k2 = 1 ∧ zg_xa k1 k2 f1 f2 = 1) ∨ (zg_xa k1 k2 f1 f2 = 1 ∧ zg_xa f1 f2 g1 g2 = 1)) : zt_so k1 k2 g1 g2 f1 f2 := by
  have a := zt_Tv hk hg sg
  have b := zt_Tv hk hf sf
  have sw : ∀ u1 u2 v1 v2 : Int, u1 * v2 - u2 * v1 = -(v1 * u2 - v2 * u1) := by intro u1 u2 v1 v2; clear a b h sg sf; grind
  have fgs := sw f1 f2 g1 g2
  have kgs := sw k1 k2 g1 g2
  have kfs := sw k1 k2 f1 f2
  unfold zt_so
  rw [zt_xaE, zt_xaE, zt_xaE] at h
  rcases h with ⟨h1, h2⟩ | ⟨h1, h2⟩ | ⟨h1, h2⟩
  · -- f, g, k
    by_cases cg : zt_E g1 g2 ↔ zt_E k1 k2
    · have s2 : 0 < g1 * k2 - g2 * k1 := by
        rcases h2 with z | z
        · exact absurd (cg.mp z.1) z.2
        · exact z.2
      have Tg : zt_T k1 k2 g1 g2 = 0 := by omega
      rcases b with b | b | b
      · -- f on the same side
        right
        refine ⟨by omega, ?_⟩
        rcases Int.lt_or_le (g1 * f2 - g2 * f1) 0 with w | w
        · exact w
        · exfalso
          have c := zt_cone' hg hk hf cg s2 b.1 w
          rcases h1 with z | z
          · exact z.2 (c.mp z.1)
          · omega
      · left; omega
      · left; omega
    · -- g and k differ: g in E, k not; then f in E
      have eg : zt_E g1 g2 ∧ ¬ zt_E k1 k2 := by
        rcases h2 with z | z
        · exact z
        · exact absurd z.1 cg
      have fg : (zt_E f1 f2 ↔ zt_E g1 g2) ∧ 0 < f1 * g2 - f2 * g1 := by
        rcases h1 with z | z
        · exact absurd eg.1 z.2
        · exact z
      have t := zt_half hk hg hf sg sf fg.1 ⟨fun _ => eg.2, fun _ => eg.1⟩ fg.2
      omega
  · -- g, k, f
    by_cases cg : zt_E g1 g2 ↔ zt_E k1 k2
    · have s2 : 0 < g1 * k2 - g2 * k1 := by
        rcases h1 with z | z
        · exact absurd (cg.mp z.1) z.2
        · exact z.2
      have Tg : zt_T k1 k2 g1 g2 = 0 := by omega
      rcases b with b | b | b
      · right
        refine ⟨by omega, ?_⟩
        rcases Int.lt_or_le (g1 * f2 - g2 * f1) 0 with w | w
        · exact w
        · exfalso
          have c := zt_cone' hg hk hf cg s2 b.1 w
          rcases h2 with z | z
          · exact z.2 (c.mpr (cg.mpr z.1))
          · omega
      · left; omega
      · left; omega
    · have eg : zt_E g1 g2 ∧ ¬ zt_E k1 k2 := by
        rcases h1 with z | z
        · exact z
        · exact absurd z.1 cg
      have kf : (zt_E k1 k2 ↔ zt_E f1 f2) ∧ 0 < k1 * f2 - k2 * f1 := by
        rcases h2 with z | z
        · exact absurd z.1 eg.2
        · exact z
      have Tf : zt_T k1 k2 f1 f2 = 2 := by omega
      rcases a with a | a | a
      · left; omega
      · right
        refine ⟨by omega, ?_⟩
        rcases Int.lt_or_le (g1 * f2 - g2 * f1) 0 with w | w
        · exact w
        · exfalso
          -- g between k and f
          rcases Int.lt_or_le 0 (g1 * f2 - g2 * f1) with v | v
          · have c := zt_cone' (g1 := k1) (g2 := k2) (k1 := f1) (k2 := f2) (f1 := g1) (f2 := g2) hk hf hg kf.1 kf.2 v (by omega)
            exact eg.2 (c.mp eg.1)
          · -- g along f
            have z : g1 * f2 - g2 * f1 = 0 := by omega
            rcases zg_par hg hf z with p | p
            · have : zt_E g1 g2 ↔ zt_E f1 f2 := by unfold zt_E; omega
              exact eg.2 (kf.1.mpr (this.mp eg.1))
            · -- opposite: then k x g and k x f differ in sign
              have idn : (k1 * f2 - k2 * f1) * (g1 * g1 + g2 * g2) = (k1 * g2 - k2 * g1) * (g1 * f1 + g2 * f2) + (k1 * g1 + k2 * g2) * (g1 * f2 - g2 * f1) := by clear a b h1 h2 sg sf p z kf w v fgs kgs kfs Tf sw cg eg; grind
              rw [z, Int.mul_zero, Int.add_zero] at idn
              have P := zg_sq hg
              have q := Int.mul_pos kf.2 P
              have r := Int.mul_neg_of_pos_of_neg (show 0 < k1 * g2 - k2 * g1 by omega) p.1
              omega
      · left; omega
  · -- k, f, g
    by_cases ck : zt_E k1 k2 ↔ zt_E f1 f2
    · have s2 : 0 < k1 * f2 - k2 * f1 := by
        rcases h1 with z | z
        · exact absurd (ck.mp z.1) z.2
        · exact z.2
      have Tf : zt_T k1 k2 f1 f2 = 2 := by omega
      rcases a with a | a | a
      · left; omega
      · right
        refine ⟨by omega, ?_⟩
        rcases Int.lt_or_le (g1 * f2 - g2 * f1) 0 with w | w
        · exact w
        · exfalso
          rcases h2 with z | z
          · rcases Int.lt_or_le 0 (g1 * f2 - g2 * f1) with v | v
            · have c := zt_cone' (g1 := k1) (g2 := k2) (k1 := f1) (k2 := f2) (f1 := g1) (f2 := g2) hk hf hg ck s2 v (by omega)
              exact z.2 (c.mpr (ck.mpr z.1))
            · have zz : g1 * f2 - g2 * f1 = 0 := by omega
              rcases zg_par hg hf zz with p | p
              · have : zt_E g1 g2 ↔ zt_E f1 f2 := by unfold zt_E; omega
                exact z.2 (this.mpr z.1)
              · have idn : (k1 * f2 - k2 * f1) * (g1 * g1 + g2 * g2) = (k1 * g2 - k2 * g1) * (g1 * f1 + g2 * f2) + (k1 * g1 + k2 * g2) * (g1 * f2 - g2 * f1) := by clear a b h1 sg sf p z zz w v fgs kgs kfs Tf sw ck s2; grind
                rw [zz, Int.mul_zero, Int.add_zero] at idn
                have P := zg_sq hg
                have q := Int.mul_pos s2 P
                have r := Int.mul_neg_of_pos_of_neg (show 0 < k1 * g2 - k2 * g1 by omega) p.1
                omega
          · omega
      · left; omega
    · have ek : zt_E k1 k2 ∧ ¬ zt_E f1 f2 := by
        rcases h1 with z | z
        · exact z
        · exact absurd z.1 ck
      have fg : (zt_E f1 f2 ↔ zt_E g1 g2) ∧ 0 < f1 * g2 - f2 * g1 := by
        rcases h2 with z | z
        · exact absurd z.1 ek.2
        · exact z
      have t := zt_half hk hg hf sg sf fg.1 ⟨fun q => absurd (fg.1.mpr q) ek.2, fun q => absurd ek.1 q⟩ fg.2
      omega
end
section
/-! the successor of an output half-edge -/
/-- h has the inside on its left, the outside on its right -/
def zo_out (Lf : Nat → Int32) (h : Nat) : Prop := Lf h = 1 ∧ Lf (zt h) = 0
section
variable {N K : Nat} {su st sp og : Nat → Nat} {rd cwf : Nat → Nat} {Lf : Nat → Int32}
/-- m is the place of the successor of the half-edge whose twin stands at i -/
def zo_nx (og : Nat → Nat) (H : Nat) (rd : Nat → Nat) (Lf : Nat → Int32) (i m : Nat) : Prop := m < H ∧ og (rd m) = og (rd i) ∧ zo_out Lf (rd m) ∧
  ((m < i ∧ ∀ j, m < j → j < i → ¬ zo_out Lf (rd j)) ∨ (i < m ∧ (∀ j, j < i → og (rd j) = og (rd i) → ¬ zo_out Lf (rd j)) ∧ (∀ j, m < j → j < H → og (rd j) = og (rd i) → ¬ zo_out Lf (rd j))))
/-- going down from j: an output, or the block's start with the inside behind it -/
theorem zo_dn (r : zx_rd og (2 * K) rd) (c : zx_cw og (2 * K) rd cwf) (b01 : ∀ h, h < 2 * K → Lf h = 0 ∨ Lf h = 1) (hr : ∀ h, h < 2 * K → Lf (zt h) = Lf (cwf h)) :
    ∀ (d j : Nat), j < 2 * K → d ≤ j → (∀ q, j - d ≤ q → q ≤ j → og (rd q) = og (rd j)) → Lf (zt (rd j)) = 1 → (∃ m, j - d ≤ m ∧ m < j ∧ zo_out Lf (rd m) ∧ ∀ q, m < q → q < j → ¬ zo_out Lf (rd q)) ∨ ((∀ q, j - d ≤ q → q < j → ¬ zo_out Lf (rd q)) ∧ Lf (zt (rd (j - d))) = 1)
  | 0, j, hj, _, _, h1 => Or.inr ⟨fun q a b => by omega, h1⟩
  | d + 1, j, hj, hd, hb, h1 => by
    have hj1 : j - 1 < 2 * K := by omega
    have rl := r.1 j hj
    have e : cwf (rd j) = rd (j - 1) := by
      rcases c j hj with ⟨-, -, q⟩ | ⟨q, -⟩
      · exact q
      · exfalso
        rcases q with q | q
        · omega
        · exact q (hb (j - 1) (by omega) (by omega))
    have l1 : Lf (rd (j - 1)) = 1 := by rw [← e, ← hr _ rl]; exact h1
    by_cases o : zo_out Lf (rd (j - 1))
    · exact Or.inl ⟨j - 1, by omega, by omega, o, fun q a b => by omega⟩
    · have l2 : Lf (zt (rd (j - 1))) = 1 := by
        rcases b01 _ (zt_lt (r.1 _ hj1)) with z | z
        · exact absurd ⟨l1, z⟩ o
        · exact z
      rcases zo_dn r c b01 hr d (j - 1) hj1 (by omega) (fun q a b => by rw [hb q (by omega) (by omega), hb (j - 1) (by omega) (by omega)]) l2 with ⟨m, m1, m2, m3, m4⟩ | ⟨q1, q2⟩
      · refine Or.inl ⟨m, by omega, by omega, m3, fun q a b => ?_⟩
        by_cases eq : q = j - 1
        · rw [eq]; exact o
        · exact m4 q a (by omega)
      · refine Or.inr ⟨fun q a b => ?_, ?_⟩
        · by_cases eq : q = j - 1
          · rw [eq]; exact o
          · exact q1 q (by omega) (by omega)
        · rw [show j - (d + 1) = j - 1 - d by omega]; exact q2
/-- the block that holds i -/
theorem zo_blk (r : zx_rd og (2 * K) rd) {i : Nat} (hi : i < 2 * K) : ∃ lo hi', lo ≤ i ∧ i ≤ hi' ∧ hi' < 2 * K ∧ (∀ q, q < 2 * K → (og (rd q) = og (rd i) ↔ lo ≤ q ∧ q ≤ hi')) := by
  obtain ⟨e, e1, e2, e3, e4⟩ := zk_bend r (2 * K - i) i (by omega) hi
  obtain ⟨s, hs, es, hs'⟩ : ∃ s, s ≤ i ∧ og (rd s) = og (rd i) ∧ (s = 0 ∨ og (rd (s - 1)) ≠ og (rd i)) := by
    have : ∀ m, m ≤ i → og (rd m) = og (rd i) → ∃ s, s ≤ i ∧ og (rd s) = og (rd i) ∧ (s = 0 ∨ og (rd (s - 1)) ≠ og (rd i)) := by
      intro m
      induction m with
      | zero => intro h1 h2; exact ⟨0, h1, h2, Or.inl rfl⟩
      | succ m ihm =>
        intro h1 h2
        by_cases q : og (rd m) = og (rd i)
        · exact ihm (by omega) q
        · exact ⟨m + 1, h1, h2, Or.inr q⟩
    exact this i (Nat.le_refl _) rfl
  refine ⟨s, e, hs, e1, e2, fun q hq => ⟨fun w => ⟨?_, ?_⟩, fun w => ?_⟩⟩
  · rcases Nat.lt_or_ge q s with z | z
    · exfalso
      rcases hs' with x | x
      · omega
      · have a := za_rle r (i := q) (j := s - 1) (by omega) (by omega)
        have b := za_rle r (i := s - 1) (j := s) (by omega) (by omega)
        omega
    · exact z
  · rcases Nat.lt_or_ge e q with z | z
    · exfalso
      rcases e4 with x | x
      · omega
      · have a := za_rle r (i := e) (j := e + 1) (by omega) (by omega)
        have b := za_rle r (i := e + 1) (j := q) (by omega) hq
        omega
    · exact z
  · have a := za_rle r (i := s) (j := q) w.1 hq
    have b := za_rle r (i := q) (j := e) w.2 e2
    omega
theorem zo_cw (A : zr_A N K su st sp og) (r : zx_rd og (2 * K) rd) (c : zx_cw og (2 * K) rd cwf) {i lo hi' : Nat} (hi : i < 2 * K) (h2 : hi' < 2 * K) (h0 : lo ≤ i) (h1 : i ≤ hi') (hb : ∀ q, q < 2 * K → (og (rd q) = og (rd i) ↔ lo ≤ q ∧ q ≤ hi')) : (lo < i → cwf (rd i) = rd (i - 1)) ∧ (lo = i → cwf (rd i) = rd hi') := by
  rcases c i hi with ⟨z1, z2, z3⟩ | ⟨z1, e, z2, z3, z4, z5, z6⟩
  · refine ⟨fun _ => z3, fun w => ?_⟩
    have := (hb (i - 1) (by omega)).mp z2
    omega
  · refine ⟨fun w => ?_, fun w => ?_⟩
    · exfalso
      rcases z1 with x | x
      · omega
      · exact x ((hb (i - 1) (by omega)).mpr ⟨by omega, by omega⟩)
    · have a := (hb e z3).mp z4
      rcases Nat.lt_or_ge e hi' with v | v
      · exfalso
        rcases z5 with x | x
        · omega
        · exact x ((hb (e + 1) (by omega)).mpr ⟨by omega, by omega⟩)
      · rw [z6, show e = hi' by omega]
theorem zo_ex (A : zr_A N K su st sp og) (r : zx_rd og (2 * K) rd) (c : zx_cw og (2 * K) rd cwf) (b01 : ∀ h, h < 2 * K → Lf h = 0 ∨ Lf h = 1) (hr : ∀ h, h < 2 * K → Lf (zt h) = Lf (cwf h)) {h i : Nat} (hh : h < 2 * K) (o : zo_out Lf h) (hi : i < 2 * K) (ei : rd i = zt h) : ∃ m, zo_nx og (2 * K) rd Lf i m := by
  obtain ⟨lo, hi', p1, p2, p3, hb⟩ := zo_blk r hi
  have l1 : Lf (zt (rd i)) = 1 := by rw [ei, zt_zt]; exact o.1
  have l0 : Lf (rd i) = 0 := by rw [ei]; exact o.2
  rcases zo_dn r c b01 hr (i - lo) i hi (by omega) (fun q a b => (hb q (by omega)).mpr ⟨by omega, by omega⟩) l1 with ⟨m, m1, m2, m3, m4⟩ | ⟨q1, q2⟩
  · exact ⟨m, by omega, (hb m (by omega)).mpr ⟨by omega, by omega⟩, m3, Or.inl ⟨m2, m4⟩⟩
  · rw [show i - (i - lo) = lo by omega] at q1 q2
    have elo := (hb lo (by omega)).mpr ⟨Nat.le_refl _, by omega⟩
    have cwlo := (zo_cw A r c (i := lo) (lo := lo) (hi' := hi') (by omega) p3 (Nat.le_refl _) (by omega) (fun q hq => by rw [elo]; exact hb q hq)).2 rfl
    have lh : Lf (rd hi') = 1 := by rw [← cwlo, ← hr _ (r.1 _ (by omega))]; exact q2
    have nhi : hi' ≠ i := by intro e; rw [e, l0] at lh; exact absurd lh (by decide)
    have noLow : ∀ j, j < i → og (rd j) = og (rd i) → ¬ zo_out Lf (rd j) := fun j a b => q1 j ((hb j (by omega)).mp b).1 a
    by_cases oh : zo_out Lf (rd hi')
    · refine ⟨hi', p3, (hb hi' p3).mpr ⟨by omega, Nat.le_refl _⟩, oh, Or.inr ⟨by omega, noLow, fun j a b e => ?_⟩⟩
      have := ((hb j b).mp e).2
      omega
    · have lz : Lf (zt (rd hi')) = 1 := by
        rcases b01 _ (zt_lt (r.1 _ p3)) with z | z
        · exact absurd ⟨lh, z⟩ oh
        · exact z
      rcases zo_dn r c b01 hr (hi' - (i + 1)) hi' p3 (by omega) (fun q a b => by rw [(hb q (by omega)).mpr ⟨by omega, by omega⟩, (hb hi' p3).mpr ⟨by omega, Nat.le_refl _⟩]) lz with ⟨m, m1, m2, m3, m4⟩ | ⟨q1', q2'⟩
      · refine ⟨m, by omega, (hb m (by omega)).mpr ⟨by omega, by omega⟩, m3, Or.inr ⟨by omega, noLow, fun j a b e => ?_⟩⟩
        have := ((hb j b).mp e).2
        by_cases ej : j = hi'
        · rw [ej]; exact oh
        · exact m4 j a (by omega)
      · exfalso
        rw [show hi' - (hi' - (i + 1)) = i + 1 by omega] at q2'
        have e1 := (hb (i + 1) (by omega)).mpr ⟨by omega, by omega⟩
        have cw1 := (zo_cw A r c (i := i + 1) (lo := lo) (hi' := hi') (by omega) p3 (by omega) (by omega) (fun q hq => by rw [e1]; exact hb q hq)).1 (by omega)
        rw [Nat.add_sub_cancel] at cw1
        rw [hr _ (r.1 _ (by omega)), cw1, l0] at q2'
        exact absurd q2' (by decide)
/-- along the search the inside stays: between the twin and the successor no other incoming output -/
theorem zo_between (A : zr_A N K su st sp og) (r : zx_rd og (2 * K) rd) (c : zx_cw og (2 * K) rd cwf) (b01 : ∀ h, h < 2 * K → Lf h = 0 ∨ Lf h = 1) (hr : ∀ h, h < 2 * K → Lf (zt h) = Lf (cwf h)) :
    ∀ (d j : Nat), j < 2 * K → d ≤ j → (∀ q, j - d ≤ q → q ≤ j → og (rd q) = og (rd j)) → Lf (zt (rd j)) = 1 → (∀ q, j - d < q → q < j → ¬ zo_out Lf (rd q)) → 0 < d → Lf (rd (j - d)) = 1
  | 0, j, _, _, _, _, _, h => by omega
  | d + 1, j, hj, hd, hb, h1, no, _ => by
    have rl := r.1 j hj
    have e : cwf (rd j) = rd (j - 1) := by
      rcases c j hj with ⟨-, -, q⟩ | ⟨q, -⟩
      · exact q
      · exfalso
        rcases q with q | q
        · omega
        · exact q (hb (j - 1) (by omega) (by omega))
    have l1 : Lf (rd (j - 1)) = 1 := by rw [← e, ← hr _ rl]; exact h1
    by_cases d0 : d = 0
    · subst d0; exact l1
    · have o := no (j - 1) (by omega) (by omega)
      have l2 : Lf (zt (rd (j - 1))) = 1 := by
        rcases b01 _ (zt_lt (r.1 _ (show j - 1 < 2 * K by omega))) with z | z
        · exact absurd ⟨l1, z⟩ o
        · exact z
      have := zo_between A r c b01 hr d (j - 1) (by omega) (by omega) (fun q a b => by rw [hb q (by omega) (by omega), hb (j - 1) (by omega) (by omega)]) l2 (fun q a b => no q (by omega) (by omega)) (by omega)
      rw [show j - (d + 1) = j - 1 - d by omega]; exact this
/-- the inside lies left of everything that the search passes -/
theorem zo_pass (A : zr_A N K su st sp og) (r : zx_rd og (2 * K) rd) (c : zx_cw og (2 * K) rd cwf) (b01 : ∀ h, h < 2 * K → Lf h = 0 ∨ Lf h = 1) (hr : ∀ h, h < 2 * K → Lf (zt h) = Lf (cwf h)) {i m : Nat} (hi : i < 2 * K) (l1 : Lf (zt (rd i)) = 1) (nx : zo_nx og (2 * K) rd Lf i m)
    {j : Nat} (hj : j < 2 * K) (ej : og (rd j) = og (rd i)) (hp : (m < i ∧ m < j ∧ j < i) ∨ (i < m ∧ (j < i ∨ m < j))) : Lf (rd j) = 1 := by
  obtain ⟨lo, hi', p1, p2, p3, hb⟩ := zo_blk r hi
  obtain ⟨m1, m2, m3, m4⟩ := nx
  have bj := (hb j hj).mp ej
  have bm := (hb m m1).mp m2
  have dn : j < i → (∀ q, j < q → q < i → ¬ zo_out Lf (rd q)) → Lf (rd j) = 1 := by
    intro w no
    have := zo_between A r c b01 hr (i - j) i hi (by omega) (fun q a b => (hb q (by omega)).mpr ⟨by omega, by omega⟩) l1 (fun q a b => no q (by omega) b) (by omega)
    rw [show i - (i - j) = j by omega] at this; exact this
  rcases m4 with ⟨q1, q2⟩ | ⟨q1, q2, q3⟩
  · exact dn (by omega) (fun q a b => q2 q (by omega) b)
  · rcases Nat.lt_or_ge j i with w | w
    · exact dn w (fun q a b => q2 q b ((hb q (by omega)).mpr ⟨by omega, by omega⟩))
    · have mj : m < j := by omega
      -- from i down to lo, round, down from the end
      have elo := (hb lo (by omega)).mpr ⟨Nat.le_refl _, by omega⟩
      have cwlo := (zo_cw A r c (i := lo) (lo := lo) (hi' := hi') (by omega) p3 (Nat.le_refl _) (by omega) (fun q hq => by rw [elo]; exact hb q hq)).2 rfl
      have ll : Lf (zt (rd lo)) = 1 := by
        by_cases e : lo = i
        · rw [e]; exact l1
        · have lo1 : Lf (rd lo) = 1 := by
            have := zo_between A r c b01 hr (i - lo) i hi (by omega) (fun q a b => (hb q (by omega)).mpr ⟨by omega, by omega⟩) l1 (fun q a b => q2 q b ((hb q (by omega)).mpr ⟨by omega, by omega⟩)) (by omega)
            rw [show i - (i - lo) = lo by omega] at this; exact this
          have no := q2 lo (by omega) elo
          rcases b01 _ (zt_lt (r.1 lo (by omega))) with z | z
          · exact absurd ⟨lo1, z⟩ no
          · exact z
      have lh : Lf (rd hi') = 1 := by rw [← cwlo, ← hr _ (r.1 _ (by omega))]; exact ll
      by_cases e : j = hi'
      · rw [e]; exact lh
      · have ehi := (hb hi' p3).mpr ⟨by omega, Nat.le_refl _⟩
        have no := q3 hi' (by omega) p3 ehi
        have lz : Lf (zt (rd hi')) = 1 := by
          rcases b01 _ (zt_lt (r.1 _ p3)) with z | z
          · exact absurd ⟨lh, z⟩ no
          · exact z
        have := zo_between A r c b01 hr (hi' - j) hi' p3 (by omega) (fun q a b => by rw [(hb q (by omega)).mpr ⟨by omega, by omega⟩, ehi]) lz (fun q a b => q3 q (by omega) (by omega) ((hb q (by omega)).mpr ⟨by omega, by omega⟩)) (by omega)
        rw [show hi' - (hi' - j) = j by omega] at this; exact this
/-- the successor is injective -/
theorem zo_inj (A : zr_A N K su st sp og) (r : zx_rd og (2 * K) rd) (c : zx_cw og (2 * K) rd cwf) (b01 : ∀ h, h < 2 * K → Lf h = 0 ∨ Lf h = 1) (hr : ∀ h, h < 2 * K → Lf (zt h) = Lf (cwf h)) {i i' m : Nat} (hi : i < 2 * K) (hi2 : i' < 2 * K) (l1 : Lf (zt (rd i)) = 1) (l0 : Lf (rd i) = 0) (l1' : Lf (zt (rd i')) = 1) (l0' : Lf (rd i') = 0)
    (nx : zo_nx og (2 * K) rd Lf i m) (nx' : zo_nx og (2 * K) rd Lf i' m) : i = i' := by
  have e : og (rd i) = og (rd i') := nx.2.1.symm.trans nx'.2.1
  rcases Nat.lt_trichotomy i i' with w | w | w
  · exfalso
    rcases nx'.2.2.2 with ⟨q1, -⟩ | ⟨q1, -⟩
    · -- m below i'
      rcases nx.2.2.2 with ⟨p1, -⟩ | ⟨p1, -⟩
      · have := zo_pass A r c b01 hr hi2 l1' nx' hi e (Or.inl ⟨q1, p1, w⟩)
        rw [l0] at this; exact absurd this (by decide)
      · have := zo_pass A r c b01 hr hi l1 nx hi2 e.symm (Or.inr ⟨p1, Or.inr q1⟩)
        rw [l0'] at this; exact absurd this (by decide)
    · have := zo_pass A r c b01 hr hi2 l1' nx' hi e (Or.inr ⟨q1, Or.inl w⟩)
      rw [l0] at this; exact absurd this (by decide)
  · exact w
  · exfalso
    rcases nx.2.2.2 with ⟨q1, -⟩ | ⟨q1, -⟩
    · rcases nx'.2.2.2 with ⟨p1, -⟩ | ⟨p1, -⟩
      · have := zo_pass A r c b01 hr hi l1 nx hi2 e.symm (Or.inl ⟨q1, p1, w⟩)
        rw [l0'] at this; exact absurd this (by decide)
      · have := zo_pass A r c b01 hr hi2 l1' nx' hi e (Or.inr ⟨p1, Or.inr q1⟩)
        rw [l0] at this; exact absurd this (by decide)
    · have := zo_pass A r c b01 hr hi l1 nx hi2 e.symm (Or.inr ⟨q1, Or.inl w⟩)
      rw [l0'] at this; exact absurd this (by decide)
/-- every other output about the vertex is met later -/
theorem zo_cyc {i m j : Nat} (nx : zo_nx og (2 * K) rd Lf i m) (l0 : Lf (rd i) = 0) (hj : j < 2 * K) (ej : og (rd j) = og (rd i)) (oj : zo_out Lf (rd j)) (jm : j ≠ m) : (j < m ∧ m < i) ∨ (m < i ∧ i < j) ∨ (i < j ∧ j < m) := by
  have ji : j ≠ i := by intro e; rw [e] at oj; have := oj.1; rw [l0] at this; exact absurd this (by decide)
  rcases nx.2.2.2 with ⟨q1, q2⟩ | ⟨q1, q2, q3⟩
  · rcases Nat.lt_trichotomy j m with w | w | w
    · exact Or.inl ⟨w, q1⟩
    · exact absurd w jm
    · rcases Nat.lt_or_ge j i with v | v
      · exact absurd oj (q2 j w v)
      · exact Or.inr (Or.inl ⟨q1, by omega⟩)
  · rcases Nat.lt_or_ge j i with v | v
    · exact absurd oj (q2 j v ej)
    · rcases Nat.lt_or_ge m j with u | u
      · exact absurd oj (q3 j u hj ej)
      · exact Or.inr (Or.inr ⟨by omega, by omega⟩)
end
end
section
/-! the component: isOutput, successor -/
section
variable {N K : Nat} {su st sp og : Nat → Nat} {rd cwf : Nat → Nat} {Lf : Nat → Int32}
/-- inside to the left of a half-edge -/
def zo_L (N : Nat) (su st sp og : Nat → Nat) (op rule : Int32) (h : Nat) : Int32 := zn_L N su st sp op rule (og h) (og (zt h))
theorem zo_L01 (N : Nat) (su st sp og : Nat → Nat) (op rule : Int32) (h : Nat) : zo_L N su st sp og op rule h = 0 ∨ zo_L N su st sp og op rule h = 1 := zn_in01 _ _ _ _
theorem zo_Lr (A : zr_A N K su st sp og) (r : zx_rd og (2 * K) rd) (c : zx_cw og (2 * K) rd cwf) (op rule : Int32) : ∀ h, h < 2 * K → zo_L N su st sp og op rule (zt h) = zo_L N su st sp og op rule (cwf h) := by
  intro h hh
  unfold zo_L zn_L
  rw [zt_zt, za_rot A r c hh 0, za_rot A r c hh 1]
noncomputable def zo_sc (og : Nat → Nat) (H : Nat) (rd : Nat → Nat) (Lf : Nat → Int32) (h : Nat) : Nat := rd (Classical.epsilon (fun m => ∃ i, i < H ∧ rd i = zt h ∧ zo_nx og H rd Lf i m))
theorem zo_scp (A : zr_A N K su st sp og) (r : zx_rd og (2 * K) rd) (c : zx_cw og (2 * K) rd cwf) (b01 : ∀ h, h < 2 * K → Lf h = 0 ∨ Lf h = 1) (hr : ∀ h, h < 2 * K → Lf (zt h) = Lf (cwf h)) {h : Nat} (hh : h < 2 * K) (o : zo_out Lf h) : ∃ i m, i < 2 * K ∧ rd i = zt h ∧ zo_nx og (2 * K) rd Lf i m ∧ zo_sc og (2 * K) rd Lf h = rd m := by
  obtain ⟨i, hi, ei⟩ := r.2.2 _ (zt_lt hh)
  obtain ⟨m, hm⟩ := zo_ex A r c b01 hr hh o hi ei
  have := Classical.epsilon_spec (p := fun m => ∃ i, i < 2 * K ∧ rd i = zt h ∧ zo_nx og (2 * K) rd Lf i m) ⟨m, i, hi, ei, hm⟩
  obtain ⟨i', a, b, d⟩ := this
  exact ⟨i', _, a, b, d, rfl⟩
theorem zo_scu (A : zr_A N K su st sp og) (r : zx_rd og (2 * K) rd) (c : zx_cw og (2 * K) rd cwf) (b01 : ∀ h, h < 2 * K → Lf h = 0 ∨ Lf h = 1) (hr : ∀ h, h < 2 * K → Lf (zt h) = Lf (cwf h)) {h i m : Nat} (hh : h < 2 * K) (o : zo_out Lf h) (hi : i < 2 * K) (ei : rd i = zt h) (nx : zo_nx og (2 * K) rd Lf i m) : zo_sc og (2 * K) rd Lf h = rd m := by
  obtain ⟨i', m', a, b, d, e⟩ := zo_scp A r c b01 hr hh o
  have ii : i = i' := za_rinj A r hi a (ei.trans b.symm)
  subst ii
  have l0 : Lf (rd i) = 0 := by rw [ei]; exact o.2
  by_cases q : m = m'
  · rw [q]; exact e
  · exfalso
    have x := zo_cyc nx l0 d.1 d.2.1 d.2.2.1 (Ne.symm q)
    have y := zo_cyc d l0 nx.1 nx.2.1 nx.2.2.1 q
    omega
theorem zo_scf (A : zr_A N K su st sp og) (r : zx_rd og (2 * K) rd) (c : zx_cw og (2 * K) rd cwf) (b01 : ∀ h, h < 2 * K → Lf h = 0 ∨ Lf h = 1) (hr : ∀ h, h < 2 * K → Lf (zt h) = Lf (cwf h)) {h : Nat} (hh : h < 2 * K) (o : zo_out Lf h) : zo_sc og (2 * K) rd Lf h < 2 * K ∧ zo_out Lf (zo_sc og (2 * K) rd Lf h) ∧ og (zo_sc og (2 * K) rd Lf h) = og (zt h) := by
  obtain ⟨i, m, a, b, d, e⟩ := zo_scp A r c b01 hr hh o
  rw [e]
  exact ⟨r.1 m d.1, d.2.2.1, by rw [d.2.1, b]⟩
theorem zo_sci (A : zr_A N K su st sp og) (r : zx_rd og (2 * K) rd) (c : zx_cw og (2 * K) rd cwf) (b01 : ∀ h, h < 2 * K → Lf h = 0 ∨ Lf h = 1) (hr : ∀ h, h < 2 * K → Lf (zt h) = Lf (cwf h)) {h h' : Nat} (hh : h < 2 * K) (o : zo_out Lf h) (hh' : h' < 2 * K) (o' : zo_out Lf h') (e : zo_sc og (2 * K) rd Lf h = zo_sc og (2 * K) rd Lf h') : h = h' := by
  obtain ⟨i, m, a, b, d, e1⟩ := zo_scp A r c b01 hr hh o
  obtain ⟨i', m', a', b', d', e1'⟩ := zo_scp A r c b01 hr hh' o'
  have mm : m = m' := za_rinj A r d.1 d'.1 (by rw [← e1, ← e1', e])
  subst mm
  have ii := zo_inj A r c b01 hr a a' (by rw [b, zt_zt]; exact o.1) (by rw [b]; exact o.2) (by rw [b', zt_zt]; exact o'.1) (by rw [b']; exact o'.2) d d'
  subst ii
  have : zt h = zt h' := b.symm.trans b'
  rw [← zt_zt h, this, zt_zt]
/-- the successor comes first, turning clockwise -/
theorem zo_scs (A : zr_A N K su st sp og) (r : zx_rd og (2 * K) rd) (c : zx_cw og (2 * K) rd cwf) (b01 : ∀ h, h < 2 * K → Lf h = 0 ∨ Lf h = 1) (hr : ∀ h, h < 2 * K → Lf (zt h) = Lf (cwf h)) {h f : Nat} (hh : h < 2 * K) (o : zo_out Lf h) (hf : f < 2 * K) (of : zo_out Lf f) (ef : og f = og (zt h)) (ne : f ≠ zo_sc og (2 * K) rd Lf h) :
    zt_so (zc_x (og h) - zc_x (og (zt h))) (zc_y (og h) - zc_y (og (zt h))) (zc_x (og (zt (zo_sc og (2 * K) rd Lf h))) - zc_x (og (zt h))) (zc_y (og (zt (zo_sc og (2 * K) rd Lf h))) - zc_y (og (zt h))) (zc_x (og (zt f)) - zc_x (og (zt h))) (zc_y (og (zt f)) - zc_y (og (zt h))) := by
  obtain ⟨i, m, a, b, d, e⟩ := zo_scp A r c b01 hr hh o
  obtain ⟨j, hj, ej⟩ := r.2.2 f hf
  have l0 : Lf (rd i) = 0 := by rw [b]; exact o.2
  have jm : j ≠ m := by intro q; rw [q] at ej; exact ne (by rw [← ej, e])
  have eji : og (rd j) = og (rd i) := by rw [ej, b, ef]
  have cy := zo_cyc d l0 hj eji (by rw [ej]; exact of) jm
  have hg := r.1 m d.1
  have h2 := zt_lt hh
  have em : og (rd m) = og (zt h) := by rw [d.2.1, b]
  rw [e]
  have x1 := za_xpos A r (i := j) (j := m) hj d.1 (eji.trans d.2.1.symm)
  have x2 := za_xpos A r (i := m) (j := i) d.1 a d.2.1
  have x3 := za_xpos A r (i := i) (j := j) a hj eji.symm
  rw [em, ej] at x1
  rw [b, zt_zt] at x2
  rw [ej, ef, b, zt_zt] at x3
  have n1 : og h ≠ og (zt h) := za_ne A hh
  have n2 : og (zt (rd m)) ≠ og (zt h) := by rw [← em]; exact Ne.symm (za_ne A hg)
  have n3 : og (zt f) ≠ og (zt h) := by rw [← ef]; exact Ne.symm (za_ne A hf)
  have mi : rd m ≠ zt h := by intro q; have := d.2.2.1.1; rw [q] at this; rw [o.2] at this; exact absurd this (by decide)
  have ji : f ≠ zt h := by intro q; have := of.1; rw [q] at this; rw [o.2] at this; exact absurd this (by decide)
  have s1 := za_sd0 A h2 hg em.symm (Ne.symm mi)
  have s2 := za_sd0 A h2 hf ef.symm (Ne.symm ji)
  rw [zt_zt, em] at s1
  rw [zt_zt, ef] at s2
  refine zt_main (zc_ne n1) (zc_ne n2) (zc_ne n3) s1 s2 ?_
  rcases cy with w | w | w
  · rw [if_pos w.1] at x1
    rw [if_pos w.2] at x2
    exact Or.inl ⟨x1, x2⟩
  · rw [if_pos w.1] at x2
    rw [if_pos w.2] at x3
    exact Or.inr (Or.inl ⟨x2, x3⟩)
  · rw [if_pos w.1] at x3
    rw [if_pos w.2] at x1
    exact Or.inr (Or.inr ⟨x3, x1⟩)
theorem zo_dir {op rule : Int32} {p : Nat} : (zn_dir N su st sp op rule (og (2 * p)) (og (2 * p + 1)) = 1 ↔ zo_out (zo_L N su st sp og op rule) (2 * p)) ∧ (zn_dir N su st sp op rule (og (2 * p)) (og (2 * p + 1)) = -1 ↔ zo_out (zo_L N su st sp og op rule) (2 * p + 1)) := by
  unfold zo_out
  have e1 : zo_L N su st sp og op rule (2 * p) = zn_L N su st sp op rule (og (2 * p)) (og (2 * p + 1)) := by unfold zo_L; rw [zt_e]
  have e2 : zo_L N su st sp og op rule (2 * p + 1) = zn_L N su st sp op rule (og (2 * p + 1)) (og (2 * p)) := by unfold zo_L; rw [zt_o]
  rw [zt_e, zt_o, e1, e2]
  unfold zn_dir
  have b1 : zn_L N su st sp op rule (og (2 * p)) (og (2 * p + 1)) = 0 ∨ zn_L N su st sp op rule (og (2 * p)) (og (2 * p + 1)) = 1 := zn_in01 _ _ _ _
  have b2 : zn_L N su st sp op rule (og (2 * p + 1)) (og (2 * p)) = 0 ∨ zn_L N su st sp op rule (og (2 * p + 1)) (og (2 * p)) = 1 := zn_in01 _ _ _ _
  rcases b1 with b1 | b1 <;> rcases b2 with b2 | b2 <;> rw [b1, b2] <;> decide
end
section
variable {f_size f_maxEdges f_phase f_op f_rule f_stored f_rings f_hotCount f_chainLen f_pieces f_halves f_stackTop f_outEdges f_outRings f_traced : Int32} {a_vertX a_vertY a_ringStart a_ringPoly a_dirX a_dirY a_edgePoly a_isHot a_chainId a_chainKey a_pieceKey a_weightA a_weightB a_org a_round a_byEnds a_cw a_lastAt a_windA a_windB a_reached a_stack a_outDir a_used a_outHalf a_ringFrom : Nat → Int32}
variable {N K : Nat} {su st sp og : Nat → Nat} {rd cwf : Nat → Nat}
theorem xo_is {post : Int32 → Prop} (hK : K ≤ 256) (hD : ∀ p, p < K → a_outDir p = zi (zn_dir N su st sp f_op f_rule (og (2 * p)) (og (2 * p + 1)))) {h : Nat} (hh : h < 2 * K)
    (k1 : zo_out (zo_L N su st sp og f_op f_rule) h → post 1) (k0 : ¬ zo_out (zo_L N su st sp og f_op f_rule) h → post 0) : wpX_isOutput post (f_size, f_maxEdges, f_phase, f_op, f_rule, f_stored, f_rings, f_hotCount, f_chainLen, f_pieces, f_halves, f_stackTop, f_outEdges, f_outRings, f_traced, a_vertX, a_vertY, a_ringStart, a_ringPoly, a_dirX, a_dirY, a_edgePoly, a_isHot, a_chainId, a_chainKey, a_pieceKey, a_weightA, a_weightB, a_org, a_round, a_byEnds, a_cw, a_lastAt, a_windA, a_windB, a_reached, a_stack, a_outDir, a_used, a_outHalf, a_ringFrom) (nI h) := by
  have d := zo_dir (N := N) (su := su) (st := st) (sp := sp) (og := og) (op := f_op) (rule := f_rule) (p := h / 2)
  have db : -1 ≤ zn_dir N su st sp f_op f_rule (og (2 * (h / 2))) (og (2 * (h / 2) + 1)) ∧ zn_dir N su st sp f_op f_rule (og (2 * (h / 2))) (og (2 * (h / 2) + 1)) ≤ 1 := by
    unfold zn_dir
    split
    · omega
    · split <;> omega
  unfold wpX_isOutput
  simp only [zt_shr h (by omega), zt_and h (by omega), nI_clamp (show h / 2 < 2 ^ 31 by omega), hD (h / 2) (by omega)]
  refine ⟨vp_in_nI (by omega) (by omega), zb_eqN (b := 0) (by omega) (by omega) (fun z => ?_) (fun z => ?_)⟩
  · have e : 2 * (h / 2) = h := by omega
    rw [e] at d db
    unfold wX_isOutput_19
    rw [e]
    exact zb_eq (b := 1) (by omega) (by omega) (fun w => k1 (d.1.mp w)) (fun w => k0 (fun q => w (d.1.mpr q)))
  · have e : 2 * (h / 2) + 1 = h := by omega
    have d2 := d.2
    rw [e] at d2 db
    unfold wX_isOutput_19
    rw [e]
    exact zb_eq (b := -1) (by omega) (by omega) (fun w => k1 (d2.mp w)) (fun w => k0 (fun q => w (d2.mpr q)))
/-- the search, going down to an output -/
theorem xo_down {post : Int32 → Prop} (A : zr_A N K su st sp og) (r : zx_rd og (2 * K) rd) (c : zx_cw og (2 * K) rd cwf) (hcw : ∀ h, h < 2 * K → a_cw h = nI (cwf h)) (hH : f_halves = nI (2 * K)) (hD : ∀ p, p < K → a_outDir p = zi (zn_dir N su st sp f_op f_rule (og (2 * p)) (og (2 * p + 1)))) {m : Nat} (om : zo_out (zo_L N su st sp og f_op f_rule) (rd m)) (k : post (nI (rd m))) :
    ∀ (d t : Nat), m + d < 2 * K → og (rd (m + d)) = og (rd m) → (∀ q, m < q → q ≤ m + d → ¬ zo_out (zo_L N su st sp og f_op f_rule) (rd q)) → t + d < 2 * K → ∀ n, d < n → wX_successor_11 post f_size f_maxEdges f_phase f_op f_rule f_stored f_rings f_hotCount f_chainLen f_pieces f_halves f_stackTop f_outEdges f_outRings f_traced a_vertX a_vertY a_ringStart a_ringPoly a_dirX a_dirY a_edgePoly a_isHot a_chainId a_chainKey a_pieceKey a_weightA a_weightB a_org a_round a_byEnds a_cw a_lastAt a_windA a_windB a_reached a_stack a_outDir a_used a_outHalf a_ringFrom n (nI (rd (m + d))) (nI t)
  | d, t, hd, he, no, ht, 0, hn => by omega
  | 0, t, hd, he, no, ht, n + 1, hn => by
    have hK : K ≤ 256 := A.2.2.2.2.2.2.2
    subst hH
    unfold wX_successor_11
    rw [Nat.add_zero] at *
    exact br_f (nI_ge (by omega) (by omega)) (xo_is hK hD (r.1 m hd) (fun _ => br_f (by decide) k) (fun w => absurd om w))
  | d + 1, t, hd, he, no, ht, n + 1, hn => by
    have hK : K ≤ 256 := A.2.2.2.2.2.2.2
    have ih := xo_down (post := post) A r c hcw hH hD om k d (t + 1)
    subst hH
    have rl := r.1 _ hd
    have e1 : og (rd (m + d)) = og (rd m) := by
      have a := za_rle r (i := m) (j := m + d) (by omega) (by omega)
      have b := za_rle r (i := m + d) (j := m + (d + 1)) (by omega) hd
      omega
    have ec : cwf (rd (m + (d + 1))) = rd (m + d) := by
      rcases c _ hd with ⟨-, -, q⟩ | ⟨q, -⟩
      · exact q
      · exfalso
        rcases q with q | q
        · omega
        · apply q
          show og (rd (m + d)) = _
          omega
    unfold wX_successor_11
    refine br_f (nI_ge (by omega) (by omega)) (xo_is hK hD rl (fun w => absurd w (no _ (by omega) (Nat.le_refl _))) (fun w => br_t rfl ⟨vp_in_nI (by omega) (by omega), ?_⟩))
    rw [nI_clamp (show rd (m + (d + 1)) < 2 ^ 31 by omega), hcw _ rl, ec]
    exact nm_e (nm_r (nI_1 t) (ih (by omega) e1 (fun q a b => no q a (by omega)) (by omega) n (by omega)))
/-- the search, going down to the block's start and round -/
theorem xo_round {post : Int32 → Prop} (A : zr_A N K su st sp og) (r : zx_rd og (2 * K) rd) (c : zx_cw og (2 * K) rd cwf) (hcw : ∀ h, h < 2 * K → a_cw h = nI (cwf h)) (hH : f_halves = nI (2 * K)) (hD : ∀ p, p < K → a_outDir p = zi (zn_dir N su st sp f_op f_rule (og (2 * p)) (og (2 * p + 1)))) {lo hi' s : Nat} (hlo : lo < 2 * K) (eC : cwf (rd lo) = rd hi')
    (k : ∀ t n, t ≤ s → 2 * K ≤ t + n + 0 + s ∨ True → 2 * K < n + t → wX_successor_11 post f_size f_maxEdges f_phase f_op f_rule f_stored f_rings f_hotCount f_chainLen f_pieces f_halves f_stackTop f_outEdges f_outRings f_traced a_vertX a_vertY a_ringStart a_ringPoly a_dirX a_dirY a_edgePoly a_isHot a_chainId a_chainKey a_pieceKey a_weightA a_weightB a_org a_round a_byEnds a_cw a_lastAt a_windA a_windB a_reached a_stack a_outDir a_used a_outHalf a_ringFrom n (nI (rd hi')) (nI t)) :
    ∀ (d t : Nat), lo + d < 2 * K → og (rd (lo + d)) = og (rd lo) → (∀ q, lo ≤ q → q ≤ lo + d → ¬ zo_out (zo_L N su st sp og f_op f_rule) (rd q)) → t + d + 1 ≤ s → s < 2 * K → ∀ n, 2 * K < n + t → wX_successor_11 post f_size f_maxEdges f_phase f_op f_rule f_stored f_rings f_hotCount f_chainLen f_pieces f_halves f_stackTop f_outEdges f_outRings f_traced a_vertX a_vertY a_ringStart a_ringPoly a_dirX a_dirY a_edgePoly a_isHot a_chainId a_chainKey a_pieceKey a_weightA a_weightB a_org a_round a_byEnds a_cw a_lastAt a_windA a_windB a_reached a_stack a_outDir a_used a_outHalf a_ringFrom n (nI (rd (lo + d))) (nI t)
  | d, t, hd, he, no, ht, hs, 0, hn => by omega
  | 0, t, hd, he, no, ht, hs, n + 1, hn => by
    have hK : K ≤ 256 := A.2.2.2.2.2.2.2
    have rl := r.1 lo hlo
    have kk := k (t + 1) n (by omega) (Or.inr trivial) (by omega)
    subst hH
    unfold wX_successor_11
    rw [Nat.add_zero] at *
    refine br_f (nI_ge (by omega) (by omega)) (xo_is hK hD rl (fun w => absurd w (no _ (Nat.le_refl _) (Nat.le_refl _))) (fun w => br_t rfl ⟨vp_in_nI (by omega) (by omega), ?_⟩))
    rw [nI_clamp (show rd lo < 2 ^ 31 by omega), hcw _ rl, eC]
    exact nm_e (nm_r (nI_1 t) kk)
  | d + 1, t, hd, he, no, ht, hs, n + 1, hn => by
    have hK : K ≤ 256 := A.2.2.2.2.2.2.2
    have ih := xo_round (post := post) A r c hcw hH hD hlo eC k d (t + 1)
    subst hH
    have rl := r.1 _ hd
    have e1 : og (rd (lo + d)) = og (rd lo) := by
      have a := za_rle r (i := lo) (j := lo + d) (by omega) (by omega)
      have b := za_rle r (i := lo + d) (j := lo + (d + 1)) (by omega) hd
      omega
    have ec : cwf (rd (lo + (d + 1))) = rd (lo + d) := by
      rcases c _ hd with ⟨-, -, q⟩ | ⟨q, -⟩
      · exact q
      · exfalso
        rcases q with q | q
        · omega
        · apply q
          show og (rd (lo + d)) = _
          omega
    unfold wX_successor_11
    refine br_f (nI_ge (by omega) (by omega)) (xo_is hK hD rl (fun w => absurd w (no _ (by omega) (Nat.le_refl _))) (fun w => br_t rfl ⟨vp_in_nI (by omega) (by omega), ?_⟩))
    rw [nI_clamp (show rd (lo + (d + 1)) < 2 ^ 31 by omega), hcw _ rl, ec]
    exact nm_e (nm_r (nI_1 t) (ih (by omega) e1 (fun q a b => no q a (by omega)) (by omega) hs n (by omega)))
theorem xo_succ {post : Int32 → Prop} (A : zr_A N K su st sp og) (r : zx_rd og (2 * K) rd) (c : zx_cw og (2 * K) rd cwf) (hcw : ∀ h, h < 2 * K → a_cw h = nI (cwf h)) (hH : f_halves = nI (2 * K)) (hD : ∀ p, p < K → a_outDir p = zi (zn_dir N su st sp f_op f_rule (og (2 * p)) (og (2 * p + 1))))
    {h : Nat} (hh : h < 2 * K) (o : zo_out (zo_L N su st sp og f_op f_rule) h) (k : post (nI (zo_sc og (2 * K) rd (zo_L N su st sp og f_op f_rule) h))) : wpX_successor post (f_size, f_maxEdges, f_phase, f_op, f_rule, f_stored, f_rings, f_hotCount, f_chainLen, f_pieces, f_halves, f_stackTop, f_outEdges, f_outRings, f_traced, a_vertX, a_vertY, a_ringStart, a_ringPoly, a_dirX, a_dirY, a_edgePoly, a_isHot, a_chainId, a_chainKey, a_pieceKey, a_weightA, a_weightB, a_org, a_round, a_byEnds, a_cw, a_lastAt, a_windA, a_windB, a_reached, a_stack, a_outDir, a_used, a_outHalf, a_ringFrom) (nI h) := by
  have hK : K ≤ 256 := A.2.2.2.2.2.2.2
  obtain ⟨i, m, hi, ei, nx, es⟩ := zo_scp A r c (fun h _ => zo_L01 N su st sp og f_op f_rule h) (zo_Lr A r c f_op f_rule) hh o
  rw [es] at k
  have hz := zt_lt hh
  obtain ⟨lo, hi', p1, p2, p3, hb⟩ := zo_blk r hi
  have cw := zo_cw A r c hi p3 p1 p2 hb
  obtain ⟨m1, m2, m3, m4⟩ := nx
  have bm := (hb m m1).mp m2
  unfold wpX_successor
  simp only [zt_xor h (by omega), nI_clamp (show zt h < 2 ^ 31 by omega), hcw _ hz]
  refine ⟨vp_in_nI (by omega) (by omega), nm_e ⟨2 * K + 1, ?_⟩⟩
  rw [← ei]
  rcases m4 with ⟨q1, q2⟩ | ⟨q1, q2, q3⟩
  · rw [cw.1 (by omega)]
    rw [show i - 1 = m + (i - 1 - m) by omega]
    exact xo_down (post := post) A r c hcw hH hD m3 k (i - 1 - m) 0 (by omega) (by rw [show m + (i - 1 - m) = i - 1 by omega, (hb (i - 1) (by omega)).mpr ⟨by omega, by omega⟩, m2]) (fun q a b => q2 q a (by omega)) (by omega) (2 * K + 1) (by omega)
  · have ehi := (hb hi' p3).mpr ⟨by omega, Nat.le_refl _⟩
    have last : ∀ t n, t ≤ i - lo → 2 * K < n + t → wX_successor_11 post f_size f_maxEdges f_phase f_op f_rule f_stored f_rings f_hotCount f_chainLen f_pieces f_halves f_stackTop f_outEdges f_outRings f_traced a_vertX a_vertY a_ringStart a_ringPoly a_dirX a_dirY a_edgePoly a_isHot a_chainId a_chainKey a_pieceKey a_weightA a_weightB a_org a_round a_byEnds a_cw a_lastAt a_windA a_windB a_reached a_stack a_outDir a_used a_outHalf a_ringFrom n (nI (rd hi')) (nI t) := by
      intro t n ht hn
      rw [show hi' = m + (hi' - m) by omega]
      exact xo_down (post := post) A r c hcw hH hD m3 k (hi' - m) t (by omega) (by rw [show m + (hi' - m) = hi' by omega, ehi, m2]) (fun q a b => q3 q a (by omega) ((hb q (by omega)).mpr ⟨by omega, by omega⟩)) (by omega) n (by omega)
    by_cases e : lo = i
    · rw [cw.2 e]
      exact last 0 _ (by omega) (by omega)
    · rw [cw.1 (by omega)]
      have elo := (hb lo (by omega)).mpr ⟨Nat.le_refl _, by omega⟩
      have cwlo := (zo_cw A r c (i := lo) (lo := lo) (hi' := hi') (by omega) p3 (Nat.le_refl _) (by omega) (fun q hq => by rw [elo]; exact hb q hq)).2 rfl
      rw [show i - 1 = lo + (i - 1 - lo) by omega]
      exact xo_round (post := post) A r c hcw hH hD (s := i - lo) (show lo < 2 * K by omega) cwlo (fun t n a _ b => last t n a b) (i - 1 - lo) 0 (by omega) (by rw [show lo + (i - 1 - lo) = i - 1 by omega, (hb (i - 1) (by omega)).mpr ⟨by omega, by omega⟩, elo]) (fun q a b => q2 q (by omega) ((hb q (by omega)).mpr ⟨by omega, by omega⟩)) (by omega) (by omega) (2 * K + 1) (by omega)
end
end
section
/-! the outputs in order; the reference's next -/
/-- the outputs among the first j half-edges by their ends -/
def zo_ol (Lf : Nat → Int32) (rb : Nat → Nat) : Nat → List Nat
  | 0 => []
  | j + 1 => if Lf (rb j) = 1 ∧ Lf (zt (rb j)) = 0 then zo_ol Lf rb j ++ [rb j] else zo_ol Lf rb j
theorem zo_ol_t {Lf : Nat → Int32} {rb : Nat → Nat} {j : Nat} (h : zo_out Lf (rb j)) : zo_ol Lf rb (j + 1) = zo_ol Lf rb j ++ [rb j] := by
  rw [zo_ol, if_pos (show Lf (rb j) = 1 ∧ Lf (zt (rb j)) = 0 from h)]
theorem zo_ol_n {Lf : Nat → Int32} {rb : Nat → Nat} {j : Nat} (h : ¬ zo_out Lf (rb j)) : zo_ol Lf rb (j + 1) = zo_ol Lf rb j := by
  rw [zo_ol, if_neg (show ¬ (Lf (rb j) = 1 ∧ Lf (zt (rb j)) = 0) from h)]
theorem zo_ol_mem {Lf : Nat → Int32} {rb : Nat → Nat} {h : Nat} : ∀ j, h ∈ zo_ol Lf rb j ↔ ∃ i, i < j ∧ rb i = h ∧ zo_out Lf h
  | 0 => ⟨fun w => absurd w (List.not_mem_nil), fun ⟨i, w, _⟩ => by omega⟩
  | j + 1 => by
    have ih := zo_ol_mem (Lf := Lf) (rb := rb) (h := h) j
    by_cases o : zo_out Lf (rb j)
    · rw [zo_ol_t o, List.mem_append, ih, List.mem_singleton]
      constructor
      · rintro (⟨i, a, b, c⟩ | w)
        · exact ⟨i, by omega, b, c⟩
        · exact ⟨j, by omega, w.symm, by rw [w]; exact o⟩
      · rintro ⟨i, a, b, c⟩
        by_cases e : i = j
        · rw [e] at b; exact Or.inr b.symm
        · exact Or.inl ⟨i, by omega, b, c⟩
    · rw [zo_ol_n o, ih]
      constructor
      · rintro ⟨i, a, b, c⟩; exact ⟨i, by omega, b, c⟩
      · rintro ⟨i, a, b, c⟩
        by_cases e : i = j
        · rw [e] at b; rw [← b] at c; exact absurd c o
        · exact ⟨i, by omega, b, c⟩
/-- sorted by the ends -/
theorem zo_ol_so {Lf : Nat → Int32} {rb : Nat → Nat} {T : Nat → Nat → Prop} : ∀ j, (∀ a b, a < b → b < j → T (rb a) (rb b)) → (zo_ol Lf rb j).Pairwise T
  | 0, _ => List.Pairwise.nil
  | j + 1, h => by
    have ih := zo_ol_so (Lf := Lf) (rb := rb) (T := T) j (fun a b x y => h a b x (by omega))
    by_cases o : zo_out Lf (rb j)
    · rw [zo_ol_t o, List.pairwise_append]
      refine ⟨ih, List.pairwise_singleton _ _, fun x hx y hy => ?_⟩
      rw [List.mem_singleton.mp hy]
      obtain ⟨i, a, b, -⟩ := (zo_ol_mem j).mp hx
      rw [← b]; exact h i j a (by omega)
    · rw [zo_ol_n o]; exact ih
/-- the e-th output -/
def zo_oh (Lf : Nat → Int32) (rb : Nat → Nat) (H e : Nat) : Nat := (zo_ol Lf rb H).getD e 0
theorem zo_oh_mem {Lf : Nat → Int32} {rb : Nat → Nat} {H e : Nat} (he : e < (zo_ol Lf rb H).length) : zo_oh Lf rb H e ∈ zo_ol Lf rb H := by
  unfold zo_oh
  rw [List.getD_eq_getElem?_getD, List.getElem?_eq_getElem he, Option.getD_some]
  exact List.getElem_mem he
theorem zo_oh_so {Lf : Nat → Int32} {rb : Nat → Nat} {H : Nat} {T : Nat → Nat → Prop} (h : (zo_ol Lf rb H).Pairwise T) {i j : Nat} (hij : i < j) (hj : j < (zo_ol Lf rb H).length) : T (zo_oh Lf rb H i) (zo_oh Lf rb H j) := by
  unfold zo_oh
  rw [List.getD_eq_getElem?_getD, List.getD_eq_getElem?_getD, List.getElem?_eq_getElem hj, List.getElem?_eq_getElem (Nat.lt_trans hij hj)]
  exact (List.pairwise_iff_getElem.mp h) i j (Nat.lt_trans hij hj) hj hij
theorem zo_oh_ex {Lf : Nat → Int32} {rb : Nat → Nat} {H h : Nat} (m : h ∈ zo_ol Lf rb H) : ∃ e, e < (zo_ol Lf rb H).length ∧ zo_oh Lf rb H e = h := by
  obtain ⟨e, he, ee⟩ := List.getElem_of_mem m
  refine ⟨e, he, ?_⟩
  unfold zo_oh
  rw [List.getD_eq_getElem?_getD, List.getElem?_eq_getElem he, Option.getD_some]; exact ee
/-- what is known of the outputs -/
def zo_O (og : Nat → Nat) (H : Nat) (Lf : Nat → Int32) (M : Nat) (oh : Nat → Nat) : Prop := (∀ e, e < M → oh e < H ∧ zo_out Lf (oh e)) ∧ (∀ i j, i < j → j < M → zx_ek og (oh i) (oh j)) ∧ (∀ h, h < H → zo_out Lf h → ∃ e, e < M ∧ oh e = h)
theorem zo_OO {og rb : Nat → Nat} {H : Nat} {Lf : Nat → Int32} {a : Nat → Int32} (I : zo_inv (zx_ek og) H a rb) : zo_O og H Lf (zo_ol Lf rb H).length (zo_oh Lf rb H) := by
  refine ⟨fun e he => ?_, fun i j hij hj => zo_oh_so (zo_ol_so H (fun a b x y => I.2.1 a b x y)) hij hj, fun h hh o => ?_⟩
  · obtain ⟨i, a, b, c⟩ := (zo_ol_mem H).mp (zo_oh_mem he)
    exact ⟨by rw [← b]; exact (I.1 i a).2, c⟩
  · obtain ⟨i, a, b⟩ := I.2.2 h hh
    exact zo_oh_ex ((zo_ol_mem H).mpr ⟨i, a, b, o⟩)
theorem zo_Oinj {og : Nat → Nat} {H M : Nat} {Lf : Nat → Int32} {oh : Nat → Nat} (O : zo_O og H Lf M oh) {i j : Nat} (hi : i < M) (hj : j < M) (e : oh i = oh j) : i = j := by
  rcases Nat.lt_trichotomy i j with w | w | w
  · have := O.2.1 i j w hj; rw [e] at this; unfold zx_ek at this; omega
  · exact w
  · have := O.2.1 j i w hi; rw [e] at this; unfold zx_ek at this; omega
section
variable {g_size g_most g_phase g_n g_open g_rings g_op g_rule g_hots g_steps g_pieces g_outs g_loops : Int32} {b_vx b_vy b_ring b_polyOf b_hot b_used b_step b_stepPoly b_pieceKey b_way b_out b_loop : Nat → Int32}
variable {N K M : Nat} {su st sp og : Nat → Nat} {rd cwf oh : Nat → Nat} {Lf : Nat → Int32}
theorem yo_cross {post : Int32 → Prop} {a b u t : Nat} (ha : a < 100) (hb : b < 100) (hu : u < 100) (ht : t < 100) (k : post (zi ((zc_x b - zc_x a) * (zc_y t - zc_y u) - (zc_y b - zc_y a) * (zc_x t - zc_x u)))) : wpY_cross post (g_size, g_most, g_phase, g_n, g_open, g_rings, g_op, g_rule, g_hots, g_steps, g_pieces, g_outs, g_loops, b_vx, b_vy, b_ring, b_polyOf, b_hot, b_used, b_step, b_stepPoly, b_pieceKey, b_way, b_out, b_loop) (nI (100 * a + b)) (nI (100 * u + t)) := by
  unfold wpY_cross
  refine yw_dx ha hb ?_
  refine yw_dy hu ht ?_
  refine yw_dy ha hb ?_
  refine yw_dx hu ht ?_
  rw [zi_mul, zi_mul, zi_sub]; exact k
/-- the reference's turn: (a, b) is the edge that comes in at b, (b, t) leaves -/
theorem yo_turn {post : Int32 → Prop} {a b t : Nat} (ha : a < 100) (hb : b < 100) (ht : t < 100) (k : post (zi (zt_T (zc_x a - zc_x b) (zc_y a - zc_y b) (zc_x t - zc_x b) (zc_y t - zc_y b)))) : wpY_turn post (g_size, g_most, g_phase, g_n, g_open, g_rings, g_op, g_rule, g_hots, g_steps, g_pieces, g_outs, g_loops, b_vx, b_vy, b_ring, b_polyOf, b_hot, b_used, b_step, b_stepPoly, b_pieceKey, b_way, b_out, b_loop) (nI (100 * a + b)) (nI (100 * b + t)) := by
  have A := zc_b ha
  have B := zc_b hb
  have T := zc_b ht
  have p1 := zg_bd (x := zc_x b - zc_x a) (y := zc_y t - zc_y b) (by omega) (by omega) (by omega) (by omega)
  have p2 := zg_bd (x := zc_y b - zc_y a) (y := zc_x t - zc_x b) (by omega) (by omega) (by omega) (by omega)
  have p3 := zg_bd (x := zc_x b - zc_x a) (y := zc_x t - zc_x b) (by omega) (by omega) (by omega) (by omega)
  have p4 := zg_bd (x := zc_y b - zc_y a) (y := zc_y t - zc_y b) (by omega) (by omega) (by omega) (by omega)
  have e1 : (zc_x t - zc_x b) * (zc_y a - zc_y b) - (zc_y t - zc_y b) * (zc_x a - zc_x b) = (zc_x b - zc_x a) * (zc_y t - zc_y b) - (zc_y b - zc_y a) * (zc_x t - zc_x b) := by clear k p1 p2 p3 p4; grind
  have e2 : (zc_x a - zc_x b) * (zc_x t - zc_x b) + (zc_y a - zc_y b) * (zc_y t - zc_y b) = -((zc_x b - zc_x a) * (zc_x t - zc_x b) + (zc_y b - zc_y a) * (zc_y t - zc_y b)) := by clear k p1 p2 p3 p4; grind
  unfold zt_T at k
  rw [e1, e2] at k
  unfold wpY_turn
  refine yo_cross ha hb hb ht ?_
  refine yw_dx ha hb ?_
  refine yw_dx hb ht ?_
  refine yw_dy ha hb ?_
  refine yw_dy hb ht ?_
  simp only [zi_mul, zi_add]
  have cb : -200 ≤ (zc_x b - zc_x a) * (zc_y t - zc_y b) - (zc_y b - zc_y a) * (zc_x t - zc_x b) ∧ (zc_x b - zc_x a) * (zc_y t - zc_y b) - (zc_y b - zc_y a) * (zc_x t - zc_x b) ≤ 200 := by omega
  have db : -200 ≤ (zc_x b - zc_x a) * (zc_x t - zc_x b) + (zc_y b - zc_y a) * (zc_y t - zc_y b) ∧ (zc_x b - zc_x a) * (zc_x t - zc_x b) + (zc_y b - zc_y a) * (zc_y t - zc_y b) ≤ 200 := by omega
  clear p1 p2 p3 p4 e1 e2
  generalize (zc_x b - zc_x a) * (zc_y t - zc_y b) - (zc_y b - zc_y a) * (zc_x t - zc_x b) = c at *
  generalize (zc_x b - zc_x a) * (zc_x t - zc_x b) + (zc_y b - zc_y a) * (zc_y t - zc_y b) = d at *
  refine nm_e (zb_le (b := 0) ?_ ?_ (fun w => zb_le (a := 0) ?_ ?_ (fun w2 => zb_le (b := 0) ?_ ?_ (fun w3 => ?_) (fun w3 => ?_)) (fun w2 => ?_)) (fun w => ?_))
  · omega
  · omega
  · omega
  · omega
  · omega
  · omega
  · rw [if_neg (by omega), if_neg (by omega), if_neg (by omega)] at k; exact k
  · rw [if_neg (by omega), if_neg (by omega), if_pos (by omega)] at k; exact k
  · rw [if_neg (by omega), if_pos (by omega)] at k; exact k
  · rw [if_pos (by omega)] at k; exact k
theorem yo_Tb (k1 k2 f1 f2 : Int) : 0 ≤ zt_T k1 k2 f1 f2 ∧ zt_T k1 k2 f1 f2 ≤ 3 := by
  unfold zt_T
  split
  · omega
  · split
    · omega
    · split <;> omega
theorem yo_sooner {post : Int32 → Prop} {a b t v : Nat} (ha : a < 100) (hb : b < 100) (ht : t < 100) (hv : v < 100)
    (k1 : zt_so (zc_x a - zc_x b) (zc_y a - zc_y b) (zc_x t - zc_x b) (zc_y t - zc_y b) (zc_x v - zc_x b) (zc_y v - zc_y b) → post 1) (k0 : ¬ zt_so (zc_x a - zc_x b) (zc_y a - zc_y b) (zc_x t - zc_x b) (zc_y t - zc_y b) (zc_x v - zc_x b) (zc_y v - zc_y b) → post 0) :
    wpY_sooner post (g_size, g_most, g_phase, g_n, g_open, g_rings, g_op, g_rule, g_hots, g_steps, g_pieces, g_outs, g_loops, b_vx, b_vy, b_ring, b_polyOf, b_hot, b_used, b_step, b_stepPoly, b_pieceKey, b_way, b_out, b_loop) (nI (100 * a + b)) (nI (100 * b + t)) (nI (100 * b + v)) := by
  have T := zc_b ht
  have B := zc_b hb
  have V := zc_b hv
  have p1 := zg_bd (x := zc_x t - zc_x b) (y := zc_y v - zc_y b) (by omega) (by omega) (by omega) (by omega)
  have p2 := zg_bd (x := zc_y t - zc_y b) (y := zc_x v - zc_x b) (by omega) (by omega) (by omega) (by omega)
  have t1 := yo_Tb (zc_x a - zc_x b) (zc_y a - zc_y b) (zc_x t - zc_x b) (zc_y t - zc_y b)
  have t2 := yo_Tb (zc_x a - zc_x b) (zc_y a - zc_y b) (zc_x v - zc_x b) (zc_y v - zc_y b)
  unfold zt_so at k1 k0
  unfold wpY_sooner
  refine yo_turn ha hb ht ?_
  refine yo_turn ha hb hv ?_
  refine zb_eq (by omega) (by omega) (fun w => ?_) (fun w => ?_)
  · refine yo_cross hb ht hb hv ?_
    exact zb_le (a := 0) (by omega) (by omega) (fun w2 => k0 (by omega)) (fun w2 => k1 (Or.inr ⟨w, w2⟩))
  · exact zb_le (by omega) (by omega) (fun w2 => k0 (by omega)) (fun w2 => k1 (Or.inl w2))
/-- the best so far: none, or one at the vertex v; s itself once it has been seen -/
def zo_bi (M s v : Nat) (og oh : Nat → Nat) (f : Nat) (b : Int32) : Prop := (b = -1 ∧ f ≤ s) ∨ (∃ t, t < M ∧ b = nI t ∧ og (oh t) = v ∧ (s < f → t = s))
/-- next finds the successor -/
theorem yo_next4 {post : Int32 → Prop} (A : zr_A N K su st sp og) (r : zx_rd og (2 * K) rd) (c : zx_cw og (2 * K) rd cwf) (b01 : ∀ h, h < 2 * K → Lf h = 0 ∨ Lf h = 1) (hr : ∀ h, h < 2 * K → Lf (zt h) = Lf (cwf h)) (O : zo_O og (2 * K) Lf M oh) (hM : M ≤ 256) (hm : g_outs = nI M)
    (ho : ∀ e, e < M → b_out e = nI (100 * og (oh e) + og (zt (oh e)))) {e s : Nat} (he : e < M) (hs : s < M) (es : oh s = zo_sc og (2 * K) rd Lf (oh e)) (k : post (nI s)) :
    ∀ (n f : Nat) (b : Int32), M - f < n → f ≤ M → zo_bi M s (og (zt (oh e))) og oh f b → wY_next_4 post (nI e) g_size g_most g_phase g_n g_open g_rings g_op g_rule g_hots g_steps g_pieces g_outs g_loops b_vx b_vy b_ring b_polyOf b_hot b_used b_step b_stepPoly b_pieceKey b_way b_out b_loop n b (nI f)
  | 0, f, b, h, _, _ => by omega
  | n + 1, f, b, h, hf, inv => by
    have ih := yo_next4 (post := post) A r c b01 hr O hM hm ho he hs es k n
    obtain ⟨oe1, oe2⟩ := O.1 e he
    have sc := zo_scf A r c b01 hr oe1 oe2
    have ca := A.2.2.1 _ oe1
    have cb := A.2.2.1 _ (zt_lt oe1)
    subst hm
    unfold wY_next_4
    refine zb_leN (by omega) (by omega) (fun w => ?_) (fun w => ?_)
    · have : f = M := by omega
      subst this
      rcases inv with ⟨-, q⟩ | ⟨t, q1, q2, q3, q4⟩
      · omega
      · rw [q2, q4 hs]
        exact br_t (nI_pos' (by omega)) k
    · obtain ⟨of1, of2⟩ := O.1 f w
      have cf := A.2.2.1 _ of1
      have cf2 := A.2.2.1 _ (zt_lt of1)
      have i1 : vp_in (nI f) 300 := vp_in_nI (by omega) (by omega)
      have i2 : vp_in (nI e) 300 := vp_in_nI (by omega) (by omega)
      have d1 : ¬ (100 : Int32) = 0 := by decide
      simp only [nI_clamp (show f < 2 ^ 31 by omega), nI_clamp (show e < 2 ^ 31 by omega), ho f w, ho e he]
      have e1 : nI (100 * og (oh f) + og (zt (oh f))) / 100 = nI (og (oh f)) := by
        rw [show (100 : Int32) = nI 100 from rfl, zb_div (by omega) (by omega) (by omega), show (100 * og (oh f) + og (zt (oh f))) / 100 = og (oh f) by omega]
      have e2 : nI (100 * og (oh e) + og (zt (oh e))) - nI (100 * og (oh e) + og (zt (oh e))) / 100 * 100 = nI (og (zt (oh e))) := by
        rw [show (100 : Int32) = nI 100 from rfl, zb_rem (by omega) (by omega) (by omega), show (100 * og (oh e) + og (zt (oh e))) % 100 = og (zt (oh e)) by omega]
      rw [e1, e2]
      refine ⟨i1, d1, i2, d1, zb_eqN (by omega) (by omega) (fun z => ?_) (fun z => nm_r (nI_1 f) (ih (f + 1) b (by omega) (by omega) ?_))⟩
      · rcases inv with ⟨q1, q2⟩ | ⟨t, q1, q2, q3, q4⟩
        · rw [q1]
          refine br_t (by decide) (nm_r (nI_1 f) (ih (f + 1) _ (by omega) (by omega) (Or.inr ⟨f, w, rfl, z, fun v => by omega⟩)))
        · rw [q2]
          obtain ⟨ot1, ot2⟩ := O.1 t q1
          have ct2 := A.2.2.1 _ (zt_lt ot1)
          refine br_f (nI_pos (by omega)) ?_
          simp only [nI_clamp (show t < 2 ^ 31 by omega), ho t q1]
          refine ⟨i2, i1, vp_in_nI (by omega) (by omega), ?_⟩
          rw [z, q3]
          refine yo_sooner ca cb cf2 ct2 (fun y => br_f (by decide) (nm_r (nI_1 f) (ih (f + 1) _ (by omega) (by omega) (Or.inr ⟨f, w, rfl, z, fun v => ?_⟩)))) (fun y => br_t rfl (nm_r (nI_1 f) (ih (f + 1) _ (by omega) (by omega) (Or.inr ⟨t, q1, rfl, q3, fun v => ?_⟩))))
          · -- f becomes best: it must be s, or s is still to come
            by_cases fs : f = s
            · exact fs
            · exfalso
              have ts := q4 (by omega)
              rw [ts, es] at y
              have nf : oh f ≠ zo_sc og (2 * K) rd Lf (oh e) := fun q => fs (zo_Oinj O w hs (by rw [es]; exact q))
              have so := zo_scs A r c b01 hr oe1 oe2 of1 of2 z nf
              unfold zt_so at y so
              have sw : ∀ u1 u2 v1 v2 : Int, u1 * v2 - u2 * v1 = -(v1 * u2 - v2 * u1) := by intro u1 u2 v1 v2; clear y so; grind
              have := sw (zc_x (og (zt (oh f))) - zc_x (og (zt (oh e)))) (zc_y (og (zt (oh f))) - zc_y (og (zt (oh e)))) (zc_x (og (zt (zo_sc og (2 * K) rd Lf (oh e)))) - zc_x (og (zt (oh e)))) (zc_y (og (zt (zo_sc og (2 * K) rd Lf (oh e)))) - zc_y (og (zt (oh e))))
              omega
          · by_cases fs : f = s
            · by_cases ts : t = s
              · exact ts
              · exfalso
                apply y
                rw [fs, es]
                have nt : oh t ≠ zo_sc og (2 * K) rd Lf (oh e) := fun q => ts (zo_Oinj O q1 hs (by rw [es]; exact q))
                exact zo_scs A r c b01 hr oe1 oe2 ot1 ot2 q3 nt
            · exact q4 (by omega)
      · rcases inv with ⟨q1, q2⟩ | ⟨t, q1, q2, q3, q4⟩
        · refine Or.inl ⟨q1, ?_⟩
          rcases Nat.lt_or_ge f s with v | v
          · omega
          · exfalso
            have fs : f = s := by omega
            rw [fs, es] at z
            exact z sc.2.2
        · refine Or.inr ⟨t, q1, q2, q3, fun v => ?_⟩
          by_cases fs : f = s
          · exfalso
            rw [fs, es] at z
            exact z sc.2.2
          · exact q4 (by omega)
theorem yo_next {post : Int32 → Prop} (A : zr_A N K su st sp og) (r : zx_rd og (2 * K) rd) (c : zx_cw og (2 * K) rd cwf) (b01 : ∀ h, h < 2 * K → Lf h = 0 ∨ Lf h = 1) (hr : ∀ h, h < 2 * K → Lf (zt h) = Lf (cwf h)) (O : zo_O og (2 * K) Lf M oh) (hM : M ≤ 256) (hm : g_outs = nI M)
    (ho : ∀ e, e < M → b_out e = nI (100 * og (oh e) + og (zt (oh e)))) {e : Nat} (he : e < M) (k : ∀ s, s < M → oh s = zo_sc og (2 * K) rd Lf (oh e) → post (nI s)) : wpY_next post (g_size, g_most, g_phase, g_n, g_open, g_rings, g_op, g_rule, g_hots, g_steps, g_pieces, g_outs, g_loops, b_vx, b_vy, b_ring, b_polyOf, b_hot, b_used, b_step, b_stepPoly, b_pieceKey, b_way, b_out, b_loop) (nI e) := by
  obtain ⟨oe1, oe2⟩ := O.1 e he
  have sc := zo_scf A r c b01 hr oe1 oe2
  obtain ⟨s, hs, es⟩ := O.2.2 _ sc.1 sc.2.1
  unfold wpY_next
  exact ⟨M + 1, yo_next4 A r c b01 hr O hM hm ho he hs es (k s hs es) (M + 1) 0 (-1) (by omega) (by omega) (Or.inl ⟨rfl, by omega⟩)⟩
end
end
section
/-! rings: the cycles of an injective map nx on the numbers below M -/
theorem zz_ph : ∀ (M n : Nat) (f : Nat → Nat), (∀ i, i < n → f i < M) → (∀ i j, i < j → j < n → f i ≠ f j) → n ≤ M
  | 0, n, f, h1, _ => by
    rcases Nat.eq_zero_or_pos n with z | z
    · omega
    · have := h1 0 z; omega
  | M + 1, n, f, h1, h2 => by
    by_cases c : ∃ i, i < n ∧ f i = M
    · obtain ⟨i0, a, b⟩ := c
      have := zz_ph M (n - 1) (fun i => if i < i0 then f i else f (i + 1)) (fun i hi => ?_) (fun i j hij hj => ?_)
      · omega
      · (try dsimp only)
        split
        · rename_i w
          have x := h1 i (by omega)
          have y := h2 i i0 w a
          omega
        · rename_i w
          have x := h1 (i + 1) (by omega)
          have y := h2 i0 (i + 1) (by omega) (by omega)
          omega
      · (try dsimp only)
        by_cases w1 : i < i0
        · rw [if_pos w1]
          by_cases w2 : j < i0
          · rw [if_pos w2]; exact h2 i j hij (by omega)
          · rw [if_neg w2]; exact h2 i (j + 1) (by omega) (by omega)
        · rw [if_neg w1, if_neg (by omega)]; exact h2 (i + 1) (j + 1) (by omega) (by omega)
    · have := zz_ph M n f (fun i hi => by
        have x := h1 i hi
        have y : f i ≠ M := fun q => c ⟨i, hi, q⟩
        omega) h2
      omega
theorem zz_phs {M : Nat} {f : Nat → Nat} (h1 : ∀ i, i < M → f i < M) (h2 : ∀ i j, i < j → j < M → f i ≠ f j) {e : Nat} (he : e < M) : ∃ i, i < M ∧ f i = e := by
  refine Classical.byContradiction (fun c => ?_)
  have := zz_ph M (M + 1) (fun i => if i < M then f i else e) (fun i hi => ?_) (fun i j hij hj => ?_)
  · omega
  · (try dsimp only)
    split
    · exact h1 i (by omega)
    · exact he
  · (try dsimp only)
    rw [if_pos (by omega)]
    by_cases w : j < M
    · rw [if_pos w]; exact h2 i j hij w
    · rw [if_neg w]
      exact fun q => c ⟨i, by omega, q⟩
/-- Q rings are done: ring r holds the places F r .. F (r + 1); oI i is the number at place i -/
def zr_RI (M : Nat) (nx : Nat → Nat) (Q : Nat) (F oI : Nat → Nat) : Prop :=
  F 0 = 0 ∧ (∀ r, r < Q → F r < F (r + 1)) ∧ (∀ i, i < F Q → oI i < M) ∧ (∀ i j, i < j → j < F Q → oI i ≠ oI j) ∧
  (∀ r i, r < Q → F r ≤ i → i + 1 < F (r + 1) → oI (i + 1) = nx (oI i)) ∧ (∀ r, r < Q → nx (oI (F (r + 1) - 1)) = oI (F r)) ∧ (∀ e i, e < M → i < F Q → nx e = oI i → ∃ i', i' < F Q ∧ oI i' = e)
/-- ring Q is being traced from e0: j places are written, c is next -/
def zr_PI (M : Nat) (nx : Nat → Nat) (Q : Nat) (F oI : Nat → Nat) (e0 j c : Nat) : Prop :=
  (F 0 = 0 ∧ (∀ r, r < Q → F r < F (r + 1)) ∧ (∀ r i, r < Q → F r ≤ i → i + 1 < F (r + 1) → oI (i + 1) = nx (oI i)) ∧ (∀ r, r < Q → nx (oI (F (r + 1) - 1)) = oI (F r)) ∧ (∀ e i, e < M → i < F Q → nx e = oI i → ∃ i', i' < F Q ∧ oI i' = e)) ∧
  (∀ i, i < F Q + j → oI i < M) ∧ (∀ a b, a < b → b < F Q + j → oI a ≠ oI b) ∧ c < M ∧ (j = 0 → c = e0) ∧ (0 < j → oI (F Q) = e0 ∧ c = nx (oI (F Q + j - 1))) ∧ (∀ i, i + 1 < j → oI (F Q + i + 1) = nx (oI (F Q + i)))
theorem zr_mon {Q : Nat} {F : Nat → Nat} (h : ∀ r, r < Q → F r < F (r + 1)) : ∀ d r, r + d ≤ Q → F r ≤ F (r + d)
  | 0, r, _ => Nat.le_refl _
  | d + 1, r, hd => by
    have a := zr_mon h d r (by omega)
    have b := h (r + d) (by omega)
    rw [← Nat.add_assoc]; omega
theorem zr_P0 {M Q e0 : Nat} {nx F oI : Nat → Nat} (I : zr_RI M nx Q F oI) (he : e0 < M) : zr_PI M nx Q F oI e0 0 e0 := by
  obtain ⟨a, b, c, d, e, f, g⟩ := I
  exact ⟨⟨a, b, e, f, g⟩, by rw [Nat.add_zero]; exact c, by rw [Nat.add_zero]; exact d, he, fun _ => rfl, fun h => absurd h (by omega), fun i hi => absurd hi (by omega)⟩
/-- the next place is written -/
theorem zr_P1 {M Q e0 j c : Nat} {nx F oI : Nat → Nat} (hn : ∀ e, e < M → nx e < M) (I : zr_PI M nx Q F oI e0 j c) (h : ∀ i, i < F Q + j → oI i ≠ c) : zr_PI M nx Q F (fun x => if x = F Q + j then c else oI x) e0 (j + 1) (nx c) := by
  obtain ⟨⟨a1, a2, a3, a4, a5⟩, b, d, hc, e, f, g⟩ := I
  have le : ∀ r, r < Q → F (r + 1) ≤ F Q := by
    intro r hr
    have := zr_mon a2 (Q - (r + 1)) (r + 1) (by omega)
    rw [show r + 1 + (Q - (r + 1)) = Q by omega] at this; exact this
  refine ⟨⟨a1, a2, fun r i hr h1 h2 => ?_, fun r hr => ?_, fun x i hx hi hn' => ?_⟩, fun i hi => ?_, fun x y hxy hy => ?_, hn c hc, fun h => absurd h (by omega), fun _ => ⟨?_, ?_⟩, fun i hi => ?_⟩
  · (try dsimp only)
    have := le r hr
    rw [if_neg (by omega), if_neg (by omega)]; exact a3 r i hr h1 h2
  · (try dsimp only)
    have := le r hr
    have := a2 r hr
    rw [if_neg (by omega), if_neg (by omega)]; exact a4 r hr
  · (try dsimp only)
    (try dsimp only at hn')
    rw [if_neg (by omega)] at hn'
    obtain ⟨i', p, q⟩ := a5 x i hx hi hn'
    exact ⟨i', p, by (try dsimp only); rw [if_neg (by omega)]; exact q⟩
  · (try dsimp only)
    by_cases w : i = F Q + j
    · rw [if_pos w]; exact hc
    · rw [if_neg w]; exact b i (by omega)
  · (try dsimp only)
    rw [if_neg (by omega)]
    by_cases w : y = F Q + j
    · rw [if_pos w]; exact h x (by omega)
    · rw [if_neg w]; exact d x y hxy (by omega)
  · (try dsimp only)
    by_cases w : j = 0
    · rw [if_pos (by omega)]; exact e w
    · rw [if_neg (by omega)]; exact (f (by omega)).1
  · (try dsimp only)
    rw [if_pos (by omega)]
  · (try dsimp only)
    by_cases w : i + 1 = j
    · rw [if_pos (by omega), if_neg (by omega)]
      have := (f (by omega)).2
      rw [this, show F Q + j - 1 = F Q + i by omega]
    · rw [if_neg (by omega), if_neg (by omega)]; exact g i (by omega)
/-- the trace ends where it began -/
theorem zr_P2 {M Q e0 j c : Nat} {nx F oI : Nat → Nat} (hi : ∀ a b, a < M → b < M → nx a = nx b → a = b) (I : zr_PI M nx Q F oI e0 j c) (h0 : ∀ i, i < F Q → oI i ≠ e0) (h : ∃ i, i < F Q + j ∧ oI i = c) :
    0 < j ∧ zr_RI M nx (Q + 1) (fun r => if r = Q + 1 then F Q + j else F r) oI ∧ oI (F Q) = e0 := by
  obtain ⟨⟨a1, a2, a3, a4, a5⟩, b, d, hc, e, f, g⟩ := I
  obtain ⟨i, p, q⟩ := h
  have j0 : 0 < j := by
    rcases Nat.eq_zero_or_pos j with w | w
    · exfalso
      have := e w
      exact h0 i (by omega) (by rw [q, this])
    · exact w
  obtain ⟨f1, f2⟩ := f j0
  have lastM := b (F Q + j - 1) (by omega)
  -- c is the start
  have cs : c = e0 := by
    rcases Nat.lt_or_ge i (F Q) with w | w
    · exfalso
      obtain ⟨i', p', q'⟩ := a5 _ i lastM w (by rw [← f2, q])
      exact d i' (F Q + j - 1) (by omega) (by omega) q'
    · by_cases z : i = F Q
      · rw [← q, z]; exact f1
      · exfalso
        have gi := g (i - 1 - F Q) (by omega)
        rw [show F Q + (i - 1 - F Q) + 1 = i by omega, show F Q + (i - 1 - F Q) = i - 1 by omega] at gi
        have := hi _ _ (b (i - 1) (by omega)) lastM (by rw [← gi, q, ← f2])
        exact d (i - 1) (F Q + j - 1) (by omega) (by omega) this
  refine ⟨j0, ⟨?_, fun r hr => ?_, fun i hi' => ?_, fun x y hxy hy => ?_, fun r i hr h1 h2 => ?_, fun r hr => ?_, fun x i hx hi' hn => ?_⟩, f1⟩
  · (try dsimp only); rw [if_neg (by omega)]; exact a1
  · (try dsimp only)
    rw [if_neg (by omega)]
    by_cases w : r = Q
    · rw [if_pos (by omega), w]; omega
    · rw [if_neg (by omega)]; exact a2 r (by omega)
  · (try dsimp only at hi'); rw [if_pos rfl] at hi'; exact b i hi'
  · (try dsimp only at hy); rw [if_pos rfl] at hy; exact d x y hxy hy
  · (try dsimp only at h1 h2)
    rw [if_neg (by omega)] at h1
    by_cases w : r = Q
    · rw [if_pos (by omega)] at h2
      rw [w] at h1
      have := g (i - F Q) (by omega)
      rw [show F Q + (i - F Q) = i by omega] at this; exact this
    · rw [if_neg (by omega)] at h2
      exact a3 r i (by omega) h1 h2
  · (try dsimp only)
    by_cases w : r = Q
    · rw [if_pos (by omega), if_neg (by omega), w, f1, ← f2, cs]
    · rw [if_neg (by omega), if_neg (by omega)]; exact a4 r (by omega)
  · (try dsimp only at hi' ⊢)
    rw [if_pos rfl] at hi' ⊢
    rcases Nat.lt_or_ge i (F Q) with w | w
    · obtain ⟨i', p', q'⟩ := a5 x i hx w hn
      exact ⟨i', by omega, q'⟩
    · by_cases z : i = F Q
      · refine ⟨F Q + j - 1, by omega, ?_⟩
        refine hi _ _ lastM hx ?_
        rw [← f2, hn, z, f1, cs]
      · have gi := g (i - 1 - F Q) (by omega)
        rw [show F Q + (i - 1 - F Q) + 1 = i by omega, show F Q + (i - 1 - F Q) = i - 1 by omega] at gi
        exact ⟨i - 1, by omega, hi _ _ (b (i - 1) (by omega)) hx (by rw [← gi, hn])⟩
/-- with M places written everything is used -/
theorem zr_P3 {M Q e0 j c : Nat} {nx F oI : Nat → Nat} (I : zr_PI M nx Q F oI e0 j c) : F Q + j ≤ M ∧ (M ≤ j → ∃ i, i < F Q + j ∧ oI i = c) := by
  obtain ⟨-, b, d, hc, -⟩ := I
  have le := zz_ph M (F Q + j) oI b d
  refine ⟨le, fun w => ?_⟩
  have e : F Q + j = M := by omega
  rw [e] at b d ⊢
  exact zz_phs b d hc
theorem zr_R3 {M Q : Nat} {nx F oI : Nat → Nat} (I : zr_RI M nx Q F oI) : F Q ≤ M ∧ Q ≤ F Q := by
  obtain ⟨a, b, c, d, -⟩ := I
  refine ⟨zz_ph M (F Q) oI c d, ?_⟩
  have : ∀ r, r ≤ Q → r ≤ F r := by
    intro r
    induction r with
    | zero => intro _; omega
    | succ r ih => intro hr; have := ih (by omega); have := b r (by omega); omega
  exact this Q (Nat.le_refl _)
/-- iterates -/
def zr_it (nx : Nat → Nat) : Nat → Nat → Nat
  | 0, e => e
  | k + 1, e => zr_it nx k (nx e)
/-- least of its cycle -/
def zr_st (nx : Nat → Nat) (e : Nat) : Prop := ∀ k, e ≤ zr_it nx k e
theorem zr_bk {M Q : Nat} {nx F oI : Nat → Nat} (hn : ∀ e, e < M → nx e < M) (I : zr_RI M nx Q F oI) : ∀ k e, e < M → (∃ i, i < F Q ∧ oI i = zr_it nx k e) → ∃ i, i < F Q ∧ oI i = e
  | 0, e, _, h => h
  | k + 1, e, he, h => by
    obtain ⟨i, a, b⟩ := zr_bk hn I k (nx e) (hn e he) h
    exact I.2.2.2.2.2.2 e i he a b.symm
theorem zr_fw {M Q : Nat} {nx F oI : Nat → Nat} (I : zr_RI M nx Q F oI) {r : Nat} (hr : r < Q) : ∀ d i, F r ≤ i → i + d + 1 = F (r + 1) → zr_it nx (d + 1) (oI i) = oI (F r)
  | 0, i, h1, h2 => by
    have := I.2.2.2.2.2.1 r hr
    rw [show F (r + 1) - 1 = i by omega] at this
    exact this
  | d + 1, i, h1, h2 => by
    have := zr_fw I hr d (i + 1) (by omega) (by omega)
    rw [I.2.2.2.2.1 r i hr h1 (by omega)] at this
    exact this
theorem zr_ring {Q : Nat} {F : Nat → Nat} (h0 : F 0 = 0) {i : Nat} : ∀ q, i < F q → ∃ r, r < q ∧ F r ≤ i ∧ i < F (r + 1)
  | 0, h => by omega
  | q + 1, h => by
    by_cases c : i < F q
    · obtain ⟨r, a, b⟩ := zr_ring (Q := Q) h0 q c
      exact ⟨r, by omega, b⟩
    · exact ⟨q, by omega, by omega, h⟩
/-- all numbers below e are used; the starts so far are the cycles' least numbers below e, in order -/
def zr_MI (M : Nat) (nx : Nat → Nat) (e Q : Nat) (F oI : Nat → Nat) : Prop := zr_RI M nx Q F oI ∧ (∀ x, x < e → ∃ i, i < F Q ∧ oI i = x) ∧ (∀ r, r < Q → oI (F r) < e ∧ zr_st nx (oI (F r))) ∧ (∀ r r', r < r' → r' < Q → oI (F r) < oI (F r')) ∧ (∀ x, x < e → zr_st nx x → ∃ r, r < Q ∧ oI (F r) = x)
/-- e is used just if it isn't the least of its cycle -/
theorem zr_us {M e Q : Nat} {nx F oI : Nat → Nat} (hn : ∀ e, e < M → nx e < M) (I : zr_MI M nx e Q F oI) (he : e < M) : (∃ i, i < F Q ∧ oI i = e) ↔ ¬ zr_st nx e := by
  obtain ⟨I, h1, h2, h3, h4⟩ := I
  constructor
  · rintro ⟨i, a, b⟩ s
    obtain ⟨r, r1, r2, r3⟩ := zr_ring (Q := Q) I.1 Q a
    have f := zr_fw I r1 (F (r + 1) - i - 1) i r2 (by omega)
    have := s (F (r + 1) - i - 1 + 1)
    rw [← b, f] at this
    have := (h2 r r1).1
    omega
  · intro ns
    have : ∃ k, zr_it nx k e < e := by
      refine Classical.byContradiction (fun c => ns (fun k => ?_))
      rcases Nat.lt_or_ge (zr_it nx k e) e with w | w
      · exact absurd ⟨k, w⟩ c
      · exact w
    obtain ⟨k, hk⟩ := this
    exact zr_bk hn I k e he (h1 _ hk)
theorem zr_M1 {M e Q : Nat} {nx F oI : Nat → Nat} (I : zr_MI M nx e Q F oI) (hu : ∃ i, i < F Q ∧ oI i = e) (ns : ¬ zr_st nx e) : zr_MI M nx (e + 1) Q F oI := by
  obtain ⟨I, h1, h2, h3, h4⟩ := I
  refine ⟨I, fun x hx => ?_, fun r hr => ⟨by have := (h2 r hr).1; omega, (h2 r hr).2⟩, h3, fun x hx s => ?_⟩
  · by_cases w : x = e
    · rw [w]; exact hu
    · exact h1 x (by omega)
  · by_cases w : x = e
    · rw [w] at s; exact absurd s ns
    · exact h4 x (by omega) s
theorem zr_M2 {M e Q j : Nat} {nx F F' oI oI' : Nat → Nat} (I : zr_MI M nx e Q F oI) (s : zr_st nx e) (I' : zr_RI M nx (Q + 1) F' oI') (hF : ∀ r, r ≤ Q → F' r = F r) (hF1 : F' (Q + 1) = F Q + j) (hj : 0 < j) (hO : ∀ i, i < F Q → oI' i = oI i) (h0 : oI' (F Q) = e) : zr_MI M nx (e + 1) (Q + 1) F' oI' := by
  obtain ⟨I, h1, h2, h3, h4⟩ := I
  have mon := fun r (hr : r < Q) => zr_mon I.2.1 (Q - (r + 1)) (r + 1) (by omega)
  have st : ∀ r, r < Q → oI' (F' r) = oI (F r) := by
    intro r hr
    rw [hF r (by omega)]
    refine hO _ ?_
    have a := mon r hr
    rw [show r + 1 + (Q - (r + 1)) = Q by omega] at a
    have := I.2.1 r hr
    omega
  refine ⟨I', fun x hx => ?_, fun r hr => ?_, fun r r' a b => ?_, fun x hx sx => ?_⟩
  · rw [hF1]
    by_cases w : x = e
    · exact ⟨F Q, by omega, by rw [w]; exact h0⟩
    · obtain ⟨i, p, q⟩ := h1 x (by omega)
      exact ⟨i, by omega, by rw [hO i p]; exact q⟩
  · by_cases w : r = Q
    · rw [w, hF Q (Nat.le_refl _), h0]; exact ⟨by omega, s⟩
    · rw [st r (by omega)]
      have := h2 r (by omega)
      exact ⟨by omega, this.2⟩
  · rw [st r (by omega)]
    by_cases w : r' = Q
    · rw [w, hF Q (Nat.le_refl _), h0]; exact (h2 r (by omega)).1
    · rw [st r' (by omega)]; exact h3 r r' a (by omega)
  · by_cases w : x = e
    · exact ⟨Q, by omega, by rw [hF Q (Nat.le_refl _), h0, w]⟩
    · obtain ⟨r, a, b⟩ := h4 x (by omega) sx
      exact ⟨r, by omega, by rw [st r a]; exact b⟩
/-- two runs have the same starts -/
theorem zr_same {M Q Q' : Nat} {nx F F' oI oI' : Nat → Nat} (I : zr_MI M nx M Q F oI) (I' : zr_MI M nx M Q' F' oI') : Q = Q' ∧ ∀ r, r < Q → oI (F r) = oI' (F' r) := by
  have l : zx_fl (fun r => oI (F r)) Q = zx_fl (fun r => oI' (F' r)) Q' := by
    refine ze_uniq (g := fun n => (n : Int)) (zx_fl_pw _ _ Q (fun i j a b => ?_)) (zx_fl_pw _ _ Q' (fun i j a b => ?_)) (fun c => ?_)
    · have := I.2.2.2.1 i j a b; (try dsimp only); omega
    · have := I'.2.2.2.1 i j a b; (try dsimp only); omega
    · rw [zx_fl_mem, zx_fl_mem]
      constructor
      · rintro ⟨i, a, b⟩
        (try dsimp only at b)
        have := I.2.2.1 i a
        rw [b] at this
        exact I'.2.2.2.2 c this.1 this.2
      · rintro ⟨i, a, b⟩
        (try dsimp only at b)
        have := I'.2.2.1 i a
        rw [b] at this
        exact I.2.2.2.2 c this.1 this.2
  have q : Q = Q' := by
    have := congrArg List.length l
    rw [zx_fl_len, zx_fl_len] at this; exact this
  subst q
  refine ⟨rfl, fun r hr => ?_⟩
  have a := zx_fl_get (fun r => oI (F r)) Q r hr
  have b := zx_fl_get (fun r => oI' (F' r)) Q r hr
  rw [l] at a
  exact a.symm.trans b
end
section
/-! the component: classifyPieces, traceRings -/
/-- how many of the first p pieces carry an output -/
def zd_cn (D : Nat → Int) : Nat → Nat
  | 0 => 0
  | p + 1 => zd_cn D p + (if D p = 0 then 0 else 1)
theorem zd_le (D : Nat → Int) : ∀ p, zd_cn D p ≤ p
  | 0 => Nat.le_refl _
  | p + 1 => by have := zd_le D p; unfold zd_cn; split <;> omega
section
variable {N K M : Nat} {su st sp og : Nat → Nat} {rd cwf oh : Nat → Nat} {Lf : Nat → Int32}
/-- the number of the successor -/
noncomputable def zo_ni (og : Nat → Nat) (H : Nat) (rd : Nat → Nat) (Lf : Nat → Int32) (M : Nat) (oh : Nat → Nat) (e : Nat) : Nat := Classical.epsilon (fun s => s < M ∧ oh s = zo_sc og H rd Lf (oh e))
theorem zo_nip (A : zr_A N K su st sp og) (r : zx_rd og (2 * K) rd) (c : zx_cw og (2 * K) rd cwf) (b01 : ∀ h, h < 2 * K → Lf h = 0 ∨ Lf h = 1) (hr : ∀ h, h < 2 * K → Lf (zt h) = Lf (cwf h)) (O : zo_O og (2 * K) Lf M oh) {e : Nat} (he : e < M) : zo_ni og (2 * K) rd Lf M oh e < M ∧ oh (zo_ni og (2 * K) rd Lf M oh e) = zo_sc og (2 * K) rd Lf (oh e) := by
  obtain ⟨oe1, oe2⟩ := O.1 e he
  have sc := zo_scf A r c b01 hr oe1 oe2
  obtain ⟨s, hs, es⟩ := O.2.2 _ sc.1 sc.2.1
  exact Classical.epsilon_spec (p := fun s => s < M ∧ oh s = zo_sc og (2 * K) rd Lf (oh e)) ⟨s, hs, es⟩
theorem zo_nii (A : zr_A N K su st sp og) (r : zx_rd og (2 * K) rd) (c : zx_cw og (2 * K) rd cwf) (b01 : ∀ h, h < 2 * K → Lf h = 0 ∨ Lf h = 1) (hr : ∀ h, h < 2 * K → Lf (zt h) = Lf (cwf h)) (O : zo_O og (2 * K) Lf M oh) (a b : Nat) (ha : a < M) (hb : b < M) (e : zo_ni og (2 * K) rd Lf M oh a = zo_ni og (2 * K) rd Lf M oh b) : a = b := by
  have pa := zo_nip A r c b01 hr O ha
  have pb := zo_nip A r c b01 hr O hb
  have oa := O.1 a ha
  have ob := O.1 b hb
  have := zo_sci A r c b01 hr oa.1 oa.2 ob.1 ob.2 (by rw [← pa.2, ← pb.2, e])
  exact zo_Oinj O ha hb this
/-- used marks -/
def zr_um (M T : Nat) (oI : Nat → Nat) (u : Nat → Int32) : Prop := ∀ e, e < M → (u e = 0 ∨ u e = 1) ∧ (u e = 1 ↔ ∃ i, i < T ∧ oI i = e)
theorem zr_um1 {M T c : Nat} {oI : Nat → Nat} {u u' : Nat → Int32} (h : zr_um M T oI u) (hu : ∀ e, e < M → e ≠ c → u' e = u e) (hc : u' c = 1) : zr_um M (T + 1) (fun x => if x = T then c else oI x) u' := by
  intro e he
  by_cases w : e = c
  · rw [w, hc]
    exact ⟨Or.inr rfl, ⟨fun _ => ⟨T, by omega, by dsimp only; rw [if_pos rfl]⟩, fun _ => rfl⟩⟩
  · rw [hu e he w]
    refine ⟨(h e he).1, (h e he).2.trans ⟨fun ⟨i, a, b⟩ => ⟨i, by omega, by dsimp only; rw [if_neg (by omega)]; exact b⟩, fun ⟨i, a, b⟩ => ?_⟩⟩
    dsimp only at b
    by_cases q : i = T
    · rw [if_pos q] at b; exact absurd b.symm w
    · rw [if_neg q] at b; exact ⟨i, by omega, b⟩
/-- a prefix of the outputs -/
theorem zo_olp {rb : Nat → Nat} (j : Nat) : ∀ d, ∃ l, zo_ol Lf rb (j + d) = zo_ol Lf rb j ++ l
  | 0 => ⟨[], by simp⟩
  | d + 1 => by
    obtain ⟨l, h⟩ := zo_olp (rb := rb) j d
    rw [← Nat.add_assoc]
    by_cases o : zo_out Lf (rb (j + d))
    · rw [zo_ol_t o, h]; exact ⟨l ++ [rb (j + d)], by simp⟩
    · rw [zo_ol_n o, h]; exact ⟨l, rfl⟩
theorem zo_ohj {rb : Nat → Nat} {j H : Nat} (hj : j < H) (o : zo_out Lf (rb j)) : (zo_ol Lf rb j).length < (zo_ol Lf rb H).length ∧ zo_oh Lf rb H (zo_ol Lf rb j).length = rb j := by
  obtain ⟨l, h⟩ := zo_olp (Lf := Lf) (rb := rb) (j + 1) (H - (j + 1))
  rw [show j + 1 + (H - (j + 1)) = H by omega, zo_ol_t o] at h
  refine ⟨by rw [h]; simp, ?_⟩
  unfold zo_oh
  rw [h, List.getD_eq_getElem?_getD, List.append_assoc, List.getElem?_append_right (Nat.le_refl _), Nat.sub_self]
  rfl
end
section
variable {f_size f_maxEdges f_phase f_op f_rule f_stored f_rings f_hotCount f_chainLen f_pieces f_halves f_stackTop f_outEdges f_outRings f_traced : Int32} {a_vertX a_vertY a_ringStart a_ringPoly a_dirX a_dirY a_edgePoly a_isHot a_chainId a_chainKey a_pieceKey a_weightA a_weightB a_org a_round a_byEnds a_cw a_lastAt a_windA a_windB a_reached a_stack a_outDir a_used a_outHalf a_ringFrom : Nat → Int32}
variable {N K M : Nat} {su st sp og : Nat → Nat} {rd cwf rb : Nat → Nat}
theorem xt_7 {post : SX → Prop} (hP : f_pieces = nI K) (hK : K ≤ 256) (hW : ∀ h, h < 2 * K → a_windA h = zi (zv_L N su st sp 0 (og h) (og (zt h))) ∧ a_windB h = zi (zv_L N su st sp 1 (og h) (og (zt h))))
    (k : ∀ od us, (∀ p, p < K → od p = zi (zn_dir N su st sp f_op f_rule (og (2 * p)) (og (2 * p + 1)))) → (∀ h, h < 2 * K → us h = 0) → post (f_size, f_maxEdges, f_phase, f_op, f_rule, f_stored, f_rings, f_hotCount, f_chainLen, f_pieces, f_halves, f_stackTop, nI (zd_cn (fun p => zn_dir N su st sp f_op f_rule (og (2 * p)) (og (2 * p + 1))) K), f_outRings, f_traced, a_vertX, a_vertY, a_ringStart, a_ringPoly, a_dirX, a_dirY, a_edgePoly, a_isHot, a_chainId, a_chainKey, a_pieceKey, a_weightA, a_weightB, a_org, a_round, a_byEnds, a_cw, a_lastAt, a_windA, a_windB, a_reached, a_stack, od, us, a_outHalf, a_ringFrom)) :
    ∀ (n p : Nat) (od us : Nat → Int32), K - p < n → p ≤ K → (∀ q, q < p → od q = zi (zn_dir N su st sp f_op f_rule (og (2 * q)) (og (2 * q + 1)))) → (∀ h, h < 2 * p → us h = 0) →
      wX_classifyPieces_7 post f_size f_maxEdges f_phase f_op f_rule f_stored f_rings f_hotCount f_chainLen f_pieces f_halves f_stackTop f_outRings f_traced n (nI p) (nI (zd_cn (fun p => zn_dir N su st sp f_op f_rule (og (2 * p)) (og (2 * p + 1))) p)) a_vertX a_vertY a_ringStart a_ringPoly a_dirX a_dirY a_edgePoly a_isHot a_chainId a_chainKey a_pieceKey a_weightA a_weightB a_org a_round a_byEnds a_cw a_lastAt a_windA a_windB a_reached a_stack od us a_outHalf a_ringFrom
  | 0, p, od, us, h, _, _, _ => by omega
  | n + 1, p, od, us, h, hp, h1, h2 => by
    have ih := xt_7 (post := post) hP hK hW k n
    subst hP
    unfold wX_classifyPieces_7
    refine zb_leN (by omega) (by omega) (fun w => ?_) (fun w => ?_)
    · have : p = K := by omega
      subst this
      exact k od us h1 h2
    · have m1 : (2 : Int32) * nI p = nI (2 * p) := by rw [show (2 : Int32) = nI 2 from rfl, zb_mul]
      have W0 := hW (2 * p) (by omega)
      have W1 := hW (2 * p + 1) (by omega)
      rw [zt_e] at W0
      rw [zt_o] at W1
      rw [m1, nI_1]
      simp only [nI_clamp (show 2 * p < 2 ^ 31 by omega), nI_clamp (show 2 * p + 1 < 2 ^ 31 by omega), nI_clamp (show p < 2 ^ 31 by omega), W0.1, W0.2, W1.1, W1.2]
      have i1 : vp_in (nI (2 * p)) 512 := vp_in_nI (by omega) (by omega)
      have i2 : vp_in (nI (2 * p + 1)) 512 := vp_in_nI (by omega) (by omega)
      have i3 : vp_in (nI p) 256 := vp_in_nI (by omega) (by omega)
      have cl := zd_le (fun p => zn_dir N su st sp f_op f_rule (og (2 * p)) (og (2 * p + 1))) p
      -- the end of a turn
      have fin : ∀ (D : Int), D = zn_dir N su st sp f_op f_rule (og (2 * p)) (og (2 * p + 1)) → ∀ od', od' = upd od p (zi D) → ∀ c, c = zd_cn (fun p => zn_dir N su st sp f_op f_rule (og (2 * p)) (og (2 * p + 1))) (p + 1) →
          wX_classifyPieces_98 post (wX_classifyPieces_7 post f_size f_maxEdges f_phase f_op f_rule f_stored f_rings f_hotCount f_chainLen (nI K) f_halves f_stackTop f_outRings f_traced n) (nI p) f_size f_maxEdges f_phase f_op f_rule f_stored f_rings f_hotCount f_chainLen (nI K) f_halves f_stackTop (nI c) f_outRings f_traced a_vertX a_vertY a_ringStart a_ringPoly a_dirX a_dirY a_edgePoly a_isHot a_chainId a_chainKey a_pieceKey a_weightA a_weightB a_org a_round a_byEnds a_cw a_lastAt a_windA a_windB a_reached a_stack od' us a_outHalf a_ringFrom := by
        intro D eD od' eo c ec
        unfold wX_classifyPieces_98
        rw [m1, nI_1]
        simp only [nI_clamp (show 2 * p < 2 ^ 31 by omega), nI_clamp (show 2 * p + 1 < 2 ^ 31 by omega), zn_b0]
        rw [ec]
        refine ⟨i1, nm_e ⟨i2, nm_e (nm_r (nI_1 p) (ih (p + 1) _ _ (by omega) (by omega) (fun q hq => ?_) (fun h hh => ?_)))⟩⟩
        · rw [eo]
          by_cases e : q = p
          · rw [e, zu_s, eD]
          · rw [zu_n e]; exact h1 q (by omega)
        · by_cases c1 : h = 2 * p + 1
          · rw [c1, zu_s]
          · rw [zu_n c1]
            by_cases c2 : h = 2 * p
            · rw [c2, zu_s]
            · rw [zu_n c2]; exact h2 h (by omega)
      have put : ∀ (D : Int), D = zn_dir N su st sp f_op f_rule (og (2 * p)) (og (2 * p + 1)) → D ≠ 0 → wX_classifyPieces_87 post (wX_classifyPieces_7 post f_size f_maxEdges f_phase f_op f_rule f_stored f_rings f_hotCount f_chainLen (nI K) f_halves f_stackTop f_outRings f_traced n) (nI p) (zi D) (nI p) f_size f_maxEdges f_phase f_op f_rule f_stored f_rings f_hotCount f_chainLen (nI K) f_halves f_stackTop (nI (zd_cn (fun p => zn_dir N su st sp f_op f_rule (og (2 * p)) (og (2 * p + 1))) p)) f_outRings f_traced a_vertX a_vertY a_ringStart a_ringPoly a_dirX a_dirY a_edgePoly a_isHot a_chainId a_chainKey a_pieceKey a_weightA a_weightB a_org a_round a_byEnds a_cw a_lastAt a_windA a_windB a_reached a_stack (upd od p 0) us a_outHalf a_ringFrom := by
        intro D eD D0
        unfold wX_classifyPieces_87
        rw [nI_clamp (show p < 2 ^ 31 by omega), nI_1]
        refine ⟨i3, nm_e (nm_e (fin D eD _ ?_ _ ?_))⟩
        · funext x
          unfold upd
          split <;> rfl
        · rw [zd_cn, if_neg (by rw [← eD]; exact D0)]
      have dd : zn_dir N su st sp f_op f_rule (og (2 * p)) (og (2 * p + 1)) = (if zn_in f_op f_rule (zi (zv_L N su st sp 0 (og (2 * p)) (og (2 * p + 1)))) (zi (zv_L N su st sp 1 (og (2 * p)) (og (2 * p + 1)))) = zn_in f_op f_rule (zi (zv_L N su st sp 0 (og (2 * p + 1)) (og (2 * p)))) (zi (zv_L N su st sp 1 (og (2 * p + 1)) (og (2 * p)))) then 0 else if zn_in f_op f_rule (zi (zv_L N su st sp 0 (og (2 * p)) (og (2 * p + 1)))) (zi (zv_L N su st sp 1 (og (2 * p)) (og (2 * p + 1)))) = 0 then -1 else 1) := rfl
      refine ⟨i1, i1, xn_in ⟨i2, i2, xn_in ⟨i3, nm_e (br_c (fun z => ?_) (fun z => br_c (fun z2 => ?_) (fun z2 => ?_)))⟩⟩⟩
      · refine fin 0 (by rw [dd, if_pos z]) _ rfl _ ?_
        rw [zd_cn, if_pos (by rw [dd, if_pos z]), Nat.add_zero]
      · exact put (-1) (by rw [dd, if_neg z, if_pos z2]) (by omega)
      · exact put 1 (by rw [dd, if_neg z, if_neg z2]) (by omega)
theorem xt_class {post : SX → Prop} (hP : f_pieces = nI K) (hK : K ≤ 256) (hW : ∀ h, h < 2 * K → a_windA h = zi (zv_L N su st sp 0 (og h) (og (zt h))) ∧ a_windB h = zi (zv_L N su st sp 1 (og h) (og (zt h))))
    (k : ∀ od us, (∀ p, p < K → od p = zi (zn_dir N su st sp f_op f_rule (og (2 * p)) (og (2 * p + 1)))) → (∀ h, h < 2 * K → us h = 0) → post (f_size, f_maxEdges, f_phase, f_op, f_rule, f_stored, f_rings, f_hotCount, f_chainLen, f_pieces, f_halves, f_stackTop, nI (zd_cn (fun p => zn_dir N su st sp f_op f_rule (og (2 * p)) (og (2 * p + 1))) K), f_outRings, f_traced, a_vertX, a_vertY, a_ringStart, a_ringPoly, a_dirX, a_dirY, a_edgePoly, a_isHot, a_chainId, a_chainKey, a_pieceKey, a_weightA, a_weightB, a_org, a_round, a_byEnds, a_cw, a_lastAt, a_windA, a_windB, a_reached, a_stack, od, us, a_outHalf, a_ringFrom)) : wpX_classifyPieces post (f_size, f_maxEdges, f_phase, f_op, f_rule, f_stored, f_rings, f_hotCount, f_chainLen, f_pieces, f_halves, f_stackTop, f_outEdges, f_outRings, f_traced, a_vertX, a_vertY, a_ringStart, a_ringPoly, a_dirX, a_dirY, a_edgePoly, a_isHot, a_chainId, a_chainKey, a_pieceKey, a_weightA, a_weightB, a_org, a_round, a_byEnds, a_cw, a_lastAt, a_windA, a_windB, a_reached, a_stack, a_outDir, a_used, a_outHalf, a_ringFrom) := by
  unfold wpX_classifyPieces
  exact ⟨K + 1, xt_7 hP hK hW k (K + 1) 0 _ _ (by omega) (by omega) (fun q hq => absurd hq (by omega)) (fun h hh => absurd hh (by omega))⟩
/-- the rings in X's arrays -/
def zr_rf (Q : Nat) (F : Nat → Nat) (rf : Nat → Int32) : Prop := ∀ r, r < Q → rf r = nI (F r) ∧ rf (r + 1) = nI (F (r + 1))
def zr_oh (T : Nat) (oI oh : Nat → Nat) (a : Nat → Int32) : Prop := ∀ i, i < T → a i = nI (oh (oI i))
theorem xt_17 {post : SX → Prop} {nx oh : Nat → Nat} (A : zr_A N K su st sp og) (r : zx_rd og (2 * K) rd) (c : zx_cw og (2 * K) rd cwf) (hcw : ∀ h, h < 2 * K → a_cw h = nI (cwf h)) (hH : f_halves = nI (2 * K)) (hD : ∀ p, p < K → a_outDir p = zi (zn_dir N su st sp f_op f_rule (og (2 * p)) (og (2 * p + 1))))
    (O : zo_O og (2 * K) (zo_L N su st sp og f_op f_rule) M oh) (hM : M ≤ 256) (hE : f_outEdges = nI M) (hn : ∀ e, e < M → nx e < M ∧ oh (nx e) = zo_sc og (2 * K) rd (zo_L N su st sp og f_op f_rule) (oh e)) (hi : ∀ a b, a < M → b < M → nx a = nx b → a = b)
    {Q e0 : Nat} {F oO : Nat → Nat} (hQ : f_outRings = nI Q) (rf : zr_rf Q F a_ringFrom) (rq : a_ringFrom Q = nI (F Q))
    (k : ∀ us ohv rfv j oI, 0 < j → (∀ i, i < F Q → oI i = oO i) → zr_RI M nx (Q + 1) (fun r => if r = Q + 1 then F Q + j else F r) oI → oI (F Q) = e0 → zr_um M (F Q + j) oI (fun e => us (oh e)) → zr_oh (F Q + j) oI oh ohv → zr_rf (Q + 1) (fun r => if r = Q + 1 then F Q + j else F r) rfv →
      post (f_size, f_maxEdges, f_phase, f_op, f_rule, f_stored, f_rings, f_hotCount, f_chainLen, f_pieces, f_halves, f_stackTop, f_outEdges, nI (Q + 1), nI (F Q + j), a_vertX, a_vertY, a_ringStart, a_ringPoly, a_dirX, a_dirY, a_edgePoly, a_isHot, a_chainId, a_chainKey, a_pieceKey, a_weightA, a_weightB, a_org, a_round, a_byEnds, a_cw, a_lastAt, a_windA, a_windB, a_reached, a_stack, a_outDir, us, ohv, rfv)) :
    ∀ (n j c0 : Nat) (oI : Nat → Nat) (us ohv : Nat → Int32), M - j < n → j ≤ M → zr_PI M nx Q F oI e0 j c0 → (∀ i, i < F Q → oI i ≠ e0) → (∀ i, i < F Q → oI i = oO i) → zr_um M (F Q + j) oI (fun e => us (oh e)) → zr_oh (F Q + j) oI oh ohv →
      wX_traceRing_17 post f_size f_maxEdges f_phase f_op f_rule f_stored f_rings f_hotCount f_chainLen f_pieces f_halves f_stackTop f_outEdges f_outRings n (nI (oh c0)) (nI j) (nI (F Q + j)) a_vertX a_vertY a_ringStart a_ringPoly a_dirX a_dirY a_edgePoly a_isHot a_chainId a_chainKey a_pieceKey a_weightA a_weightB a_org a_round a_byEnds a_cw a_lastAt a_windA a_windB a_reached a_stack a_outDir us ohv a_ringFrom
  | 0, j, c0, oI, us, ohv, h, _, _, _, _, _, _ => by omega
  | n + 1, j, c0, oI, us, ohv, h, hj, P, h0, old, um, oo => by
    have ih := xt_17 (post := post) A r c hcw hH hD O hM hE hn hi hQ rf rq k n
    have hK : K ≤ 256 := A.2.2.2.2.2.2.2
    have l1 : j < M → M - (j + 1) < n ∧ j + 1 ≤ M := by omega
    have p3 := zr_P3 P
    have c0M : c0 < M := P.2.2.2.1
    obtain ⟨oc1, oc2⟩ := O.1 c0 c0M
    have Q1 : Q ≤ F Q := by
      have a1 := P.1.1
      have a2 := P.1.2.1
      have : ∀ r, r ≤ Q → r ≤ F r := by
        intro r
        induction r with
        | zero => intro _; omega
        | succ r ihr => intro hr; have := ihr (by omega); have := a2 r (by omega); omega
      exact this Q (Nat.le_refl _)
    have fin : (∃ i, i < F Q + j ∧ oI i = c0) → wX_traceRing_73 post f_size f_maxEdges f_phase f_op f_rule f_stored f_rings f_hotCount f_chainLen f_pieces f_halves f_stackTop f_outEdges f_outRings (nI (F Q + j)) a_vertX a_vertY a_ringStart a_ringPoly a_dirX a_dirY a_edgePoly a_isHot a_chainId a_chainKey a_pieceKey a_weightA a_weightB a_org a_round a_byEnds a_cw a_lastAt a_windA a_windB a_reached a_stack a_outDir us ohv a_ringFrom := by
      intro hx
      obtain ⟨j0, RI, st⟩ := zr_P2 hi P h0 hx
      subst hQ
      unfold wX_traceRing_73
      rw [nI_1]
      refine nm_e ⟨vp_in_nI (by omega) (by omega), ?_⟩
      rw [nI_clamp (show Q + 1 < 2 ^ 31 by omega)]
      refine nm_e (k us ohv _ j oI j0 old RI st um oo (fun r hr => ?_))
      (try dsimp only)
      by_cases w : r = Q
      · subst w
        rw [zu_n (by omega), zu_s, if_neg (by omega), if_pos rfl]
        exact ⟨rq, rfl⟩
      · rw [zu_n (by omega), zu_n (by omega), if_neg (by omega), if_neg (by omega)]
        exact rf r (by omega)
    subst hE
    unfold wX_traceRing_17
    refine zb_leN (by omega) (by omega) (fun w => fin (p3.2 w)) (fun w => ?_)
    have i1 : vp_in (nI (oh c0)) 512 := vp_in_nI (by omega) (by omega)
    have uc : (us (oh c0) = 0 ∨ us (oh c0) = 1) ∧ (us (oh c0) = 1 ↔ ∃ i, i < F Q + j ∧ oI i = c0) := um c0 c0M
    simp only [nI_clamp (show oh c0 < 2 ^ 31 by omega), nI_clamp (show F Q + j < 2 ^ 31 by omega), zn_b1]
    refine ⟨i1, br_c (fun z => ?_) (fun z => fin (uc.2.mp (uc.1.resolve_left z)))⟩
    have new : ∀ i, i < F Q + j → oI i ≠ c0 := by
      intro i a b
      have := uc.2.mpr ⟨i, a, b⟩
      rw [z] at this; exact absurd this (by decide)
    have P' := zr_P1 (fun e he => (hn e he).1) P new
    have p3' := zr_P3 P'
    refine ⟨i1, nm_e ⟨vp_in_nI (by omega) (by omega), nm_e (nm_r (nI_1 _) (xo_succ A r c hcw hH hD oc1 oc2 (nm_r (nI_1 j) ?_)))⟩⟩
    rw [← (hn c0 c0M).2]
    refine ih (j + 1) (nx c0) (fun x => if x = F Q + j then c0 else oI x) _ _ (l1 w).1 (l1 w).2 P' (fun i hi' => ?_) (fun i hi' => ?_) ?_ (fun i hi' => ?_)
    · (try dsimp only)
      rw [if_neg (by omega)]; exact h0 i hi'
    · (try dsimp only)
      rw [if_neg (by omega)]; exact old i hi'
    · refine zr_um1 (u := fun e => us (oh e)) um (fun e he hne => ?_) zu_s
      (try dsimp only)
      rw [zu_n (fun q => hne (zo_Oinj O he c0M q))]
    · (try dsimp only)
      by_cases w2 : i = F Q + j
      · rw [if_pos w2, w2, zu_s]
      · rw [if_neg w2, zu_n w2]; exact oo i (by omega)
theorem xt_ring {post : SX → Prop} {nx oh : Nat → Nat} (A : zr_A N K su st sp og) (r : zx_rd og (2 * K) rd) (c : zx_cw og (2 * K) rd cwf) (hcw : ∀ h, h < 2 * K → a_cw h = nI (cwf h)) (hH : f_halves = nI (2 * K)) (hD : ∀ p, p < K → a_outDir p = zi (zn_dir N su st sp f_op f_rule (og (2 * p)) (og (2 * p + 1))))
    (O : zo_O og (2 * K) (zo_L N su st sp og f_op f_rule) M oh) (hM : M ≤ 256) (hE : f_outEdges = nI M) (hn : ∀ e, e < M → nx e < M ∧ oh (nx e) = zo_sc og (2 * K) rd (zo_L N su st sp og f_op f_rule) (oh e)) (hi : ∀ a b, a < M → b < M → nx a = nx b → a = b)
    {Q e0 : Nat} {F oI : Nat → Nat} (hQ : f_outRings = nI Q) (hT : f_traced = nI (F Q)) (rf : zr_rf Q F a_ringFrom) (I : zr_RI M nx Q F oI) (he : e0 < M) (hu : ∀ i, i < F Q → oI i ≠ e0) (um : zr_um M (F Q) oI (fun e => a_used (oh e))) (oo : zr_oh (F Q) oI oh a_outHalf)
    (k : ∀ us ohv rfv j oI', 0 < j → (∀ i, i < F Q → oI' i = oI i) → zr_RI M nx (Q + 1) (fun r => if r = Q + 1 then F Q + j else F r) oI' → oI' (F Q) = e0 → zr_um M (F Q + j) oI' (fun e => us (oh e)) → zr_oh (F Q + j) oI' oh ohv → zr_rf (Q + 1) (fun r => if r = Q + 1 then F Q + j else F r) rfv →
      post (f_size, f_maxEdges, f_phase, f_op, f_rule, f_stored, f_rings, f_hotCount, f_chainLen, f_pieces, f_halves, f_stackTop, f_outEdges, nI (Q + 1), nI (F Q + j), a_vertX, a_vertY, a_ringStart, a_ringPoly, a_dirX, a_dirY, a_edgePoly, a_isHot, a_chainId, a_chainKey, a_pieceKey, a_weightA, a_weightB, a_org, a_round, a_byEnds, a_cw, a_lastAt, a_windA, a_windB, a_reached, a_stack, a_outDir, us, ohv, rfv)) : wpX_traceRing post (f_size, f_maxEdges, f_phase, f_op, f_rule, f_stored, f_rings, f_hotCount, f_chainLen, f_pieces, f_halves, f_stackTop, f_outEdges, f_outRings, f_traced, a_vertX, a_vertY, a_ringStart, a_ringPoly, a_dirX, a_dirY, a_edgePoly, a_isHot, a_chainId, a_chainKey, a_pieceKey, a_weightA, a_weightB, a_org, a_round, a_byEnds, a_cw, a_lastAt, a_windA, a_windB, a_reached, a_stack, a_outDir, a_used, a_outHalf, a_ringFrom) (nI (oh e0)) := by
  have r3 := zr_R3 I
  unfold wpX_traceRing
  rw [hQ, hT]
  refine ⟨vp_in_nI (by omega) (by omega), ?_⟩
  rw [nI_clamp (show Q < 2 ^ 31 by omega)]
  refine nm_e ⟨M + 1, ?_⟩
  have rf' : zr_rf Q F (upd a_ringFrom Q (nI (F Q))) := by
    intro r hr
    rw [zu_n (by omega)]
    by_cases w : r + 1 = Q
    · rw [← w, zu_s]; exact ⟨(rf r hr).1, rfl⟩
    · rw [zu_n w]; exact rf r hr
  exact xt_17 A r c hcw hH hD O hM hE hn hi rfl rf' zu_s (fun us ohv rfv j oI' a a' b c' d e f => k us ohv rfv j oI' a a' b c' d e f) (M + 1) 0 e0 oI a_used a_outHalf (by omega) (by omega) (zr_P0 I he) hu (fun _ _ => rfl) um oo
end
end
section
/-! the component: traceRings, solve; counting the outputs -/
def zs_C (n : Nat) (f : Nat → Int) : Int := zs_S (fun _ => 0) 0 n f
theorem zs_Cs (n : Nat) (f : Nat → Int) : zs_C (n + 1) f = zs_C n f + f n := by
  unfold zs_C
  have e : zs_S (fun _ => 0) 0 (n + 1) f = zs_S (fun _ => 0) 0 n f + (if (0 : Nat) = 0 then f n else 0) := rfl
  rw [e, if_pos rfl]
theorem zs_Cc {n : Nat} {f g : Nat → Int} (h : ∀ i, i < n → f i = g i) : zs_C n f = zs_C n g := zs_c (fun i hi _ => h i hi)
theorem zs_C0 {n : Nat} {f : Nat → Int} (h : ∀ i, i < n → f i = 0) : zs_C n f = 0 := zs_0 (fun i hi _ => h i hi)
theorem zs_Ca (n : Nat) (f g : Nat → Int) : zs_C n (fun i => f i + g i) = zs_C n f + zs_C n g := zs_a f g n
theorem zs_C1 {f : Nat → Int} {a : Nat} : ∀ n, a < n → (∀ i, i < n → i ≠ a → f i = 0) → zs_C n f = f a
  | 0, h, _ => by omega
  | n + 1, h, h0 => by
    rw [zs_Cs]
    by_cases e : a = n
    · rw [e, zs_C0 (fun i hi => h0 i (by omega) (by omega))]; omega
    · rw [zs_C1 n (by omega) (fun i hi => h0 i (by omega)), h0 n (by omega) (Ne.symm e)]; omega
theorem zs_Cx (g : Nat → Nat → Int) (m : Nat) : ∀ n, zs_C n (fun i => zs_C m (fun h => g i h)) = zs_C m (fun h => zs_C n (fun i => g i h))
  | 0 => by
    rw [show zs_C 0 (fun i => zs_C m (fun h => g i h)) = 0 from rfl]
    exact (zs_C0 (fun i _ => rfl)).symm
  | n + 1 => by
    rw [zs_Cs, zs_Cx g m n, ← zs_Ca]
    exact zs_Cc (fun h _ => (zs_Cs n (fun i => g i h)).symm)
/-- a sum in another order -/
theorem zs_Cp {n : Nat} {rb : Nat → Nat} (h1 : ∀ i, i < n → rb i < n) (h2 : ∀ i j, i < n → j < n → rb i = rb j → i = j) (h3 : ∀ h, h < n → ∃ i, i < n ∧ rb i = h) (f : Nat → Int) : zs_C n (fun i => f (rb i)) = zs_C n f := by
  have a : zs_C n (fun i => f (rb i)) = zs_C n (fun i => zs_C n (fun h => if rb i = h then f h else 0)) := by
    refine zs_Cc (fun i hi => ?_)
    have := zs_C1 (f := fun h => if rb i = h then f h else 0) (a := rb i) n (h1 i hi) (fun h _ hne => by (try dsimp only); rw [if_neg (Ne.symm hne)])
    rw [this]; (try dsimp only); rw [if_pos rfl]
  rw [a, zs_Cx]
  refine zs_Cc (fun h hh => ?_)
  obtain ⟨i, hi, e⟩ := h3 h hh
  have := zs_C1 (f := fun i => if rb i = h then f h else 0) (a := i) n hi (fun j hj hne => by (try dsimp only); rw [if_neg (fun q => hne (h2 j i hj hi (q.trans e.symm)))])
  rw [this]; (try dsimp only); rw [if_pos e]
theorem zs_C2 (f : Nat → Int) : ∀ K, zs_C (2 * K) f = zs_C K (fun p => f (2 * p) + f (2 * p + 1))
  | 0 => rfl
  | K + 1 => by
    rw [show 2 * (K + 1) = 2 * K + 1 + 1 by omega, zs_Cs, zs_Cs, zs_C2 f K, zs_Cs]; omega
section
variable {N K M : Nat} {su st sp og : Nat → Nat} {rd cwf rb : Nat → Nat} {Lf : Nat → Int32}
theorem zo_olC : ∀ j, ((zo_ol Lf rb j).length : Int) = zs_C j (fun i => if Lf (rb i) = 1 ∧ Lf (zt (rb i)) = 0 then 1 else 0)
  | 0 => rfl
  | j + 1 => by
    rw [zs_Cs, ← zo_olC j]
    by_cases o : zo_out Lf (rb j)
    · rw [zo_ol_t o, List.length_append, if_pos (show Lf (rb j) = 1 ∧ Lf (zt (rb j)) = 0 from o)]; rfl
    · rw [zo_ol_n o, if_neg (show ¬ (Lf (rb j) = 1 ∧ Lf (zt (rb j)) = 0) from o)]; omega
theorem zd_C (D : Nat → Int) : ∀ p, (zd_cn D p : Int) = zs_C p (fun q => if D q = 0 then 0 else 1)
  | 0 => rfl
  | p + 1 => by
    rw [zs_Cs, ← zd_C D p, zd_cn]
    split <;> omega
/-- the two counts of outputs -/
theorem zo_cnt (A : zr_A N K su st sp og) {a : Nat → Int32} (I : zo_inv (zx_ek og) (2 * K) a rb) (op rule : Int32) : (zo_ol (zo_L N su st sp og op rule) rb (2 * K)).length = zd_cn (fun p => zn_dir N su st sp op rule (og (2 * p)) (og (2 * p + 1))) K := by
  have e : ((zo_ol (zo_L N su st sp og op rule) rb (2 * K)).length : Int) = (zd_cn (fun p => zn_dir N su st sp op rule (og (2 * p)) (og (2 * p + 1))) K : Int) := by
    rw [zo_olC, zd_C, zs_Cp (n := 2 * K) (rb := rb) (fun i hi => (I.1 i hi).2) (fun i j hi hj e => ?_) I.2.2 (fun h => if zo_L N su st sp og op rule h = 1 ∧ zo_L N su st sp og op rule (zt h) = 0 then 1 else 0), zs_C2]
    · refine zs_Cc (fun p hp => ?_)
      have d := zo_dir (N := N) (su := su) (st := st) (sp := sp) (og := og) (op := op) (rule := rule) (p := p)
      unfold zo_out at d
      have db : zn_dir N su st sp op rule (og (2 * p)) (og (2 * p + 1)) = 0 ∨ zn_dir N su st sp op rule (og (2 * p)) (og (2 * p + 1)) = 1 ∨ zn_dir N su st sp op rule (og (2 * p)) (og (2 * p + 1)) = -1 := by
        unfold zn_dir
        split
        · exact Or.inl rfl
        · split
          · exact Or.inr (Or.inr rfl)
          · exact Or.inr (Or.inl rfl)
      (try dsimp only)
      rcases db with z | z | z
      · rw [if_neg (fun q => by have := d.1.mpr q; omega), if_neg (fun q => by have := d.2.mpr q; omega), if_pos z]; rfl
      · rw [if_pos (d.1.mp z), if_neg (fun q => by have := d.2.mpr q; omega), if_neg (by omega)]; rfl
      · rw [if_neg (fun q => by have := d.1.mpr q; omega), if_pos (d.2.mp z), if_neg (by omega)]; rfl
    · rcases Nat.lt_trichotomy i j with w | w | w
      · have := I.2.1 i j w hj; rw [e] at this; unfold zx_ek at this; omega
      · exact w
      · have := I.2.1 j i w hi; rw [e] at this; unfold zx_ek at this; omega
  omega
end
section
variable {f_size f_maxEdges f_phase f_op f_rule f_stored f_rings f_hotCount f_chainLen f_pieces f_halves f_stackTop f_outEdges f_outRings f_traced : Int32} {a_vertX a_vertY a_ringStart a_ringPoly a_dirX a_dirY a_edgePoly a_isHot a_chainId a_chainKey a_pieceKey a_weightA a_weightB a_org a_round a_byEnds a_cw a_lastAt a_windA a_windB a_reached a_stack a_outDir a_used a_outHalf a_ringFrom : Nat → Int32}
variable {N K M : Nat} {su st sp og : Nat → Nat} {rd cwf rb : Nat → Nat}
theorem xt_12 {post : SX → Prop} {nx : Nat → Nat} (A : zr_A N K su st sp og) (r : zx_rd og (2 * K) rd) (c : zx_cw og (2 * K) rd cwf) (hcw : ∀ h, h < 2 * K → a_cw h = nI (cwf h)) (hH : f_halves = nI (2 * K)) (hD : ∀ p, p < K → a_outDir p = zi (zn_dir N su st sp f_op f_rule (og (2 * p)) (og (2 * p + 1))))
    (IB : zo_inv (zx_ek og) (2 * K) a_byEnds rb) (hM : M = (zo_ol (zo_L N su st sp og f_op f_rule) rb (2 * K)).length) (hM2 : M ≤ 256) (hE : f_outEdges = nI M)
    (hn : ∀ e, e < M → nx e < M ∧ zo_oh (zo_L N su st sp og f_op f_rule) rb (2 * K) (nx e) = zo_sc og (2 * K) rd (zo_L N su st sp og f_op f_rule) (zo_oh (zo_L N su st sp og f_op f_rule) rb (2 * K) e)) (hi : ∀ a b, a < M → b < M → nx a = nx b → a = b)
    (k : ∀ Q F oI us ohv rfv, zr_MI M nx M Q F oI → zr_oh (F Q) oI (zo_oh (zo_L N su st sp og f_op f_rule) rb (2 * K)) ohv → zr_rf Q F rfv → post (f_size, f_maxEdges, f_phase, f_op, f_rule, f_stored, f_rings, f_hotCount, f_chainLen, f_pieces, f_halves, f_stackTop, f_outEdges, nI Q, nI (F Q), a_vertX, a_vertY, a_ringStart, a_ringPoly, a_dirX, a_dirY, a_edgePoly, a_isHot, a_chainId, a_chainKey, a_pieceKey, a_weightA, a_weightB, a_org, a_round, a_byEnds, a_cw, a_lastAt, a_windA, a_windB, a_reached, a_stack, a_outDir, us, ohv, rfv)) :
    ∀ (n j Q : Nat) (F oI : Nat → Nat) (us ohv rfv : Nat → Int32), 2 * K - j < n → j ≤ 2 * K → zr_MI M nx (zo_ol (zo_L N su st sp og f_op f_rule) rb j).length Q F oI → zr_um M (F Q) oI (fun e => us (zo_oh (zo_L N su st sp og f_op f_rule) rb (2 * K) e)) → zr_oh (F Q) oI (zo_oh (zo_L N su st sp og f_op f_rule) rb (2 * K)) ohv → zr_rf Q F rfv →
      wX_traceRings_12 post n (nI j) f_size f_maxEdges f_phase f_op f_rule f_stored f_rings f_hotCount f_chainLen f_pieces f_halves f_stackTop f_outEdges (nI Q) (nI (F Q)) a_vertX a_vertY a_ringStart a_ringPoly a_dirX a_dirY a_edgePoly a_isHot a_chainId a_chainKey a_pieceKey a_weightA a_weightB a_org a_round a_byEnds a_cw a_lastAt a_windA a_windB a_reached a_stack a_outDir us ohv rfv
  | 0, j, Q, F, oI, us, ohv, rfv, h, _, _, _, _, _ => by omega
  | n + 1, j, Q, F, oI, us, ohv, rfv, h, hj, I, um, oo, rf => by
    have ih := xt_12 (post := post) A r c hcw hH hD IB hM hM2 hE hn hi k n
    have hK : K ≤ 256 := A.2.2.2.2.2.2.2
    have O := zo_OO (Lf := zo_L N su st sp og f_op f_rule) IB
    rw [← hM] at O
    have l1 : j < 2 * K → 2 * K - (j + 1) < n ∧ j + 1 ≤ 2 * K := by omega
    unfold wX_traceRings_12
    rw [hH]
    refine zb_leN (by omega) (by omega) (fun w => ?_) (fun w => ?_)
    · have e : j = 2 * K := by omega
      rw [e, ← hM] at I
      rw [← hH]
      exact k Q F oI us ohv rfv I oo rf
    · have bj := IB.1 j w
      simp only [nI_clamp (show j < 2 ^ 31 by omega), bj.1]
      rw [← hH]
      refine ⟨vp_in_nI (by omega) (by omega), nm_e (xo_is hK hD bj.2 (fun o => br_f (by decide) ?_) (fun o => br_t rfl (nm_r (nI_1 j) (ih (j + 1) Q F oI us ohv rfv (by omega) (by omega) (by rw [zo_ol_n o]; exact I) um oo rf))))⟩
      obtain ⟨e1, e2⟩ := zo_ohj (H := 2 * K) w o
      rw [← hM] at e1
      have us' := zr_us (fun e he => (hn e he).1) I e1
      have ue : (us (rb j) = 0 ∨ us (rb j) = 1) ∧ (us (rb j) = 1 ↔ ∃ i, i < F Q ∧ oI i = (zo_ol (zo_L N su st sp og f_op f_rule) rb j).length) := by
        have := um _ e1
        (try dsimp only at this)
        rw [e2] at this; exact this
      have len1 : (zo_ol (zo_L N su st sp og f_op f_rule) rb (j + 1)).length = (zo_ol (zo_L N su st sp og f_op f_rule) rb j).length + 1 := by rw [zo_ol_t o, List.length_append]; rfl
      rw [nI_clamp (show rb j < 2 ^ 31 by omega)]
      refine ⟨vp_in_nI (by omega) (by omega), br_c (fun z => ?_) (fun z => nm_r (nI_1 j) (ih (j + 1) Q F oI us ohv rfv (l1 w).1 (l1 w).2 ?_ um oo rf))⟩
      · have nu : ¬ ∃ i, i < F Q ∧ oI i = (zo_ol (zo_L N su st sp og f_op f_rule) rb j).length := fun q => by
          have := ue.2.mpr q; rw [z] at this; exact absurd this (by decide)
        have s : zr_st nx (zo_ol (zo_L N su st sp og f_op f_rule) rb j).length := Classical.byContradiction (fun q => nu (us'.mpr q))
        rw [← e2]
        refine xt_ring A r c hcw hH hD O hM2 hE hn hi rfl rfl rf I.1 e1 (fun i a b => nu ⟨i, a, b⟩) um oo (fun us2 ohv2 rfv2 jj oI2 j0 old RI st um2 oo2 rf2 => nm_r (nI_1 j) ?_)
        have M2 := zr_M2 (j := jj) (oI' := oI2) I s RI (fun r hr => by (try dsimp only); rw [if_neg (by omega)]) (by (try dsimp only); rw [if_pos rfl]) j0 old st
        · rw [← len1] at M2
          have q := ih (j + 1) (Q + 1) _ oI2 us2 ohv2 rfv2 (l1 w).1 (l1 w).2 M2
          (try dsimp only at q)
          rw [if_pos rfl] at q
          exact q um2 oo2 rf2
      · rw [len1]
        exact zr_M1 I (ue.2.mp (ue.1.resolve_left z)) (us'.mp (ue.2.mp (ue.1.resolve_left z)))
end
end
section
/-! solve, on both sides -/
section
variable {f_size f_maxEdges f_phase f_op f_rule f_stored f_rings f_hotCount f_chainLen f_pieces f_halves f_stackTop f_outEdges f_outRings f_traced : Int32} {a_vertX a_vertY a_ringStart a_ringPoly a_dirX a_dirY a_edgePoly a_isHot a_chainId a_chainKey a_pieceKey a_weightA a_weightB a_org a_round a_byEnds a_cw a_lastAt a_windA a_windB a_reached a_stack a_outDir a_used a_outHalf a_ringFrom : Nat → Int32}
variable {N K : Nat} {su st sp og : Nat → Nat} {rd cwf rb : Nat → Nat}
theorem xv_37 {post : Int32 → SX → Prop} (A : zr_A N K su st sp og) (r : zx_rd og (2 * K) rd) (c : zx_cw og (2 * K) rd cwf) (hcw : ∀ h, h < 2 * K → a_cw h = nI (cwf h)) (hH : f_halves = nI (2 * K)) (hP : f_pieces = nI K) (hW : ∀ h, h < 2 * K → a_windA h = zi (zv_L N su st sp 0 (og h) (og (zt h))) ∧ a_windB h = zi (zv_L N su st sp 1 (og h) (og (zt h))))
    (IB : zo_inv (zx_ek og) (2 * K) a_byEnds rb) (op rule : Int32)
    (k : ∀ M oh nx Q F oI od us ohv rfv T, M ≤ K → zo_O og (2 * K) (zo_L N su st sp og op rule) M oh → (∀ e, e < M → nx e < M ∧ oh (nx e) = zo_sc og (2 * K) rd (zo_L N su st sp og op rule) (oh e)) → (∀ a b, a < M → b < M → nx a = nx b → a = b) → zr_MI M nx M Q F oI → zr_oh (F Q) oI oh ohv → zr_rf Q F rfv →
      (∀ p, p < K → od p = zi (zn_dir N su st sp op rule (og (2 * p)) (og (2 * p + 1)))) → post (nI Q) (f_size, f_maxEdges, 2, op, rule, f_stored, f_rings, f_hotCount, f_chainLen, f_pieces, f_halves, f_stackTop, nI M, nI Q, T, a_vertX, a_vertY, a_ringStart, a_ringPoly, a_dirX, a_dirY, a_edgePoly, a_isHot, a_chainId, a_chainKey, a_pieceKey, a_weightA, a_weightB, a_org, a_round, a_byEnds, a_cw, a_lastAt, a_windA, a_windB, a_reached, a_stack, od, us, ohv, rfv)) :
    wX_solve_37 post op rule f_size f_maxEdges f_phase f_op f_rule f_stored f_rings f_hotCount f_chainLen f_pieces f_halves f_stackTop f_outEdges f_outRings f_traced a_vertX a_vertY a_ringStart a_ringPoly a_dirX a_dirY a_edgePoly a_isHot a_chainId a_chainKey a_pieceKey a_weightA a_weightB a_org a_round a_byEnds a_cw a_lastAt a_windA a_windB a_reached a_stack a_outDir a_used a_outHalf a_ringFrom := by
  have hK : K ≤ 256 := A.2.2.2.2.2.2.2
  have cnt := zo_cnt A IB op rule
  have cl := zd_le (fun p => zn_dir N su st sp op rule (og (2 * p)) (og (2 * p + 1))) K
  have O := zo_OO (Lf := zo_L N su st sp og op rule) IB
  unfold wX_solve_37
  refine xt_class hP hK hW (fun od us h1 h2 => ?_)
  rw [← cnt]
  unfold wpX_traceRings
  refine ⟨2 * K + 1, ?_⟩
  have b01 : ∀ h, h < 2 * K → zo_L N su st sp og op rule h = 0 ∨ zo_L N su st sp og op rule h = 1 := fun h _ => zo_L01 N su st sp og op rule h
  have hr := zo_Lr A r c op rule
  refine xt_12 (M := (zo_ol (zo_L N su st sp og op rule) rb (2 * K)).length) (nx := zo_ni og (2 * K) rd (zo_L N su st sp og op rule) (zo_ol (zo_L N su st sp og op rule) rb (2 * K)).length (zo_oh (zo_L N su st sp og op rule) rb (2 * K))) A r c hcw hH h1 IB rfl (by omega) rfl (fun e he => zo_nip A r c b01 hr O he) (zo_nii A r c b01 hr O)
    (fun Q F oI us' ohv rfv MI oo rf => k _ _ _ Q F oI od us' ohv rfv _ (by omega) O (fun e he => zo_nip A r c b01 hr O he) (zo_nii A r c b01 hr O) MI oo rf h1) (2 * K + 1) 0 0 (fun _ => 0) (fun _ => 0) us _ _ (by omega) (by omega) ?_ (fun e he => ?_) (fun i hi => absurd hi (by omega)) (fun r hr => absurd hr (by omega))
  · refine ⟨⟨rfl, fun r hr => absurd hr (by omega), fun i hi => absurd hi (Nat.not_lt_zero i), fun i j _ hj => absurd hj (Nat.not_lt_zero j), fun r i hr => absurd hr (by omega), fun r hr => absurd hr (by omega), fun e i _ hi => absurd hi (Nat.not_lt_zero i)⟩, fun x hx => absurd hx (by simp [zo_ol]), fun r hr => absurd hr (by omega), fun r r' _ hr => absurd hr (by omega), fun x hx => absurd hx (by simp [zo_ol])⟩
  · have o := O.1 e he
    (try dsimp only)
    rw [h2 _ o.1]
    exact ⟨Or.inl rfl, ⟨fun q => absurd q (by decide), fun ⟨i, hi, _⟩ => absurd hi (by omega)⟩⟩
end
section
variable {g_size g_most g_phase g_n g_open g_rings g_op g_rule g_hots g_steps g_pieces g_outs g_loops : Int32} {b_vx b_vy b_ring b_polyOf b_hot b_used b_step b_stepPoly b_pieceKey b_way b_out b_loop : Nat → Int32}
variable {N K M : Nat} {su st sp og : Nat → Nat} {rd cwf oh nx key : Nat → Nat} {Lf : Nat → Int32}
/-- the trace of one ring -/
theorem yv_242 {post : Int32 → SY → Prop} {J : Int32 → Int32 → (Nat → Int32) → (Nat → Int32) → (Nat → Int32) → (Nat → Int32) → (Nat → Int32) → (Nat → Int32) → (Nat → Int32) → (Nat → Int32) → (Nat → Int32) → (Nat → Int32) → (Nat → Int32) → (Nat → Int32) → Prop} (A : zr_A N K su st sp og) (r : zx_rd og (2 * K) rd) (c : zx_cw og (2 * K) rd cwf) (b01 : ∀ h, h < 2 * K → Lf h = 0 ∨ Lf h = 1) (hr : ∀ h, h < 2 * K → Lf (zt h) = Lf (cwf h)) (O : zo_O og (2 * K) Lf M oh) (hM : M ≤ 256) (hm : g_outs = nI M)
    (ho : ∀ e, e < M → b_out e = nI (100 * og (oh e) + og (zt (oh e)))) (hn : ∀ e, e < M → nx e < M ∧ oh (nx e) = zo_sc og (2 * K) rd Lf (oh e)) (hi : ∀ a b, a < M → b < M → nx a = nx b → a = b) {Q e0 : Nat} {F oO : Nat → Nat} (x3 : Int32)
    (k : ∀ us j oI, 0 < j → (∀ i, i < F Q → oI i = oO i) → zr_RI M nx (Q + 1) (fun r => if r = Q + 1 then F Q + j else F r) oI → oI (F Q) = e0 → zr_um M (F Q + j) oI us → J (x3 + 1) g_loops b_vx b_vy b_ring b_polyOf b_hot us b_step b_stepPoly b_pieceKey b_way b_out b_loop) :
    ∀ (n j c0 : Nat) (oI : Nat → Nat) (us : Nat → Int32), M - j < n → j ≤ M → zr_PI M nx Q F oI e0 j c0 → (∀ i, i < F Q → oI i ≠ e0) → (∀ i, i < F Q → oI i = oO i) → zr_um M (F Q + j) oI us →
      wY_solve_242 post J x3 g_size g_most g_phase g_n g_open g_rings g_op g_rule g_hots g_steps g_pieces g_outs g_loops n (nI c0) (nI j) b_vx b_vy b_ring b_polyOf b_hot us b_step b_stepPoly b_pieceKey b_way b_out b_loop
  | 0, j, c0, oI, us, h, _, _, _, _, _ => by omega
  | n + 1, j, c0, oI, us, h, hj, P, h0, old, um => by
    have ih := yv_242 (post := post) A r c b01 hr O hM hm ho hn hi x3 k n
    have l1 : j < M → M - (j + 1) < n ∧ j + 1 ≤ M := by omega
    have c0M : c0 < M := P.2.2.2.1
    have uc := um c0 c0M
    have fin : (∃ i, i < F Q + j ∧ oI i = c0) → ∀ y, y = x3 + 1 → J y g_loops b_vx b_vy b_ring b_polyOf b_hot us b_step b_stepPoly b_pieceKey b_way b_out b_loop := by
      intro hx
      obtain ⟨j0, RI, st⟩ := zr_P2 hi P h0 hx
      exact nm_e (k us j oI j0 old RI st um)
    have p3 := (zr_P3 P).2
    have i1 : vp_in (nI c0) 300 := vp_in_nI (Nat.lt_of_lt_of_le c0M (Nat.le_trans hM (by decide))) (by decide)
    have cl : (nI c0).toNatClampNeg = c0 := nI_clamp (Nat.lt_of_lt_of_le c0M (Nat.le_trans hM (by decide)))
    unfold wY_solve_242
    rw [hm]
    refine zb_leN (Nat.lt_of_le_of_lt hM (by decide)) (Nat.lt_of_le_of_lt hj (Nat.lt_of_le_of_lt hM (by decide))) (fun w => fin (p3 w)) (fun w => ?_)
    rw [cl, zn_b1]
    refine ⟨i1, br_c (fun z => ⟨i1, nm_e ?_⟩) (fun z => fin (uc.2.mp (uc.1.resolve_left z)))⟩
    have new : ∀ i, i < F Q + j → oI i ≠ c0 := by
      intro i a b
      have := uc.2.mpr ⟨i, a, b⟩
      rw [z] at this; exact absurd this (by decide)
    have P' := zr_P1 (fun e he => (hn e he).1) P new
    rw [← hm]
    refine yo_next A r c b01 hr O hM hm ho c0M (fun s hs es => nm_r (nI_1 j) ?_)
    have sn : s = nx c0 := zo_Oinj O hs (hn c0 c0M).1 (by rw [es, (hn c0 c0M).2])
    rw [sn]
    refine ih (j + 1) (nx c0) (fun x => if x = F Q + j then c0 else oI x) _ (l1 w).1 (l1 w).2 P' (fun i hi' => ?_) (fun i hi' => ?_) ?_
    · (try dsimp only)
      rw [if_neg (by omega)]; exact h0 i hi'
    · (try dsimp only)
      rw [if_neg (by omega)]; exact old i hi'
    · exact zr_um1 um (fun e he hne => by rw [zu_n hne]) zu_s
theorem yv_199 {post : Int32 → SY → Prop} (A : zr_A N K su st sp og) (r : zx_rd og (2 * K) rd) (c : zx_cw og (2 * K) rd cwf) (b01 : ∀ h, h < 2 * K → Lf h = 0 ∨ Lf h = 1) (hr : ∀ h, h < 2 * K → Lf (zt h) = Lf (cwf h)) (O : zo_O og (2 * K) Lf M oh) (hM : M ≤ 256) (hm : g_outs = nI M)
    (ho : ∀ e, e < M → b_out e = nI (100 * og (oh e) + og (zt (oh e)))) (hn : ∀ e, e < M → nx e < M ∧ oh (nx e) = zo_sc og (2 * K) rd Lf (oh e)) (hi : ∀ a b, a < M → b < M → nx a = nx b → a = b)
    (k : ∀ Q F oI us lp, zr_MI M nx M Q F oI → (∀ r, r < Q → lp r = nI (oI (F r))) → post (nI Q) (g_size, g_most, g_phase, g_n, g_open, g_rings, g_op, g_rule, g_hots, g_steps, g_pieces, g_outs, nI Q, b_vx, b_vy, b_ring, b_polyOf, b_hot, us, b_step, b_stepPoly, b_pieceKey, b_way, b_out, lp)) :
    ∀ (n e Q : Nat) (F oI : Nat → Nat) (us lp : Nat → Int32), M - e < n → e ≤ M → zr_MI M nx e Q F oI → zr_um M (F Q) oI us → (∀ r, r < Q → lp r = nI (oI (F r))) → wY_solve_199 post g_size g_most g_phase g_n g_open g_rings g_op g_rule g_hots g_steps g_pieces g_outs n (nI e) (nI Q) b_vx b_vy b_ring b_polyOf b_hot us b_step b_stepPoly b_pieceKey b_way b_out lp
  | 0, e, Q, F, oI, us, lp, h, _, _, _, _ => by omega
  | n + 1, e, Q, F, oI, us, lp, h, he, I, um, hl => by
    have ih := yv_199 (post := post) A r c b01 hr O hM hm ho hn hi k n
    have l1 : e < M → M - (e + 1) < n ∧ e + 1 ≤ M := by omega
    have r3 := zr_R3 I.1
    have Q6 : Q < 300 := by omega
    have eM : e < 2147483648 := by omega
    unfold wY_solve_199
    rw [hm]
    refine zb_leN (by omega) eM (fun w => ?_) (fun w => ?_)
    · have ee : e = M := by omega
      subst ee
      rw [← hm]
      exact k Q F oI us lp I hl
    · have i1 : vp_in (nI e) 300 := vp_in_nI (by omega) (by omega)
      have us' := zr_us (fun e he => (hn e he).1) I w
      have ue := um e w
      rw [nI_clamp (show e < 2 ^ 31 by omega), nI_clamp (show Q < 2 ^ 31 by omega)]
      refine ⟨i1, br_c (fun z => ⟨vp_in_nI Q6 (by omega), nm_e (nm_r (nI_1 Q) ⟨M + 1, ?_⟩)⟩) (fun z => ⟨1, ?_⟩)⟩
      · have nu : ¬ ∃ i, i < F Q ∧ oI i = e := fun q => by
          have := ue.2.mpr q; rw [z] at this; exact absurd this (by decide)
        have s : zr_st nx e := Classical.byContradiction (fun q => nu (us'.mpr q))
        rw [← hm]
        refine yv_242 (oO := oI) A r c b01 hr O hM hm ho hn hi (nI e) (fun us2 j oI2 j0 old RI st um2 => ?_) (M + 1) 0 e oI us (Nat.lt_succ_of_le (Nat.sub_le _ _)) (Nat.zero_le _) (zr_P0 I.1 w) (fun i a b => nu ⟨i, a, b⟩) (fun _ _ => rfl) um
        rw [nI_1]
        have M2 := zr_M2 (j := j) (oI' := oI2) I s RI (fun r hr => by (try dsimp only); rw [if_neg (by omega)]) (by (try dsimp only); rw [if_pos rfl]) j0 old st
        have q := ih (e + 1) (Q + 1) _ oI2 us2 (upd lp Q (nI e)) (l1 w).1 (l1 w).2 M2
        (try dsimp only at q)
        rw [if_pos rfl] at q
        refine q um2 (fun r hr => ?_)
        rw [if_neg (by omega)]
        by_cases e1 : r = Q
        · rw [e1, zu_s, st]
        · rw [zu_n e1, hl r (by omega)]
          have mon := zr_mon I.1.2.1 (Q - (r + 1)) r.succ (by omega)
          have := I.1.2.1 r (by omega)
          have f1 : F r < F Q := by
            have : F (r + 1) ≤ F Q := by
              have m := zr_mon I.1.2.1 (Q - (r + 1)) (r + 1) (by omega)
              rw [show r + 1 + (Q - (r + 1)) = Q by omega] at m; exact m
            omega
          rw [old _ f1]
      · -- already used: nothing to trace
        have u1 := ue.1.resolve_left z
        unfold wY_solve_242
        rw [← hm]
        have go : ∀ y, y = nI e + 1 → wY_solve_199 post g_size g_most g_phase g_n g_open g_rings g_op g_rule g_hots g_steps g_pieces g_outs n y (nI Q) b_vx b_vy b_ring b_polyOf b_hot us b_step b_stepPoly b_pieceKey b_way b_out lp := by
          refine nm_r (nI_1 e) (ih (e + 1) Q F oI us lp (l1 w).1 (l1 w).2 (zr_M1 I (ue.2.mp u1) (us'.mp (ue.2.mp u1))) um hl)
        rw [hm] at go ⊢
        refine br_f (nI_nle (by omega) (by omega)) ⟨i1, ?_⟩
        rw [nI_clamp (show e < 2 ^ 31 by omega)]
        exact br_f z go
end
end
section
/-! the reference: solve -/
section
variable {g_size g_most g_phase g_n g_open g_rings g_op g_rule g_hots g_steps g_pieces g_outs g_loops : Int32} {b_vx b_vy b_ring b_polyOf b_hot b_used b_step b_stepPoly b_pieceKey b_way b_out b_loop : Nat → Int32}
variable {N K M : Nat} {su st sp key : Nat → Nat} {rd cwf oh nx : Nat → Nat}
/-- the way of piece i: the output half-edge's ends, or -1 -/
def zw_v (N : Nat) (su st sp key : Nat → Nat) (op rule : Int32) (i : Nat) : Int := if zn_dir N su st sp op rule (zx_og key (2 * i)) (zx_og key (2 * i + 1)) = 0 then -1 else if 0 < zn_dir N su st sp op rule (zx_og key (2 * i)) (zx_og key (2 * i + 1)) then ((100 * zx_og key (2 * i) + zx_og key (2 * i + 1) : Nat) : Int) else ((100 * zx_og key (2 * i + 1) + zx_og key (2 * i) : Nat) : Int)
def zo_k (og oh : Nat → Nat) (e : Nat) : Nat := 100 * og (oh e) + og (zt (oh e))
theorem zw_1 {op rule : Int32} (O : zo_O (zx_og key) (2 * K) (zo_L N su st sp (zx_og key) op rule) M oh) {i : Nat} (hi : i < K) : zw_v N su st sp key op rule i = -1 ∨ ∃ e, e < M ∧ zw_v N su st sp key op rule i = (zo_k (zx_og key) oh e : Int) := by
  have d := zo_dir (N := N) (su := su) (st := st) (sp := sp) (og := zx_og key) (op := op) (rule := rule) (p := i)
  unfold zw_v
  by_cases z : zn_dir N su st sp op rule (zx_og key (2 * i)) (zx_og key (2 * i + 1)) = 0
  · exact Or.inl (by rw [if_pos z])
  · right
    rw [if_neg z]
    have db : zn_dir N su st sp op rule (zx_og key (2 * i)) (zx_og key (2 * i + 1)) = 1 ∨ zn_dir N su st sp op rule (zx_og key (2 * i)) (zx_og key (2 * i + 1)) = -1 := by
      unfold zn_dir at z ⊢
      split
      · rename_i q; rw [if_pos q] at z; exact absurd rfl z
      · split
        · exact Or.inr rfl
        · exact Or.inl rfl
    rcases db with w | w
    · obtain ⟨e, he, ee⟩ := O.2.2 (2 * i) (by omega) (d.1.mp w)
      refine ⟨e, he, ?_⟩
      rw [if_pos (by omega)]
      unfold zo_k
      rw [ee, zt_e]
    · obtain ⟨e, he, ee⟩ := O.2.2 (2 * i + 1) (by omega) (d.2.mp w)
      refine ⟨e, he, ?_⟩
      rw [if_neg (by omega)]
      unfold zo_k
      rw [ee, zt_o]
theorem zw_2 {op rule : Int32} (O : zo_O (zx_og key) (2 * K) (zo_L N su st sp (zx_og key) op rule) M oh) {e : Nat} (he : e < M) : ∃ i, i < K ∧ (zo_k (zx_og key) oh e : Int) = zw_v N su st sp key op rule i := by
  obtain ⟨o1, o2⟩ := O.1 e he
  refine ⟨oh e / 2, by omega, ?_⟩
  have d := zo_dir (N := N) (su := su) (st := st) (sp := sp) (og := zx_og key) (op := op) (rule := rule) (p := oh e / 2)
  unfold zw_v zo_k
  rcases za_ec (oh e) with ⟨q, e1, e2⟩ | ⟨q, e1, e2⟩
  · have eq : oh e / 2 = q := by omega
    rw [eq] at d ⊢
    rw [e1] at o2
    have w := d.1.mpr o2
    rw [if_neg (by omega), if_pos (by omega), e2, e1]
  · have eq : oh e / 2 = q := by omega
    rw [eq] at d ⊢
    rw [e1] at o2
    have w := d.2.mpr o2
    rw [if_neg (by omega), if_neg (by omega), e2, e1]
theorem yv_139 {post : Int32 → SY → Prop} (ok : ∀ h, h < 2 * K → zx_og key h < 100) (hK : K ≤ 256) (hMK : M ≤ K) (O : zo_O (zx_og key) (2 * K) (zo_L N su st sp (zx_og key) g_op g_rule) M oh) (hp : g_pieces = nI K) (hw : ∀ i, i < K → b_way i = zi (zw_v N su st sp key g_op g_rule i))
    (k : ∀ us ou, (∀ e, e < M → us e = 0) → (∀ e, e < M → ou e = nI (zo_k (zx_og key) oh e)) → ∃ n199, wY_solve_199 post g_size g_most g_phase g_n g_open g_rings g_op g_rule g_hots g_steps g_pieces (nI M) n199 0 g_loops b_vx b_vy b_ring b_polyOf b_hot us b_step b_stepPoly b_pieceKey b_way ou b_loop) :
    ∀ (n i : Nat) (us ou : Nat → Int32), M - i < n → i ≤ M → (∀ e, e < i → us e = 0) → (∀ e, e < i → ou e = nI (zo_k (zx_og key) oh e)) →
      wY_solve_139 post g_size g_most g_phase g_n g_open g_rings g_op g_rule g_hots g_steps g_pieces g_loops n (zi (if i < M then (zo_k (zx_og key) oh i : Int) else -1)) (nI i) b_vx b_vy b_ring b_polyOf b_hot us b_step b_stepPoly b_pieceKey b_way ou b_loop
  | 0, i, us, ou, h, _, _, _ => by omega
  | n + 1, i, us, ou, h, hi, h1, h2 => by
    have ih := yv_139 (post := post) ok hK hMK O hp hw k n
    have kb : ∀ e, e < M → zo_k (zx_og key) oh e < 10000 := by
      intro e he
      have a := ok _ (O.1 e he).1
      have b := ok _ (zt_lt (O.1 e he).1)
      unfold zo_k; omega
    have so : ∀ p q, p < q → q < M → zo_k (zx_og key) oh p < zo_k (zx_og key) oh q := fun p q a b => O.2.1 p q a b
    have wb : ∀ j, j < K → -1 ≤ zw_v N su st sp key g_op g_rule j ∧ zw_v N su st sp key g_op g_rule j ≤ 10000 := by
      intro j hj
      have a := ok (2 * j) (by omega)
      have b := ok (2 * j + 1) (by omega)
      unfold zw_v
      split
      · omega
      · split <;> omega
    subst hp
    unfold wY_solve_139
    by_cases c : i < M
    · have b := kb i c
      rw [if_pos c]
      have i1 : vp_in (nI i) 300 := vp_in_nI (by omega) (by omega)
      refine br_f (nI_ge (by omega) (by omega)) (br_f (by rw [show (0 : Int32) = zi 0 from rfl, zi_lt (by omega) (by omega)]; omega) ⟨i1, ?_⟩)
      rw [nI_clamp (show i < 2 ^ 31 by omega), zn_b0]
      refine nm_e ⟨i1, nm_e (nm_r (nI_1 i) (yl_least (wv := zw_v N su st sp key g_op g_rule) (by omega) (by omega) (fun j hj => ⟨hw j hj, (wb j hj).1, (wb j hj).2⟩) (fun r L => ?_)))⟩
      have er := zl_enum (key := zo_k (zx_og key) oh) (i := i + 1) so (fun s hs => zw_1 O hs) (fun p hp' => zw_2 O hp') (by omega) (by rw [if_neg (by omega), Nat.add_sub_cancel]) L
      rw [er]
      refine ih (i + 1) _ _ (by omega) (by omega) (fun e he => ?_) (fun e he => ?_)
      · by_cases w : e = i
        · rw [w, zu_s]
        · rw [zu_n w]; exact h1 e (by omega)
      · by_cases w : e = i
        · rw [w, zu_s, zi_n]
        · rw [zu_n w]; exact h2 e (by omega)
    · rw [if_neg c]
      have e : i = M := by omega
      subst e
      exact br_c (fun _ => k us ou h1 h2) (fun _ => br_t (by decide) (k us ou h1 h2))
theorem yv_60 {post : Int32 → SY → Prop} (A : zr_A N K su st sp (zx_og key)) (Z : zy_st N su st sp b_step b_stepPoly) (hN : g_steps = nI N) (hp : g_pieces = nI K) (ho : g_outs = 0) (hpk : ∀ p, p < K → b_pieceKey p = nI (key p) ∧ key p < 10000) (hMK : M ≤ K) (O : zo_O (zx_og key) (2 * K) (zo_L N su st sp (zx_og key) g_op g_rule) M oh)
    (k : ∀ us wy ou, (∀ e, e < M → us e = 0) → (∀ e, e < M → ou e = nI (zo_k (zx_og key) oh e)) → ∃ n199, wY_solve_199 post g_size g_most g_phase g_n g_open g_rings g_op g_rule g_hots g_steps g_pieces (nI M) n199 0 g_loops b_vx b_vy b_ring b_polyOf b_hot us b_step b_stepPoly b_pieceKey wy ou b_loop) :
    ∀ (n i : Nat) (wy : Nat → Int32), K - i < n → i ≤ K → (∀ j, j < i → wy j = zi (zw_v N su st sp key g_op g_rule j)) → wY_solve_60 post g_size g_most g_phase g_n g_open g_rings g_op g_rule g_hots g_steps g_pieces g_outs g_loops n (nI i) b_vx b_vy b_ring b_polyOf b_hot b_used b_step b_stepPoly b_pieceKey wy b_out b_loop
  | 0, i, wy, h, _, _ => by omega
  | n + 1, i, wy, h, hi, hw => by
    have ih := yv_60 (post := post) A Z hN hp ho hpk hMK O k n
    have hK : K ≤ 256 := A.2.2.2.2.2.2.2
    have ok := A.2.2.1
    have hN2 := hN
    unfold wY_solve_60
    rw [hp]
    refine zb_leN (by omega) (by omega) (fun w => ?_) (fun w => ?_)
    · have e : i = K := by omega
      subst e
      have wb : ∀ j, j < i → -1 ≤ zw_v N su st sp key g_op g_rule j ∧ zw_v N su st sp key g_op g_rule j ≤ 10000 := by
        intro j hj
        have a := ok (2 * j) (by omega)
        have b := ok (2 * j + 1) (by omega)
        unfold zw_v
        split
        · omega
        · split <;> omega
      refine yl_least (aft := -1) (wv := zw_v N su st sp key g_op g_rule) (by omega) (by omega) (fun j hj => ⟨hw j hj, (wb j hj).1, (wb j hj).2⟩) (fun r L => ?_)
      have er := zl_enum (key := zo_k (zx_og key) oh) (i := 0) (fun p q a b => O.2.1 p q a b) (fun s hs => zw_1 O hs) (fun p hp' => zw_2 O hp') (by omega) (by rw [if_pos rfl]) L
      rw [er, ho]
      refine ⟨M + 1, ?_⟩
      rw [← hp]
      exact yv_139 ok hK hMK O hp hw (fun us ou a b => k us wy ou a b) (M + 1) 0 _ _ (by omega) (by omega) (fun e he => absurd he (by omega)) (fun e he => absurd he (by omega))
    · have pk := hpk i w
      have nc := za_nc A (show 2 * i < 2 * K by omega)
      rw [zt_e] at nc
      have a1 := ok (2 * i) (by omega)
      have a2 := ok (2 * i + 1) (by omega)
      have ek : key i = 100 * zx_og key (2 * i) + zx_og key (2 * i + 1) := by rw [zx_og_e, zx_og_o]; omega
      have i1 : vp_in (nI i) 300 := vp_in_nI (by omega) (by omega)
      rw [← hp]
      simp only [nI_clamp (show i < 2 ^ 31 by omega), pk.1]
      rw [ek]
      have db : -1 ≤ zn_dir N su st sp g_op g_rule (zx_og key (2 * i)) (zx_og key (2 * i + 1)) ∧ zn_dir N su st sp g_op g_rule (zx_og key (2 * i)) (zx_og key (2 * i + 1)) ≤ 1 := by
        unfold zn_dir
        split
        · omega
        · split <;> omega
      have nxt : ∀ v : Int, v = zw_v N su st sp key g_op g_rule i → ∀ y, y = nI i + 1 → wY_solve_60 post g_size g_most g_phase g_n g_open g_rings g_op g_rule g_hots g_steps g_pieces g_outs g_loops n y b_vx b_vy b_ring b_polyOf b_hot b_used b_step b_stepPoly b_pieceKey (upd wy i (zi v)) b_out b_loop := by
        intro v ev
        refine nm_r (nI_1 i) (ih (i + 1) _ (by omega) (by omega) (fun j hj => ?_))
        by_cases e : j = i
        · rw [e, zu_s, ev]
        · rw [zu_n e]; exact hw j (by omega)
      refine ⟨i1, yw_dir Z hN nc ⟨i1, yl_flip a1 a2 ?_⟩⟩
      refine zb_eq (b := 0) (by omega) (by omega) (fun z => ⟨i1, ?_⟩) (fun z => zb_le (b := 0) (by omega) (by omega) (fun z2 => ⟨i1, ?_⟩) (fun z2 => ⟨i1, i1, ?_⟩))
      · rw [show (-1 : Int32) = zi (-1) from rfl]
        exact nm_e (nxt (-1) (by unfold zw_v; rw [if_pos z]))
      · rw [zi_n]
        exact nm_e (nxt _ (by unfold zw_v; rw [if_neg z, if_neg (by omega)]))
      · rw [zi_n]
        exact nm_e (nxt _ (by unfold zw_v; rw [if_neg z, if_pos z2]))
end
end
section
/-! the reference: solve, the top -/
section
variable {g_size g_most g_phase g_n g_open g_rings g_op g_rule g_hots g_steps g_pieces g_outs g_loops : Int32} {b_vx b_vy b_ring b_polyOf b_hot b_used b_step b_stepPoly b_pieceKey b_way b_out b_loop : Nat → Int32}
variable {N K M : Nat} {su st sp key : Nat → Nat} {rd cwf oh nx : Nat → Nat}
theorem zr_MI0 (M : Nat) (nx : Nat → Nat) : zr_MI M nx 0 0 (fun _ => 0) (fun _ => 0) :=
  ⟨⟨rfl, fun r hr => absurd hr (by omega), fun i hi => absurd hi (Nat.not_lt_zero i), fun i j _ hj => absurd hj (Nat.not_lt_zero j), fun r i hr => absurd hr (by omega), fun r hr => absurd hr (by omega), fun e i _ hi => absurd hi (Nat.not_lt_zero i)⟩, fun x hx => absurd hx (Nat.not_lt_zero x), fun r hr => absurd hr (by omega), fun r r' _ hr => absurd hr (by omega), fun x hx => absurd hx (Nat.not_lt_zero x)⟩
theorem yv_top {post : Int32 → SY → Prop} (A : zr_A N K su st sp (zx_og key)) (r : zx_rd (zx_og key) (2 * K) rd) (c : zx_cw (zx_og key) (2 * K) rd cwf) (Z : zy_st N su st sp b_step b_stepPoly) (hN : g_steps = nI N) (hp : g_pieces = nI K) (hpk : ∀ p, p < K → b_pieceKey p = nI (key p) ∧ key p < 10000) (hMK : M ≤ K) (op rule : Int32) (O : zo_O (zx_og key) (2 * K) (zo_L N su st sp (zx_og key) op rule) M oh)
    (hn : ∀ e, e < M → nx e < M ∧ oh (nx e) = zo_sc (zx_og key) (2 * K) rd (zo_L N su st sp (zx_og key) op rule) (oh e)) (hi : ∀ a b, a < M → b < M → nx a = nx b → a = b) {Q : Nat} {F oI : Nat → Nat} (MI : zr_MI M nx M Q F oI)
    (k : ∀ us wy ou lp, (∀ e, e < M → ou e = nI (zo_k (zx_og key) oh e)) → (∀ r, r < Q → lp r = nI (oI (F r))) → post (nI Q) (g_size, g_most, 2, g_n, g_open, g_rings, op, rule, g_hots, g_steps, g_pieces, nI M, nI Q, b_vx, b_vy, b_ring, b_polyOf, b_hot, us, b_step, b_stepPoly, b_pieceKey, wy, ou, lp)) :
    ∃ n, wY_solve_60 post g_size g_most 2 g_n g_open g_rings op rule g_hots g_steps g_pieces 0 0 n 0 b_vx b_vy b_ring b_polyOf b_hot b_used b_step b_stepPoly b_pieceKey b_way b_out b_loop := by
  have hK : K ≤ 256 := A.2.2.2.2.2.2.2
  refine ⟨K + 1, yv_60 A Z hN hp rfl hpk hMK O (fun us wy ou u0 eo => ⟨M + 1, ?_⟩) (K + 1) 0 b_way (by omega) (by omega) (fun j hj => absurd hj (by omega))⟩
  refine yv_199 A r c (fun h _ => zo_L01 N su st sp (zx_og key) op rule h) (zo_Lr A r c op rule) O (by omega) rfl eo hn hi (fun Q' F' oI' us' lp MI' hl => ?_) (M + 1) 0 0 (fun _ => 0) (fun _ => 0) us b_loop (by omega) (by omega) (zr_MI0 M nx) (fun e he => ⟨Or.inl (u0 e he), fun q => absurd (q.symm.trans (u0 e he)) (by decide), fun ⟨i, hi, _⟩ => absurd hi (Nat.not_lt_zero i)⟩) (fun r hr => absurd hr (by omega))
  have s := zr_same MI MI'
  rw [← s.1]
  exact k us' wy ou lp eo (fun r hr => by rw [hl r (by omega), s.2 r hr])
end
end
section
/-! the relation -/
/-- the input: sz the grid, n vertices (X i, Y i), rg closed rings that begin at R r, of polygon P r -/
def zr_in (sz mx n rg : Nat) (R X Y P : Nat → Nat) : Prop :=
  (4 ≤ sz ∧ sz ≤ 10 ∧ 3 ≤ mx ∧ mx ≤ 12 ∧ n ≤ mx ∧ R 0 = 0 ∧ R rg ≤ n) ∧ (∀ r, r < rg → R r + 3 ≤ R (r + 1)) ∧ (∀ r, r < rg → P r < 2) ∧
  (∀ i, i < n → X i < sz ∧ Y i < sz) ∧ (∀ i, i + 1 < n → (∀ r, r ≤ rg → R r ≠ i + 1) → ¬ (X i = X (i + 1) ∧ Y i = Y (i + 1))) ∧
  (∀ r, r < rg → ¬ (X (R r) = X (R (r + 1) - 1) ∧ Y (R r) = Y (R (r + 1) - 1)))
/-- the input in the arrays of both sides -/
def zr_arr (n rg : Nat) (R X Y P : Nat → Nat) (a_vertX a_vertY a_ringStart a_ringPoly b_ring : Nat → Int32) : Prop :=
  (∀ r, r ≤ rg → a_ringStart r = nI (R r)) ∧ (∀ r, r < rg → a_ringPoly r = nI (P r)) ∧ (∀ i, i < n → a_vertX i = nI (X i) ∧ a_vertY i = nI (Y i)) ∧
  (∀ r i, r < rg → R r ≤ i → i < R (r + 1) → b_ring i = nI r) ∧ (∀ i, R rg ≤ i → i < n → b_ring i = nI rg)
theorem zr_mono {rg : Nat} {R : Nat → Nat} (h : ∀ r, r < rg → R r + 3 ≤ R (r + 1)) : ∀ d r, r + d ≤ rg → R r + 3 * d ≤ R (r + d)
  | 0, r, _ => by simp
  | d + 1, r, hd => by
    have a := zr_mono h d r (by omega)
    have b := h (r + d) (by omega)
    rw [← Nat.add_assoc]; omega
theorem zr_rg {sz mx n rg : Nat} {R X Y P : Nat → Nat} (h : zr_in sz mx n rg R X Y P) : rg ≤ 4 ∧ n ≤ 12 ∧ R rg ≤ n := by
  have := zr_mono h.2.1 rg 0 (by omega)
  rw [Nat.zero_add] at this
  have := h.1
  omega
/-- what build leaves -/
def zr_b (n rg : Nat) (R X Y P : Nat → Nat) (K : Nat) (key rd cwf rb : Nat → Nat) (f_pieces f_halves g_steps : Int32) (a_isHot a_weightA a_weightB a_org a_cw a_byEnds a_windA a_windB b_hot b_step b_stepPoly b_pieceKey : Nat → Int32) : Prop :=
  R rg = n ∧ zb_X X Y R P rg n K key rd cwf rb a_isHot a_weightA a_weightB a_org a_cw a_byEnds a_windA a_windB ∧ f_pieces = nI K ∧ f_halves = nI (2 * K) ∧ g_steps = nI (ze_N X Y R P rg n) ∧ zh_arr b_hot (zh X Y R rg n) ∧ zy_rep (ze_SL X Y R P rg n n) b_step b_stepPoly ∧ (∀ p, p < K → b_pieceKey p = nI (key p))
/-- what solve leaves -/
def zr_s (N : Nat) (su st sp : Nat → Nat) (K : Nat) (key rd : Nat → Nat) (op rule outs loops : Int32) (a_outDir a_outHalf a_ringFrom b_out b_loop : Nat → Int32) (M : Nat) (oh nx : Nat → Nat) (Q : Nat) (F oI : Nat → Nat) : Prop :=
  (M ≤ K ∧ outs = nI M ∧ loops = nI Q) ∧ zo_O (zx_og key) (2 * K) (zo_L N su st sp (zx_og key) op rule) M oh ∧ (∀ e, e < M → nx e < M ∧ oh (nx e) = zo_sc (zx_og key) (2 * K) rd (zo_L N su st sp (zx_og key) op rule) (oh e)) ∧ (∀ a b, a < M → b < M → nx a = nx b → a = b) ∧ zr_MI M nx M Q F oI ∧ zr_oh (F Q) oI oh a_outHalf ∧ zr_rf Q F a_ringFrom ∧
  (∀ p, p < K → a_outDir p = zi (zn_dir N su st sp op rule (zx_og key (2 * p)) (zx_og key (2 * p + 1)))) ∧ (∀ e, e < M → b_out e = nI (zo_k (zx_og key) oh e)) ∧ (∀ r, r < Q → b_loop r = nI (oI (F r)))
/-- the phases -/
def zr_p (n rg : Nat) (R X Y P : Nat → Nat) (phase op rule hots pieces halves outs loops steps : Int32) (a_isHot a_weightA a_weightB a_org a_cw a_byEnds a_windA a_windB a_outDir a_outHalf a_ringFrom b_hot b_step b_stepPoly b_pieceKey b_out b_loop : Nat → Int32) : Prop :=
  (phase = 0 ∧ hots = 0 ∧ pieces = 0 ∧ steps = 0 ∧ ∀ c, c < 100 → b_hot c = 0) ∨
  ((phase = 1 ∨ phase = 2) ∧ ∃ K key rd cwf rb, zr_b n rg R X Y P K key rd cwf rb pieces halves steps a_isHot a_weightA a_weightB a_org a_cw a_byEnds a_windA a_windB b_hot b_step b_stepPoly b_pieceKey ∧
    (phase = 2 → ∃ M oh nx Q F oI, zr_s (ze_N X Y R P rg n) (ze_su X Y R P rg n) (ze_st X Y R P rg n) (ze_sp X Y R P rg n) K key rd op rule outs loops a_outDir a_outHalf a_ringFrom b_out b_loop M oh nx Q F oI))
def i_Rel (k : Nat) (u : SX) (v : SY) : Prop := match u, v with
  | (f_size, f_maxEdges, f_phase, f_op, f_rule, f_stored, f_rings, f_hotCount, f_chainLen, f_pieces, f_halves, f_stackTop, f_outEdges, f_outRings, f_traced, a_vertX, a_vertY, a_ringStart, a_ringPoly, a_dirX, a_dirY, a_edgePoly, a_isHot, a_chainId, a_chainKey, a_pieceKey, a_weightA, a_weightB, a_org, a_round, a_byEnds, a_cw, a_lastAt, a_windA, a_windB, a_reached, a_stack, a_outDir, a_used, a_outHalf, a_ringFrom), (g_size, g_most, g_phase, g_n, g_open, g_rings, g_op, g_rule, g_hots, g_steps, g_pieces, g_outs, g_loops, b_vx, b_vy, b_ring, b_polyOf, b_hot, b_used, b_step, b_stepPoly, b_pieceKey, b_way, b_out, b_loop) => ∃ sz mx n rg R X Y P, (f_size = nI sz ∧ f_maxEdges = nI mx ∧ f_stored = nI n ∧ f_rings = nI rg ∧ g_size = nI sz ∧ g_most = nI mx ∧ g_n = nI n ∧ g_rings = nI rg ∧ g_open = nI (R rg) ∧ g_phase = f_phase ∧ g_op = f_op ∧ g_rule = f_rule ∧ g_hots = f_hotCount ∧ g_pieces = f_pieces ∧ g_outs = f_outEdges ∧ g_loops = f_outRings ∧ b_vx = a_vertX ∧ b_vy = a_vertY ∧ b_polyOf = a_ringPoly) ∧ zr_in sz mx n rg R X Y P ∧ zr_arr n rg R X Y P a_vertX a_vertY a_ringStart a_ringPoly b_ring ∧
    zr_p n rg R X Y P f_phase f_op f_rule f_hotCount f_pieces f_halves f_outEdges f_outRings g_steps a_isHot a_weightA a_weightB a_org a_cw a_byEnds a_windA a_windB a_outDir a_outHalf a_ringFrom b_hot b_step b_stepPoly b_pieceKey b_out b_loop
section
variable {f_size f_maxEdges f_phase f_op f_rule f_stored f_rings f_hotCount f_chainLen f_pieces f_halves f_stackTop f_outEdges f_outRings f_traced : Int32} {a_vertX a_vertY a_ringStart a_ringPoly a_dirX a_dirY a_edgePoly a_isHot a_chainId a_chainKey a_pieceKey a_weightA a_weightB a_org a_round a_byEnds a_cw a_lastAt a_windA a_windB a_reached a_stack a_outDir a_used a_outHalf a_ringFrom : Nat → Int32}
variable {g_size g_most g_phase g_n g_open g_rings g_op g_rule g_hots g_steps g_pieces g_outs g_loops : Int32} {b_vx b_vy b_ring b_polyOf b_hot b_used b_step b_stepPoly b_pieceKey b_way b_out b_loop : Nat → Int32}
variable {sz mx n rg : Nat} {R X Y P : Nat → Nat}
theorem i_up0 {k j : Nat} {u : SX} {v : SY} (h : i_Rel k u v) : i_Rel j u v := match u, v, h with
  | (f_size, f_maxEdges, f_phase, f_op, f_rule, f_stored, f_rings, f_hotCount, f_chainLen, f_pieces, f_halves, f_stackTop, f_outEdges, f_outRings, f_traced, a_vertX, a_vertY, a_ringStart, a_ringPoly, a_dirX, a_dirY, a_edgePoly, a_isHot, a_chainId, a_chainKey, a_pieceKey, a_weightA, a_weightB, a_org, a_round, a_byEnds, a_cw, a_lastAt, a_windA, a_windB, a_reached, a_stack, a_outDir, a_used, a_outHalf, a_ringFrom), (g_size, g_most, g_phase, g_n, g_open, g_rings, g_op, g_rule, g_hots, g_steps, g_pieces, g_outs, g_loops, b_vx, b_vy, b_ring, b_polyOf, b_hot, b_used, b_step, b_stepPoly, b_pieceKey, b_way, b_out, b_loop), h => h
theorem i_up {k : Nat} {u : SX} {v : SY} (h : i_Rel k u v) : i_Rel (k + 4) u v := i_up0 h
theorem zr_cl {mx : Nat} (h : zr_in sz mx n rg R X Y P) (e : R rg = n) : ze_in sz n rg R X Y P := ⟨h.1.1, h.1.2.1, by have := h.1; omega, h.1.2.2.2.2.2.1, e, h.2.1, h.2.2.1, h.2.2.2.1, h.2.2.2.2.1, h.2.2.2.2.2⟩
theorem zr_zx (h : zr_arr n rg R X Y P a_vertX a_vertY a_ringStart a_ringPoly b_ring) : zx_in n rg R X Y P a_vertX a_vertY a_ringStart a_ringPoly := ⟨h.1, h.2.1, h.2.2.1⟩
theorem zr_zy (I : ze_in sz n rg R X Y P) (h : zr_arr n rg R X Y P a_vertX a_vertY a_ringStart a_ringPoly b_ring) : zy_in n rg R X Y P a_vertX a_vertY b_ring a_ringPoly := by
  refine ⟨fun i hi => ⟨(h.2.2.1 i hi).1, (h.2.2.1 i hi).2, ?_⟩, h.2.1⟩
  obtain ⟨r, h1, h2, h3, _, h5⟩ := ze_ring I hi
  rw [h5]
  exact h.2.2.2.1 r i h1 h2 h3
theorem zf_cn_c {a b : Nat → Int32} {H : Nat → Prop} (ha : zh_arr a H) (hb : zh_arr b H) : ∀ m, m ≤ 100 → zf_cn a m = zf_cn b m := by
  have e : ∀ c, c < 100 → a c = b c := by
    intro c hc
    rcases (ha c hc).1 with x | x <;> rcases (hb c hc).1 with y | y
    · rw [x, y]
    · have := (ha c hc).2.mpr ((hb c hc).2.mp y)
      rw [this, y]
    · have := (hb c hc).2.mpr ((ha c hc).2.mp x)
      rw [this, x]
    · rw [x, y]
  intro m
  induction m with
  | zero => intro _; rfl
  | succ m ih => intro hm; unfold zf_cn; rw [ih (by omega), e m (by omega)]
/-- build -/
theorem qv_build {k : Nat} (I : i_Rel k (f_size, f_maxEdges, f_phase, f_op, f_rule, f_stored, f_rings, f_hotCount, f_chainLen, f_pieces, f_halves, f_stackTop, f_outEdges, f_outRings, f_traced, a_vertX, a_vertY, a_ringStart, a_ringPoly, a_dirX, a_dirY, a_edgePoly, a_isHot, a_chainId, a_chainKey, a_pieceKey, a_weightA, a_weightB, a_org, a_round, a_byEnds, a_cw, a_lastAt, a_windA, a_windB, a_reached, a_stack, a_outDir, a_used, a_outHalf, a_ringFrom) (g_size, g_most, g_phase, g_n, g_open, g_rings, g_op, g_rule, g_hots, g_steps, g_pieces, g_outs, g_loops, b_vx, b_vy, b_ring, b_polyOf, b_hot, b_used, b_step, b_stepPoly, b_pieceKey, b_way, b_out, b_loop)) : wpX_build (fun r u' => wpY_build (fun r' v' => r' = r ∧ i_Rel (k + 4) u' v') (g_size, g_most, g_phase, g_n, g_open, g_rings, g_op, g_rule, g_hots, g_steps, g_pieces, g_outs, g_loops, b_vx, b_vy, b_ring, b_polyOf, b_hot, b_used, b_step, b_stepPoly, b_pieceKey, b_way, b_out, b_loop)) (f_size, f_maxEdges, f_phase, f_op, f_rule, f_stored, f_rings, f_hotCount, f_chainLen, f_pieces, f_halves, f_stackTop, f_outEdges, f_outRings, f_traced, a_vertX, a_vertY, a_ringStart, a_ringPoly, a_dirX, a_dirY, a_edgePoly, a_isHot, a_chainId, a_chainKey, a_pieceKey, a_weightA, a_weightB, a_org, a_round, a_byEnds, a_cw, a_lastAt, a_windA, a_windB, a_reached, a_stack, a_outDir, a_used, a_outHalf, a_ringFrom) := by
  obtain ⟨sz, mx, n, rg, R, X, Y, P, ⟨rfl, rfl, rfl, rfl, rfl, rfl, rfl, rfl, rfl, rfl, rfl, rfl, rfl, rfl, rfl, rfl, rfl, rfl, rfl⟩, hin, ha, hp⟩ := I
  have I0 := hin
  have A0 := ha
  by_cases h0 : g_phase = 0
  · rcases hp with ⟨hp0, hp1, hp2, hp3, hp4⟩ | ⟨hp0, _⟩
    · have hR := zr_rg hin
      by_cases e : R rg = n
      · have Z := zr_cl hin e
        refine xb_build Z (zr_zx ha) rfl rfl rfl hp0 (fun K key rd cwf rb cl st dx dy ep hot ci ck pk wA wB og ro be cw la wa wb rc stk B => ?_)
        refine yl_build Z (zr_zy Z ha) rfl (by rw [e]) hp0 hp1 hp3 hp2 hp4 (K := K) (key := key) ⟨B.2.1.1, B.2.1.2.1, B.2.1.2.2.1, B.2.1.2.2.2.1, B.2.1.2.2.2.2⟩ (fun hot' st' sp' wy' pk' hh hr hk => ⟨rfl, ?_⟩)
        refine ⟨sz, mx, n, rg, R, X, Y, P, ⟨rfl, rfl, rfl, rfl, rfl, rfl, rfl, rfl, rfl, rfl, rfl, rfl, by rw [zf_cn_c hh B.2.2.1 100 (by omega)], rfl, rfl, rfl, rfl, rfl, rfl⟩, hin, ha, Or.inr ⟨Or.inl rfl, K, key, rd, cwf, rb, ⟨e, B, rfl, rfl, rfl, hh, hr, hk⟩, fun q => absurd q (by decide)⟩⟩
      · unfold wpX_build wpY_build
        refine br_t hp0 ⟨vp_in_nI (by omega) (by omega), ?_⟩
        rw [nI_clamp (show rg < 2 ^ 31 by omega), ha.1 rg (by omega)]
        refine zb_eqN (by omega) (by omega) (fun w => absurd w.symm e) (fun w => ?_)
        refine br_t hp0 ?_
        refine zb_leN (by omega) (by omega) (fun w => by omega) (fun w => ?_)
        exact ⟨rfl, sz, mx, n, rg, R, X, Y, P, ⟨rfl, rfl, rfl, rfl, rfl, rfl, rfl, rfl, rfl, rfl, rfl, rfl, rfl, rfl, rfl, rfl, rfl, rfl, rfl⟩, I0, A0, Or.inl ⟨hp0, hp1, hp2, hp3, hp4⟩⟩
    · rw [h0] at hp0
      exact absurd hp0 (by decide)
  · unfold wpX_build wpY_build
    refine br_f h0 (br_f h0 ?_)
    exact ⟨rfl, sz, mx, n, rg, R, X, Y, P, ⟨rfl, rfl, rfl, rfl, rfl, rfl, rfl, rfl, rfl, rfl, rfl, rfl, rfl, rfl, rfl, rfl, rfl, rfl, rfl⟩, hin, ha, hp⟩
end
end
section
/-! the owed cases: solve, drop, clear, init, info, hot -/
theorem zi_ex (v : Int32) : ∃ a : Int, (-2147483648 ≤ a ∧ a < 2147483648) ∧ v = zi a := ⟨v.toInt, zi_rg v, zi_of v⟩
theorem zb_01 {b : Int} {A B : Prop} (h0 : 0 ≤ b) (h1 : b ≤ 1) (h : A) : (zi b = 0 → A) ∧ (¬ zi b = 0 → ((zi b = 1 → A) ∧ (¬ zi b = 1 → B))) := by
  refine ⟨fun _ => h, fun z => ⟨fun _ => h, fun y => ?_⟩⟩
  rcases (show b = 0 ∨ b = 1 by omega) with e | e
  · exact absurd (by rw [e]; rfl) z
  · exact absurd (by rw [e]; rfl) y
theorem zi_nb {m : Nat} (h : m < 2147483648) : -2147483648 ≤ (m : Int) ∧ (m : Int) < 2147483648 := by omega
section
variable {f_size f_maxEdges f_phase f_op f_rule f_stored f_rings f_hotCount f_chainLen f_pieces f_halves f_stackTop f_outEdges f_outRings f_traced : Int32} {a_vertX a_vertY a_ringStart a_ringPoly a_dirX a_dirY a_edgePoly a_isHot a_chainId a_chainKey a_pieceKey a_weightA a_weightB a_org a_round a_byEnds a_cw a_lastAt a_windA a_windB a_reached a_stack a_outDir a_used a_outHalf a_ringFrom : Nat → Int32}
variable {g_size g_most g_phase g_n g_open g_rings g_op g_rule g_hots g_steps g_pieces g_outs g_loops : Int32} {b_vx b_vy b_ring b_polyOf b_hot b_used b_step b_stepPoly b_pieceKey b_way b_out b_loop : Nat → Int32}
theorem zr_zst {sz n rg : Nat} {R X Y P : Nat → Nat} (I : ze_in sz n rg R X Y P) (h : zy_rep (ze_SL X Y R P rg n n) b_step b_stepPoly) : zy_st (ze_N X Y R P rg n) (ze_su X Y R P rg n) (ze_st X Y R P rg n) (ze_sp X Y R P rg n) b_step b_stepPoly :=
  ⟨ze_N216 I, fun s hs => ⟨(h s hs).1, (h s hs).2, (ze_ok I s hs).1, (ze_ok I s hs).2.1, (ze_ok I s hs).2.2, ze_sp2 I hs⟩⟩
theorem qv_solve {k : Nat} (I : i_Rel k (f_size, f_maxEdges, f_phase, f_op, f_rule, f_stored, f_rings, f_hotCount, f_chainLen, f_pieces, f_halves, f_stackTop, f_outEdges, f_outRings, f_traced, a_vertX, a_vertY, a_ringStart, a_ringPoly, a_dirX, a_dirY, a_edgePoly, a_isHot, a_chainId, a_chainKey, a_pieceKey, a_weightA, a_weightB, a_org, a_round, a_byEnds, a_cw, a_lastAt, a_windA, a_windB, a_reached, a_stack, a_outDir, a_used, a_outHalf, a_ringFrom) (g_size, g_most, g_phase, g_n, g_open, g_rings, g_op, g_rule, g_hots, g_steps, g_pieces, g_outs, g_loops, b_vx, b_vy, b_ring, b_polyOf, b_hot, b_used, b_step, b_stepPoly, b_pieceKey, b_way, b_out, b_loop)) (v1 v2 : Int32) : wpX_solve (fun r u' => wpY_solve (fun r' v' => r' = r ∧ i_Rel (k + 4) u' v') (g_size, g_most, g_phase, g_n, g_open, g_rings, g_op, g_rule, g_hots, g_steps, g_pieces, g_outs, g_loops, b_vx, b_vy, b_ring, b_polyOf, b_hot, b_used, b_step, b_stepPoly, b_pieceKey, b_way, b_out, b_loop) v1 v2) (f_size, f_maxEdges, f_phase, f_op, f_rule, f_stored, f_rings, f_hotCount, f_chainLen, f_pieces, f_halves, f_stackTop, f_outEdges, f_outRings, f_traced, a_vertX, a_vertY, a_ringStart, a_ringPoly, a_dirX, a_dirY, a_edgePoly, a_isHot, a_chainId, a_chainKey, a_pieceKey, a_weightA, a_weightB, a_org, a_round, a_byEnds, a_cw, a_lastAt, a_windA, a_windB, a_reached, a_stack, a_outDir, a_used, a_outHalf, a_ringFrom) v1 v2 := by
  have I1 : i_Rel (k + 4) (f_size, f_maxEdges, f_phase, f_op, f_rule, f_stored, f_rings, f_hotCount, f_chainLen, f_pieces, f_halves, f_stackTop, f_outEdges, f_outRings, f_traced, a_vertX, a_vertY, a_ringStart, a_ringPoly, a_dirX, a_dirY, a_edgePoly, a_isHot, a_chainId, a_chainKey, a_pieceKey, a_weightA, a_weightB, a_org, a_round, a_byEnds, a_cw, a_lastAt, a_windA, a_windB, a_reached, a_stack, a_outDir, a_used, a_outHalf, a_ringFrom) (g_size, g_most, g_phase, g_n, g_open, g_rings, g_op, g_rule, g_hots, g_steps, g_pieces, g_outs, g_loops, b_vx, b_vy, b_ring, b_polyOf, b_hot, b_used, b_step, b_stepPoly, b_pieceKey, b_way, b_out, b_loop) := i_up0 I
  obtain ⟨sz, mx, n, rg, R, X, Y, P, ⟨rfl, rfl, rfl, rfl, rfl, rfl, rfl, rfl, rfl, rfl, rfl, rfl, rfl, rfl, rfl, rfl, rfl, rfl, rfl⟩, hin, ha, hp⟩ := I
  obtain ⟨a, a1, rfl⟩ := zi_ex v1
  obtain ⟨b, b1, rfl⟩ := zi_ex v2
  unfold wpX_solve wpY_solve
  refine br_c (fun h0 => br_t h0 ⟨rfl, I1⟩) (fun h0 => ?_)
  refine zb_lt (b := 0) a1 (by omega) (fun w => br_f h0 (zb_lt (b := 0) a1 (by omega) (fun _ => ⟨rfl, I1⟩) (fun _ => by omega))) (fun w => ?_)
  refine zb_le (b := 3) a1 (by omega) (fun w2 => ?_) (fun w2 => br_f h0 (zb_lt (b := 0) a1 (by omega) (fun _ => by omega) (fun _ => zb_lt (a := 3) (by omega) a1 (fun _ => ⟨rfl, I1⟩) (fun _ => by omega))))
  rcases hp with ⟨hp0, _⟩ | ⟨hp0, K, key, rd, cwf, rb, B, _⟩
  · exact absurd hp0 h0
  by_cases q : ¬ (0 ≤ b ∧ b ≤ 1)
  · refine zb_eq (b := 0) b1 (by omega) (fun w3 => by omega) (fun w3 => zb_eq (b := 1) b1 (by omega) (fun w4 => by omega) (fun w4 => br_f h0 ?_))
    refine zb_lt (b := 0) a1 (by omega) (fun _ => by omega) (fun _ => zb_lt (a := 3) (by omega) a1 (fun _ => by omega) (fun _ => zb_lt (b := 0) b1 (by omega) (fun _ => ⟨rfl, I1⟩) (fun _ => zb_le (b := 1) b1 (by omega) (fun _ => by omega) (fun _ => ⟨rfl, I1⟩))))
  · have q' := Classical.not_not.mp q
    refine zb_01 q'.1 q'.2 ?_
    obtain ⟨e, BX, e1, e2, e3, hh, hr, hk⟩ := B
    have Z := zr_cl hin e
    have BX' := BX
    obtain ⟨A, so, hb, og, we, cw, r, c, IB, W⟩ := BX'
    refine xv_37 A r c cw e2 e1 W IB (zi a) (zi b) (fun M oh nx Q F oI od us ohv rfv T hM O hn hi MI oo rf hod => br_f h0 ?_)
    refine zb_lt (b := 0) a1 (by omega) (fun _ => by omega) (fun _ => zb_lt (a := 3) (by omega) a1 (fun _ => by omega) (fun _ => zb_lt (b := 0) b1 (by omega) (fun _ => by omega) (fun _ => zb_le (b := 1) b1 (by omega) (fun _ => ?_) (fun _ => by omega))))
    refine yv_top A r c (zr_zst Z hr) e3 e1 (fun p hp' => ⟨hk p hp', (so.1 p hp').2⟩) hM (zi a) (zi b) O hn hi MI (fun us' wy' ou lp ho hl => ⟨rfl, ?_⟩)
    exact ⟨sz, mx, n, rg, R, X, Y, P, ⟨rfl, rfl, rfl, rfl, rfl, rfl, rfl, rfl, rfl, rfl, rfl, rfl, rfl, rfl, rfl, rfl, rfl, rfl, rfl⟩, hin, ha, Or.inr ⟨Or.inr rfl, K, key, rd, cwf, rb, ⟨e, BX, e1, e2, e3, hh, hr, hk⟩, fun _ => ⟨M, oh, nx, Q, F, oI, ⟨hM, rfl, rfl⟩, O, hn, hi, MI, oo, rf, hod, ho, hl⟩⟩⟩
theorem qv_info {k : Nat} (I : i_Rel k (f_size, f_maxEdges, f_phase, f_op, f_rule, f_stored, f_rings, f_hotCount, f_chainLen, f_pieces, f_halves, f_stackTop, f_outEdges, f_outRings, f_traced, a_vertX, a_vertY, a_ringStart, a_ringPoly, a_dirX, a_dirY, a_edgePoly, a_isHot, a_chainId, a_chainKey, a_pieceKey, a_weightA, a_weightB, a_org, a_round, a_byEnds, a_cw, a_lastAt, a_windA, a_windB, a_reached, a_stack, a_outDir, a_used, a_outHalf, a_ringFrom) (g_size, g_most, g_phase, g_n, g_open, g_rings, g_op, g_rule, g_hots, g_steps, g_pieces, g_outs, g_loops, b_vx, b_vy, b_ring, b_polyOf, b_hot, b_used, b_step, b_stepPoly, b_pieceKey, b_way, b_out, b_loop)) (v1 : Int32) : wpX_info (fun r => wpY_info (fun r' => r' = r ∧ i_Rel (k + 4) (f_size, f_maxEdges, f_phase, f_op, f_rule, f_stored, f_rings, f_hotCount, f_chainLen, f_pieces, f_halves, f_stackTop, f_outEdges, f_outRings, f_traced, a_vertX, a_vertY, a_ringStart, a_ringPoly, a_dirX, a_dirY, a_edgePoly, a_isHot, a_chainId, a_chainKey, a_pieceKey, a_weightA, a_weightB, a_org, a_round, a_byEnds, a_cw, a_lastAt, a_windA, a_windB, a_reached, a_stack, a_outDir, a_used, a_outHalf, a_ringFrom) (g_size, g_most, g_phase, g_n, g_open, g_rings, g_op, g_rule, g_hots, g_steps, g_pieces, g_outs, g_loops, b_vx, b_vy, b_ring, b_polyOf, b_hot, b_used, b_step, b_stepPoly, b_pieceKey, b_way, b_out, b_loop)) (g_size, g_most, g_phase, g_n, g_open, g_rings, g_op, g_rule, g_hots, g_steps, g_pieces, g_outs, g_loops, b_vx, b_vy, b_ring, b_polyOf, b_hot, b_used, b_step, b_stepPoly, b_pieceKey, b_way, b_out, b_loop) v1) (f_size, f_maxEdges, f_phase, f_op, f_rule, f_stored, f_rings, f_hotCount, f_chainLen, f_pieces, f_halves, f_stackTop, f_outEdges, f_outRings, f_traced, a_vertX, a_vertY, a_ringStart, a_ringPoly, a_dirX, a_dirY, a_edgePoly, a_isHot, a_chainId, a_chainKey, a_pieceKey, a_weightA, a_weightB, a_org, a_round, a_byEnds, a_cw, a_lastAt, a_windA, a_windB, a_reached, a_stack, a_outDir, a_used, a_outHalf, a_ringFrom) v1 := by
  have I1 : i_Rel (k + 4) (f_size, f_maxEdges, f_phase, f_op, f_rule, f_stored, f_rings, f_hotCount, f_chainLen, f_pieces, f_halves, f_stackTop, f_outEdges, f_outRings, f_traced, a_vertX, a_vertY, a_ringStart, a_ringPoly, a_dirX, a_dirY, a_edgePoly, a_isHot, a_chainId, a_chainKey, a_pieceKey, a_weightA, a_weightB, a_org, a_round, a_byEnds, a_cw, a_lastAt, a_windA, a_windB, a_reached, a_stack, a_outDir, a_used, a_outHalf, a_ringFrom) (g_size, g_most, g_phase, g_n, g_open, g_rings, g_op, g_rule, g_hots, g_steps, g_pieces, g_outs, g_loops, b_vx, b_vy, b_ring, b_polyOf, b_hot, b_used, b_step, b_stepPoly, b_pieceKey, b_way, b_out, b_loop) := i_up0 I
  obtain ⟨sz, mx, n, rg, R, X, Y, P, ⟨rfl, rfl, rfl, rfl, rfl, rfl, rfl, rfl, rfl, rfl, rfl, rfl, rfl, rfl, rfl, rfl, rfl, rfl, rfl⟩, hin, ha, hp⟩ := I
  have g := zr_rg hin
  have er : a_ringStart (nI rg).toNatClampNeg = nI (R rg) := by rw [nI_clamp (by omega)]; exact ha.1 rg (by omega)
  have vi : vp_in (nI rg) 5 := vp_in_nI (by omega) (by omega)
  unfold wpX_info wpY_info
  dsimp only
  rw [er]
  refine br_c (fun h => br_t h ⟨rfl, I1⟩) (fun h1 => br_c (fun h => br_f h1 (br_t h ⟨rfl, I1⟩)) (fun h2 => ?_))
  refine br_c (fun h => br_f h1 (br_f h2 (br_t h ⟨rfl, I1⟩))) (fun z0 => ?_)
  refine br_c (fun h => br_f h1 (br_f h2 (br_f z0 (br_t h ⟨rfl, I1⟩)))) (fun z1 => ?_)
  refine br_c (fun h => ⟨vi, br_f h1 (br_f h2 (br_f z0 (br_f z1 (br_t h ⟨rfl, I1⟩))))⟩) (fun z2 => ?_)
  refine br_c (fun h => br_f h1 (br_f h2 (br_f z0 (br_f z1 (br_f z2 (br_t h ⟨rfl, I1⟩)))))) (fun z3 => ?_)
  refine br_c (fun h => br_f h1 (br_f h2 (br_f z0 (br_f z1 (br_f z2 (br_f z3 (br_t h ⟨rfl, I1⟩))))))) (fun z4 => ?_)
  refine br_c (fun h => br_f h1 (br_f h2 (br_f z0 (br_f z1 (br_f z2 (br_f z3 (br_f z4 (br_t h ⟨rfl, I1⟩)))))))) (fun z5 => ?_)
  refine br_c (fun h => br_f h1 (br_f h2 (br_f z0 (br_f z1 (br_f z2 (br_f z3 (br_f z4 (br_f z5 (br_t h ⟨rfl, I1⟩))))))))) (fun z6 => ?_)
  refine br_c (fun h => br_f h1 (br_f h2 (br_f z0 (br_f z1 (br_f z2 (br_f z3 (br_f z4 (br_f z5 (br_f z6 (br_t h ⟨rfl, I1⟩)))))))))) (fun z7 => ?_)
  refine br_c (fun h => br_f h1 (br_f h2 (br_f z0 (br_f z1 (br_f z2 (br_f z3 (br_f z4 (br_f z5 (br_f z6 (br_f z7 (br_t h ⟨rfl, I1⟩))))))))))) (fun z8 => ?_)
  refine br_c (fun h => br_f h1 (br_f h2 (br_f z0 (br_f z1 (br_f z2 (br_f z3 (br_f z4 (br_f z5 (br_f z6 (br_f z7 (br_f z8 (br_t h ⟨rfl, I1⟩)))))))))))) (fun z9 => ?_)
  refine br_c (fun h => br_f h1 (br_f h2 (br_f z0 (br_f z1 (br_f z2 (br_f z3 (br_f z4 (br_f z5 (br_f z6 (br_f z7 (br_f z8 (br_f z9 (br_t h ⟨rfl, I1⟩))))))))))))) (fun z10 => ?_)
  exact br_c (fun h => br_f h1 (br_f h2 (br_f z0 (br_f z1 (br_f z2 (br_f z3 (br_f z4 (br_f z5 (br_f z6 (br_f z7 (br_f z8 (br_f z9 (br_f z10 (br_t h ⟨rfl, I1⟩)))))))))))))) (fun z11 => trivial)
theorem qv_drop {k : Nat} (I : i_Rel k (f_size, f_maxEdges, f_phase, f_op, f_rule, f_stored, f_rings, f_hotCount, f_chainLen, f_pieces, f_halves, f_stackTop, f_outEdges, f_outRings, f_traced, a_vertX, a_vertY, a_ringStart, a_ringPoly, a_dirX, a_dirY, a_edgePoly, a_isHot, a_chainId, a_chainKey, a_pieceKey, a_weightA, a_weightB, a_org, a_round, a_byEnds, a_cw, a_lastAt, a_windA, a_windB, a_reached, a_stack, a_outDir, a_used, a_outHalf, a_ringFrom) (g_size, g_most, g_phase, g_n, g_open, g_rings, g_op, g_rule, g_hots, g_steps, g_pieces, g_outs, g_loops, b_vx, b_vy, b_ring, b_polyOf, b_hot, b_used, b_step, b_stepPoly, b_pieceKey, b_way, b_out, b_loop)) : wpX_drop (fun r u' => wpY_drop (fun r' v' => r' = r ∧ i_Rel (k + 4) u' v') (g_size, g_most, g_phase, g_n, g_open, g_rings, g_op, g_rule, g_hots, g_steps, g_pieces, g_outs, g_loops, b_vx, b_vy, b_ring, b_polyOf, b_hot, b_used, b_step, b_stepPoly, b_pieceKey, b_way, b_out, b_loop)) (f_size, f_maxEdges, f_phase, f_op, f_rule, f_stored, f_rings, f_hotCount, f_chainLen, f_pieces, f_halves, f_stackTop, f_outEdges, f_outRings, f_traced, a_vertX, a_vertY, a_ringStart, a_ringPoly, a_dirX, a_dirY, a_edgePoly, a_isHot, a_chainId, a_chainKey, a_pieceKey, a_weightA, a_weightB, a_org, a_round, a_byEnds, a_cw, a_lastAt, a_windA, a_windB, a_reached, a_stack, a_outDir, a_used, a_outHalf, a_ringFrom) := by
  have I1 : i_Rel (k + 4) (f_size, f_maxEdges, f_phase, f_op, f_rule, f_stored, f_rings, f_hotCount, f_chainLen, f_pieces, f_halves, f_stackTop, f_outEdges, f_outRings, f_traced, a_vertX, a_vertY, a_ringStart, a_ringPoly, a_dirX, a_dirY, a_edgePoly, a_isHot, a_chainId, a_chainKey, a_pieceKey, a_weightA, a_weightB, a_org, a_round, a_byEnds, a_cw, a_lastAt, a_windA, a_windB, a_reached, a_stack, a_outDir, a_used, a_outHalf, a_ringFrom) (g_size, g_most, g_phase, g_n, g_open, g_rings, g_op, g_rule, g_hots, g_steps, g_pieces, g_outs, g_loops, b_vx, b_vy, b_ring, b_polyOf, b_hot, b_used, b_step, b_stepPoly, b_pieceKey, b_way, b_out, b_loop) := i_up0 I
  obtain ⟨sz, mx, n, rg, R, X, Y, P, ⟨rfl, rfl, rfl, rfl, rfl, rfl, rfl, rfl, rfl, rfl, rfl, rfl, rfl, rfl, rfl, rfl, rfl, rfl, rfl⟩, hin, ha, hp⟩ := I
  have g := zr_rg hin
  have vi : vp_in (nI rg) 5 := vp_in_nI (by omega) (by omega)
  unfold wpX_drop wpY_drop
  dsimp only
  rw [nI_clamp (show rg < 2 ^ 31 by omega), ha.1 rg (by omega)]
  refine br_c (fun h0 => ⟨vi, nm_e ⟨vi, nm_e (br_t h0 (nm_e ⟨rfl, ?_⟩))⟩⟩) (fun h0 => br_f h0 ⟨rfl, I1⟩)
  rcases hp with ⟨hp0, hp1, hp2, hp3, hp4⟩ | ⟨hp0, _⟩
  · refine ⟨sz, mx, R rg, rg, R, X, Y, P, ⟨rfl, rfl, rfl, rfl, rfl, rfl, rfl, rfl, rfl, rfl, rfl, rfl, rfl, rfl, rfl, rfl, rfl, rfl, rfl⟩, ⟨⟨hin.1.1, hin.1.2.1, hin.1.2.2.1, hin.1.2.2.2.1, by have := hin.1.2.2.2.2.1; omega, hin.1.2.2.2.2.2.1, by omega⟩, hin.2.1, hin.2.2.1, fun i hi => hin.2.2.2.1 i (by omega), fun i hi => hin.2.2.2.2.1 i (by omega), hin.2.2.2.2.2⟩, ⟨ha.1, ha.2.1, fun i hi => ha.2.2.1 i (by omega), ha.2.2.2.1, fun i h1 h2 => absurd h1 (by omega)⟩, Or.inl ⟨hp0, hp1, hp2, hp3, hp4⟩⟩
  · rw [h0] at hp0; exact absurd hp0 (by decide)
theorem qv_hot {k : Nat} (I : i_Rel k (f_size, f_maxEdges, f_phase, f_op, f_rule, f_stored, f_rings, f_hotCount, f_chainLen, f_pieces, f_halves, f_stackTop, f_outEdges, f_outRings, f_traced, a_vertX, a_vertY, a_ringStart, a_ringPoly, a_dirX, a_dirY, a_edgePoly, a_isHot, a_chainId, a_chainKey, a_pieceKey, a_weightA, a_weightB, a_org, a_round, a_byEnds, a_cw, a_lastAt, a_windA, a_windB, a_reached, a_stack, a_outDir, a_used, a_outHalf, a_ringFrom) (g_size, g_most, g_phase, g_n, g_open, g_rings, g_op, g_rule, g_hots, g_steps, g_pieces, g_outs, g_loops, b_vx, b_vy, b_ring, b_polyOf, b_hot, b_used, b_step, b_stepPoly, b_pieceKey, b_way, b_out, b_loop)) (v1 v2 : Int32) : wpX_hot (fun r => wpY_hot (fun r' => r' = r ∧ i_Rel (k + 4) (f_size, f_maxEdges, f_phase, f_op, f_rule, f_stored, f_rings, f_hotCount, f_chainLen, f_pieces, f_halves, f_stackTop, f_outEdges, f_outRings, f_traced, a_vertX, a_vertY, a_ringStart, a_ringPoly, a_dirX, a_dirY, a_edgePoly, a_isHot, a_chainId, a_chainKey, a_pieceKey, a_weightA, a_weightB, a_org, a_round, a_byEnds, a_cw, a_lastAt, a_windA, a_windB, a_reached, a_stack, a_outDir, a_used, a_outHalf, a_ringFrom) (g_size, g_most, g_phase, g_n, g_open, g_rings, g_op, g_rule, g_hots, g_steps, g_pieces, g_outs, g_loops, b_vx, b_vy, b_ring, b_polyOf, b_hot, b_used, b_step, b_stepPoly, b_pieceKey, b_way, b_out, b_loop)) (g_size, g_most, g_phase, g_n, g_open, g_rings, g_op, g_rule, g_hots, g_steps, g_pieces, g_outs, g_loops, b_vx, b_vy, b_ring, b_polyOf, b_hot, b_used, b_step, b_stepPoly, b_pieceKey, b_way, b_out, b_loop) v1 v2) (f_size, f_maxEdges, f_phase, f_op, f_rule, f_stored, f_rings, f_hotCount, f_chainLen, f_pieces, f_halves, f_stackTop, f_outEdges, f_outRings, f_traced, a_vertX, a_vertY, a_ringStart, a_ringPoly, a_dirX, a_dirY, a_edgePoly, a_isHot, a_chainId, a_chainKey, a_pieceKey, a_weightA, a_weightB, a_org, a_round, a_byEnds, a_cw, a_lastAt, a_windA, a_windB, a_reached, a_stack, a_outDir, a_used, a_outHalf, a_ringFrom) v1 v2 := by
  have I1 : i_Rel (k + 4) (f_size, f_maxEdges, f_phase, f_op, f_rule, f_stored, f_rings, f_hotCount, f_chainLen, f_pieces, f_halves, f_stackTop, f_outEdges, f_outRings, f_traced, a_vertX, a_vertY, a_ringStart, a_ringPoly, a_dirX, a_dirY, a_edgePoly, a_isHot, a_chainId, a_chainKey, a_pieceKey, a_weightA, a_weightB, a_org, a_round, a_byEnds, a_cw, a_lastAt, a_windA, a_windB, a_reached, a_stack, a_outDir, a_used, a_outHalf, a_ringFrom) (g_size, g_most, g_phase, g_n, g_open, g_rings, g_op, g_rule, g_hots, g_steps, g_pieces, g_outs, g_loops, b_vx, b_vy, b_ring, b_polyOf, b_hot, b_used, b_step, b_stepPoly, b_pieceKey, b_way, b_out, b_loop) := i_up0 I
  obtain ⟨sz, mx, n, rg, R, X, Y, P, ⟨rfl, rfl, rfl, rfl, rfl, rfl, rfl, rfl, rfl, rfl, rfl, rfl, rfl, rfl, rfl, rfl, rfl, rfl, rfl⟩, hin, ha, hp⟩ := I
  obtain ⟨a, a1, rfl⟩ := zi_ex v1
  obtain ⟨b, b1, rfl⟩ := zi_ex v2
  have z10 : sz ≤ 10 := hin.1.2.1
  have sb := zi_nb (show sz < 2147483648 by omega)
  unfold wpX_hot wpY_hot wpX_onGrid
  refine br_c (fun h0 => br_t h0 ⟨rfl, I1⟩) (fun h0 => ?_)
  rw [zi_n sz]
  refine zb_lt (b := 0) a1 (by omega) (fun w => br_t rfl (br_f h0 (zb_lt (b := 0) a1 (by omega) (fun _ => ⟨rfl, I1⟩) (fun _ => by omega)))) (fun w => ?_)
  refine zb_le sb a1 (fun w2 => br_t rfl (br_f h0 (zb_lt (b := 0) a1 (by omega) (fun _ => by omega) (fun _ => zb_le sb a1 (fun _ => ⟨rfl, I1⟩) (fun _ => by omega))))) (fun w2 => ?_)
  refine zb_lt (b := 0) b1 (by omega) (fun w3 => br_t rfl (br_f h0 (zb_lt (b := 0) a1 (by omega) (fun _ => by omega) (fun _ => zb_le sb a1 (fun _ => by omega) (fun _ => zb_lt (b := 0) b1 (by omega) (fun _ => ⟨rfl, I1⟩) (fun _ => by omega)))))) (fun w3 => ?_)
  refine zb_le sb b1 (fun w4 => br_t rfl (br_f h0 (zb_lt (b := 0) a1 (by omega) (fun _ => by omega) (fun _ => zb_le sb a1 (fun _ => by omega) (fun _ => zb_lt (b := 0) b1 (by omega) (fun _ => by omega) (fun _ => zb_lt b1 sb (fun _ => by omega) (fun _ => ⟨rfl, I1⟩))))))) (fun w4 => br_f (by decide) ?_)
  rcases hp with ⟨hp0, _⟩ | ⟨hp0, K, key, rd, cwf, rb, B, _⟩
  · exact absurd hp0 h0
  obtain ⟨c, hc, ec⟩ : ∃ c : Nat, c < 100 ∧ (10 * a + b : Int) = c := ⟨(10 * a + b).toNat, by omega, by omega⟩
  have x1 : (10 : Int32) * zi a + zi b = nI c := by rw [show (10 : Int32) = zi 10 from rfl, zi_mul, zi_add, ec, zi_n]
  have x2 : zi a * (10 : Int32) + zi b = nI c := by rw [show (10 : Int32) = zi 10 from rfl, zi_mul, zi_add, Int.mul_comm, ec, zi_n]
  have vi : vp_in (nI c) 100 := vp_in_nI (by omega) (by omega)
  rw [x1, x2, nI_clamp (show c < 2 ^ 31 by omega)]
  have h1 := B.2.1.2.2.1 c hc
  have h2 := B.2.2.2.2.2.1 c hc
  refine ⟨vi, br_c (fun q => br_f h0 ?_) (fun q => br_f h0 ?_)⟩
  · refine zb_lt (b := 0) a1 (by omega) (fun _ => by omega) (fun _ => zb_le sb a1 (fun _ => by omega) (fun _ => zb_lt (b := 0) b1 (by omega) (fun _ => by omega) (fun _ => zb_lt b1 sb (fun _ => ⟨vi, br_t ?_ ⟨rfl, I1⟩⟩) (fun _ => by omega))))
    rcases h2.1 with y | y
    · exact y
    · exact absurd (q.symm.trans (h1.2.mpr (h2.2.mp y))) (by decide)
  · refine zb_lt (b := 0) a1 (by omega) (fun _ => by omega) (fun _ => zb_le sb a1 (fun _ => by omega) (fun _ => zb_lt (b := 0) b1 (by omega) (fun _ => by omega) (fun _ => zb_lt b1 sb (fun _ => ⟨vi, br_f ?_ ⟨rfl, I1⟩⟩) (fun _ => by omega))))
    intro y
    rcases h1.1 with x | x
    · exact q x
    · exact absurd (y.symm.trans (h2.2.mpr (h1.2.mp x))) (by decide)
end
end
section
/-! the owed cases: clear, init, source, vertex, close -/
section
variable {f_size f_maxEdges f_phase f_op f_rule f_stored f_rings f_hotCount f_chainLen f_pieces f_halves f_stackTop f_outEdges f_outRings f_traced : Int32} {a_vertX a_vertY a_ringStart a_ringPoly a_dirX a_dirY a_edgePoly a_isHot a_chainId a_chainKey a_pieceKey a_weightA a_weightB a_org a_round a_byEnds a_cw a_lastAt a_windA a_windB a_reached a_stack a_outDir a_used a_outHalf a_ringFrom : Nat → Int32}
variable {g_size g_most g_phase g_n g_open g_rings g_op g_rule g_hots g_steps g_pieces g_outs g_loops : Int32} {b_vx b_vy b_ring b_polyOf b_hot b_used b_step b_stepPoly b_pieceKey b_way b_out b_loop : Nat → Int32}
theorem yc_57 {post : SY → Prop} (k : ∀ hot, (∀ c, c < 100 → hot c = 0) → post (g_size, g_most, g_phase, g_n, g_open, g_rings, g_op, g_rule, g_hots, g_steps, g_pieces, g_outs, g_loops, b_vx, b_vy, b_ring, b_polyOf, hot, b_used, b_step, b_stepPoly, b_pieceKey, b_way, b_out, b_loop)) : ∀ (m c : Nat) (hot : Nat → Int32), 100 - c < m → c ≤ 100 → (∀ d, d < c → hot d = 0) → wY_clear_57 post g_size g_most g_phase g_n g_open g_rings g_op g_rule g_hots g_steps g_pieces g_outs g_loops m (nI c) b_vx b_vy b_ring b_polyOf hot b_used b_step b_stepPoly b_pieceKey b_way b_out b_loop
  | 0, c, hot, h, _, _ => by omega
  | m + 1, c, hot, h, hc, inv => by
    have ih := yc_57 k m (c + 1)
    unfold wY_clear_57
    refine zb_leN (a := 100) (by omega) (by omega) (fun w => k hot (fun d hd => inv d (by omega))) (fun w => ⟨vp_in_nI (by omega) (by omega), ?_⟩)
    rw [nI_clamp (show c < 2 ^ 31 by omega)]
    refine nm_e (nm_r (nI_1 c) (ih _ (by omega) (by omega) (fun d hd => ?_)))
    by_cases e : d = c
    · rw [e, zu_s]; rfl
    · rw [zu_n e]; exact inv d (by omega)
theorem yc_clear {post : SY → Prop} (k : ∀ hot, (∀ c, c < 100 → hot c = 0) → post (g_size, g_most, 0, 0, 0, 0, (-1), (-1), 0, 0, 0, 0, 0, b_vx, b_vy, b_ring, b_polyOf, hot, b_used, b_step, b_stepPoly, b_pieceKey, b_way, b_out, b_loop)) : wpY_clear post (g_size, g_most, g_phase, g_n, g_open, g_rings, g_op, g_rule, g_hots, g_steps, g_pieces, g_outs, g_loops, b_vx, b_vy, b_ring, b_polyOf, b_hot, b_used, b_step, b_stepPoly, b_pieceKey, b_way, b_out, b_loop) := by
  unfold wpY_clear
  exact ⟨101, yc_57 k 101 0 b_hot (by omega) (by omega) (fun d hd => absurd hd (by omega))⟩
theorem zr_new {k sz mx : Nat} {hot : Nat → Int32} (h1 : 4 ≤ sz ∧ sz ≤ 10 ∧ 3 ≤ mx ∧ mx ≤ 12) (r0 : a_ringStart 0 = 0) (h0 : ∀ c, c < 100 → hot c = 0) : i_Rel k (nI sz, nI mx, 0, (-1), (-1), 0, 0, 0, f_chainLen, 0, f_halves, f_stackTop, 0, 0, f_traced, a_vertX, a_vertY, a_ringStart, a_ringPoly, a_dirX, a_dirY, a_edgePoly, a_isHot, a_chainId, a_chainKey, a_pieceKey, a_weightA, a_weightB, a_org, a_round, a_byEnds, a_cw, a_lastAt, a_windA, a_windB, a_reached, a_stack, a_outDir, a_used, a_outHalf, a_ringFrom) (nI sz, nI mx, 0, 0, 0, 0, (-1), (-1), 0, 0, 0, 0, 0, a_vertX, a_vertY, b_ring, a_ringPoly, hot, b_used, b_step, b_stepPoly, b_pieceKey, b_way, b_out, b_loop) :=
  ⟨sz, mx, 0, 0, fun _ => 0, fun _ => 0, fun _ => 0, fun _ => 0, ⟨rfl, rfl, rfl, rfl, rfl, rfl, rfl, rfl, rfl, rfl, rfl, rfl, rfl, rfl, rfl, rfl, rfl, rfl, rfl⟩, ⟨⟨h1.1, h1.2.1, h1.2.2.1, h1.2.2.2, by omega, rfl, Nat.le_refl 0⟩, fun r hr => absurd hr (by omega), fun r hr => absurd hr (by omega), fun i hi => absurd hi (by omega), fun i hi => absurd hi (by omega), fun r hr => absurd hr (by omega)⟩,
    ⟨fun r hr => by rw [show r = 0 by omega]; exact r0, fun r hr => absurd hr (by omega), fun i hi => absurd hi (by omega), fun r i hr => absurd hr (by omega), fun i _ hi => absurd hi (by omega)⟩, Or.inl ⟨rfl, rfl, rfl, rfl, h0⟩⟩
theorem qv_clear {k : Nat} (I : i_Rel k (f_size, f_maxEdges, f_phase, f_op, f_rule, f_stored, f_rings, f_hotCount, f_chainLen, f_pieces, f_halves, f_stackTop, f_outEdges, f_outRings, f_traced, a_vertX, a_vertY, a_ringStart, a_ringPoly, a_dirX, a_dirY, a_edgePoly, a_isHot, a_chainId, a_chainKey, a_pieceKey, a_weightA, a_weightB, a_org, a_round, a_byEnds, a_cw, a_lastAt, a_windA, a_windB, a_reached, a_stack, a_outDir, a_used, a_outHalf, a_ringFrom) (g_size, g_most, g_phase, g_n, g_open, g_rings, g_op, g_rule, g_hots, g_steps, g_pieces, g_outs, g_loops, b_vx, b_vy, b_ring, b_polyOf, b_hot, b_used, b_step, b_stepPoly, b_pieceKey, b_way, b_out, b_loop)) : wpX_clear (fun u' => wpY_clear (fun v' => i_Rel (k + 4) u' v') (g_size, g_most, g_phase, g_n, g_open, g_rings, g_op, g_rule, g_hots, g_steps, g_pieces, g_outs, g_loops, b_vx, b_vy, b_ring, b_polyOf, b_hot, b_used, b_step, b_stepPoly, b_pieceKey, b_way, b_out, b_loop)) (f_size, f_maxEdges, f_phase, f_op, f_rule, f_stored, f_rings, f_hotCount, f_chainLen, f_pieces, f_halves, f_stackTop, f_outEdges, f_outRings, f_traced, a_vertX, a_vertY, a_ringStart, a_ringPoly, a_dirX, a_dirY, a_edgePoly, a_isHot, a_chainId, a_chainKey, a_pieceKey, a_weightA, a_weightB, a_org, a_round, a_byEnds, a_cw, a_lastAt, a_windA, a_windB, a_reached, a_stack, a_outDir, a_used, a_outHalf, a_ringFrom) := by
  obtain ⟨sz, mx, n, rg, R, X, Y, P, ⟨rfl, rfl, rfl, rfl, rfl, rfl, rfl, rfl, rfl, rfl, rfl, rfl, rfl, rfl, rfl, rfl, rfl, rfl, rfl⟩, hin, ha, hp⟩ := I
  unfold wpX_clear
  have r0 : a_ringStart 0 = 0 := by
    have := ha.1 0 (by omega)
    rw [hin.1.2.2.2.2.2.1] at this
    exact this
  exact yc_clear (fun hot h0 => zr_new ⟨hin.1.1, hin.1.2.1, hin.1.2.2.1, hin.1.2.2.2.1⟩ r0 h0)
end
theorem i_vc0 (k0 : Int32) (k1 : Int32) : wpX_init (fun u => wpY_init (fun v => i_Rel 2 u v) k0 k1) k0 k1 := by
  have fin : ∀ (sz mx : Nat), (4 ≤ sz ∧ sz ≤ 10 ∧ 3 ≤ mx ∧ mx ≤ 12) → wY_init_153 (fun v => i_Rel 2 (nI sz, nI mx, 0, (-1), (-1), 0, 0, 0, 0, 0, 0, 0, 0, 0, 0, (fun _ => 0), (fun _ => 0), (fun _ => 0), (fun _ => 0), (fun _ => 0), (fun _ => 0), (fun _ => 0), (fun _ => 0), (fun _ => 0), (fun _ => 0), (fun _ => 0), (fun _ => 0), (fun _ => 0), (fun _ => 0), (fun _ => 0), (fun _ => 0), (fun _ => 0), (fun _ => 0), (fun _ => 0), (fun _ => 0), (fun _ => 0), (fun _ => 0), (fun _ => 0), (fun _ => 0), (fun _ => 0), (fun _ => 0)) v) (nI mx) (nI sz) 0 0 0 0 0 0 0 0 0 0 0 0 (fun _ => 0) (fun _ => 0) (fun _ => 0) (fun _ => 0) (fun _ => 0) (fun _ => 0) (fun _ => 0) (fun _ => 0) (fun _ => 0) (fun _ => 0) (fun _ => 0) (fun _ => 0) := by
    intro sz mx h
    unfold wY_init_153
    exact yc_clear (fun hot h0 => zr_new h rfl h0)
  have y128 : ∀ (sz mx : Nat) (post : SY → Prop), (3 ≤ mx ∧ mx ≤ 12) → ((nI mx = k1) ∨ (mx = 12 ∧ ¬ k1 ≤ 12 ∧ 3 ≤ k1) ∨ (mx = 3 ∧ ¬ 3 ≤ k1)) → wY_init_153 post (nI mx) (nI sz) 0 0 0 0 0 0 0 0 0 0 0 0 (fun _ => 0) (fun _ => 0) (fun _ => 0) (fun _ => 0) (fun _ => 0) (fun _ => 0) (fun _ => 0) (fun _ => 0) (fun _ => 0) (fun _ => 0) (fun _ => 0) (fun _ => 0) → wY_init_128 post k1 (nI sz) 0 0 0 0 0 0 0 0 0 0 0 0 0 (fun _ => 0) (fun _ => 0) (fun _ => 0) (fun _ => 0) (fun _ => 0) (fun _ => 0) (fun _ => 0) (fun _ => 0) (fun _ => 0) (fun _ => 0) (fun _ => 0) (fun _ => 0) := by
    intro sz mx post hm hk h
    unfold wY_init_128
    rcases hk with rfl | ⟨rfl, h1, h2⟩ | ⟨rfl, h1⟩
    · exact br_t (nI_le (a := 3) hm.1 (by omega)) (br_t (nI_le (b := 12) hm.2 (by omega)) h)
    · exact br_t h2 (br_f h1 h)
    · exact br_f h1 h
  have y0 : ∀ (sz : Nat) (post : SY → Prop), (4 ≤ sz ∧ sz ≤ 10) → ((nI sz = k0) ∨ (sz = 10 ∧ ¬ k0 ≤ 10 ∧ 4 ≤ k0) ∨ (sz = 4 ∧ ¬ 4 ≤ k0)) → wY_init_128 post k1 (nI sz) 0 0 0 0 0 0 0 0 0 0 0 0 0 (fun _ => 0) (fun _ => 0) (fun _ => 0) (fun _ => 0) (fun _ => 0) (fun _ => 0) (fun _ => 0) (fun _ => 0) (fun _ => 0) (fun _ => 0) (fun _ => 0) (fun _ => 0) → wpY_init post k0 k1 := by
    intro sz post hm hk h
    unfold wpY_init
    rcases hk with rfl | ⟨rfl, h1, h2⟩ | ⟨rfl, h1⟩
    · exact br_t (nI_le (a := 4) hm.1 (by omega)) (br_t (nI_le (b := 10) hm.2 (by omega)) h)
    · exact br_t h2 (br_f h1 h)
    · exact br_f h1 h
  have cl : ∀ (v : Int32) (lo hi : Nat) (post : Int32 → Prop) (u : SX), lo ≤ hi → hi < 2147483648 → (∀ m, lo ≤ m → m ≤ hi → ((nI m = v) ∨ (m = hi ∧ ¬ v ≤ nI hi ∧ nI lo ≤ v) ∨ (m = lo ∧ ¬ nI lo ≤ v)) → post (nI m)) → wpX_clamp post u v (nI lo) (nI hi) := by
    intro v lo hi post u hl hh h
    obtain ⟨f_size, f_maxEdges, f_phase, f_op, f_rule, f_stored, f_rings, f_hotCount, f_chainLen, f_pieces, f_halves, f_stackTop, f_outEdges, f_outRings, f_traced, a_vertX, a_vertY, a_ringStart, a_ringPoly, a_dirX, a_dirY, a_edgePoly, a_isHot, a_chainId, a_chainKey, a_pieceKey, a_weightA, a_weightB, a_org, a_round, a_byEnds, a_cw, a_lastAt, a_windA, a_windB, a_reached, a_stack, a_outDir, a_used, a_outHalf, a_ringFrom⟩ := u
    unfold wpX_clamp
    refine ⟨fun a => ⟨fun b => ?_, fun b => h hi hl (Nat.le_refl _) (Or.inr (Or.inl ⟨rfl, b, a⟩))⟩, fun a => h lo (Nat.le_refl _) hl (Or.inr (Or.inr ⟨rfl, a⟩))⟩
    obtain ⟨x, x1, rfl⟩ := zi_ex v
    have a' := a
    have b' := b
    rw [zi_n, zi_le (by omega) x1] at a'
    rw [zi_n, zi_le x1 (by omega)] at b'
    have e : nI x.toNat = zi x := by rw [zi_n, Int.toNat_of_nonneg (by omega)]
    rw [← e]
    exact h x.toNat (by omega) (by omega) (Or.inl e)
  unfold wpX_init
  refine cl k0 4 10 _ _ (by omega) (by omega) (fun sz s1 s2 s3 => cl k1 3 12 _ _ (by omega) (by omega) (fun mx m1 m2 m3 => ?_))
  exact y0 sz _ ⟨s1, s2⟩ s3 (y128 sz mx _ ⟨m1, m2⟩ m3 (fin sz mx ⟨s1, s2, m1, m2⟩))
end
section
/-! the owed cases: source, vertex, close -/
section
variable {f_size f_maxEdges f_phase f_op f_rule f_stored f_rings f_hotCount f_chainLen f_pieces f_halves f_stackTop f_outEdges f_outRings f_traced : Int32} {a_vertX a_vertY a_ringStart a_ringPoly a_dirX a_dirY a_edgePoly a_isHot a_chainId a_chainKey a_pieceKey a_weightA a_weightB a_org a_round a_byEnds a_cw a_lastAt a_windA a_windB a_reached a_stack a_outDir a_used a_outHalf a_ringFrom : Nat → Int32}
variable {g_size g_most g_phase g_n g_open g_rings g_op g_rule g_hots g_steps g_pieces g_outs g_loops : Int32} {b_vx b_vy b_ring b_polyOf b_hot b_used b_step b_stepPoly b_pieceKey b_way b_out b_loop : Nat → Int32}
theorem xs_54 {post : Int32 → Prop} {n rg : Nat} {R : Nat → Nat} (hg : f_rings = nI rg) (r5 : rg ≤ 4) (hn : n ≤ 12) (hR : ∀ r, r ≤ rg → a_ringStart r = nI (R r) ∧ R r ≤ n) {i : Nat} (hi : i < n) (x2 : Int32)
    (k : ∀ r, r ≤ rg → (∀ q, q < r → R (q + 1) ≤ i) → (r = rg ∨ (r < rg ∧ i < R (r + 1))) → wX_source_80 post x2 (nI r) f_size f_maxEdges f_phase f_op f_rule f_stored f_rings f_hotCount f_chainLen f_pieces f_halves f_stackTop f_outEdges f_outRings f_traced a_vertX a_vertY a_ringStart a_ringPoly a_dirX a_dirY a_edgePoly a_isHot a_chainId a_chainKey a_pieceKey a_weightA a_weightB a_org a_round a_byEnds a_cw a_lastAt a_windA a_windB a_reached a_stack a_outDir a_used a_outHalf a_ringFrom) : ∀ (m r : Nat), rg - r < m → r ≤ rg → (∀ q, q < r → R (q + 1) ≤ i) → wX_source_54 post (nI i) x2 f_size f_maxEdges f_phase f_op f_rule f_stored f_rings f_hotCount f_chainLen f_pieces f_halves f_stackTop f_outEdges f_outRings f_traced a_vertX a_vertY a_ringStart a_ringPoly a_dirX a_dirY a_edgePoly a_isHot a_chainId a_chainKey a_pieceKey a_weightA a_weightB a_org a_round a_byEnds a_cw a_lastAt a_windA a_windB a_reached a_stack a_outDir a_used a_outHalf a_ringFrom m (nI r)
  | 0, r, h, _, _ => by omega
  | m + 1, r, h, hr, inv => by
    have ih := xs_54 hg r5 hn hR hi x2 k m (r + 1)
    unfold wX_source_54
    rw [hg]
    refine zb_leN (by omega) (by omega) (fun w => ?_) (fun w => ?_)
    · rw [← hg]; exact k r hr inv (Or.inl (by omega))
    · have e := hR (r + 1) (by omega)
      rw [nI_1 r, nI_clamp (show r + 1 < 2 ^ 31 by omega), e.1]
      refine ⟨vp_in_nI (by omega) (by omega), zb_ltN (by omega) (by omega) (fun w2 => ?_) (fun w2 => nm_e ?_)⟩
      · rw [← hg]; exact k r hr inv (Or.inr ⟨w, w2⟩)
      · rw [← hg]
        refine ih (by omega) (by omega) (fun q hq => ?_)
        by_cases e : q = r
        · rw [e]; exact w2
        · exact inv q (by omega)
theorem qv_source {k : Nat} (I : i_Rel k (f_size, f_maxEdges, f_phase, f_op, f_rule, f_stored, f_rings, f_hotCount, f_chainLen, f_pieces, f_halves, f_stackTop, f_outEdges, f_outRings, f_traced, a_vertX, a_vertY, a_ringStart, a_ringPoly, a_dirX, a_dirY, a_edgePoly, a_isHot, a_chainId, a_chainKey, a_pieceKey, a_weightA, a_weightB, a_org, a_round, a_byEnds, a_cw, a_lastAt, a_windA, a_windB, a_reached, a_stack, a_outDir, a_used, a_outHalf, a_ringFrom) (g_size, g_most, g_phase, g_n, g_open, g_rings, g_op, g_rule, g_hots, g_steps, g_pieces, g_outs, g_loops, b_vx, b_vy, b_ring, b_polyOf, b_hot, b_used, b_step, b_stepPoly, b_pieceKey, b_way, b_out, b_loop)) (v1 v2 : Int32) : wpX_source (fun r => wpY_source (fun r' => r' = r ∧ i_Rel (k + 4) (f_size, f_maxEdges, f_phase, f_op, f_rule, f_stored, f_rings, f_hotCount, f_chainLen, f_pieces, f_halves, f_stackTop, f_outEdges, f_outRings, f_traced, a_vertX, a_vertY, a_ringStart, a_ringPoly, a_dirX, a_dirY, a_edgePoly, a_isHot, a_chainId, a_chainKey, a_pieceKey, a_weightA, a_weightB, a_org, a_round, a_byEnds, a_cw, a_lastAt, a_windA, a_windB, a_reached, a_stack, a_outDir, a_used, a_outHalf, a_ringFrom) (g_size, g_most, g_phase, g_n, g_open, g_rings, g_op, g_rule, g_hots, g_steps, g_pieces, g_outs, g_loops, b_vx, b_vy, b_ring, b_polyOf, b_hot, b_used, b_step, b_stepPoly, b_pieceKey, b_way, b_out, b_loop)) (g_size, g_most, g_phase, g_n, g_open, g_rings, g_op, g_rule, g_hots, g_steps, g_pieces, g_outs, g_loops, b_vx, b_vy, b_ring, b_polyOf, b_hot, b_used, b_step, b_stepPoly, b_pieceKey, b_way, b_out, b_loop) v1 v2) (f_size, f_maxEdges, f_phase, f_op, f_rule, f_stored, f_rings, f_hotCount, f_chainLen, f_pieces, f_halves, f_stackTop, f_outEdges, f_outRings, f_traced, a_vertX, a_vertY, a_ringStart, a_ringPoly, a_dirX, a_dirY, a_edgePoly, a_isHot, a_chainId, a_chainKey, a_pieceKey, a_weightA, a_weightB, a_org, a_round, a_byEnds, a_cw, a_lastAt, a_windA, a_windB, a_reached, a_stack, a_outDir, a_used, a_outHalf, a_ringFrom) v1 v2 := by
  have I1 : i_Rel (k + 4) (f_size, f_maxEdges, f_phase, f_op, f_rule, f_stored, f_rings, f_hotCount, f_chainLen, f_pieces, f_halves, f_stackTop, f_outEdges, f_outRings, f_traced, a_vertX, a_vertY, a_ringStart, a_ringPoly, a_dirX, a_dirY, a_edgePoly, a_isHot, a_chainId, a_chainKey, a_pieceKey, a_weightA, a_weightB, a_org, a_round, a_byEnds, a_cw, a_lastAt, a_windA, a_windB, a_reached, a_stack, a_outDir, a_used, a_outHalf, a_ringFrom) (g_size, g_most, g_phase, g_n, g_open, g_rings, g_op, g_rule, g_hots, g_steps, g_pieces, g_outs, g_loops, b_vx, b_vy, b_ring, b_polyOf, b_hot, b_used, b_step, b_stepPoly, b_pieceKey, b_way, b_out, b_loop) := i_up0 I
  obtain ⟨sz, mx, n, rg, R, X, Y, P, ⟨rfl, rfl, rfl, rfl, rfl, rfl, rfl, rfl, rfl, rfl, rfl, rfl, rfl, rfl, rfl, rfl, rfl, rfl, rfl⟩, hin, ha, hp⟩ := I
  have g := zr_rg hin
  obtain ⟨a, a1, rfl⟩ := zi_ex v1
  obtain ⟨b, b1, rfl⟩ := zi_ex v2
  have nb := zi_nb (show n < 2147483648 by omega)
  unfold wpX_source wpY_source
  refine zb_lt (b := 0) a1 (by omega) (fun w => zb_lt (b := 0) a1 (by omega) (fun _ => ⟨rfl, I1⟩) (fun _ => by omega)) (fun w => ?_)
  rw [zi_n n]
  refine zb_lt a1 nb (fun w2 => ?_) (fun w2 => zb_lt (b := 0) a1 (by omega) (fun _ => by omega) (fun _ => zb_le nb a1 (fun _ => ⟨rfl, I1⟩) (fun _ => by omega)))
  refine zb_lt (b := 0) b1 (by omega) (fun w3 => zb_lt (b := 0) a1 (by omega) (fun _ => by omega) (fun _ => zb_le nb a1 (fun _ => by omega) (fun _ => zb_lt (b := 0) b1 (by omega) (fun _ => ⟨rfl, I1⟩) (fun _ => by omega)))) (fun w3 => ?_)
  refine zb_le (b := 3) b1 (by omega) (fun w4 => ?_) (fun w4 => zb_lt (b := 0) a1 (by omega) (fun _ => by omega) (fun _ => zb_le nb a1 (fun _ => by omega) (fun _ => zb_lt (b := 0) b1 (by omega) (fun _ => by omega) (fun _ => zb_le (b := 3) b1 (by omega) (fun _ => by omega) (fun _ => ⟨rfl, I1⟩)))))
  obtain ⟨i, rfl⟩ : ∃ i : Nat, a = i := ⟨a.toNat, by omega⟩
  have hi : i < n := by omega
  have vi : vp_in (nI i) 12 := vp_in_nI (by omega) (by omega)
  have top : ∀ {A B C D : Prop}, D → (zi (i : Int) < 0 → A) ∧ (¬ zi (i : Int) < 0 → (zi (n : Int) ≤ zi (i : Int) → B) ∧ (¬ zi (n : Int) ≤ zi (i : Int) → (zi b < 0 → C) ∧ (¬ zi b < 0 → D))) :=
    fun d => zb_lt (b := 0) a1 (by omega) (fun _ => by omega) (fun _ => zb_le nb a1 (fun _ => by omega) (fun _ => zb_lt (b := 0) b1 (by omega) (fun _ => by omega) (fun _ => d)))
  refine zb_eq (b := 0) b1 (by omega) (fun w5 => ⟨by rw [← zi_n]; exact vi, top ?_⟩) (fun w5 => zb_eq (b := 1) b1 (by omega) (fun w6 => ⟨by rw [← zi_n]; exact vi, top ?_⟩) (fun w6 => ⟨rg + 1, ?_⟩))
  · refine zb_le (b := 3) b1 (by omega) (fun _ => zb_le (a := 2) (by omega) b1 (fun _ => by omega) (fun _ => zb_eq (b := 0) b1 (by omega) (fun _ => ⟨by rw [← zi_n]; exact vi, rfl, I1⟩) (fun _ => by omega))) (fun _ => by omega)
  · refine zb_le (b := 3) b1 (by omega) (fun _ => zb_le (a := 2) (by omega) b1 (fun _ => by omega) (fun _ => zb_eq (b := 0) b1 (by omega) (fun _ => by omega) (fun _ => ⟨by rw [← zi_n]; exact vi, rfl, I1⟩))) (fun _ => by omega)
  · rw [← zi_n]
    have mo := zr_mono hin.2.1
    have Rm : ∀ x y, x ≤ y → y ≤ rg → R x ≤ R y := by
      intro x y h1 h2
      have := mo (y - x) x (by omega)
      rw [show x + (y - x) = y by omega] at this
      omega
    refine xs_54 rfl g.1 g.2.1 (fun r hr => ⟨ha.1 r hr, by have := Rm r rg hr (Nat.le_refl _); omega⟩) hi (zi b) (fun r hr h1 h2 => ?_) (rg + 1) 0 (by omega) (by omega) (fun q hq => absurd hq (by omega))
    have er : b_ring i = nI r := by
      rcases h2 with e | ⟨h2, h3⟩
      · subst e
        refine ha.2.2.2.2 i ?_ hi
        by_cases z : r = 0
        · rw [z, hin.1.2.2.2.2.2.1]; omega
        · have := h1 (r - 1) (by omega)
          rw [show r - 1 + 1 = r by omega] at this
          exact this
      · refine ha.2.2.2.1 r i h2 ?_ h3
        by_cases z : r = 0
        · rw [z, hin.1.2.2.2.2.2.1]; omega
        · have := h1 (r - 1) (by omega)
          rw [show r - 1 + 1 = r by omega] at this
          exact this
    have op : i < R rg ↔ r < rg := by
      rcases h2 with e | ⟨h2, h3⟩
      · subst e
        refine ⟨fun h => ?_, fun h => absurd h (by omega)⟩
        by_cases z : r = 0
        · rw [z, hin.1.2.2.2.2.2.1] at h; omega
        · have := h1 (r - 1) (by omega)
          rw [show r - 1 + 1 = r by omega] at this
          omega
      · have := Rm (r + 1) rg (by omega) (Nat.le_refl _)
        exact ⟨fun _ => h2, fun _ => by omega⟩
    unfold wX_source_80
    rw [← zi_n] at top
    have tail : ∀ {A B C : Prop}, B → (zi b ≤ 3 → (2 ≤ zi b → B) ∧ (¬ 2 ≤ zi b → A)) ∧ (¬ zi b ≤ 3 → C) := fun x => zb_le (b := 3) b1 (by omega) (fun _ => zb_le (a := 2) (by omega) b1 (fun _ => x) (fun _ => by omega)) (fun _ => by omega)
    rw [← zi_n]
    refine br_c (fun q => top (tail (br_t q ⟨vi, ?_⟩))) (fun q => zb_leN (by omega) (by omega) (fun w => top (tail (br_f q ?_))) (fun w => ⟨vp_in_nI (by omega) (by omega), top (tail (br_f q ?_))⟩))
    · rw [nI_clamp (show i < 2 ^ 31 by omega), er]; exact ⟨rfl, I1⟩
    · refine zb_ltN (by omega) (by omega) (fun h => by omega) (fun h => ⟨rfl, I1⟩)
    · refine zb_ltN (by omega) (by omega) (fun h => ⟨vi, ?_⟩) (fun h => by omega)
      rw [nI_clamp (show i < 2 ^ 31 by omega), er]
      exact ⟨vp_in_nI (by omega) (by omega), rfl, I1⟩
end
end
section
/-! the owed cases: vertex, close -/
theorem zr_ver {sz mx n rg : Nat} {R X Y P : Nat → Nat} {vX vY rS rP rn : Nat → Int32} (hin : zr_in sz mx n rg R X Y P) (ha : zr_arr n rg R X Y P vX vY rS rP rn) (hm : n < mx) {xa xb : Nat} (hx : xa < sz ∧ xb < sz) (hc : R rg < n → ¬ (X (n - 1) = xa ∧ Y (n - 1) = xb)) :
    zr_in sz mx (n + 1) rg R (fun i => if i = n then xa else X i) (fun i => if i = n then xb else Y i) P ∧ zr_arr (n + 1) rg R (fun i => if i = n then xa else X i) (fun i => if i = n then xb else Y i) P (upd vX n (nI xa)) (upd vY n (nI xb)) rS rP (upd rn n (nI rg)) := by
  have mo := zr_mono hin.2.1
  have Rm : ∀ x, x ≤ rg → R x ≤ R rg := by
    intro x h1
    have := mo (rg - x) x (by omega)
    rw [show x + (rg - x) = rg by omega] at this
    omega
  obtain ⟨⟨i1, i2, i3, i4, i5, i6, i7⟩, j2, j3, j4, j5, j6⟩ := hin
  obtain ⟨a1, a2, a3, a4, a5⟩ := ha
  refine ⟨⟨⟨i1, i2, i3, i4, by omega, i6, by omega⟩, j2, j3, fun i hi => ?_, fun i hi hr => ?_, fun r hr => ?_⟩, a1, a2, fun i hi => ?_, fun r i hr h1 h2 => ?_, fun i h1 h2 => ?_⟩
  · dsimp only
    by_cases e : i = n
    · rw [if_pos e, if_pos e]; exact hx
    · rw [if_neg e, if_neg e]; exact j4 i (by omega)
  · dsimp only
    rw [if_neg (show ¬ i = n by omega), if_neg (show ¬ i = n by omega)]
    by_cases e : i + 1 = n
    · rw [if_pos e, if_pos e]
      have z := hr rg (Nat.le_refl _)
      have := hc (by omega)
      rw [show n - 1 = i by omega] at this
      exact this
    · rw [if_neg e, if_neg e]; exact j5 i (by omega) hr
  · dsimp only
    have z1 := j2 r hr
    have z2 := Rm (r + 1) (by omega)
    rw [if_neg (by omega), if_neg (by omega), if_neg (by omega), if_neg (by omega)]
    exact j6 r hr
  · dsimp only
    by_cases e : i = n
    · rw [e, zu_s, zu_s, if_pos rfl, if_pos rfl]; exact ⟨rfl, rfl⟩
    · rw [zu_n e, zu_n e, if_neg e, if_neg e]; exact a3 i (by omega)
  · have z2 := Rm (r + 1) (by omega)
    rw [zu_n (by omega)]
    exact a4 r i hr h1 h2
  · by_cases e : i = n
    · rw [e, zu_s]
    · rw [zu_n e]; exact a5 i h1 (by omega)
theorem zr_clo {sz mx n rg : Nat} {R X Y P : Nat → Nat} {vX vY rS rP rn : Nat → Int32} (hin : zr_in sz mx n rg R X Y P) (ha : zr_arr n rg R X Y P vX vY rS rP rn) (h3 : R rg + 3 ≤ n) {pv : Nat} (hpv : pv < 2) (hc : ¬ (X (R rg) = X (n - 1) ∧ Y (R rg) = Y (n - 1))) :
    zr_in sz mx n (rg + 1) (fun r => if r = rg + 1 then n else R r) X Y (fun r => if r = rg then pv else P r) ∧ zr_arr n (rg + 1) (fun r => if r = rg + 1 then n else R r) X Y (fun r => if r = rg then pv else P r) vX vY (upd rS (rg + 1) (nI n)) (upd rP rg (nI pv)) rn := by
  obtain ⟨⟨i1, i2, i3, i4, i5, i6, i7⟩, j2, j3, j4, j5, j6⟩ := hin
  obtain ⟨a1, a2, a3, a4, a5⟩ := ha
  refine ⟨⟨⟨i1, i2, i3, i4, i5, ?_, ?_⟩, fun r hr => ?_, fun r hr => ?_, j4, fun i hi hr => j5 i hi (fun r hr' => ?_), fun r hr => ?_⟩, fun r hr => ?_, fun r hr => ?_, a3, fun r i hr h1 h2 => ?_, fun i h1 h2 => ?_⟩
  · dsimp only; rw [if_neg (by omega)]; exact i6
  · dsimp only; rw [if_pos rfl]; exact Nat.le_refl _
  · dsimp only
    rw [if_neg (show ¬ r = rg + 1 by omega)]
    by_cases e : r = rg
    · rw [if_pos (by omega), e]; exact h3
    · rw [if_neg (by omega)]; exact j2 r (by omega)
  · dsimp only
    by_cases e : r = rg
    · rw [if_pos e]; exact hpv
    · rw [if_neg e]; exact j3 r (by omega)
  · have := hr r (by omega)
    dsimp only at this
    rw [if_neg (by omega)] at this
    exact this
  · dsimp only
    rw [if_neg (show ¬ r = rg + 1 by omega)]
    by_cases e : r = rg
    · rw [if_pos (by omega), e]; exact hc
    · rw [if_neg (by omega)]; exact j6 r (by omega)
  · dsimp only
    by_cases e : r = rg + 1
    · rw [if_pos e, e, zu_s]
    · rw [if_neg e, zu_n e]; exact a1 r (by omega)
  · dsimp only
    by_cases e : r = rg
    · rw [if_pos e, e, zu_s]
    · rw [if_neg e, zu_n e]; exact a2 r (by omega)
  · dsimp only at h1 h2
    rw [if_neg (show ¬ r = rg + 1 by omega)] at h1
    by_cases e : r = rg
    · rw [if_pos (by omega)] at h2
      rw [e] at h1 ⊢
      exact a5 i h1 h2
    · rw [if_neg (by omega)] at h2
      exact a4 r i (by omega) h1 h2
  · dsimp only at h1
    rw [if_pos rfl] at h1
    omega
section
variable {f_size f_maxEdges f_phase f_op f_rule f_stored f_rings f_hotCount f_chainLen f_pieces f_halves f_stackTop f_outEdges f_outRings f_traced : Int32} {a_vertX a_vertY a_ringStart a_ringPoly a_dirX a_dirY a_edgePoly a_isHot a_chainId a_chainKey a_pieceKey a_weightA a_weightB a_org a_round a_byEnds a_cw a_lastAt a_windA a_windB a_reached a_stack a_outDir a_used a_outHalf a_ringFrom : Nat → Int32}
variable {g_size g_most g_phase g_n g_open g_rings g_op g_rule g_hots g_steps g_pieces g_outs g_loops : Int32} {b_vx b_vy b_ring b_polyOf b_hot b_used b_step b_stepPoly b_pieceKey b_way b_out b_loop : Nat → Int32}
theorem qv_vertex {k : Nat} (I : i_Rel k (f_size, f_maxEdges, f_phase, f_op, f_rule, f_stored, f_rings, f_hotCount, f_chainLen, f_pieces, f_halves, f_stackTop, f_outEdges, f_outRings, f_traced, a_vertX, a_vertY, a_ringStart, a_ringPoly, a_dirX, a_dirY, a_edgePoly, a_isHot, a_chainId, a_chainKey, a_pieceKey, a_weightA, a_weightB, a_org, a_round, a_byEnds, a_cw, a_lastAt, a_windA, a_windB, a_reached, a_stack, a_outDir, a_used, a_outHalf, a_ringFrom) (g_size, g_most, g_phase, g_n, g_open, g_rings, g_op, g_rule, g_hots, g_steps, g_pieces, g_outs, g_loops, b_vx, b_vy, b_ring, b_polyOf, b_hot, b_used, b_step, b_stepPoly, b_pieceKey, b_way, b_out, b_loop)) (v1 v2 : Int32) : wpX_vertex (fun r u' => wpY_vertex (fun r' v' => r' = r ∧ i_Rel (k + 4) u' v') (g_size, g_most, g_phase, g_n, g_open, g_rings, g_op, g_rule, g_hots, g_steps, g_pieces, g_outs, g_loops, b_vx, b_vy, b_ring, b_polyOf, b_hot, b_used, b_step, b_stepPoly, b_pieceKey, b_way, b_out, b_loop) v1 v2) (f_size, f_maxEdges, f_phase, f_op, f_rule, f_stored, f_rings, f_hotCount, f_chainLen, f_pieces, f_halves, f_stackTop, f_outEdges, f_outRings, f_traced, a_vertX, a_vertY, a_ringStart, a_ringPoly, a_dirX, a_dirY, a_edgePoly, a_isHot, a_chainId, a_chainKey, a_pieceKey, a_weightA, a_weightB, a_org, a_round, a_byEnds, a_cw, a_lastAt, a_windA, a_windB, a_reached, a_stack, a_outDir, a_used, a_outHalf, a_ringFrom) v1 v2 := by
  have I1 : i_Rel (k + 4) (f_size, f_maxEdges, f_phase, f_op, f_rule, f_stored, f_rings, f_hotCount, f_chainLen, f_pieces, f_halves, f_stackTop, f_outEdges, f_outRings, f_traced, a_vertX, a_vertY, a_ringStart, a_ringPoly, a_dirX, a_dirY, a_edgePoly, a_isHot, a_chainId, a_chainKey, a_pieceKey, a_weightA, a_weightB, a_org, a_round, a_byEnds, a_cw, a_lastAt, a_windA, a_windB, a_reached, a_stack, a_outDir, a_used, a_outHalf, a_ringFrom) (g_size, g_most, g_phase, g_n, g_open, g_rings, g_op, g_rule, g_hots, g_steps, g_pieces, g_outs, g_loops, b_vx, b_vy, b_ring, b_polyOf, b_hot, b_used, b_step, b_stepPoly, b_pieceKey, b_way, b_out, b_loop) := i_up0 I
  obtain ⟨sz, mx, n, rg, R, X, Y, P, ⟨rfl, rfl, rfl, rfl, rfl, rfl, rfl, rfl, rfl, rfl, rfl, rfl, rfl, rfl, rfl, rfl, rfl, rfl, rfl⟩, hin, ha, hp⟩ := I
  have g := zr_rg hin
  have z10 : sz ≤ 10 := hin.1.2.1
  have m12 : mx ≤ 12 := hin.1.2.2.2.1
  have sb := zi_nb (show sz < 2147483648 by omega)
  obtain ⟨a, a1, rfl⟩ := zi_ex v1
  obtain ⟨b, b1, rfl⟩ := zi_ex v2
  unfold wpX_vertex wpY_vertex wpX_onGrid
  refine br_c (fun h0 => ?_) (fun h0 => br_f h0 ⟨rfl, I1⟩)
  rw [zi_n sz] at I1 ⊢
  refine zb_lt (b := 0) a1 (by omega) (fun w => br_t rfl (br_t h0 (zb_lt (b := 0) a1 (by omega) (fun _ => ⟨rfl, I1⟩) (fun _ => by omega)))) (fun w => ?_)
  refine zb_le sb a1 (fun w2 => br_t rfl (br_t h0 (zb_lt (b := 0) a1 (by omega) (fun _ => by omega) (fun _ => zb_le sb a1 (fun _ => ⟨rfl, I1⟩) (fun _ => by omega))))) (fun w2 => ?_)
  refine zb_lt (b := 0) b1 (by omega) (fun w3 => br_t rfl (br_t h0 (zb_lt (b := 0) a1 (by omega) (fun _ => by omega) (fun _ => zb_le sb a1 (fun _ => by omega) (fun _ => zb_lt (b := 0) b1 (by omega) (fun _ => ⟨rfl, I1⟩) (fun _ => by omega)))))) (fun w3 => ?_)
  refine zb_le sb b1 (fun w4 => br_t rfl (br_t h0 (zb_lt (b := 0) a1 (by omega) (fun _ => by omega) (fun _ => zb_le sb a1 (fun _ => by omega) (fun _ => zb_lt (b := 0) b1 (by omega) (fun _ => by omega) (fun _ => zb_lt b1 sb (fun _ => by omega) (fun _ => ⟨rfl, I1⟩))))))) (fun w4 => br_f (by decide) ?_)
  obtain ⟨xa, rfl⟩ : ∃ i : Nat, a = i := ⟨a.toNat, by omega⟩
  obtain ⟨xb, rfl⟩ : ∃ i : Nat, b = i := ⟨b.toNat, by omega⟩
  have top : ∀ {A B C D E : Prop}, D → (zi (xa : Int) < 0 → A) ∧ (¬ zi (xa : Int) < 0 → (zi (sz : Int) ≤ zi (xa : Int) → B) ∧ (¬ zi (sz : Int) ≤ zi (xa : Int) → (zi (xb : Int) < 0 → C) ∧ (¬ zi (xb : Int) < 0 → (zi (xb : Int) < zi (sz : Int) → D) ∧ (¬ zi (xb : Int) < zi (sz : Int) → E)))) :=
    fun d => zb_lt (b := 0) a1 (by omega) (fun _ => by omega) (fun _ => zb_le sb a1 (fun _ => by omega) (fun _ => zb_lt (b := 0) b1 (by omega) (fun _ => by omega) (fun _ => zb_lt b1 sb (fun _ => d) (fun _ => by omega))))
  simp only [← zi_n] at top I1 ⊢
  rcases hp with ⟨hp0, hp1, hp2, hp3, hp4⟩ | ⟨hp0, _⟩
  rotate_left
  · rw [h0] at hp0; exact absurd hp0 (by decide)
  refine zb_ltN (by omega) (by omega) (fun m1 => ⟨vp_in_nI (by omega) (by omega), ?_⟩) (fun m1 => br_t h0 (top (zb_ltN (by omega) (by omega) (fun _ => by omega) (fun _ => ⟨trivial, I1⟩))))
  rw [nI_clamp (show rg < 2 ^ 31 by omega), ha.1 rg (by omega)]
  refine nm_e ?_
  have vn : vp_in (nI n) 12 := vp_in_nI (by omega) (by omega)
  have fin := fun hc => zr_ver hin ha m1 (xa := xa) (xb := xb) ⟨by omega, by omega⟩ hc
  refine zb_leN (by omega) (by omega) (fun w5 => ?_) (fun w5 => ?_)
  · unfold wX_vertex_91
    rw [nI_clamp (show n < 2 ^ 31 by omega)]
    refine ⟨vn, nm_e ⟨vn, nm_e (nm_r (nI_1 n) (br_t h0 (top (zb_ltN (by omega) (by omega) (fun _ => zb_leN (by omega) (by omega) (fun _ => ?_) (fun _ => by omega)) (fun _ => by omega)))))⟩⟩
    unfold wY_vertex_99
    rw [nI_clamp (show n < 2 ^ 31 by omega)]
    refine ⟨vn, nm_e ⟨vn, nm_e ⟨vn, nm_e (nm_r (nI_1 n) ⟨rfl, ?_⟩)⟩⟩⟩
    obtain ⟨f1, f2⟩ := fin (fun h => by omega)
    exact ⟨sz, mx, n + 1, rg, R, _, _, P, ⟨rfl, rfl, rfl, rfl, rfl, rfl, rfl, rfl, rfl, rfl, rfl, rfl, rfl, rfl, rfl, rfl, rfl, rfl, rfl⟩, f1, f2, Or.inl ⟨hp0, hp1, hp2, hp3, hp4⟩⟩
  · obtain ⟨n', rfl⟩ : ∃ n', n = n' + 1 := ⟨n - 1, by omega⟩
    have e := ha.2.2.1 n' (by omega)
    have e2 := hin.2.2.2.1 n' (by omega)
    have vp : vp_in (nI n') 12 := vp_in_nI (by omega) (by omega)
    rw [zb_pred, nI_clamp (show n' < 2 ^ 31 by omega), e.1, e.2]
    refine ⟨vp, zb_eqN (by omega) (by omega) (fun q1 => ⟨vp, zb_eqN (by omega) (by omega) (fun q2 => ?_) (fun q2 => ?_)⟩) (fun q1 => ?_)⟩
    · refine br_t h0 (top (zb_ltN (by omega) (by omega) (fun _ => zb_leN (by omega) (by omega) (fun _ => by omega) (fun _ => ⟨vp, zb_eqN (by omega) (by omega) (fun _ => ⟨vp, zb_eqN (by omega) (by omega) (fun _ => ⟨trivial, I1⟩) (fun z => absurd q2 z)⟩) (fun z => absurd q1 z)⟩)) (fun _ => by omega)))
    · unfold wX_vertex_91
      rw [nI_clamp (show n' + 1 < 2 ^ 31 by omega)]
      refine ⟨vn, nm_e ⟨vn, nm_e (nm_r (nI_1 (n' + 1)) (br_t h0 (top (zb_ltN (by omega) (by omega) (fun _ => zb_leN (by omega) (by omega) (fun _ => by omega) (fun _ => ⟨vp, zb_eqN (by omega) (by omega) (fun _ => ⟨vp, zb_eqN (by omega) (by omega) (fun z => absurd z q2) (fun z => ?_)⟩) (fun z => absurd q1 z)⟩)) (fun _ => by omega)))))⟩⟩
      unfold wY_vertex_99
      rw [nI_clamp (show n' + 1 < 2 ^ 31 by omega)]
      refine ⟨vn, nm_e ⟨vn, nm_e ⟨vn, nm_e (nm_r (nI_1 (n' + 1)) ⟨rfl, ?_⟩)⟩⟩⟩
      obtain ⟨f1, f2⟩ := fin (fun h => by rw [show n' + 1 - 1 = n' by omega]; exact fun y => q2 y.2)
      exact ⟨sz, mx, n' + 1 + 1, rg, R, _, _, P, ⟨rfl, rfl, rfl, rfl, rfl, rfl, rfl, rfl, rfl, rfl, rfl, rfl, rfl, rfl, rfl, rfl, rfl, rfl, rfl⟩, f1, f2, Or.inl ⟨hp0, hp1, hp2, hp3, hp4⟩⟩
    · unfold wX_vertex_91
      rw [nI_clamp (show n' + 1 < 2 ^ 31 by omega)]
      refine ⟨vn, nm_e ⟨vn, nm_e (nm_r (nI_1 (n' + 1)) (br_t h0 (top (zb_ltN (by omega) (by omega) (fun _ => zb_leN (by omega) (by omega) (fun _ => by omega) (fun _ => ⟨vp, zb_eqN (by omega) (by omega) (fun z => absurd z q1) (fun z => ?_)⟩)) (fun _ => by omega)))))⟩⟩
      unfold wY_vertex_99
      rw [nI_clamp (show n' + 1 < 2 ^ 31 by omega)]
      refine ⟨vn, nm_e ⟨vn, nm_e ⟨vn, nm_e (nm_r (nI_1 (n' + 1)) ⟨rfl, ?_⟩)⟩⟩⟩
      obtain ⟨f1, f2⟩ := fin (fun h => by rw [show n' + 1 - 1 = n' by omega]; exact fun y => q1 y.1)
      exact ⟨sz, mx, n' + 1 + 1, rg, R, _, _, P, ⟨rfl, rfl, rfl, rfl, rfl, rfl, rfl, rfl, rfl, rfl, rfl, rfl, rfl, rfl, rfl, rfl, rfl, rfl, rfl⟩, f1, f2, Or.inl ⟨hp0, hp1, hp2, hp3, hp4⟩⟩
end
end
section
/-! the owed cases: close -/
section
variable {f_size f_maxEdges f_phase f_op f_rule f_stored f_rings f_hotCount f_chainLen f_pieces f_halves f_stackTop f_outEdges f_outRings f_traced : Int32} {a_vertX a_vertY a_ringStart a_ringPoly a_dirX a_dirY a_edgePoly a_isHot a_chainId a_chainKey a_pieceKey a_weightA a_weightB a_org a_round a_byEnds a_cw a_lastAt a_windA a_windB a_reached a_stack a_outDir a_used a_outHalf a_ringFrom : Nat → Int32}
variable {g_size g_most g_phase g_n g_open g_rings g_op g_rule g_hots g_steps g_pieces g_outs g_loops : Int32} {b_vx b_vy b_ring b_polyOf b_hot b_used b_step b_stepPoly b_pieceKey b_way b_out b_loop : Nat → Int32}
theorem qv_close {k : Nat} (I : i_Rel k (f_size, f_maxEdges, f_phase, f_op, f_rule, f_stored, f_rings, f_hotCount, f_chainLen, f_pieces, f_halves, f_stackTop, f_outEdges, f_outRings, f_traced, a_vertX, a_vertY, a_ringStart, a_ringPoly, a_dirX, a_dirY, a_edgePoly, a_isHot, a_chainId, a_chainKey, a_pieceKey, a_weightA, a_weightB, a_org, a_round, a_byEnds, a_cw, a_lastAt, a_windA, a_windB, a_reached, a_stack, a_outDir, a_used, a_outHalf, a_ringFrom) (g_size, g_most, g_phase, g_n, g_open, g_rings, g_op, g_rule, g_hots, g_steps, g_pieces, g_outs, g_loops, b_vx, b_vy, b_ring, b_polyOf, b_hot, b_used, b_step, b_stepPoly, b_pieceKey, b_way, b_out, b_loop)) (v1 : Int32) : wpX_close (fun r u' => wpY_close (fun r' v' => r' = r ∧ i_Rel (k + 4) u' v') (g_size, g_most, g_phase, g_n, g_open, g_rings, g_op, g_rule, g_hots, g_steps, g_pieces, g_outs, g_loops, b_vx, b_vy, b_ring, b_polyOf, b_hot, b_used, b_step, b_stepPoly, b_pieceKey, b_way, b_out, b_loop) v1) (f_size, f_maxEdges, f_phase, f_op, f_rule, f_stored, f_rings, f_hotCount, f_chainLen, f_pieces, f_halves, f_stackTop, f_outEdges, f_outRings, f_traced, a_vertX, a_vertY, a_ringStart, a_ringPoly, a_dirX, a_dirY, a_edgePoly, a_isHot, a_chainId, a_chainKey, a_pieceKey, a_weightA, a_weightB, a_org, a_round, a_byEnds, a_cw, a_lastAt, a_windA, a_windB, a_reached, a_stack, a_outDir, a_used, a_outHalf, a_ringFrom) v1 := by
  have I1 : i_Rel (k + 4) (f_size, f_maxEdges, f_phase, f_op, f_rule, f_stored, f_rings, f_hotCount, f_chainLen, f_pieces, f_halves, f_stackTop, f_outEdges, f_outRings, f_traced, a_vertX, a_vertY, a_ringStart, a_ringPoly, a_dirX, a_dirY, a_edgePoly, a_isHot, a_chainId, a_chainKey, a_pieceKey, a_weightA, a_weightB, a_org, a_round, a_byEnds, a_cw, a_lastAt, a_windA, a_windB, a_reached, a_stack, a_outDir, a_used, a_outHalf, a_ringFrom) (g_size, g_most, g_phase, g_n, g_open, g_rings, g_op, g_rule, g_hots, g_steps, g_pieces, g_outs, g_loops, b_vx, b_vy, b_ring, b_polyOf, b_hot, b_used, b_step, b_stepPoly, b_pieceKey, b_way, b_out, b_loop) := i_up0 I
  obtain ⟨sz, mx, n, rg, R, X, Y, P, ⟨rfl, rfl, rfl, rfl, rfl, rfl, rfl, rfl, rfl, rfl, rfl, rfl, rfl, rfl, rfl, rfl, rfl, rfl, rfl⟩, hin, ha, hp⟩ := I
  have g := zr_rg hin
  have mo := zr_mono hin.2.1 rg 0 (by omega)
  rw [Nat.zero_add] at mo
  obtain ⟨a, a1, rfl⟩ := zi_ex v1
  unfold wpX_close wpY_close
  dsimp only
  refine br_c (fun h0 => ?_) (fun h0 => br_f h0 ⟨rfl, I1⟩)
  by_cases q : ¬ (0 ≤ a ∧ a ≤ 1)
  · exact zb_eq (b := 0) a1 (by omega) (fun _ => by omega) (fun _ => zb_eq (b := 1) a1 (by omega) (fun _ => by omega) (fun _ => br_t h0 (zb_lt (b := 0) a1 (by omega) (fun _ => ⟨rfl, I1⟩) (fun _ => zb_le (b := 1) a1 (by omega) (fun _ => by omega) (fun _ => ⟨rfl, I1⟩)))))
  · have q' := Classical.not_not.mp q
    refine zb_01 q'.1 q'.2 ?_
    obtain ⟨pv, rfl⟩ : ∃ i : Nat, a = i := ⟨a.toNat, by omega⟩
    have top : ∀ {A B D : Prop}, D → (zi (pv : Int) < 0 → A) ∧ (¬ zi (pv : Int) < 0 → (zi (pv : Int) ≤ 1 → D) ∧ (¬ zi (pv : Int) ≤ 1 → B)) :=
      fun d => zb_lt (b := 0) a1 (by omega) (fun _ => by omega) (fun _ => zb_le (b := 1) a1 (by omega) (fun _ => d) (fun _ => by omega))
    rw [← zi_n] at top ⊢
    rcases hp with ⟨hp0, hp1, hp2, hp3, hp4⟩ | ⟨hp0, _⟩
    rotate_left
    · rw [h0] at hp0; exact absurd hp0 (by decide)
    have vg : vp_in (nI rg) 5 := vp_in_nI (by omega) (by omega)
    unfold wX_close_24
    rw [nI_clamp (show rg < 2 ^ 31 by omega), ha.1 rg (by omega)]
    refine ⟨vg, nm_e ?_⟩
    rw [zb_sub g.2.2]
    refine zb_leN (a := 3) (by omega) (by omega) (fun w => ?_) (fun w => br_t h0 (top (zb_leN (a := 3) (by omega) (by omega) (fun _ => by omega) (fun _ => ⟨rfl, I1⟩))))
    obtain ⟨n', rfl⟩ : ∃ n', n = n' + 1 := ⟨n - 1, by omega⟩
    have e1 := ha.2.2.1 n' (by omega)
    have e2 := ha.2.2.1 (R rg) (by omega)
    have s1 := hin.2.2.2.1 n' (by omega)
    have s2 := hin.2.2.2.1 (R rg) (by omega)
    have s3 := hin.1.2.1
    have vn : vp_in (nI n') 12 := vp_in_nI (by omega) (by omega)
    have vr : vp_in (nI (R rg)) 12 := vp_in_nI (by omega) (by omega)
    rw [zb_pred, nI_clamp (show n' < 2 ^ 31 by omega), nI_clamp (show R rg < 2 ^ 31 by omega), e1.1, e1.2, e2.1, e2.2]
    refine ⟨vr, vn, zb_eqN (by omega) (by omega) (fun q1 => ⟨vr, vn, zb_eqN (by omega) (by omega) (fun q2 => ?_) (fun q2 => ?_)⟩) (fun q1 => ?_)⟩
    · refine br_t h0 (top (zb_leN (a := 3) (by omega) (by omega) (fun _ => ⟨vn, vr, zb_eqN (by omega) (by omega) (fun _ => ⟨vn, vr, zb_eqN (by omega) (by omega) (fun _ => ⟨rfl, I1⟩) (fun z => absurd q2.symm z)⟩) (fun z => absurd q1.symm z)⟩) (fun _ => by omega)))
    · unfold wX_close_92
      rw [nI_clamp (show rg < 2 ^ 31 by omega)]
      refine ⟨vg, nm_e (nm_r (nI_1 rg) ?_)⟩
      rw [nI_clamp (show rg + 1 < 2 ^ 31 by omega)]
      refine ⟨vp_in_nI (by omega) (by omega), nm_e (br_t h0 (top (zb_leN (a := 3) (by omega) (by omega) (fun _ => ⟨vn, vr, zb_eqN (by omega) (by omega) (fun _ => ⟨vn, vr, zb_eqN (by omega) (by omega) (fun z => absurd z.symm q2) (fun z => ?_)⟩) (fun z => absurd q1.symm z)⟩) (fun _ => by omega))))⟩
      unfold wY_close_91
      rw [nI_clamp (show rg < 2 ^ 31 by omega)]
      refine ⟨vg, nm_e (nm_r (nI_1 rg) ⟨rfl, ?_⟩)⟩
      obtain ⟨f1, f2⟩ := zr_clo hin ha (by omega) (pv := pv) (by omega) (fun y => q2 y.2)
      refine ⟨sz, mx, n' + 1, rg + 1, _, X, Y, _, ⟨rfl, rfl, rfl, rfl, rfl, rfl, rfl, rfl, ?_, rfl, rfl, rfl, rfl, rfl, rfl, rfl, rfl, rfl, rfl⟩, f1, f2, Or.inl ⟨hp0, hp1, hp2, hp3, hp4⟩⟩
      rw [if_pos rfl]
    · unfold wX_close_92
      rw [nI_clamp (show rg < 2 ^ 31 by omega)]
      refine ⟨vg, nm_e (nm_r (nI_1 rg) ?_)⟩
      rw [nI_clamp (show rg + 1 < 2 ^ 31 by omega)]
      refine ⟨vp_in_nI (by omega) (by omega), nm_e (br_t h0 (top (zb_leN (a := 3) (by omega) (by omega) (fun _ => ⟨vn, vr, zb_eqN (by omega) (by omega) (fun z => absurd z.symm q1) (fun z => ?_)⟩) (fun _ => by omega))))⟩
      unfold wY_close_91
      rw [nI_clamp (show rg < 2 ^ 31 by omega)]
      refine ⟨vg, nm_e (nm_r (nI_1 rg) ⟨rfl, ?_⟩)⟩
      obtain ⟨f1, f2⟩ := zr_clo hin ha (by omega) (pv := pv) (by omega) (fun y => q1 y.1)
      refine ⟨sz, mx, n' + 1, rg + 1, _, X, Y, _, ⟨rfl, rfl, rfl, rfl, rfl, rfl, rfl, rfl, ?_, rfl, rfl, rfl, rfl, rfl, rfl, rfl, rfl, rfl, rfl⟩, f1, f2, Or.inl ⟨hp0, hp1, hp2, hp3, hp4⟩⟩
      rw [if_pos rfl]
end
end
section
/-! the owed cases: rings -/
def zr_cy (F oI : Nat → Nat) (r j : Nat) : Nat := if j < F (r + 1) - F r then oI (F r + j) else oI (F r)
theorem zr_cyc {M Q : Nat} {nx F oI : Nat → Nat} (I : zr_RI M nx Q F oI) {r : Nat} (hr : r < Q) : F r < F (r + 1) ∧ F (r + 1) ≤ F Q ∧ F Q ≤ M ∧ Q ≤ F Q ∧ (∀ j, zr_cy F oI r j < M) ∧ (∀ j, j < F (r + 1) - F r → nx (zr_cy F oI r j) = zr_cy F oI r (j + 1)) ∧ (∀ j, 0 < j → j < F (r + 1) - F r → zr_cy F oI r j ≠ oI (F r)) := by
  have r3 := zr_R3 I
  obtain ⟨h1, h2, h3, h4, h5, h6, h7⟩ := I
  have a := h2 r hr
  have b := zr_mon h2 (Q - (r + 1)) (r + 1) (by omega)
  rw [show r + 1 + (Q - (r + 1)) = Q by omega] at b
  refine ⟨a, b, r3.1, r3.2, fun j => ?_, fun j hj => ?_, fun j h0 hj => ?_⟩
  · unfold zr_cy
    split
    · exact h3 _ (by omega)
    · exact h3 _ (by omega)
  · unfold zr_cy
    rw [if_pos hj]
    by_cases e : j + 1 < F (r + 1) - F r
    · rw [if_pos e, show F r + (j + 1) = F r + j + 1 by omega]
      exact (h5 r (F r + j) hr (by omega) (by omega)).symm
    · rw [if_neg e, show F r + j = F (r + 1) - 1 by omega]
      exact h6 r hr
  · unfold zr_cy
    rw [if_pos hj]
    exact fun q => h4 (F r) (F r + j) (by omega) (by omega) q.symm
/-- twice the area, as both sides add it up -/
def zr_tm (u t : Nat) : Int32 := nI (u / 10) * nI (t % 10) - nI (t / 10) * nI (u % 10)
def zr_ac (og oh c : Nat → Nat) : Nat → Int32
  | 0 => 0
  | j + 1 => zr_ac og oh c j + zr_tm (og (oh (c j))) (og (zt (oh (c j))))
section
variable {f_size f_maxEdges f_phase f_op f_rule f_stored f_rings f_hotCount f_chainLen f_pieces f_halves f_stackTop f_outEdges f_outRings f_traced : Int32} {a_vertX a_vertY a_ringStart a_ringPoly a_dirX a_dirY a_edgePoly a_isHot a_chainId a_chainKey a_pieceKey a_weightA a_weightB a_org a_round a_byEnds a_cw a_lastAt a_windA a_windB a_reached a_stack a_outDir a_used a_outHalf a_ringFrom : Nat → Int32}
variable {g_size g_most g_phase g_n g_open g_rings g_op g_rule g_hots g_steps g_pieces g_outs g_loops : Int32} {b_vx b_vy b_ring b_polyOf b_hot b_used b_step b_stepPoly b_pieceKey b_way b_out b_loop : Nat → Int32}
variable {N K M Q : Nat} {su st sp key rd cwf oh nx F oI : Nat → Nat}
theorem yo_nx {post : Int32 → Prop} (A : zr_A N K su st sp (zx_og key)) (r : zx_rd (zx_og key) (2 * K) rd) (c : zx_cw (zx_og key) (2 * K) rd cwf) (S : zr_s N su st sp K key rd g_op g_rule g_outs g_loops a_outDir a_outHalf a_ringFrom b_out b_loop M oh nx Q F oI) {e : Nat} (he : e < M) (k : post (nI (nx e))) : wpY_next post (g_size, g_most, g_phase, g_n, g_open, g_rings, g_op, g_rule, g_hots, g_steps, g_pieces, g_outs, g_loops, b_vx, b_vy, b_ring, b_polyOf, b_hot, b_used, b_step, b_stepPoly, b_pieceKey, b_way, b_out, b_loop) (nI e) := by
  obtain ⟨⟨hM, e1, e2⟩, O, hn, hi, MI, oo, rf, od, ho, hl⟩ := S
  have hK : K ≤ 256 := A.2.2.2.2.2.2.2
  refine yo_next A r c (fun h _ => zo_L01 N su st sp (zx_og key) g_op g_rule h) (zo_Lr A r c g_op g_rule) O (by omega) e1 ho he (fun s hs es => ?_)
  rw [zo_Oinj O hs (hn e he).1 (es.trans (hn e he).2.symm)]
  exact k
theorem yr_41 {post : Int32 → Prop} (A : zr_A N K su st sp (zx_og key)) (r : zx_rd (zx_og key) (2 * K) rd) (c : zx_cw (zx_og key) (2 * K) rd cwf) (S : zr_s N su st sp K key rd g_op g_rule g_outs g_loops a_outDir a_outHalf a_ringFrom b_out b_loop M oh nx Q F oI) {ri : Nat} (hr : ri < Q) (k : post (nI (F (ri + 1) - F ri))) :
    ∀ (n j : Nat), F (ri + 1) - F ri - j < n → 0 < j → j ≤ F (ri + 1) - F ri → wY_ringSize_41 post (nI ri) g_size g_most g_phase g_n g_open g_rings g_op g_rule g_hots g_steps g_pieces g_outs g_loops b_vx b_vy b_ring b_polyOf b_hot b_used b_step b_stepPoly b_pieceKey b_way b_out b_loop n (nI j) (nI (zr_cy F oI ri j))
  | 0, j, h, _, _ => by omega
  | n + 1, j, h, h0, hj => by
    have ih := yr_41 A r c S hr k n (j + 1)
    have S' := S
    obtain ⟨⟨hM, e1, e2⟩, O, hn, hi, MI, oo, rf, od, ho, hl⟩ := S'
    have hK : K ≤ 256 := A.2.2.2.2.2.2.2
    obtain ⟨c1, c2, c3, c4, c5, c6, c7⟩ := zr_cyc MI.1 hr
    have cj := c5 j
    have c0 := MI.1.2.2.1 (F ri) (by omega)
    unfold wY_ringSize_41
    rw [e1]
    refine zb_leN (by omega) (by omega) (fun w => ?_) (fun w => ⟨vp_in_nI (by omega) (by omega), ?_⟩)
    · rw [show j = F (ri + 1) - F ri by omega]; exact k
    · rw [nI_clamp (show ri < 2 ^ 31 by omega), hl ri hr]
      refine zb_eqN (by omega) (by omega) (fun w2 => ?_) (fun w2 => ?_)
      · by_cases z : j < F (ri + 1) - F ri
        · exact absurd w2 (c7 j h0 z)
        · rw [show j = F (ri + 1) - F ri by omega]; exact k
      · have z : j < F (ri + 1) - F ri := by
          by_cases z : j < F (ri + 1) - F ri
          · exact z
          · exact absurd (by unfold zr_cy; rw [if_neg z]) w2
        rw [← e1]
        refine yo_nx A r c S cj (nm_r (nI_1 j) ?_)
        rw [c6 j z]
        exact ih (by omega) (by omega) (by omega)
theorem yr_size {post : Int32 → Prop} (hph : g_phase = 2) (A : zr_A N K su st sp (zx_og key)) (r : zx_rd (zx_og key) (2 * K) rd) (c : zx_cw (zx_og key) (2 * K) rd cwf) (S : zr_s N su st sp K key rd g_op g_rule g_outs g_loops a_outDir a_outHalf a_ringFrom b_out b_loop M oh nx Q F oI) {ri : Nat} (hr : ri < Q) (k : post (nI (F (ri + 1) - F ri))) : wpY_ringSize post (g_size, g_most, g_phase, g_n, g_open, g_rings, g_op, g_rule, g_hots, g_steps, g_pieces, g_outs, g_loops, b_vx, b_vy, b_ring, b_polyOf, b_hot, b_used, b_step, b_stepPoly, b_pieceKey, b_way, b_out, b_loop) (nI ri) := by
  have S' := S
  obtain ⟨⟨hM, e1, e2⟩, O, hn, hi, MI, oo, rf, od, ho, hl⟩ := S'
  have hK : K ≤ 256 := A.2.2.2.2.2.2.2
  obtain ⟨c1, c2, c3, c4, c5, c6, c7⟩ := zr_cyc MI.1 hr
  unfold wpY_ringSize
  refine br_t hph (zb_ltN (b := 0) (by omega) (by omega) (fun w => by omega) (fun w => ?_))
  rw [e2]
  refine zb_ltN (by omega) (by omega) (fun w2 => ⟨vp_in_nI (by omega) (by omega), ?_⟩) (fun w2 => by omega)
  rw [nI_clamp (show ri < 2 ^ 31 by omega), hl ri hr, ← e2]
  have z0 : oI (F ri) = zr_cy F oI ri 0 := by unfold zr_cy; rw [if_pos (by omega), Nat.add_zero]
  rw [z0]
  refine yo_nx A r c S (c5 0) ⟨F (ri + 1) - F ri + 1, ?_⟩
  rw [c6 0 (by omega)]
  exact yr_41 A r c S hr k (F (ri + 1) - F ri + 1) 1 (by omega) (by omega) (by omega)
theorem yr_49 {post : Int32 → Prop} (A : zr_A N K su st sp (zx_og key)) (r : zx_rd (zx_og key) (2 * K) rd) (c : zx_cw (zx_og key) (2 * K) rd cwf) (S : zr_s N su st sp K key rd g_op g_rule g_outs g_loops a_outDir a_outHalf a_ringFrom b_out b_loop M oh nx Q F oI) {ri j : Nat} (hr : ri < Q) (hj : j < F (ri + 1) - F ri) (x3 : Int32)
    (k0 : x3 = 0 → post (nI (zx_og key (oh (zr_cy F oI ri j)) / 10))) (k1 : ¬ x3 = 0 → post (nI (zx_og key (oh (zr_cy F oI ri j)) % 10))) :
    ∀ (n i : Nat), j - i < n → i ≤ j → wY_ringAt_49 post (nI j) x3 g_size g_most g_phase g_n g_open g_rings g_op g_rule g_hots g_steps g_pieces g_outs g_loops b_vx b_vy b_ring b_polyOf b_hot b_used b_step b_stepPoly b_pieceKey b_way b_out b_loop n (nI (zr_cy F oI ri i)) (nI i)
  | 0, i, h, _ => by omega
  | n + 1, i, h, h0 => by
    have ih := yr_49 A r c S hr hj x3 k0 k1 n (i + 1)
    have S' := S
    obtain ⟨⟨hM, e1, e2⟩, O, hn, hi, MI, oo, rf, od, ho, hl⟩ := S'
    have hK : K ≤ 256 := A.2.2.2.2.2.2.2
    obtain ⟨c1, c2, c3, c4, c5, c6, c7⟩ := zr_cyc MI.1 hr
    have cj := c5 i
    have o := O.1 _ cj
    have b1 := A.2.2.1 _ o.1
    have b2 := A.2.2.1 _ (zt_lt o.1)
    unfold wY_ringAt_49
    refine zb_leN (by omega) (by omega) (fun w => ?_) (fun w => ?_)
    · have e : i = j := by omega
      subst e
      have vi : vp_in (nI (zr_cy F oI ri i)) 300 := vp_in_nI (by omega) (by omega)
      have ek := ho _ cj
      unfold zo_k at ek
      rw [nI_clamp (show zr_cy F oI ri i < 2 ^ 31 by omega), ek]
      refine br_c (fun q => ⟨vi, by decide, ?_⟩) (fun q => ⟨vi, by decide, by decide, ?_⟩)
      · rw [show (1000 : Int32) = nI 1000 from rfl, zb_div (by omega) (by omega) (by omega), show (100 * zx_og key (oh (zr_cy F oI ri i)) + zx_og key (zt (oh (zr_cy F oI ri i)))) / 1000 = zx_og key (oh (zr_cy F oI ri i)) / 10 by omega]
        exact k0 q
      · rw [show (100 : Int32) = nI 100 from rfl, show (10 : Int32) = nI 10 from rfl, zb_div (by omega) (by omega) (by omega), zb_rem (by omega) (by omega) (by omega), show (100 * zx_og key (oh (zr_cy F oI ri i)) + zx_og key (zt (oh (zr_cy F oI ri i)))) / 100 % 10 = zx_og key (oh (zr_cy F oI ri i)) % 10 by omega]
        exact k1 q
    · refine yo_nx A r c S cj (nm_r (nI_1 i) ?_)
      rw [c6 i (by omega)]
      exact ih (by omega) (by omega)
theorem yr_25 {post : Int32 → Prop} (A : zr_A N K su st sp (zx_og key)) (r : zx_rd (zx_og key) (2 * K) rd) (c : zx_cw (zx_og key) (2 * K) rd cwf) (S : zr_s N su st sp K key rd g_op g_rule g_outs g_loops a_outDir a_outHalf a_ringFrom b_out b_loop M oh nx Q F oI) {ri : Nat} (hr : ri < Q)
    (k : post (zr_ac (zx_og key) oh (zr_cy F oI ri) (F (ri + 1) - F ri))) :
    ∀ (n i : Nat), F (ri + 1) - F ri - i < n → i ≤ F (ri + 1) - F ri → wY_ringArea_25 post (nI (F (ri + 1) - F ri)) g_size g_most g_phase g_n g_open g_rings g_op g_rule g_hots g_steps g_pieces g_outs g_loops b_vx b_vy b_ring b_polyOf b_hot b_used b_step b_stepPoly b_pieceKey b_way b_out b_loop n (zr_ac (zx_og key) oh (zr_cy F oI ri) i) (nI i) (nI (zr_cy F oI ri i))
  | 0, i, h, _ => by omega
  | n + 1, i, h, h0 => by
    have ih := yr_25 A r c S hr k n (i + 1)
    have S' := S
    obtain ⟨⟨hM, e1, e2⟩, O, hn, hi, MI, oo, rf, od, ho, hl⟩ := S'
    have hK : K ≤ 256 := A.2.2.2.2.2.2.2
    obtain ⟨c1, c2, c3, c4, c5, c6, c7⟩ := zr_cyc MI.1 hr
    have cj := c5 i
    have o := O.1 _ cj
    have b1 := A.2.2.1 _ o.1
    have b2 := A.2.2.1 _ (zt_lt o.1)
    unfold wY_ringArea_25
    refine zb_leN (by omega) (by omega) (fun w => ?_) (fun w => ?_)
    · rw [show i = F (ri + 1) - F ri by omega]; exact k
    · have vi : vp_in (nI (zr_cy F oI ri i)) 300 := vp_in_nI (by omega) (by omega)
      have ek := ho _ cj
      unfold zo_k at ek
      rw [nI_clamp (show zr_cy F oI ri i < 2 ^ 31 by omega), ek]
      have d1 : (10 : Int32) ≠ 0 := by decide
      have d2 : (100 : Int32) ≠ 0 := by decide
      have d3 : (1000 : Int32) ≠ 0 := by decide
      refine ⟨vi, d3, vi, d1, vi, d1, d1, vi, d2, d1, ?_⟩
      rw [show (1000 : Int32) = nI 1000 from rfl, show (100 : Int32) = nI 100 from rfl, show (10 : Int32) = nI 10 from rfl, zb_div (d := 1000) (by omega) (by omega) (by omega), zb_rem (a := 100 * zx_og key (oh (zr_cy F oI ri i)) + zx_og key (zt (oh (zr_cy F oI ri i)))) (d := 10) (by omega) (by omega) (by omega), zb_div (d := 10) (by omega) (by omega) (by omega), zb_div (d := 100) (by omega) (by omega) (by omega), zb_rem (d := 10) (by omega) (by omega) (by omega), zb_rem (d := 10) (by omega) (by omega) (by omega),
        show (100 * zx_og key (oh (zr_cy F oI ri i)) + zx_og key (zt (oh (zr_cy F oI ri i)))) / 1000 = zx_og key (oh (zr_cy F oI ri i)) / 10 by omega, show (100 * zx_og key (oh (zr_cy F oI ri i)) + zx_og key (zt (oh (zr_cy F oI ri i)))) / 100 % 10 = zx_og key (oh (zr_cy F oI ri i)) % 10 by omega, show (100 * zx_og key (oh (zr_cy F oI ri i)) + zx_og key (zt (oh (zr_cy F oI ri i)))) % 10 = zx_og key (zt (oh (zr_cy F oI ri i))) % 10 by omega, show (100 * zx_og key (oh (zr_cy F oI ri i)) + zx_og key (zt (oh (zr_cy F oI ri i)))) / 10 % 10 = zx_og key (zt (oh (zr_cy F oI ri i))) / 10 by omega]
      refine nm_e (yo_nx A r c S cj (nm_r (nI_1 i) ?_))
      rw [c6 i (by omega)]
      exact ih (by omega) (by omega)
theorem xr_37 {post : Int32 → Prop} (A : zr_A N K su st sp (zx_og key)) (hO : ∀ h, h < 2 * K → a_org h = nI (zx_og key h)) (S : zr_s N su st sp K key rd g_op g_rule g_outs g_loops a_outDir a_outHalf a_ringFrom b_out b_loop M oh nx Q F oI) {ri : Nat} (hr : ri < Q)
    (k : post (zr_ac (zx_og key) oh (zr_cy F oI ri) (F (ri + 1) - F ri))) :
    ∀ (n i : Nat), F (ri + 1) - F ri - i < n → i ≤ F (ri + 1) - F ri → wX_ringArea_37 post (nI ri) f_size f_maxEdges f_phase f_op f_rule f_stored f_rings f_hotCount f_chainLen f_pieces f_halves f_stackTop f_outEdges f_outRings f_traced a_vertX a_vertY a_ringStart a_ringPoly a_dirX a_dirY a_edgePoly a_isHot a_chainId a_chainKey a_pieceKey a_weightA a_weightB a_org a_round a_byEnds a_cw a_lastAt a_windA a_windB a_reached a_stack a_outDir a_used a_outHalf a_ringFrom n (zr_ac (zx_og key) oh (zr_cy F oI ri) i) (nI (F ri + i))
  | 0, i, h, _ => by omega
  | n + 1, i, h, h0 => by
    have ih := xr_37 A hO S hr k n (i + 1)
    have S' := S
    obtain ⟨⟨hM, e1, e2⟩, O, hn, hi, MI, oo, rf, od, ho, hl⟩ := S'
    have hK : K ≤ 256 := A.2.2.2.2.2.2.2
    obtain ⟨c1, c2, c3, c4, c5, c6, c7⟩ := zr_cyc MI.1 hr
    have cj := c5 i
    have o := O.1 _ cj
    have ol := zt_lt o.1
    have b1 := A.2.2.1 _ o.1
    have b2 := A.2.2.1 _ ol
    unfold wX_ringArea_37
    rw [nI_1 ri, nI_clamp (show ri + 1 < 2 ^ 31 by omega), (rf ri hr).2]
    refine ⟨vp_in_nI (by omega) (by omega), zb_leN (by omega) (by omega) (fun w => ?_) (fun w => ?_)⟩
    · rw [show i = F (ri + 1) - F ri by omega]; exact k
    · have ec : oI (F ri + i) = zr_cy F oI ri i := by unfold zr_cy; rw [if_pos (by omega)]
      have eo := oo (F ri + i) (by omega)
      rw [ec] at eo
      have vi : vp_in (nI (F ri + i)) 512 := vp_in_nI (by omega) (by omega)
      have d1 : (10 : Int32) ≠ 0 := by decide
      rw [nI_clamp (show F ri + i < 2 ^ 31 by omega), eo, zt_xor _ (by omega), nI_clamp (show oh (zr_cy F oI ri i) < 2 ^ 31 by omega), nI_clamp (show zt (oh (zr_cy F oI ri i)) < 2 ^ 31 by omega), hO _ o.1, hO _ ol]
      refine ⟨vi, vp_in_nI (by omega) (by omega), nm_e ⟨vi, vp_in_nI (by omega) (by omega), nm_e ⟨d1, d1, d1, d1, ?_⟩⟩⟩
      rw [show (10 : Int32) = nI 10 from rfl, zb_rem (a := zx_og key (oh (zr_cy F oI ri i))) (by omega) (by omega) (by omega), zb_rem (a := zx_og key (zt (oh (zr_cy F oI ri i)))) (by omega) (by omega) (by omega), zb_div (a := zx_og key (oh (zr_cy F oI ri i))) (by omega) (by omega) (by omega), zb_div (a := zx_og key (zt (oh (zr_cy F oI ri i)))) (by omega) (by omega) (by omega)]
      refine nm_e (nm_r (nI_1 (F ri + i)) ?_)
      exact ih (by omega) (by omega)
end
end
section
/-! the owed cases: ringSize, ringAt, ringArea -/
section
variable {f_size f_maxEdges f_phase f_op f_rule f_stored f_rings f_hotCount f_chainLen f_pieces f_halves f_stackTop f_outEdges f_outRings f_traced : Int32} {a_vertX a_vertY a_ringStart a_ringPoly a_dirX a_dirY a_edgePoly a_isHot a_chainId a_chainKey a_pieceKey a_weightA a_weightB a_org a_round a_byEnds a_cw a_lastAt a_windA a_windB a_reached a_stack a_outDir a_used a_outHalf a_ringFrom : Nat → Int32}
variable {g_size g_most g_phase g_n g_open g_rings g_op g_rule g_hots g_steps g_pieces g_outs g_loops : Int32} {b_vx b_vy b_ring b_polyOf b_hot b_used b_step b_stepPoly b_pieceKey b_way b_out b_loop : Nat → Int32}
theorem yr_bad {post : Int32 → Prop} {a : Int} (a1 : -2147483648 ≤ a ∧ a < 2147483648) {Q : Nat} (hQ : Q < 2147483648) (h : g_phase = 2 → g_loops = nI Q) (hb : g_phase = 2 → (a < 0 ∨ (Q : Int) ≤ a)) (k2 : ¬ g_phase = 2 → post (-1002)) (k1 : g_phase = 2 → post (-1001)) : wpY_ringSize post (g_size, g_most, g_phase, g_n, g_open, g_rings, g_op, g_rule, g_hots, g_steps, g_pieces, g_outs, g_loops, b_vx, b_vy, b_ring, b_polyOf, b_hot, b_used, b_step, b_stepPoly, b_pieceKey, b_way, b_out, b_loop) (zi a) := by
  unfold wpY_ringSize
  refine br_c (fun q => ?_) k2
  have e := h q
  rw [e, zi_n]
  exact zb_lt (b := 0) a1 (by omega) (fun _ => k1 q) (fun _ => zb_lt a1 (zi_nb hQ) (fun _ => by have := hb q; omega) (fun _ => k1 q))
theorem qv_ringSize {k : Nat} (I : i_Rel k (f_size, f_maxEdges, f_phase, f_op, f_rule, f_stored, f_rings, f_hotCount, f_chainLen, f_pieces, f_halves, f_stackTop, f_outEdges, f_outRings, f_traced, a_vertX, a_vertY, a_ringStart, a_ringPoly, a_dirX, a_dirY, a_edgePoly, a_isHot, a_chainId, a_chainKey, a_pieceKey, a_weightA, a_weightB, a_org, a_round, a_byEnds, a_cw, a_lastAt, a_windA, a_windB, a_reached, a_stack, a_outDir, a_used, a_outHalf, a_ringFrom) (g_size, g_most, g_phase, g_n, g_open, g_rings, g_op, g_rule, g_hots, g_steps, g_pieces, g_outs, g_loops, b_vx, b_vy, b_ring, b_polyOf, b_hot, b_used, b_step, b_stepPoly, b_pieceKey, b_way, b_out, b_loop)) (v1 : Int32) : wpX_ringSize (fun r => wpY_ringSize (fun r' => r' = r ∧ i_Rel (k + 4) (f_size, f_maxEdges, f_phase, f_op, f_rule, f_stored, f_rings, f_hotCount, f_chainLen, f_pieces, f_halves, f_stackTop, f_outEdges, f_outRings, f_traced, a_vertX, a_vertY, a_ringStart, a_ringPoly, a_dirX, a_dirY, a_edgePoly, a_isHot, a_chainId, a_chainKey, a_pieceKey, a_weightA, a_weightB, a_org, a_round, a_byEnds, a_cw, a_lastAt, a_windA, a_windB, a_reached, a_stack, a_outDir, a_used, a_outHalf, a_ringFrom) (g_size, g_most, g_phase, g_n, g_open, g_rings, g_op, g_rule, g_hots, g_steps, g_pieces, g_outs, g_loops, b_vx, b_vy, b_ring, b_polyOf, b_hot, b_used, b_step, b_stepPoly, b_pieceKey, b_way, b_out, b_loop)) (g_size, g_most, g_phase, g_n, g_open, g_rings, g_op, g_rule, g_hots, g_steps, g_pieces, g_outs, g_loops, b_vx, b_vy, b_ring, b_polyOf, b_hot, b_used, b_step, b_stepPoly, b_pieceKey, b_way, b_out, b_loop) v1) (f_size, f_maxEdges, f_phase, f_op, f_rule, f_stored, f_rings, f_hotCount, f_chainLen, f_pieces, f_halves, f_stackTop, f_outEdges, f_outRings, f_traced, a_vertX, a_vertY, a_ringStart, a_ringPoly, a_dirX, a_dirY, a_edgePoly, a_isHot, a_chainId, a_chainKey, a_pieceKey, a_weightA, a_weightB, a_org, a_round, a_byEnds, a_cw, a_lastAt, a_windA, a_windB, a_reached, a_stack, a_outDir, a_used, a_outHalf, a_ringFrom) v1 := by
  have I1 : i_Rel (k + 4) (f_size, f_maxEdges, f_phase, f_op, f_rule, f_stored, f_rings, f_hotCount, f_chainLen, f_pieces, f_halves, f_stackTop, f_outEdges, f_outRings, f_traced, a_vertX, a_vertY, a_ringStart, a_ringPoly, a_dirX, a_dirY, a_edgePoly, a_isHot, a_chainId, a_chainKey, a_pieceKey, a_weightA, a_weightB, a_org, a_round, a_byEnds, a_cw, a_lastAt, a_windA, a_windB, a_reached, a_stack, a_outDir, a_used, a_outHalf, a_ringFrom) (g_size, g_most, g_phase, g_n, g_open, g_rings, g_op, g_rule, g_hots, g_steps, g_pieces, g_outs, g_loops, b_vx, b_vy, b_ring, b_polyOf, b_hot, b_used, b_step, b_stepPoly, b_pieceKey, b_way, b_out, b_loop) := i_up0 I
  obtain ⟨sz, mx, n, rg, R, X, Y, P, ⟨rfl, rfl, rfl, rfl, rfl, rfl, rfl, rfl, rfl, rfl, rfl, rfl, rfl, rfl, rfl, rfl, rfl, rfl, rfl⟩, hin, ha, hp⟩ := I
  obtain ⟨a, a1, rfl⟩ := zi_ex v1
  unfold wpX_ringSize
  refine br_c (fun h2 => ?_) (fun h2 => yr_bad (Q := 0) a1 (by omega) (fun z => absurd z h2) (fun z => absurd z h2) (fun _ => ⟨rfl, I1⟩) (fun z => absurd z h2))
  rcases hp with ⟨hp0, _⟩ | ⟨_, K, key, rd, cwf, rb, B, Sx⟩
  · exact absurd (hp0.symm.trans h2) (by decide)
  obtain ⟨M, oh, nx, Q, F, oI, S⟩ := Sx h2
  have S' := S
  obtain ⟨⟨hM, e1, e2⟩, O, hn, hi, MI, oo, rf, od, ho, hl⟩ := S'
  have A := B.2.1.1
  have hK : K ≤ 256 := A.2.2.2.2.2.2.2
  have r3 := zr_R3 MI.1
  have Qb := zi_nb (show Q < 2147483648 by omega)
  refine zb_lt (b := 0) a1 (by omega) (fun w => yr_bad (Q := Q) a1 (by omega) (fun _ => e2) (fun _ => Or.inl w) (fun z => absurd h2 z) (fun _ => ⟨rfl, I1⟩)) (fun w => ?_)
  have e2' : g_loops = zi (Q : Int) := by rw [e2, zi_n]
  refine br_c (fun w2 => ?_) (fun w2 => yr_bad (Q := Q) a1 (by omega) (fun _ => e2) (fun _ => Or.inr ?_) (fun z => absurd h2 z) (fun _ => ⟨rfl, I1⟩))
  · rw [e2', zi_lt a1 Qb] at w2
    obtain ⟨ri, rfl⟩ : ∃ i : Nat, a = i := ⟨a.toNat, by omega⟩
    have hr : ri < Q := by omega
    obtain ⟨c1, c2, c3, c4, c5, c6, c7⟩ := zr_cyc MI.1 hr
    simp only [← zi_n]
    rw [nI_1 ri, nI_clamp (show ri + 1 < 2 ^ 31 by omega), nI_clamp (show ri < 2 ^ 31 by omega), (rf ri hr).2, (rf ri hr).1, zb_sub (by omega)]
    exact ⟨vp_in_nI (by omega) (by omega), vp_in_nI (by omega) (by omega), yr_size h2 A B.2.1.2.2.2.2.2.2.1 B.2.1.2.2.2.2.2.2.2.1 S hr ⟨rfl, I1⟩⟩
  · rw [e2', zi_lt a1 Qb] at w2
    omega
theorem qv_ringAt {k : Nat} (I : i_Rel k (f_size, f_maxEdges, f_phase, f_op, f_rule, f_stored, f_rings, f_hotCount, f_chainLen, f_pieces, f_halves, f_stackTop, f_outEdges, f_outRings, f_traced, a_vertX, a_vertY, a_ringStart, a_ringPoly, a_dirX, a_dirY, a_edgePoly, a_isHot, a_chainId, a_chainKey, a_pieceKey, a_weightA, a_weightB, a_org, a_round, a_byEnds, a_cw, a_lastAt, a_windA, a_windB, a_reached, a_stack, a_outDir, a_used, a_outHalf, a_ringFrom) (g_size, g_most, g_phase, g_n, g_open, g_rings, g_op, g_rule, g_hots, g_steps, g_pieces, g_outs, g_loops, b_vx, b_vy, b_ring, b_polyOf, b_hot, b_used, b_step, b_stepPoly, b_pieceKey, b_way, b_out, b_loop)) (v1 v2 v3 : Int32) : wpX_ringAt (fun r => wpY_ringAt (fun r' => r' = r ∧ i_Rel (k + 4) (f_size, f_maxEdges, f_phase, f_op, f_rule, f_stored, f_rings, f_hotCount, f_chainLen, f_pieces, f_halves, f_stackTop, f_outEdges, f_outRings, f_traced, a_vertX, a_vertY, a_ringStart, a_ringPoly, a_dirX, a_dirY, a_edgePoly, a_isHot, a_chainId, a_chainKey, a_pieceKey, a_weightA, a_weightB, a_org, a_round, a_byEnds, a_cw, a_lastAt, a_windA, a_windB, a_reached, a_stack, a_outDir, a_used, a_outHalf, a_ringFrom) (g_size, g_most, g_phase, g_n, g_open, g_rings, g_op, g_rule, g_hots, g_steps, g_pieces, g_outs, g_loops, b_vx, b_vy, b_ring, b_polyOf, b_hot, b_used, b_step, b_stepPoly, b_pieceKey, b_way, b_out, b_loop)) (g_size, g_most, g_phase, g_n, g_open, g_rings, g_op, g_rule, g_hots, g_steps, g_pieces, g_outs, g_loops, b_vx, b_vy, b_ring, b_polyOf, b_hot, b_used, b_step, b_stepPoly, b_pieceKey, b_way, b_out, b_loop) v1 v2 v3) (f_size, f_maxEdges, f_phase, f_op, f_rule, f_stored, f_rings, f_hotCount, f_chainLen, f_pieces, f_halves, f_stackTop, f_outEdges, f_outRings, f_traced, a_vertX, a_vertY, a_ringStart, a_ringPoly, a_dirX, a_dirY, a_edgePoly, a_isHot, a_chainId, a_chainKey, a_pieceKey, a_weightA, a_weightB, a_org, a_round, a_byEnds, a_cw, a_lastAt, a_windA, a_windB, a_reached, a_stack, a_outDir, a_used, a_outHalf, a_ringFrom) v1 v2 v3 := by
  have I1 : i_Rel (k + 4) (f_size, f_maxEdges, f_phase, f_op, f_rule, f_stored, f_rings, f_hotCount, f_chainLen, f_pieces, f_halves, f_stackTop, f_outEdges, f_outRings, f_traced, a_vertX, a_vertY, a_ringStart, a_ringPoly, a_dirX, a_dirY, a_edgePoly, a_isHot, a_chainId, a_chainKey, a_pieceKey, a_weightA, a_weightB, a_org, a_round, a_byEnds, a_cw, a_lastAt, a_windA, a_windB, a_reached, a_stack, a_outDir, a_used, a_outHalf, a_ringFrom) (g_size, g_most, g_phase, g_n, g_open, g_rings, g_op, g_rule, g_hots, g_steps, g_pieces, g_outs, g_loops, b_vx, b_vy, b_ring, b_polyOf, b_hot, b_used, b_step, b_stepPoly, b_pieceKey, b_way, b_out, b_loop) := i_up0 I
  obtain ⟨sz, mx, n, rg, R, X, Y, P, ⟨rfl, rfl, rfl, rfl, rfl, rfl, rfl, rfl, rfl, rfl, rfl, rfl, rfl, rfl, rfl, rfl, rfl, rfl, rfl⟩, hin, ha, hp⟩ := I
  obtain ⟨a, a1, rfl⟩ := zi_ex v1
  obtain ⟨b, b1, rfl⟩ := zi_ex v2
  obtain ⟨d, d1, rfl⟩ := zi_ex v3
  unfold wpX_ringAt wpY_ringAt
  refine br_c (fun h2 => ?_) (fun h2 => yr_bad (Q := 0) a1 (by omega) (fun z => absurd z h2) (fun z => absurd z h2) (fun _ => br_f (by decide) ⟨rfl, I1⟩) (fun z => absurd z h2))
  rcases hp with ⟨hp0, _⟩ | ⟨_, K, key, rd, cwf, rb, B, Sx⟩
  · exact absurd (hp0.symm.trans h2) (by decide)
  obtain ⟨M, oh, nx, Q, F, oI, S⟩ := Sx h2
  have S' := S
  obtain ⟨⟨hM, e1, e2⟩, O, hn, hi, MI, oo, rf, od, ho, hl⟩ := S'
  have A := B.2.1.1
  have hO := B.2.1.2.2.2.1
  have hK : K ≤ 256 := A.2.2.2.2.2.2.2
  have r3 := zr_R3 MI.1
  have Qb := zi_nb (show Q < 2147483648 by omega)
  refine zb_lt (b := 0) a1 (by omega) (fun w => yr_bad (Q := Q) a1 (by omega) (fun _ => e2) (fun _ => Or.inl w) (fun z => absurd h2 z) (fun _ => br_f (by decide) ⟨rfl, I1⟩)) (fun w => ?_)
  have e2' : g_loops = zi (Q : Int) := by rw [e2, zi_n]
  refine br_c (fun w2 => ?_) (fun w2 => yr_bad (Q := Q) a1 (by omega) (fun _ => e2) (fun _ => Or.inr ?_) (fun z => absurd h2 z) (fun _ => br_f (by decide) ⟨rfl, I1⟩))
  · rw [e2', zi_lt a1 Qb] at w2
    obtain ⟨ri, rfl⟩ : ∃ i : Nat, a = i := ⟨a.toNat, by omega⟩
    have hr : ri < Q := by omega
    obtain ⟨c1, c2, c3, c4, c5, c6, c7⟩ := zr_cyc MI.1 hr
    have ys : ∀ {post : Int32 → Prop}, post (zi ((F (ri + 1) - F ri : Nat) : Int)) → wpY_ringSize post (nI sz, nI mx, g_phase, nI n, nI (R rg), nI rg, g_op, g_rule, g_hots, g_steps, g_pieces, g_outs, g_loops, b_vx, b_vy, b_ring, b_polyOf, b_hot, b_used, b_step, b_stepPoly, b_pieceKey, b_way, b_out, b_loop) (zi (ri : Int)) := by
      intro post kk
      rw [← zi_n] at kk ⊢
      exact yr_size h2 A B.2.1.2.2.2.2.2.2.1 B.2.1.2.2.2.2.2.2.2.1 S hr kk
    have Lb := zi_nb (show F (ri + 1) - F ri < 2147483648 by omega)
    have tp : ∀ {A B : Prop}, A → (0 ≤ zi ((F (ri + 1) - F ri : Nat) : Int) → A) ∧ (¬ 0 ≤ zi ((F (ri + 1) - F ri : Nat) : Int) → B) := fun x => zb_le (a := 0) (by omega) Lb (fun _ => x) (fun _ => by omega)
    have vr : vp_in (zi (ri : Int)) 513 := by rw [← zi_n]; exact vp_in_nI (by omega) (by omega)
    have vr3 : vp_in (zi (ri : Int)) 300 := by rw [← zi_n]; exact vp_in_nI (by omega) (by omega)
    have vr1 : vp_in (zi (ri : Int) + 1) 513 := by rw [← zi_n, nI_1]; exact vp_in_nI (by omega) (by omega)
    have cr : (zi (ri : Int)).toNatClampNeg = ri := zi_cl rfl (by omega)
    have cr1 : (zi (ri : Int) + 1).toNatClampNeg = ri + 1 := by rw [← zi_n, nI_1, nI_clamp (by omega)]
    rw [cr1, cr, (rf ri hr).2, (rf ri hr).1, zb_sub (by omega), zi_n (F (ri + 1) - F ri)]
    refine zb_lt (b := 0) b1 (by omega) (fun w3 => ?_) (fun w3 => ⟨vr1, vr, zb_lt b1 Lb (fun w4 => ?_) (fun w4 => ?_)⟩)
    · exact ys (tp (zb_lt (b := 0) b1 (by omega) (fun _ => ⟨rfl, I1⟩) (fun _ => by omega)))
    · obtain ⟨j, rfl⟩ : ∃ i : Nat, b = i := ⟨b.toNat, by omega⟩
      by_cases q : ¬ (0 ≤ d ∧ d ≤ 1)
      · refine zb_eq (b := 0) d1 (by omega) (fun _ => by omega) (fun _ => zb_eq (b := 1) d1 (by omega) (fun _ => by omega) (fun _ => ?_))
        exact ys (tp (zb_lt (b := 0) b1 (by omega) (fun _ => by omega) (fun _ => zb_le Lb b1 (fun _ => by omega) (fun _ => zb_lt (b := 0) d1 (by omega) (fun _ => ⟨rfl, I1⟩) (fun _ => zb_le (b := 1) d1 (by omega) (fun _ => by omega) (fun _ => ⟨rfl, I1⟩))))))
      · have q' := Classical.not_not.mp q
        refine zb_01 q'.1 q'.2 ?_
        have cj := c5 j
        have o := O.1 _ cj
        have bo := A.2.2.1 _ o.1
        have hj : j < F (ri + 1) - F ri := by omega
        have ec : oI (F ri + j) = zr_cy F oI ri j := by unfold zr_cy; rw [if_pos (by omega)]
        have eo := oo (F ri + j) (by omega)
        rw [ec] at eo
        have ad : nI (F ri) + zi (j : Int) = nI (F ri + j) := by rw [← zi_n, nI_add]
        have z0 : oI (F ri) = zr_cy F oI ri 0 := by unfold zr_cy; rw [if_pos (by omega), Nat.add_zero]
        have yy : ∀ {post : Int32 → Prop}, (zi d = 0 → post (nI (zx_og key (oh (zr_cy F oI ri j)) / 10))) → (¬ zi d = 0 → post (nI (zx_og key (oh (zr_cy F oI ri j)) % 10))) → wY_ringAt_49 post (nI j) (zi d) (nI sz) (nI mx) g_phase (nI n) (nI (R rg)) (nI rg) g_op g_rule g_hots g_steps g_pieces g_outs g_loops b_vx b_vy b_ring b_polyOf b_hot b_used b_step b_stepPoly b_pieceKey b_way b_out b_loop (j + 1) (nI (zr_cy F oI ri 0)) (nI 0) := fun k0 k1 => yr_49 A B.2.1.2.2.2.2.2.2.1 B.2.1.2.2.2.2.2.2.2.1 S hr hj (zi d) k0 k1 (j + 1) 0 (by omega) (by omega)
        unfold wX_ringAt_68
        rw [cr, (rf ri hr).1, ad, nI_clamp (show F ri + j < 2 ^ 31 by omega), eo, nI_clamp (show oh (zr_cy F oI ri j) < 2 ^ 31 by omega), hO _ o.1]
        have t10 : (10 : Int32) ≠ 0 := by decide
        have Y1 : ∀ {A B C D E : Prop}, D → (0 ≤ zi ((F (ri + 1) - F ri : Nat) : Int) → (zi (j : Int) < 0 → A) ∧ (¬ zi (j : Int) < 0 → (zi ((F (ri + 1) - F ri : Nat) : Int) ≤ zi (j : Int) → B) ∧ (¬ zi ((F (ri + 1) - F ri : Nat) : Int) ≤ zi (j : Int) → (zi d < 0 → C) ∧ (¬ zi d < 0 → (zi d ≤ 1 → D) ∧ (¬ zi d ≤ 1 → E))))) := fun x _ => zb_lt (b := 0) b1 (by omega) (fun _ => by omega) (fun _ => zb_le Lb b1 (fun _ => by omega) (fun _ => zb_lt (b := 0) d1 (by omega) (fun _ => by omega) (fun _ => zb_le (b := 1) d1 (by omega) (fun _ => x) (fun _ => by omega))))
        refine ⟨vr, vp_in_nI (by omega) (by omega), vp_in_nI (by omega) (by omega), nm_e ?_⟩
        rw [show (10 : Int32) = nI 10 from rfl, zb_rem (by omega) (by omega) (by omega), zb_div (by omega) (by omega) (by omega)]
        refine br_c (fun q0 => ⟨t10, ys (br_t (zi_le (a := 0) (by omega) Lb |>.mpr (by omega)) (Y1 ⟨vr3, ?_⟩ (zi_le (a := 0) (by omega) Lb |>.mpr (by omega))))⟩) (fun q0 => ⟨t10, ys (br_t (zi_le (a := 0) (by omega) Lb |>.mpr (by omega)) (Y1 ⟨vr3, ?_⟩ (zi_le (a := 0) (by omega) Lb |>.mpr (by omega))))⟩)
        · rw [hl ri hr, z0, ← zi_n]
          exact nm_e ⟨j + 1, yy (fun _ => ⟨rfl, I1⟩) (fun z => absurd q0 z)⟩
        · rw [hl ri hr, z0, ← zi_n]
          exact nm_e ⟨j + 1, yy (fun z => absurd z q0) (fun _ => ⟨rfl, I1⟩)⟩
    · exact ys (tp (zb_lt (b := 0) b1 (by omega) (fun _ => by omega) (fun _ => zb_le Lb b1 (fun _ => ⟨rfl, I1⟩) (fun _ => by omega))))
  · rw [e2', zi_lt a1 Qb] at w2
    omega
end
end
section
/-! the owed cases: ringArea -/
section
variable {f_size f_maxEdges f_phase f_op f_rule f_stored f_rings f_hotCount f_chainLen f_pieces f_halves f_stackTop f_outEdges f_outRings f_traced : Int32} {a_vertX a_vertY a_ringStart a_ringPoly a_dirX a_dirY a_edgePoly a_isHot a_chainId a_chainKey a_pieceKey a_weightA a_weightB a_org a_round a_byEnds a_cw a_lastAt a_windA a_windB a_reached a_stack a_outDir a_used a_outHalf a_ringFrom : Nat → Int32}
variable {g_size g_most g_phase g_n g_open g_rings g_op g_rule g_hots g_steps g_pieces g_outs g_loops : Int32} {b_vx b_vy b_ring b_polyOf b_hot b_used b_step b_stepPoly b_pieceKey b_way b_out b_loop : Nat → Int32}
theorem qv_ringArea {k : Nat} (I : i_Rel k (f_size, f_maxEdges, f_phase, f_op, f_rule, f_stored, f_rings, f_hotCount, f_chainLen, f_pieces, f_halves, f_stackTop, f_outEdges, f_outRings, f_traced, a_vertX, a_vertY, a_ringStart, a_ringPoly, a_dirX, a_dirY, a_edgePoly, a_isHot, a_chainId, a_chainKey, a_pieceKey, a_weightA, a_weightB, a_org, a_round, a_byEnds, a_cw, a_lastAt, a_windA, a_windB, a_reached, a_stack, a_outDir, a_used, a_outHalf, a_ringFrom) (g_size, g_most, g_phase, g_n, g_open, g_rings, g_op, g_rule, g_hots, g_steps, g_pieces, g_outs, g_loops, b_vx, b_vy, b_ring, b_polyOf, b_hot, b_used, b_step, b_stepPoly, b_pieceKey, b_way, b_out, b_loop)) (v1 : Int32) : wpX_ringArea (fun r => wpY_ringArea (fun r' => r' = r ∧ i_Rel (k + 4) (f_size, f_maxEdges, f_phase, f_op, f_rule, f_stored, f_rings, f_hotCount, f_chainLen, f_pieces, f_halves, f_stackTop, f_outEdges, f_outRings, f_traced, a_vertX, a_vertY, a_ringStart, a_ringPoly, a_dirX, a_dirY, a_edgePoly, a_isHot, a_chainId, a_chainKey, a_pieceKey, a_weightA, a_weightB, a_org, a_round, a_byEnds, a_cw, a_lastAt, a_windA, a_windB, a_reached, a_stack, a_outDir, a_used, a_outHalf, a_ringFrom) (g_size, g_most, g_phase, g_n, g_open, g_rings, g_op, g_rule, g_hots, g_steps, g_pieces, g_outs, g_loops, b_vx, b_vy, b_ring, b_polyOf, b_hot, b_used, b_step, b_stepPoly, b_pieceKey, b_way, b_out, b_loop)) (g_size, g_most, g_phase, g_n, g_open, g_rings, g_op, g_rule, g_hots, g_steps, g_pieces, g_outs, g_loops, b_vx, b_vy, b_ring, b_polyOf, b_hot, b_used, b_step, b_stepPoly, b_pieceKey, b_way, b_out, b_loop) v1) (f_size, f_maxEdges, f_phase, f_op, f_rule, f_stored, f_rings, f_hotCount, f_chainLen, f_pieces, f_halves, f_stackTop, f_outEdges, f_outRings, f_traced, a_vertX, a_vertY, a_ringStart, a_ringPoly, a_dirX, a_dirY, a_edgePoly, a_isHot, a_chainId, a_chainKey, a_pieceKey, a_weightA, a_weightB, a_org, a_round, a_byEnds, a_cw, a_lastAt, a_windA, a_windB, a_reached, a_stack, a_outDir, a_used, a_outHalf, a_ringFrom) v1 := by
  have I1 : i_Rel (k + 4) (f_size, f_maxEdges, f_phase, f_op, f_rule, f_stored, f_rings, f_hotCount, f_chainLen, f_pieces, f_halves, f_stackTop, f_outEdges, f_outRings, f_traced, a_vertX, a_vertY, a_ringStart, a_ringPoly, a_dirX, a_dirY, a_edgePoly, a_isHot, a_chainId, a_chainKey, a_pieceKey, a_weightA, a_weightB, a_org, a_round, a_byEnds, a_cw, a_lastAt, a_windA, a_windB, a_reached, a_stack, a_outDir, a_used, a_outHalf, a_ringFrom) (g_size, g_most, g_phase, g_n, g_open, g_rings, g_op, g_rule, g_hots, g_steps, g_pieces, g_outs, g_loops, b_vx, b_vy, b_ring, b_polyOf, b_hot, b_used, b_step, b_stepPoly, b_pieceKey, b_way, b_out, b_loop) := i_up0 I
  obtain ⟨sz, mx, n, rg, R, X, Y, P, ⟨rfl, rfl, rfl, rfl, rfl, rfl, rfl, rfl, rfl, rfl, rfl, rfl, rfl, rfl, rfl, rfl, rfl, rfl, rfl⟩, hin, ha, hp⟩ := I
  obtain ⟨a, a1, rfl⟩ := zi_ex v1
  unfold wpX_ringArea wpY_ringArea
  refine br_c (fun h2 => ?_) (fun h2 => yr_bad (Q := 0) a1 (by omega) (fun z => absurd z h2) (fun z => absurd z h2) (fun _ => br_f (by decide) ⟨rfl, I1⟩) (fun z => absurd z h2))
  rcases hp with ⟨hp0, _⟩ | ⟨_, K, key, rd, cwf, rb, B, Sx⟩
  · exact absurd (hp0.symm.trans h2) (by decide)
  obtain ⟨M, oh, nx, Q, F, oI, S⟩ := Sx h2
  have S' := S
  obtain ⟨⟨hM, e1, e2⟩, O, hn, hi, MI, oo, rf, od, ho, hl⟩ := S'
  have A := B.2.1.1
  have hO := B.2.1.2.2.2.1
  have hK : K ≤ 256 := A.2.2.2.2.2.2.2
  have r3 := zr_R3 MI.1
  have Qb := zi_nb (show Q < 2147483648 by omega)
  refine zb_lt (b := 0) a1 (by omega) (fun w => yr_bad (Q := Q) a1 (by omega) (fun _ => e2) (fun _ => Or.inl w) (fun z => absurd h2 z) (fun _ => br_f (by decide) ⟨rfl, I1⟩)) (fun w => ?_)
  have e2' : g_loops = zi (Q : Int) := by rw [e2, zi_n]
  refine br_c (fun w2 => ?_) (fun w2 => yr_bad (Q := Q) a1 (by omega) (fun _ => e2) (fun _ => Or.inr ?_) (fun z => absurd h2 z) (fun _ => br_f (by decide) ⟨rfl, I1⟩))
  · rw [e2', zi_lt a1 Qb] at w2
    obtain ⟨ri, rfl⟩ : ∃ i : Nat, a = i := ⟨a.toNat, by omega⟩
    have hr : ri < Q := by omega
    obtain ⟨c1, c2, c3, c4, c5, c6, c7⟩ := zr_cyc MI.1 hr
    simp only [← zi_n]
    rw [nI_clamp (show ri < 2 ^ 31 by omega), (rf ri hr).1, hl ri hr]
    have z0 : oI (F ri) = zr_cy F oI ri 0 := by unfold zr_cy; rw [if_pos (by omega), Nat.add_zero]
    refine ⟨vp_in_nI (by omega) (by omega), nm_e ⟨F (ri + 1) - F ri + 1, ?_⟩⟩
    refine xr_37 A hO S hr ?_ (F (ri + 1) - F ri + 1) 0 (by omega) (by omega)
    refine yr_size h2 A B.2.1.2.2.2.2.2.2.1 B.2.1.2.2.2.2.2.2.2.1 S hr (zb_leN (a := 0) (by omega) (by omega) (fun _ => ⟨vp_in_nI (by omega) (by omega), ?_⟩) (fun _ => by omega))
    rw [z0]
    exact nm_e ⟨F (ri + 1) - F ri + 1, yr_25 A B.2.1.2.2.2.2.2.2.1 B.2.1.2.2.2.2.2.2.2.1 S hr ⟨rfl, I1⟩ (F (ri + 1) - F ri + 1) 0 (by omega) (by omega)⟩
  · rw [e2', zi_lt a1 Qb] at w2
    omega
end
end
section
/-! the reference: weight -/
section
variable {f_size f_maxEdges f_phase f_op f_rule f_stored f_rings f_hotCount f_chainLen f_pieces f_halves f_stackTop f_outEdges f_outRings f_traced : Int32} {a_vertX a_vertY a_ringStart a_ringPoly a_dirX a_dirY a_edgePoly a_isHot a_chainId a_chainKey a_pieceKey a_weightA a_weightB a_org a_round a_byEnds a_cw a_lastAt a_windA a_windB a_reached a_stack a_outDir a_used a_outHalf a_ringFrom : Nat → Int32}
variable {g_size g_most g_phase g_n g_open g_rings g_op g_rule g_hots g_steps g_pieces g_outs g_loops : Int32} {b_vx b_vy b_ring b_polyOf b_hot b_used b_step b_stepPoly b_pieceKey b_way b_out b_loop : Nat → Int32}
variable {N : Nat} {su st sp : Nat → Nat}
theorem yw_12 {post : Int32 → Prop} (Z : zy_st N su st sp b_step b_stepPoly) (hN : g_steps = nI N) {p a b : Nat} (hp : p < 2) (ha : a < 100) (hb : b < 100) (hab : a ≠ b) (k : post (zi (zv_w N su st sp p a b))) :
    ∀ (n i : Nat), N - i < n → i ≤ N → wY_weight_12 post (nI (100 * a + b)) (nI p) (nI (100 * b + a)) g_size g_most g_phase g_n g_open g_rings g_op g_rule g_hots g_steps g_pieces g_outs g_loops b_vx b_vy b_ring b_polyOf b_hot b_used b_step b_stepPoly b_pieceKey b_way b_out b_loop n (zi (zv_w i su st sp p a b)) (nI i)
  | 0, i, h, _ => by omega
  | n + 1, i, h, hi => by
    have ih := yw_12 Z hN hp ha hb hab k n (i + 1)
    have z1 := Z.1
    have st1 : zv_w (i + 1) su st sp p a b = zv_w i su st sp p a b + (if sp i = p then (if su i = a ∧ st i = b then 1 else 0) - (if su i = b ∧ st i = a then 1 else 0) else 0) := rfl
    unfold wY_weight_12
    rw [hN]
    refine zb_leN (by omega) (by omega) (fun w => ?_) (fun w => ?_)
    · rw [show i = N by omega]; exact k
    · obtain ⟨s1, s2, s3, s4, s5, s6⟩ := Z.2 i w
      have vi : vp_in (nI i) 300 := vp_in_nI (by omega) (by omega)
      rw [nI_clamp (show i < 2 ^ 31 by omega), s1, s2, ← hN]
      refine ⟨vi, zb_eqN (by omega) (by omega) (fun q => ⟨vi, zb_eqN (by omega) (by omega) (fun q1 => ?_) (fun q1 => ⟨vi, zb_eqN (by omega) (by omega) (fun q2 => ?_) (fun q2 => ?_)⟩)⟩) (fun q => ?_)⟩
      · refine nm_r (e' := zi (zv_w (i + 1) su st sp p a b)) ?_ (nm_r (nI_1 i) (ih (by omega) (by omega)))
        rw [st1, if_pos q, if_pos (by omega), if_neg (by omega), ← zi_add]; rfl
      · refine nm_r (e' := zi (zv_w (i + 1) su st sp p a b)) ?_ (nm_r (nI_1 i) (ih (by omega) (by omega)))
        rw [st1, if_pos q, if_neg (by omega), if_pos (by omega), ← zi_add]; rfl
      · refine nm_r (e' := zi (zv_w (i + 1) su st sp p a b)) ?_ (nm_r (nI_1 i) (ih (by omega) (by omega)))
        rw [st1, if_pos q, if_neg (by omega), if_neg (by omega), ← zi_add]; rfl
      · have e : zv_w (i + 1) su st sp p a b = zv_w i su st sp p a b := by rw [st1, if_neg q, Int.add_zero]
        rw [e] at ih
        exact nm_r (nI_1 i) (ih (by omega) (by omega))
theorem yw_weight {post : Int32 → Prop} (Z : zy_st N su st sp b_step b_stepPoly) (hN : g_steps = nI N) {p a b : Nat} (hp : p < 2) (ha : a < 100) (hb : b < 100) (hab : a ≠ b) (k : post (zi (zv_w N su st sp p a b))) : wpY_weight post (g_size, g_most, g_phase, g_n, g_open, g_rings, g_op, g_rule, g_hots, g_steps, g_pieces, g_outs, g_loops, b_vx, b_vy, b_ring, b_polyOf, b_hot, b_used, b_step, b_stepPoly, b_pieceKey, b_way, b_out, b_loop) (nI (100 * a + b)) (nI p) := by
  unfold wpY_weight
  exact yl_flip ha hb ⟨N + 1, yw_12 Z hN hp ha hb hab k (N + 1) 0 (by omega) (by omega)⟩
end
end
section
/-! the owed cases: piece -/
section
variable {f_size f_maxEdges f_phase f_op f_rule f_stored f_rings f_hotCount f_chainLen f_pieces f_halves f_stackTop f_outEdges f_outRings f_traced : Int32} {a_vertX a_vertY a_ringStart a_ringPoly a_dirX a_dirY a_edgePoly a_isHot a_chainId a_chainKey a_pieceKey a_weightA a_weightB a_org a_round a_byEnds a_cw a_lastAt a_windA a_windB a_reached a_stack a_outDir a_used a_outHalf a_ringFrom : Nat → Int32}
variable {g_size g_most g_phase g_n g_open g_rings g_op g_rule g_hots g_steps g_pieces g_outs g_loops : Int32} {b_vx b_vy b_ring b_polyOf b_hot b_used b_step b_stepPoly b_pieceKey b_way b_out b_loop : Nat → Int32}
theorem qv_piece {k : Nat} (I : i_Rel k (f_size, f_maxEdges, f_phase, f_op, f_rule, f_stored, f_rings, f_hotCount, f_chainLen, f_pieces, f_halves, f_stackTop, f_outEdges, f_outRings, f_traced, a_vertX, a_vertY, a_ringStart, a_ringPoly, a_dirX, a_dirY, a_edgePoly, a_isHot, a_chainId, a_chainKey, a_pieceKey, a_weightA, a_weightB, a_org, a_round, a_byEnds, a_cw, a_lastAt, a_windA, a_windB, a_reached, a_stack, a_outDir, a_used, a_outHalf, a_ringFrom) (g_size, g_most, g_phase, g_n, g_open, g_rings, g_op, g_rule, g_hots, g_steps, g_pieces, g_outs, g_loops, b_vx, b_vy, b_ring, b_polyOf, b_hot, b_used, b_step, b_stepPoly, b_pieceKey, b_way, b_out, b_loop)) (v1 v2 : Int32) : wpX_piece (fun r => wpY_piece (fun r' => r' = r ∧ i_Rel (k + 4) (f_size, f_maxEdges, f_phase, f_op, f_rule, f_stored, f_rings, f_hotCount, f_chainLen, f_pieces, f_halves, f_stackTop, f_outEdges, f_outRings, f_traced, a_vertX, a_vertY, a_ringStart, a_ringPoly, a_dirX, a_dirY, a_edgePoly, a_isHot, a_chainId, a_chainKey, a_pieceKey, a_weightA, a_weightB, a_org, a_round, a_byEnds, a_cw, a_lastAt, a_windA, a_windB, a_reached, a_stack, a_outDir, a_used, a_outHalf, a_ringFrom) (g_size, g_most, g_phase, g_n, g_open, g_rings, g_op, g_rule, g_hots, g_steps, g_pieces, g_outs, g_loops, b_vx, b_vy, b_ring, b_polyOf, b_hot, b_used, b_step, b_stepPoly, b_pieceKey, b_way, b_out, b_loop)) (g_size, g_most, g_phase, g_n, g_open, g_rings, g_op, g_rule, g_hots, g_steps, g_pieces, g_outs, g_loops, b_vx, b_vy, b_ring, b_polyOf, b_hot, b_used, b_step, b_stepPoly, b_pieceKey, b_way, b_out, b_loop) v1 v2) (f_size, f_maxEdges, f_phase, f_op, f_rule, f_stored, f_rings, f_hotCount, f_chainLen, f_pieces, f_halves, f_stackTop, f_outEdges, f_outRings, f_traced, a_vertX, a_vertY, a_ringStart, a_ringPoly, a_dirX, a_dirY, a_edgePoly, a_isHot, a_chainId, a_chainKey, a_pieceKey, a_weightA, a_weightB, a_org, a_round, a_byEnds, a_cw, a_lastAt, a_windA, a_windB, a_reached, a_stack, a_outDir, a_used, a_outHalf, a_ringFrom) v1 v2 := by
  have I1 : i_Rel (k + 4) (f_size, f_maxEdges, f_phase, f_op, f_rule, f_stored, f_rings, f_hotCount, f_chainLen, f_pieces, f_halves, f_stackTop, f_outEdges, f_outRings, f_traced, a_vertX, a_vertY, a_ringStart, a_ringPoly, a_dirX, a_dirY, a_edgePoly, a_isHot, a_chainId, a_chainKey, a_pieceKey, a_weightA, a_weightB, a_org, a_round, a_byEnds, a_cw, a_lastAt, a_windA, a_windB, a_reached, a_stack, a_outDir, a_used, a_outHalf, a_ringFrom) (g_size, g_most, g_phase, g_n, g_open, g_rings, g_op, g_rule, g_hots, g_steps, g_pieces, g_outs, g_loops, b_vx, b_vy, b_ring, b_polyOf, b_hot, b_used, b_step, b_stepPoly, b_pieceKey, b_way, b_out, b_loop) := i_up0 I
  obtain ⟨sz, mx, n, rg, R, X, Y, P, ⟨rfl, rfl, rfl, rfl, rfl, rfl, rfl, rfl, rfl, rfl, rfl, rfl, rfl, rfl, rfl, rfl, rfl, rfl, rfl⟩, hin, ha, hp⟩ := I
  obtain ⟨a, a1, rfl⟩ := zi_ex v1
  obtain ⟨b, b1, rfl⟩ := zi_ex v2
  unfold wpX_piece wpY_piece
  dsimp only
  refine br_c (fun h0 => br_t h0 ⟨rfl, I1⟩) (fun h0 => ?_)
  rcases hp with ⟨hp0, _⟩ | ⟨_, K, key, rd, cwf, rb, B, Sx⟩
  · exact absurd hp0 h0
  obtain ⟨e, BX, e1, e2, e3, hh, hr, hk⟩ := B
  have Z := zr_zst (zr_cl hin e) hr
  obtain ⟨A, so, hb, og, we, cw, rdd, c, IB, W⟩ := BX
  have hK : K ≤ 256 := A.2.2.2.2.2.2.2
  have Kb := zi_nb (show K < 2147483648 by omega)
  subst e1
  rw [zi_n K] at I1 ⊢
  refine zb_lt (b := 0) a1 (by omega) (fun w => br_f h0 (zb_lt (b := 0) a1 (by omega) (fun _ => ⟨rfl, I1⟩) (fun _ => by omega))) (fun w => ?_)
  refine zb_lt a1 Kb (fun w2 => ?_) (fun w2 => br_f h0 (zb_lt (b := 0) a1 (by omega) (fun _ => by omega) (fun _ => zb_le Kb a1 (fun _ => ⟨rfl, I1⟩) (fun _ => by omega))))
  refine zb_lt (b := 0) b1 (by omega) (fun w3 => br_f h0 (zb_lt (b := 0) a1 (by omega) (fun _ => by omega) (fun _ => zb_le Kb a1 (fun _ => by omega) (fun _ => zb_lt (b := 0) b1 (by omega) (fun _ => ⟨rfl, I1⟩) (fun _ => by omega))))) (fun w3 => ?_)
  refine zb_le (b := 10) b1 (by omega) (fun w4 => ?_) (fun w4 => br_f h0 (zb_lt (b := 0) a1 (by omega) (fun _ => by omega) (fun _ => zb_le Kb a1 (fun _ => by omega) (fun _ => zb_lt (b := 0) b1 (by omega) (fun _ => by omega) (fun _ => zb_le (b := 10) b1 (by omega) (fun _ => by omega) (fun _ => ⟨rfl, I1⟩))))))
  obtain ⟨pi, rfl⟩ : ∃ i : Nat, a = i := ⟨a.toNat, by omega⟩
  obtain ⟨d, rfl⟩ : ∃ i : Nat, b = i := ⟨b.toNat, by omega⟩
  have hpi : pi < K := by omega
  rw [← zi_n K] at I1 ⊢
  rw [← zi_n pi, ← zi_n d]
  have ytp : ∀ {A B : Prop}, B → (nI K ≤ nI pi → A) ∧ (¬ nI K ≤ nI pi → B) := fun x => zb_leN (by omega) (by omega) (fun _ => by omega) (fun _ => x)
  have sk := so.1 pi hpi
  have nc := za_nc A (show 2 * pi < 2 * K by omega)
  rw [zt_e, zx_og_e, zx_og_o] at nc
  have m2 : (2 : Int32) * nI pi = nI (2 * pi) := zb_mul 2 pi
  have c0 : (nI pi).toNatClampNeg = pi := nI_clamp (by omega)
  have o1 : a_org (2 * pi) = nI (key pi / 100) := by rw [og _ (by omega), zx_og_e]
  have o2 : a_org (2 * pi + 1) = nI (key pi % 100) := by rw [og _ (by omega), zx_og_o]
  have wt := we pi hpi
  have w0 := W (2 * pi) (by omega)
  have w1 := W (2 * pi + 1) (by omega)
  rw [zt_e, zx_og_e, zx_og_o] at w0
  rw [zt_o, zx_og_e, zx_og_o] at w1
  have pk : b_pieceKey pi = nI (100 * (key pi / 100) + key pi % 100) := by rw [hk pi hpi, show 100 * (key pi / 100) + key pi % 100 = key pi by omega]
  rw [m2, nI_1 (2 * pi), nI_clamp (show 2 * pi < 2 ^ 31 by omega), nI_clamp (show 2 * pi + 1 < 2 ^ 31 by omega), c0, o1, o2]
  have v1 : vp_in (nI (2 * pi)) 512 := vp_in_nI (by omega) (by omega)
  have v2 : vp_in (nI (2 * pi + 1)) 512 := vp_in_nI (by omega) (by omega)
  have v256 : vp_in (nI pi) 256 := vp_in_nI (by omega) (by omega)
  have v300 : vp_in (nI pi) 300 := vp_in_nI (by omega) (by omega)
  have t10 : (10 : Int32) ≠ 0 := by decide
  have odp : g_phase = 2 → a_outDir pi = zi (zn_dir (ze_N X Y R P rg n) (ze_su X Y R P rg n) (ze_st X Y R P rg n) (ze_sp X Y R P rg n) g_op g_rule (key pi / 100) (key pi % 100)) := by
    intro z
    obtain ⟨M, oh, nx, Q, F, oI, S⟩ := Sx z
    have := S.2.2.2.2.2.2.2.1 pi hpi
    rw [zx_og_e, zx_og_o] at this
    exact this
  rcases (show d = 0 ∨ d = 1 ∨ d = 2 ∨ d = 3 ∨ d = 4 ∨ d = 5 ∨ d = 6 ∨ d = 7 ∨ d = 8 ∨ d = 9 ∨ d = 10 by omega) with rfl | rfl | rfl | rfl | rfl | rfl | rfl | rfl | rfl | rfl | rfl
  · refine br_f (by decide) (br_f (by decide) (br_t (by decide) ⟨v1, t10, br_f h0 (zb_ltN (b := 0) (by omega) (by omega) (fun _ => by omega) (fun _ => ytp (br_f (by decide) (br_t (by decide) (br_f (by decide) ?_)))))⟩))
    unfold wY_piece_55
    rw [c0, pk]
    refine ⟨v300, nm_e ?_⟩
    refine br_f (by decide) (br_t (by decide) ⟨by decide, ?_⟩)
    rw [show (10 : Int32) = nI 10 from rfl, show (1000 : Int32) = nI 1000 from rfl, zb_div (by omega) (by omega) (by omega), zb_div (by omega) (by omega) (by omega), show (100 * (key pi / 100) + key pi % 100) / 1000 = key pi / 100 / 10 by omega]
    exact ⟨rfl, I1⟩
  · refine br_f (by decide) (br_f (by decide) (br_f (by decide) (br_t (by decide) ⟨v1, t10, br_f h0 (zb_ltN (b := 0) (by omega) (by omega) (fun _ => by omega) (fun _ => ytp (br_f (by decide) (br_t (by decide) (br_f (by decide) ?_)))))⟩)))
    unfold wY_piece_55
    rw [c0, pk]
    refine ⟨v300, nm_e ?_⟩
    refine br_f (by decide) (br_f (by decide) ⟨by decide, by decide, ?_⟩)
    rw [show (10 : Int32) = nI 10 from rfl, show (100 : Int32) = nI 100 from rfl, zb_rem (a := key pi / 100) (by omega) (by omega) (by omega), zb_div (a := 100 * (key pi / 100) + key pi % 100) (by omega) (by omega) (by omega), zb_rem (by omega) (by omega) (by omega), show (100 * (key pi / 100) + key pi % 100) / 100 % 10 = key pi / 100 % 10 by omega]
    exact ⟨rfl, I1⟩
  · refine br_f (by decide) (br_f (by decide) (br_f (by decide) (br_f (by decide) (br_t (by decide) ⟨v2, t10, br_f h0 (zb_ltN (b := 0) (by omega) (by omega) (fun _ => by omega) (fun _ => ytp (br_f (by decide) (br_t (by decide) (br_f (by decide) ?_)))))⟩))))
    unfold wY_piece_55
    rw [c0, pk]
    refine ⟨v300, nm_e ?_⟩
    refine br_t (by decide) (br_f (by decide) (br_t (by decide) ⟨by decide, by decide, ?_⟩))
    rw [show (10 : Int32) = nI 10 from rfl, zb_div (a := key pi % 100) (by omega) (by omega) (by omega), zb_div (a := 100 * (key pi / 100) + key pi % 100) (by omega) (by omega) (by omega), zb_rem (by omega) (by omega) (by omega), show (100 * (key pi / 100) + key pi % 100) / 10 % 10 = key pi % 100 / 10 by omega]
    exact ⟨rfl, I1⟩
  · refine br_f (by decide) (br_f (by decide) (br_f (by decide) (br_f (by decide) (br_f (by decide) (br_t (by decide) ⟨v2, t10, br_f h0 (zb_ltN (b := 0) (by omega) (by omega) (fun _ => by omega) (fun _ => ytp (br_f (by decide) (br_t (by decide) (br_f (by decide) ?_)))))⟩)))))
    unfold wY_piece_55
    rw [c0, pk]
    refine ⟨v300, nm_e ?_⟩
    refine br_t (by decide) (br_f (by decide) (br_f (by decide) ⟨by decide, ?_⟩))
    rw [show (10 : Int32) = nI 10 from rfl, zb_rem (a := key pi % 100) (by omega) (by omega) (by omega), zb_rem (by omega) (by omega) (by omega), show (100 * (key pi / 100) + key pi % 100) % 10 = key pi % 100 % 10 by omega]
    exact ⟨rfl, I1⟩
  · rw [wt.1]
    refine br_f (by decide) (br_f (by decide) (br_f (by decide) (br_f (by decide) (br_f (by decide) (br_f (by decide) (br_t (by decide) ⟨v256, br_f h0 (zb_ltN (b := 0) (by omega) (by omega) (fun _ => by omega) (fun _ => ytp (br_f (by decide) (br_t (by decide) (br_f (by decide) ?_)))))⟩))))))
    unfold wY_piece_55
    rw [c0, pk]
    refine ⟨v300, nm_e ?_⟩
    refine br_t (by decide) (br_t (by decide) (br_f (by decide) ?_))
    rw [show nI 4 - 4 = nI 0 from rfl]
    exact yw_weight (p := 0) Z e3 (by omega) (by omega) (by omega) (by omega) ⟨rfl, I1⟩
  · rw [wt.2]
    refine br_f (by decide) (br_f (by decide) (br_f (by decide) (br_f (by decide) (br_f (by decide) (br_f (by decide) (br_f (by decide) (br_t (by decide) ⟨v256, br_f h0 (zb_ltN (b := 0) (by omega) (by omega) (fun _ => by omega) (fun _ => ytp (br_f (by decide) (br_t (by decide) (br_f (by decide) ?_)))))⟩)))))))
    unfold wY_piece_55
    rw [c0, pk]
    refine ⟨v300, nm_e ?_⟩
    refine br_t (by decide) (br_t (by decide) (br_f (by decide) ?_))
    rw [show nI 5 - 4 = nI 1 from rfl]
    exact yw_weight (p := 1) Z e3 (by omega) (by omega) (by omega) (by omega) ⟨rfl, I1⟩
  · rw [w0.1]
    refine br_f (by decide) (br_f (by decide) (br_f (by decide) (br_f (by decide) (br_f (by decide) (br_f (by decide) (br_f (by decide) (br_f (by decide) (br_t (by decide) ⟨v1, br_f h0 (zb_ltN (b := 0) (by omega) (by omega) (fun _ => by omega) (fun _ => ytp (br_f (by decide) (br_t (by decide) (br_f (by decide) ?_)))))⟩))))))))
    unfold wY_piece_55
    rw [c0, pk]
    refine ⟨v300, nm_e ?_⟩
    refine br_t (by decide) (br_t (by decide) (br_t (by decide) (br_f (by decide) ?_)))
    rw [show nI 6 - 6 = (0 : Int32) from rfl]
    exact yw_s01 Z e3 nc ⟨rfl, I1⟩
  · rw [w0.2]
    refine br_f (by decide) (br_f (by decide) (br_f (by decide) (br_f (by decide) (br_f (by decide) (br_f (by decide) (br_f (by decide) (br_f (by decide) (br_f (by decide) (br_t (by decide) ⟨v1, br_f h0 (zb_ltN (b := 0) (by omega) (by omega) (fun _ => by omega) (fun _ => ytp (br_f (by decide) (br_t (by decide) (br_f (by decide) ?_)))))⟩)))))))))
    unfold wY_piece_55
    rw [c0, pk]
    refine ⟨v300, nm_e ?_⟩
    refine br_t (by decide) (br_t (by decide) (br_t (by decide) (br_f (by decide) ?_)))
    rw [show nI 7 - 6 = (1 : Int32) from rfl]
    exact yw_s11 Z e3 nc ⟨rfl, I1⟩
  · rw [w1.1]
    refine br_f (by decide) (br_f (by decide) (br_f (by decide) (br_f (by decide) (br_f (by decide) (br_f (by decide) (br_f (by decide) (br_f (by decide) (br_f (by decide) (br_f (by decide) (br_t (by decide) ⟨v2, br_f h0 (zb_ltN (b := 0) (by omega) (by omega) (fun _ => by omega) (fun _ => ytp (br_f (by decide) (br_t (by decide) (br_f (by decide) ?_)))))⟩))))))))))
    unfold wY_piece_55
    rw [c0, pk]
    refine ⟨v300, nm_e ?_⟩
    refine br_t (by decide) (br_t (by decide) (br_t (by decide) (br_t (by decide) (br_f (by decide) ?_))))
    rw [show nI 8 - 8 = (0 : Int32) from rfl]
    exact yw_s0m Z e3 nc ⟨rfl, I1⟩
  · rw [w1.2]
    refine br_f (by decide) (br_f (by decide) (br_f (by decide) (br_f (by decide) (br_f (by decide) (br_f (by decide) (br_f (by decide) (br_f (by decide) (br_f (by decide) (br_f (by decide) (br_f (by decide) (br_t (by decide) ⟨v2, br_f h0 (zb_ltN (b := 0) (by omega) (by omega) (fun _ => by omega) (fun _ => ytp (br_f (by decide) (br_t (by decide) (br_f (by decide) ?_)))))⟩)))))))))))
    unfold wY_piece_55
    rw [c0, pk]
    refine ⟨v300, nm_e ?_⟩
    refine br_t (by decide) (br_t (by decide) (br_t (by decide) (br_t (by decide) (br_f (by decide) ?_))))
    rw [show nI 9 - 8 = (1 : Int32) from rfl]
    exact yw_s1m Z e3 nc ⟨rfl, I1⟩
  · refine br_f (by decide) (br_t (by decide) (br_c (fun z2 => ⟨v256, br_f h0 (zb_ltN (b := 0) (by omega) (by omega) (fun _ => by omega) (fun _ => ytp (br_f (by decide) (br_t (by decide) (br_t (by decide) (br_t z2 ?_))))))⟩) (fun z2 => br_f h0 (zb_ltN (b := 0) (by omega) (by omega) (fun _ => by omega) (fun _ => ytp (br_f (by decide) (br_t (by decide) (br_t (by decide) (br_f z2 ⟨rfl, I1⟩)))))))))
    unfold wY_piece_55
    rw [c0, pk]
    refine ⟨v300, nm_e ?_⟩
    refine br_t (by decide) (br_t (by decide) (br_t (by decide) (br_t (by decide) (br_t (by decide) ?_))))
    rw [odp z2]
    exact yw_dir Z e3 nc ⟨rfl, I1⟩
end
end
section
/-! points -/
section
variable {f_size f_maxEdges f_phase f_op f_rule f_stored f_rings f_hotCount f_chainLen f_pieces f_halves f_stackTop f_outEdges f_outRings f_traced : Int32} {a_vertX a_vertY a_ringStart a_ringPoly a_dirX a_dirY a_edgePoly a_isHot a_chainId a_chainKey a_pieceKey a_weightA a_weightB a_org a_round a_byEnds a_cw a_lastAt a_windA a_windB a_reached a_stack a_outDir a_used a_outHalf a_ringFrom : Nat → Int32}
variable {g_size g_most g_phase g_n g_open g_rings g_op g_rule g_hots g_steps g_pieces g_outs g_loops : Int32} {b_vx b_vy b_ring b_polyOf b_hot b_used b_step b_stepPoly b_pieceKey b_way b_out b_loop : Nat → Int32}
variable {N K : Nat} {su st sp key : Nat → Nat}
theorem zq_on (A : zr_A N K su st sp (zx_og key)) (h4 : ∀ p, p < K → ∃ i, i < N ∧ key p = zq_k (su i) (st i)) {S q1 q2 : Int} : (∃ p, p < K ∧ zw_on S q1 q2 (zx_og key (2 * p)) (zx_og key (2 * p + 1))) ↔ ∃ s, s < N ∧ zw_on S q1 q2 (su s) (st s) := by
  constructor
  · rintro ⟨p, hp, h⟩
    obtain ⟨i, hi, e⟩ := h4 p hp
    have ok := A.1 i hi
    rw [zx_og_e, zx_og_o, e] at h
    refine ⟨i, hi, ?_⟩
    unfold zq_k at h
    split at h
    · rw [show (100 * su i + st i) / 100 = su i by omega, show (100 * su i + st i) % 100 = st i by omega] at h; exact h
    · rw [show (100 * st i + su i) / 100 = st i by omega, show (100 * st i + su i) % 100 = su i by omega] at h; exact zw_on_sw h
  · rintro ⟨s, hs, h⟩
    obtain ⟨p, hp, e⟩ := A.2.2.2.2.1 s hs
    refine ⟨p, hp, ?_⟩
    rcases e with ⟨x, y⟩ | ⟨x, y⟩
    · rw [← x, ← y]; exact h
    · rw [← x, ← y]; exact zw_on_sw h
theorem xq_on {post : Int32 → Prop} (A : zr_A N K su st sp (zx_og key)) (hO : ∀ h, h < 2 * K → a_org h = nI (zx_og key h)) (hp : f_pieces = nI K) (h4 : ∀ p, p < K → ∃ i, i < N ∧ key p = zq_k (su i) (st i)) {px py : Int} (bx : 0 ≤ px ∧ px ≤ 144) (bz : 0 ≤ py ∧ py ≤ 144)
    (k1 : (∃ s, s < N ∧ zw_on 16 px py (su s) (st s)) → post 1) (k0 : (∀ s, s < N → ¬ zw_on 16 px py (su s) (st s)) → post 0) : wpX_onPiece post (f_size, f_maxEdges, f_phase, f_op, f_rule, f_stored, f_rings, f_hotCount, f_chainLen, f_pieces, f_halves, f_stackTop, f_outEdges, f_outRings, f_traced, a_vertX, a_vertY, a_ringStart, a_ringPoly, a_dirX, a_dirY, a_edgePoly, a_isHot, a_chainId, a_chainKey, a_pieceKey, a_weightA, a_weightB, a_org, a_round, a_byEnds, a_cw, a_lastAt, a_windA, a_windB, a_reached, a_stack, a_outDir, a_used, a_outHalf, a_ringFrom) (zi px) (zi py) := by
  refine xn_on (og := zx_og key) (K := K) ⟨A.2.2.2.2.2.2.2, fun h hh => ⟨hO h hh, A.2.2.1 h hh⟩⟩ hp (by omega) (by omega) (fun w => k1 ((zq_on A h4).mp w)) (fun w => k0 (fun s hs q => ?_))
  obtain ⟨p, hp', h⟩ := (zq_on A h4).mpr ⟨s, hs, q⟩
  exact w p hp' h
theorem xq_loc {post : Int32 → Prop} (A : zr_A N K su st sp (zx_og key)) (hO : ∀ h, h < 2 * K → a_org h = nI (zx_og key h)) (hp : f_pieces = nI K) {px py : Int} (bx : 0 ≤ px ∧ px ≤ 144) (bz : 0 ≤ py ∧ py ≤ 144) (hn : ∀ s, s < N → ¬ zw_on 16 px py (su s) (st s))
    (k1 : (∀ q, zv_W N su st sp q 16 px py = 0) → post (-1)) (k0 : ∀ h, h < 2 * K → (∀ q, zv_W N su st sp q 16 px py = zv_L N su st sp q (zx_og key h) (zx_og key (zt h))) → post (nI h)) : wpX_locate post (f_size, f_maxEdges, f_phase, f_op, f_rule, f_stored, f_rings, f_hotCount, f_chainLen, f_pieces, f_halves, f_stackTop, f_outEdges, f_outRings, f_traced, a_vertX, a_vertY, a_ringStart, a_ringPoly, a_dirX, a_dirY, a_edgePoly, a_isHot, a_chainId, a_chainKey, a_pieceKey, a_weightA, a_weightB, a_org, a_round, a_byEnds, a_cw, a_lastAt, a_windA, a_windB, a_reached, a_stack, a_outDir, a_used, a_outHalf, a_ringFrom) (zi px) (zi py) := by
  have ew : ∀ q, zv_W N su st sp q 16 px py = zl_W N su st sp q 16 px py := zl_EW A.2.1 (fun s hs h hc => hn s hs (zo_span (by omega) h hc))
  refine xg_loc (og := zx_og key) (K := K) ⟨A.2.2.2.2.2.2.2, fun h hh => ⟨hO h hh, A.2.2.1 h hh⟩⟩ A.2.2.2.1 hp (by omega) (by omega) (fun b hb => ?_)
  rcases zf_loc A hb with ⟨z1, z2⟩ | ⟨c', z1, z2, z3, z4⟩
  · rw [z1]; exact k1 (fun q => (ew q).trans (z2 q))
  · rw [z3]; exact k0 _ (zx_dn_lt z1) (fun q => (ew q).trans (z4 q))
theorem zq_fr {sz : Nat} (h : 4 ≤ sz ∧ sz ≤ 10) : (16 : Int32) * (nI sz - 1) = zi (16 * ((sz : Int) - 1)) := by
  rw [zi_n, show (1 : Int32) = zi 1 from rfl, show (16 : Int32) = zi 16 from rfl, zi_sub, zi_mul]
theorem xq_fr {post : Int32 → Prop} {sz : Nat} (hs : f_size = nI sz) (h : 4 ≤ sz ∧ sz ≤ 10) {p q : Int} (hp : -2147483648 ≤ p ∧ p < 2147483648) (hq : -2147483648 ≤ q ∧ q < 2147483648) (k0 : (p < 0 ∨ q < 0 ∨ 16 * ((sz : Int) - 1) < p ∨ 16 * ((sz : Int) - 1) < q) → post 0) (k1 : (0 ≤ p ∧ p ≤ 16 * ((sz : Int) - 1) ∧ 0 ≤ q ∧ q ≤ 16 * ((sz : Int) - 1)) → post 1) : wpX_inFrame post (f_size, f_maxEdges, f_phase, f_op, f_rule, f_stored, f_rings, f_hotCount, f_chainLen, f_pieces, f_halves, f_stackTop, f_outEdges, f_outRings, f_traced, a_vertX, a_vertY, a_ringStart, a_ringPoly, a_dirX, a_dirY, a_edgePoly, a_isHot, a_chainId, a_chainKey, a_pieceKey, a_weightA, a_weightB, a_org, a_round, a_byEnds, a_cw, a_lastAt, a_windA, a_windB, a_reached, a_stack, a_outDir, a_used, a_outHalf, a_ringFrom) (zi p) (zi q) := by
  unfold wpX_inFrame
  dsimp only
  rw [hs, zq_fr h]
  refine nm_e ?_
  exact zb_lt (b := 0) hp (by omega) (fun _ => k0 (by omega)) (fun _ => zb_lt (by omega) hp (fun _ => k0 (by omega)) (fun _ => zb_lt (b := 0) hq (by omega) (fun _ => k0 (by omega)) (fun _ => zb_lt (by omega) hq (fun _ => k0 (by omega)) (fun _ => k1 (by omega)))))
theorem yq_out {sz : Nat} (h : 4 ≤ sz ∧ sz ≤ 10) {p q : Int} (hp : -2147483648 ≤ p ∧ p < 2147483648) (hq : -2147483648 ≤ q ∧ q < 2147483648) (w : p < 0 ∨ q < 0 ∨ 16 * ((sz : Int) - 1) < p ∨ 16 * ((sz : Int) - 1) < q) {G D : Prop} (g : G) :
    (zi p < 0 → G) ∧ (¬ zi p < 0 → (zi q < 0 → G) ∧ (¬ zi q < 0 → (16 * (nI sz - 1) < zi p → G) ∧ (¬ 16 * (nI sz - 1) < zi p → (zi q ≤ 16 * (nI sz - 1) → D) ∧ (¬ zi q ≤ 16 * (nI sz - 1) → G)))) := by
  rw [zq_fr h]
  exact zb_lt (b := 0) hp (by omega) (fun _ => g) (fun _ => zb_lt (b := 0) hq (by omega) (fun _ => g) (fun _ => zb_lt (by omega) hp (fun _ => g) (fun _ => zb_le hq (by omega) (fun _ => by omega) (fun _ => g))))
theorem yq_inn {sz : Nat} (h : 4 ≤ sz ∧ sz ≤ 10) {p q : Int} (hp : -2147483648 ≤ p ∧ p < 2147483648) (hq : -2147483648 ≤ q ∧ q < 2147483648) (w : 0 ≤ p ∧ p ≤ 16 * ((sz : Int) - 1) ∧ 0 ≤ q ∧ q ≤ 16 * ((sz : Int) - 1)) {G D : Prop} (g : D) :
    (zi p < 0 → G) ∧ (¬ zi p < 0 → (zi q < 0 → G) ∧ (¬ zi q < 0 → (16 * (nI sz - 1) < zi p → G) ∧ (¬ 16 * (nI sz - 1) < zi p → (zi q ≤ 16 * (nI sz - 1) → D) ∧ (¬ zi q ≤ 16 * (nI sz - 1) → G)))) := by
  rw [zq_fr h]
  exact zb_lt (b := 0) hp (by omega) (fun _ => by omega) (fun _ => zb_lt (b := 0) hq (by omega) (fun _ => by omega) (fun _ => zb_lt (by omega) hp (fun _ => by omega) (fun _ => zb_le hq (by omega) (fun _ => g) (fun _ => by omega))))
theorem qv_winding {k : Nat} (I : i_Rel k (f_size, f_maxEdges, f_phase, f_op, f_rule, f_stored, f_rings, f_hotCount, f_chainLen, f_pieces, f_halves, f_stackTop, f_outEdges, f_outRings, f_traced, a_vertX, a_vertY, a_ringStart, a_ringPoly, a_dirX, a_dirY, a_edgePoly, a_isHot, a_chainId, a_chainKey, a_pieceKey, a_weightA, a_weightB, a_org, a_round, a_byEnds, a_cw, a_lastAt, a_windA, a_windB, a_reached, a_stack, a_outDir, a_used, a_outHalf, a_ringFrom) (g_size, g_most, g_phase, g_n, g_open, g_rings, g_op, g_rule, g_hots, g_steps, g_pieces, g_outs, g_loops, b_vx, b_vy, b_ring, b_polyOf, b_hot, b_used, b_step, b_stepPoly, b_pieceKey, b_way, b_out, b_loop)) (v1 v2 v3 : Int32) : wpX_winding (fun r => wpY_winding (fun r' => r' = r ∧ i_Rel (k + 4) (f_size, f_maxEdges, f_phase, f_op, f_rule, f_stored, f_rings, f_hotCount, f_chainLen, f_pieces, f_halves, f_stackTop, f_outEdges, f_outRings, f_traced, a_vertX, a_vertY, a_ringStart, a_ringPoly, a_dirX, a_dirY, a_edgePoly, a_isHot, a_chainId, a_chainKey, a_pieceKey, a_weightA, a_weightB, a_org, a_round, a_byEnds, a_cw, a_lastAt, a_windA, a_windB, a_reached, a_stack, a_outDir, a_used, a_outHalf, a_ringFrom) (g_size, g_most, g_phase, g_n, g_open, g_rings, g_op, g_rule, g_hots, g_steps, g_pieces, g_outs, g_loops, b_vx, b_vy, b_ring, b_polyOf, b_hot, b_used, b_step, b_stepPoly, b_pieceKey, b_way, b_out, b_loop)) (g_size, g_most, g_phase, g_n, g_open, g_rings, g_op, g_rule, g_hots, g_steps, g_pieces, g_outs, g_loops, b_vx, b_vy, b_ring, b_polyOf, b_hot, b_used, b_step, b_stepPoly, b_pieceKey, b_way, b_out, b_loop) v1 v2 v3) (f_size, f_maxEdges, f_phase, f_op, f_rule, f_stored, f_rings, f_hotCount, f_chainLen, f_pieces, f_halves, f_stackTop, f_outEdges, f_outRings, f_traced, a_vertX, a_vertY, a_ringStart, a_ringPoly, a_dirX, a_dirY, a_edgePoly, a_isHot, a_chainId, a_chainKey, a_pieceKey, a_weightA, a_weightB, a_org, a_round, a_byEnds, a_cw, a_lastAt, a_windA, a_windB, a_reached, a_stack, a_outDir, a_used, a_outHalf, a_ringFrom) v1 v2 v3 := by
  have I1 : i_Rel (k + 4) (f_size, f_maxEdges, f_phase, f_op, f_rule, f_stored, f_rings, f_hotCount, f_chainLen, f_pieces, f_halves, f_stackTop, f_outEdges, f_outRings, f_traced, a_vertX, a_vertY, a_ringStart, a_ringPoly, a_dirX, a_dirY, a_edgePoly, a_isHot, a_chainId, a_chainKey, a_pieceKey, a_weightA, a_weightB, a_org, a_round, a_byEnds, a_cw, a_lastAt, a_windA, a_windB, a_reached, a_stack, a_outDir, a_used, a_outHalf, a_ringFrom) (g_size, g_most, g_phase, g_n, g_open, g_rings, g_op, g_rule, g_hots, g_steps, g_pieces, g_outs, g_loops, b_vx, b_vy, b_ring, b_polyOf, b_hot, b_used, b_step, b_stepPoly, b_pieceKey, b_way, b_out, b_loop) := i_up0 I
  obtain ⟨sz, mx, n, rg, R, X, Y, P, ⟨rfl, rfl, rfl, rfl, rfl, rfl, rfl, rfl, rfl, rfl, rfl, rfl, rfl, rfl, rfl, rfl, rfl, rfl, rfl⟩, hin, ha, hp⟩ := I
  obtain ⟨a, a1, rfl⟩ := zi_ex v1
  obtain ⟨p, p1, rfl⟩ := zi_ex v2
  obtain ⟨q, q1, rfl⟩ := zi_ex v3
  have hz : 4 ≤ sz ∧ sz ≤ 10 := ⟨hin.1.1, hin.1.2.1⟩
  unfold wpX_winding wpY_winding
  dsimp only
  refine br_c (fun h0 => br_t h0 ⟨rfl, I1⟩) (fun h0 => ?_)
  by_cases w : ¬ (0 ≤ a ∧ a ≤ 1)
  · exact zb_eq (b := 0) a1 (by omega) (fun _ => by omega) (fun _ => zb_eq (b := 1) a1 (by omega) (fun _ => by omega) (fun _ => br_f h0 (zb_lt (b := 0) a1 (by omega) (fun _ => ⟨rfl, I1⟩) (fun _ => zb_le (b := 1) a1 (by omega) (fun _ => by omega) (fun _ => ⟨rfl, I1⟩)))))
  have w' := Classical.not_not.mp w
  refine zb_01 w'.1 w'.2 ?_
  obtain ⟨po, rfl⟩ : ∃ i : Nat, a = i := ⟨a.toNat, by omega⟩
  have po2 : po < 2 := by omega
  have yt : ∀ {A B D : Prop}, D → (zi (po : Int) < 0 → A) ∧ (¬ zi (po : Int) < 0 → (zi (po : Int) ≤ 1 → D) ∧ (¬ zi (po : Int) ≤ 1 → B)) := fun x => zb_lt (b := 0) a1 (by omega) (fun _ => by omega) (fun _ => zb_le (b := 1) a1 (by omega) (fun _ => x) (fun _ => by omega))
  rcases hp with ⟨hp0, _⟩ | ⟨_, K, key, rd, cwf, rb, B, Sx⟩
  · exact absurd hp0 h0
  obtain ⟨e, BX, e1, e2, e3, hh, hr, hk⟩ := B
  have Z := zr_zst (zr_cl hin e) hr
  obtain ⟨A, so, hb, og, we, cw, rdd, c, IB, W⟩ := BX
  have hK : K ≤ 256 := A.2.2.2.2.2.2.2
  unfold wX_winding_24
  refine xq_fr rfl hz p1 q1 (fun o => br_t rfl (br_f h0 (yt (yq_out hz p1 q1 o ⟨rfl, I1⟩)))) (fun o => br_f (by decide) ?_)
  refine xq_on A og e1 so.2.2.2.1 (by omega) (by omega) (fun on => br_f (by decide) (br_f h0 (yt (yq_inn hz p1 q1 o ?_)))) (fun no => br_t rfl ?_)
  · rw [← zi_n]
    exact yw_wind (S := 16) Z e3 po2 (by omega) (by omega) (by omega) (fun _ => ⟨rfl, I1⟩) (fun z => absurd on (fun ⟨s, hs, x⟩ => z s hs x))
  · refine xq_loc A og e1 (by omega) (by omega) no (fun z => br_f (by decide) (br_f h0 (yt (yq_inn hz p1 q1 o ?_)))) (fun h hh2 z => ?_)
    · rw [← zi_n]
      refine yw_wind (S := 16) Z e3 po2 (by omega) (by omega) (by omega) (fun on => absurd on (fun ⟨s, hs, x⟩ => no s hs x)) (fun _ => ⟨?_, I1⟩)
      rw [z]; rfl
    · rw [nI_clamp (show h < 2 ^ 31 by omega)]
      have vh : vp_in (nI h) 512 := vp_in_nI (by omega) (by omega)
      refine br_t (nI_le (a := 0) (by omega) (by omega)) (zb_eq (b := 0) a1 (by omega) (fun x0 => ⟨vh, br_f h0 (yt (yq_inn hz p1 q1 o ?_))⟩) (fun x0 => ⟨vh, br_f h0 (yt (yq_inn hz p1 q1 o ?_))⟩))
      · have x0' : po = 0 := by omega
        subst x0'
        rw [← zi_n]
        refine yw_wind (S := 16) Z e3 po2 (by omega) (by omega) (by omega) (fun on => absurd on (fun ⟨s, hs, x⟩ => no s hs x)) (fun _ => ⟨?_, I1⟩)
        rw [z, (W h hh2).1]
      · have x0' : po = 1 := by omega
        subst x0'
        rw [← zi_n]
        refine yw_wind (S := 16) Z e3 po2 (by omega) (by omega) (by omega) (fun on => absurd on (fun ⟨s, hs, x⟩ => no s hs x)) (fun _ => ⟨?_, I1⟩)
        rw [z, (W h hh2).2]
end
end
section
/-! the owed cases: inside -/
theorem zn_in00 (op rule : Int32) : zn_in op rule 0 0 = 0 := by
  have f : zn_fl rule 0 = 0 := by
    unfold zn_fl
    split
    · rfl
    · rfl
  unfold zn_in
  rw [f]
  unfold zn_op
  split
  · rfl
  · split
    · rfl
    · split
      · rfl
      · rfl
section
variable {f_size f_maxEdges f_phase f_op f_rule f_stored f_rings f_hotCount f_chainLen f_pieces f_halves f_stackTop f_outEdges f_outRings f_traced : Int32} {a_vertX a_vertY a_ringStart a_ringPoly a_dirX a_dirY a_edgePoly a_isHot a_chainId a_chainKey a_pieceKey a_weightA a_weightB a_org a_round a_byEnds a_cw a_lastAt a_windA a_windB a_reached a_stack a_outDir a_used a_outHalf a_ringFrom : Nat → Int32}
variable {g_size g_most g_phase g_n g_open g_rings g_op g_rule g_hots g_steps g_pieces g_outs g_loops : Int32} {b_vx b_vy b_ring b_polyOf b_hot b_used b_step b_stepPoly b_pieceKey b_way b_out b_loop : Nat → Int32}
theorem qv_inside {k : Nat} (I : i_Rel k (f_size, f_maxEdges, f_phase, f_op, f_rule, f_stored, f_rings, f_hotCount, f_chainLen, f_pieces, f_halves, f_stackTop, f_outEdges, f_outRings, f_traced, a_vertX, a_vertY, a_ringStart, a_ringPoly, a_dirX, a_dirY, a_edgePoly, a_isHot, a_chainId, a_chainKey, a_pieceKey, a_weightA, a_weightB, a_org, a_round, a_byEnds, a_cw, a_lastAt, a_windA, a_windB, a_reached, a_stack, a_outDir, a_used, a_outHalf, a_ringFrom) (g_size, g_most, g_phase, g_n, g_open, g_rings, g_op, g_rule, g_hots, g_steps, g_pieces, g_outs, g_loops, b_vx, b_vy, b_ring, b_polyOf, b_hot, b_used, b_step, b_stepPoly, b_pieceKey, b_way, b_out, b_loop)) (v2 v3 : Int32) : wpX_inside (fun r => wpY_inside (fun r' => r' = r ∧ i_Rel (k + 4) (f_size, f_maxEdges, f_phase, f_op, f_rule, f_stored, f_rings, f_hotCount, f_chainLen, f_pieces, f_halves, f_stackTop, f_outEdges, f_outRings, f_traced, a_vertX, a_vertY, a_ringStart, a_ringPoly, a_dirX, a_dirY, a_edgePoly, a_isHot, a_chainId, a_chainKey, a_pieceKey, a_weightA, a_weightB, a_org, a_round, a_byEnds, a_cw, a_lastAt, a_windA, a_windB, a_reached, a_stack, a_outDir, a_used, a_outHalf, a_ringFrom) (g_size, g_most, g_phase, g_n, g_open, g_rings, g_op, g_rule, g_hots, g_steps, g_pieces, g_outs, g_loops, b_vx, b_vy, b_ring, b_polyOf, b_hot, b_used, b_step, b_stepPoly, b_pieceKey, b_way, b_out, b_loop)) (g_size, g_most, g_phase, g_n, g_open, g_rings, g_op, g_rule, g_hots, g_steps, g_pieces, g_outs, g_loops, b_vx, b_vy, b_ring, b_polyOf, b_hot, b_used, b_step, b_stepPoly, b_pieceKey, b_way, b_out, b_loop) v2 v3) (f_size, f_maxEdges, f_phase, f_op, f_rule, f_stored, f_rings, f_hotCount, f_chainLen, f_pieces, f_halves, f_stackTop, f_outEdges, f_outRings, f_traced, a_vertX, a_vertY, a_ringStart, a_ringPoly, a_dirX, a_dirY, a_edgePoly, a_isHot, a_chainId, a_chainKey, a_pieceKey, a_weightA, a_weightB, a_org, a_round, a_byEnds, a_cw, a_lastAt, a_windA, a_windB, a_reached, a_stack, a_outDir, a_used, a_outHalf, a_ringFrom) v2 v3 := by
  have I1 : i_Rel (k + 4) (f_size, f_maxEdges, f_phase, f_op, f_rule, f_stored, f_rings, f_hotCount, f_chainLen, f_pieces, f_halves, f_stackTop, f_outEdges, f_outRings, f_traced, a_vertX, a_vertY, a_ringStart, a_ringPoly, a_dirX, a_dirY, a_edgePoly, a_isHot, a_chainId, a_chainKey, a_pieceKey, a_weightA, a_weightB, a_org, a_round, a_byEnds, a_cw, a_lastAt, a_windA, a_windB, a_reached, a_stack, a_outDir, a_used, a_outHalf, a_ringFrom) (g_size, g_most, g_phase, g_n, g_open, g_rings, g_op, g_rule, g_hots, g_steps, g_pieces, g_outs, g_loops, b_vx, b_vy, b_ring, b_polyOf, b_hot, b_used, b_step, b_stepPoly, b_pieceKey, b_way, b_out, b_loop) := i_up0 I
  obtain ⟨sz, mx, n, rg, R, X, Y, P, ⟨rfl, rfl, rfl, rfl, rfl, rfl, rfl, rfl, rfl, rfl, rfl, rfl, rfl, rfl, rfl, rfl, rfl, rfl, rfl⟩, hin, ha, hp⟩ := I
  obtain ⟨p, p1, rfl⟩ := zi_ex v2
  obtain ⟨q, q1, rfl⟩ := zi_ex v3
  have hz : 4 ≤ sz ∧ sz ≤ 10 := ⟨hin.1.1, hin.1.2.1⟩
  unfold wpX_inside wpY_inside
  dsimp only
  refine br_c (fun h2 => ?_) (fun h2 => br_f h2 ⟨rfl, I1⟩)
  rcases hp with ⟨hp0, _⟩ | ⟨_, K, key, rd, cwf, rb, B, Sx⟩
  · exact absurd (hp0.symm.trans h2) (by decide)
  obtain ⟨e, BX, e1, e2, e3, hh, hr, hk⟩ := B
  have Z := zr_zst (zr_cl hin e) hr
  obtain ⟨A, so, hb, og, we, cw, rdd, c, IB, W⟩ := BX
  have hK : K ≤ 256 := A.2.2.2.2.2.2.2
  have N216 := Z.1
  have wb := fun x => zv_Wb (ze_N X Y R P rg n) (ze_su X Y R P rg n) (ze_st X Y R P rg n) (ze_sp X Y R P rg n) x 16 p q
  have wb0 := wb 0
  have wb1 := wb 1
  refine xq_fr rfl hz p1 q1 (fun o => br_t rfl (br_t h2 (yq_out hz p1 q1 o ⟨rfl, I1⟩))) (fun o => br_f (by decide) ?_)
  refine xq_on A og e1 so.2.2.2.1 (by omega) (by omega) (fun on => br_f (by decide) (br_t h2 (yq_inn hz p1 q1 o ?_))) (fun no => br_t rfl ?_)
  · refine yw_wind (S := 16) (p := 0) Z e3 (by omega) (by omega) (by omega) (by omega) (fun _ => ?_) (fun z => absurd on (fun ⟨s, hs, x⟩ => z s hs x))
    exact yw_wind (S := 16) (p := 1) Z e3 (by omega) (by omega) (by omega) (by omega) (fun _ => br_t rfl ⟨rfl, I1⟩) (fun z => absurd on (fun ⟨s, hs, x⟩ => z s hs x))
  · refine xq_loc A og e1 (by omega) (by omega) no (fun z => br_f (by decide) (br_t h2 (yq_inn hz p1 q1 o ?_))) (fun h hh2 z => ?_)
    · refine yw_wind (S := 16) (p := 0) Z e3 (by omega) (by omega) (by omega) (by omega) (fun on => absurd on (fun ⟨s, hs, x⟩ => no s hs x)) (fun _ => ?_)
      refine yw_wind (S := 16) (p := 1) Z e3 (by omega) (by omega) (by omega) (by omega) (fun on => absurd on (fun ⟨s, hs, x⟩ => no s hs x)) (fun _ => ?_)
      refine zb_eq (b := 1000) (by omega) (by omega) (fun _ => by omega) (fun _ => yw_in (by omega) (by omega) (by omega) (by omega) (br_t ?_ ⟨rfl, I1⟩))
      rw [z, z]
      exact zn_in00 _ _
    · rw [nI_clamp (show h < 2 ^ 31 by omega), (W h hh2).1, (W h hh2).2, ← z, ← z]
      have vh : vp_in (nI h) 512 := vp_in_nI (by omega) (by omega)
      refine br_t (nI_le (a := 0) (by omega) (by omega)) ⟨vh, vh, xn_in ?_⟩
      refine br_c (fun x0 => br_t h2 (yq_inn hz p1 q1 o ?_)) (fun x0 => br_t h2 (yq_inn hz p1 q1 o ?_))
      · refine yw_wind (S := 16) (p := 0) Z e3 (by omega) (by omega) (by omega) (by omega) (fun on => absurd on (fun ⟨s, hs, x⟩ => no s hs x)) (fun _ => ?_)
        refine yw_wind (S := 16) (p := 1) Z e3 (by omega) (by omega) (by omega) (by omega) (fun on => absurd on (fun ⟨s, hs, x⟩ => no s hs x)) (fun _ => ?_)
        exact zb_eq (b := 1000) (by omega) (by omega) (fun _ => by omega) (fun _ => yw_in (by omega) (by omega) (by omega) (by omega) (br_t x0 ⟨rfl, I1⟩))
      · refine yw_wind (S := 16) (p := 0) Z e3 (by omega) (by omega) (by omega) (by omega) (fun on => absurd on (fun ⟨s, hs, x⟩ => no s hs x)) (fun _ => ?_)
        refine yw_wind (S := 16) (p := 1) Z e3 (by omega) (by omega) (by omega) (by omega) (fun on => absurd on (fun ⟨s, hs, x⟩ => no s hs x)) (fun _ => ?_)
        exact zb_eq (b := 1000) (by omega) (by omega) (fun _ => by omega) (fun _ => yw_in (by omega) (by omega) (by omega) (by omega) (br_f x0 ⟨rfl, I1⟩))
end
end
section
/-! the owed cases -/
theorem i_vc_vertex {k : Nat} {u : SX} {v : SY} (I : i_Rel k u v) (hk : k + 4 ≤ 2050) (v1 : Int32) (v2 : Int32) : wpX_vertex (fun r u' => wpY_vertex (fun r' v' => r' = r ∧ i_Rel (k + 4) u' v') v v1 v2) u v1 v2 := match u, v, I with
  | (f_size, f_maxEdges, f_phase, f_op, f_rule, f_stored, f_rings, f_hotCount, f_chainLen, f_pieces, f_halves, f_stackTop, f_outEdges, f_outRings, f_traced, a_vertX, a_vertY, a_ringStart, a_ringPoly, a_dirX, a_dirY, a_edgePoly, a_isHot, a_chainId, a_chainKey, a_pieceKey, a_weightA, a_weightB, a_org, a_round, a_byEnds, a_cw, a_lastAt, a_windA, a_windB, a_reached, a_stack, a_outDir, a_used, a_outHalf, a_ringFrom), (g_size, g_most, g_phase, g_n, g_open, g_rings, g_op, g_rule, g_hots, g_steps, g_pieces, g_outs, g_loops, b_vx, b_vy, b_ring, b_polyOf, b_hot, b_used, b_step, b_stepPoly, b_pieceKey, b_way, b_out, b_loop), I => qv_vertex I v1 v2
theorem i_vc_close {k : Nat} {u : SX} {v : SY} (I : i_Rel k u v) (hk : k + 4 ≤ 2050) (v1 : Int32) : wpX_close (fun r u' => wpY_close (fun r' v' => r' = r ∧ i_Rel (k + 4) u' v') v v1) u v1 := match u, v, I with
  | (f_size, f_maxEdges, f_phase, f_op, f_rule, f_stored, f_rings, f_hotCount, f_chainLen, f_pieces, f_halves, f_stackTop, f_outEdges, f_outRings, f_traced, a_vertX, a_vertY, a_ringStart, a_ringPoly, a_dirX, a_dirY, a_edgePoly, a_isHot, a_chainId, a_chainKey, a_pieceKey, a_weightA, a_weightB, a_org, a_round, a_byEnds, a_cw, a_lastAt, a_windA, a_windB, a_reached, a_stack, a_outDir, a_used, a_outHalf, a_ringFrom), (g_size, g_most, g_phase, g_n, g_open, g_rings, g_op, g_rule, g_hots, g_steps, g_pieces, g_outs, g_loops, b_vx, b_vy, b_ring, b_polyOf, b_hot, b_used, b_step, b_stepPoly, b_pieceKey, b_way, b_out, b_loop), I => qv_close I v1
theorem i_vc_drop {k : Nat} {u : SX} {v : SY} (I : i_Rel k u v) (hk : k + 4 ≤ 2050) : wpX_drop (fun r u' => wpY_drop (fun r' v' => r' = r ∧ i_Rel (k + 4) u' v') v) u := match u, v, I with
  | (f_size, f_maxEdges, f_phase, f_op, f_rule, f_stored, f_rings, f_hotCount, f_chainLen, f_pieces, f_halves, f_stackTop, f_outEdges, f_outRings, f_traced, a_vertX, a_vertY, a_ringStart, a_ringPoly, a_dirX, a_dirY, a_edgePoly, a_isHot, a_chainId, a_chainKey, a_pieceKey, a_weightA, a_weightB, a_org, a_round, a_byEnds, a_cw, a_lastAt, a_windA, a_windB, a_reached, a_stack, a_outDir, a_used, a_outHalf, a_ringFrom), (g_size, g_most, g_phase, g_n, g_open, g_rings, g_op, g_rule, g_hots, g_steps, g_pieces, g_outs, g_loops, b_vx, b_vy, b_ring, b_polyOf, b_hot, b_used, b_step, b_stepPoly, b_pieceKey, b_way, b_out, b_loop), I => qv_drop I
theorem i_vc_clear {k : Nat} {u : SX} {v : SY} (I : i_Rel k u v) (hk : k + 4 ≤ 2050) : wpX_clear (fun u' => wpY_clear (fun v' => i_Rel (k + 4) u' v') v) u := match u, v, I with
  | (f_size, f_maxEdges, f_phase, f_op, f_rule, f_stored, f_rings, f_hotCount, f_chainLen, f_pieces, f_halves, f_stackTop, f_outEdges, f_outRings, f_traced, a_vertX, a_vertY, a_ringStart, a_ringPoly, a_dirX, a_dirY, a_edgePoly, a_isHot, a_chainId, a_chainKey, a_pieceKey, a_weightA, a_weightB, a_org, a_round, a_byEnds, a_cw, a_lastAt, a_windA, a_windB, a_reached, a_stack, a_outDir, a_used, a_outHalf, a_ringFrom), (g_size, g_most, g_phase, g_n, g_open, g_rings, g_op, g_rule, g_hots, g_steps, g_pieces, g_outs, g_loops, b_vx, b_vy, b_ring, b_polyOf, b_hot, b_used, b_step, b_stepPoly, b_pieceKey, b_way, b_out, b_loop), I => qv_clear I
theorem i_vc_build {k : Nat} {u : SX} {v : SY} (I : i_Rel k u v) (hk : k + 4 ≤ 2050) : wpX_build (fun r u' => wpY_build (fun r' v' => r' = r ∧ i_Rel (k + 4) u' v') v) u := match u, v, I with
  | (f_size, f_maxEdges, f_phase, f_op, f_rule, f_stored, f_rings, f_hotCount, f_chainLen, f_pieces, f_halves, f_stackTop, f_outEdges, f_outRings, f_traced, a_vertX, a_vertY, a_ringStart, a_ringPoly, a_dirX, a_dirY, a_edgePoly, a_isHot, a_chainId, a_chainKey, a_pieceKey, a_weightA, a_weightB, a_org, a_round, a_byEnds, a_cw, a_lastAt, a_windA, a_windB, a_reached, a_stack, a_outDir, a_used, a_outHalf, a_ringFrom), (g_size, g_most, g_phase, g_n, g_open, g_rings, g_op, g_rule, g_hots, g_steps, g_pieces, g_outs, g_loops, b_vx, b_vy, b_ring, b_polyOf, b_hot, b_used, b_step, b_stepPoly, b_pieceKey, b_way, b_out, b_loop), I => qv_build I
theorem i_vc_solve {k : Nat} {u : SX} {v : SY} (I : i_Rel k u v) (hk : k + 4 ≤ 2050) (v1 : Int32) (v2 : Int32) : wpX_solve (fun r u' => wpY_solve (fun r' v' => r' = r ∧ i_Rel (k + 4) u' v') v v1 v2) u v1 v2 := match u, v, I with
  | (f_size, f_maxEdges, f_phase, f_op, f_rule, f_stored, f_rings, f_hotCount, f_chainLen, f_pieces, f_halves, f_stackTop, f_outEdges, f_outRings, f_traced, a_vertX, a_vertY, a_ringStart, a_ringPoly, a_dirX, a_dirY, a_edgePoly, a_isHot, a_chainId, a_chainKey, a_pieceKey, a_weightA, a_weightB, a_org, a_round, a_byEnds, a_cw, a_lastAt, a_windA, a_windB, a_reached, a_stack, a_outDir, a_used, a_outHalf, a_ringFrom), (g_size, g_most, g_phase, g_n, g_open, g_rings, g_op, g_rule, g_hots, g_steps, g_pieces, g_outs, g_loops, b_vx, b_vy, b_ring, b_polyOf, b_hot, b_used, b_step, b_stepPoly, b_pieceKey, b_way, b_out, b_loop), I => qv_solve I v1 v2
theorem i_vc_info {k : Nat} {u : SX} {v : SY} (I : i_Rel k u v) (hk : k + 4 ≤ 2050) (v1 : Int32) : wpX_info (fun r => wpY_info (fun r' => r' = r ∧ i_Rel (k + 4) u v) v v1) u v1 := match u, v, I with
  | (f_size, f_maxEdges, f_phase, f_op, f_rule, f_stored, f_rings, f_hotCount, f_chainLen, f_pieces, f_halves, f_stackTop, f_outEdges, f_outRings, f_traced, a_vertX, a_vertY, a_ringStart, a_ringPoly, a_dirX, a_dirY, a_edgePoly, a_isHot, a_chainId, a_chainKey, a_pieceKey, a_weightA, a_weightB, a_org, a_round, a_byEnds, a_cw, a_lastAt, a_windA, a_windB, a_reached, a_stack, a_outDir, a_used, a_outHalf, a_ringFrom), (g_size, g_most, g_phase, g_n, g_open, g_rings, g_op, g_rule, g_hots, g_steps, g_pieces, g_outs, g_loops, b_vx, b_vy, b_ring, b_polyOf, b_hot, b_used, b_step, b_stepPoly, b_pieceKey, b_way, b_out, b_loop), I => qv_info I v1
theorem i_vc_source {k : Nat} {u : SX} {v : SY} (I : i_Rel k u v) (hk : k + 4 ≤ 2050) (v1 : Int32) (v2 : Int32) : wpX_source (fun r => wpY_source (fun r' => r' = r ∧ i_Rel (k + 4) u v) v v1 v2) u v1 v2 := match u, v, I with
  | (f_size, f_maxEdges, f_phase, f_op, f_rule, f_stored, f_rings, f_hotCount, f_chainLen, f_pieces, f_halves, f_stackTop, f_outEdges, f_outRings, f_traced, a_vertX, a_vertY, a_ringStart, a_ringPoly, a_dirX, a_dirY, a_edgePoly, a_isHot, a_chainId, a_chainKey, a_pieceKey, a_weightA, a_weightB, a_org, a_round, a_byEnds, a_cw, a_lastAt, a_windA, a_windB, a_reached, a_stack, a_outDir, a_used, a_outHalf, a_ringFrom), (g_size, g_most, g_phase, g_n, g_open, g_rings, g_op, g_rule, g_hots, g_steps, g_pieces, g_outs, g_loops, b_vx, b_vy, b_ring, b_polyOf, b_hot, b_used, b_step, b_stepPoly, b_pieceKey, b_way, b_out, b_loop), I => qv_source I v1 v2
theorem i_vc_hot {k : Nat} {u : SX} {v : SY} (I : i_Rel k u v) (hk : k + 4 ≤ 2050) (v1 : Int32) (v2 : Int32) : wpX_hot (fun r => wpY_hot (fun r' => r' = r ∧ i_Rel (k + 4) u v) v v1 v2) u v1 v2 := match u, v, I with
  | (f_size, f_maxEdges, f_phase, f_op, f_rule, f_stored, f_rings, f_hotCount, f_chainLen, f_pieces, f_halves, f_stackTop, f_outEdges, f_outRings, f_traced, a_vertX, a_vertY, a_ringStart, a_ringPoly, a_dirX, a_dirY, a_edgePoly, a_isHot, a_chainId, a_chainKey, a_pieceKey, a_weightA, a_weightB, a_org, a_round, a_byEnds, a_cw, a_lastAt, a_windA, a_windB, a_reached, a_stack, a_outDir, a_used, a_outHalf, a_ringFrom), (g_size, g_most, g_phase, g_n, g_open, g_rings, g_op, g_rule, g_hots, g_steps, g_pieces, g_outs, g_loops, b_vx, b_vy, b_ring, b_polyOf, b_hot, b_used, b_step, b_stepPoly, b_pieceKey, b_way, b_out, b_loop), I => qv_hot I v1 v2
theorem i_vc_piece {k : Nat} {u : SX} {v : SY} (I : i_Rel k u v) (hk : k + 4 ≤ 2050) (v1 : Int32) (v2 : Int32) : wpX_piece (fun r => wpY_piece (fun r' => r' = r ∧ i_Rel (k + 4) u v) v v1 v2) u v1 v2 := match u, v, I with
  | (f_size, f_maxEdges, f_phase, f_op, f_rule, f_stored, f_rings, f_hotCount, f_chainLen, f_pieces, f_halves, f_stackTop, f_outEdges, f_outRings, f_traced, a_vertX, a_vertY, a_ringStart, a_ringPoly, a_dirX, a_dirY, a_edgePoly, a_isHot, a_chainId, a_chainKey, a_pieceKey, a_weightA, a_weightB, a_org, a_round, a_byEnds, a_cw, a_lastAt, a_windA, a_windB, a_reached, a_stack, a_outDir, a_used, a_outHalf, a_ringFrom), (g_size, g_most, g_phase, g_n, g_open, g_rings, g_op, g_rule, g_hots, g_steps, g_pieces, g_outs, g_loops, b_vx, b_vy, b_ring, b_polyOf, b_hot, b_used, b_step, b_stepPoly, b_pieceKey, b_way, b_out, b_loop), I => qv_piece I v1 v2
theorem i_vc_winding {k : Nat} {u : SX} {v : SY} (I : i_Rel k u v) (hk : k + 4 ≤ 2050) (v1 : Int32) (v2 : Int32) (v3 : Int32) : wpX_winding (fun r => wpY_winding (fun r' => r' = r ∧ i_Rel (k + 4) u v) v v1 v2 v3) u v1 v2 v3 := match u, v, I with
  | (f_size, f_maxEdges, f_phase, f_op, f_rule, f_stored, f_rings, f_hotCount, f_chainLen, f_pieces, f_halves, f_stackTop, f_outEdges, f_outRings, f_traced, a_vertX, a_vertY, a_ringStart, a_ringPoly, a_dirX, a_dirY, a_edgePoly, a_isHot, a_chainId, a_chainKey, a_pieceKey, a_weightA, a_weightB, a_org, a_round, a_byEnds, a_cw, a_lastAt, a_windA, a_windB, a_reached, a_stack, a_outDir, a_used, a_outHalf, a_ringFrom), (g_size, g_most, g_phase, g_n, g_open, g_rings, g_op, g_rule, g_hots, g_steps, g_pieces, g_outs, g_loops, b_vx, b_vy, b_ring, b_polyOf, b_hot, b_used, b_step, b_stepPoly, b_pieceKey, b_way, b_out, b_loop), I => qv_winding I v1 v2 v3
theorem i_vc_inside {k : Nat} {u : SX} {v : SY} (I : i_Rel k u v) (hk : k + 4 ≤ 2050) (v1 : Int32) (v2 : Int32) : wpX_inside (fun r => wpY_inside (fun r' => r' = r ∧ i_Rel (k + 4) u v) v v1 v2) u v1 v2 := match u, v, I with
  | (f_size, f_maxEdges, f_phase, f_op, f_rule, f_stored, f_rings, f_hotCount, f_chainLen, f_pieces, f_halves, f_stackTop, f_outEdges, f_outRings, f_traced, a_vertX, a_vertY, a_ringStart, a_ringPoly, a_dirX, a_dirY, a_edgePoly, a_isHot, a_chainId, a_chainKey, a_pieceKey, a_weightA, a_weightB, a_org, a_round, a_byEnds, a_cw, a_lastAt, a_windA, a_windB, a_reached, a_stack, a_outDir, a_used, a_outHalf, a_ringFrom), (g_size, g_most, g_phase, g_n, g_open, g_rings, g_op, g_rule, g_hots, g_steps, g_pieces, g_outs, g_loops, b_vx, b_vy, b_ring, b_polyOf, b_hot, b_used, b_step, b_stepPoly, b_pieceKey, b_way, b_out, b_loop), I => qv_inside I v1 v2
theorem i_vc_ringSize {k : Nat} {u : SX} {v : SY} (I : i_Rel k u v) (hk : k + 4 ≤ 2050) (v1 : Int32) : wpX_ringSize (fun r => wpY_ringSize (fun r' => r' = r ∧ i_Rel (k + 4) u v) v v1) u v1 := match u, v, I with
  | (f_size, f_maxEdges, f_phase, f_op, f_rule, f_stored, f_rings, f_hotCount, f_chainLen, f_pieces, f_halves, f_stackTop, f_outEdges, f_outRings, f_traced, a_vertX, a_vertY, a_ringStart, a_ringPoly, a_dirX, a_dirY, a_edgePoly, a_isHot, a_chainId, a_chainKey, a_pieceKey, a_weightA, a_weightB, a_org, a_round, a_byEnds, a_cw, a_lastAt, a_windA, a_windB, a_reached, a_stack, a_outDir, a_used, a_outHalf, a_ringFrom), (g_size, g_most, g_phase, g_n, g_open, g_rings, g_op, g_rule, g_hots, g_steps, g_pieces, g_outs, g_loops, b_vx, b_vy, b_ring, b_polyOf, b_hot, b_used, b_step, b_stepPoly, b_pieceKey, b_way, b_out, b_loop), I => qv_ringSize I v1
theorem i_vc_ringAt {k : Nat} {u : SX} {v : SY} (I : i_Rel k u v) (hk : k + 4 ≤ 2050) (v1 : Int32) (v2 : Int32) (v3 : Int32) : wpX_ringAt (fun r => wpY_ringAt (fun r' => r' = r ∧ i_Rel (k + 4) u v) v v1 v2 v3) u v1 v2 v3 := match u, v, I with
  | (f_size, f_maxEdges, f_phase, f_op, f_rule, f_stored, f_rings, f_hotCount, f_chainLen, f_pieces, f_halves, f_stackTop, f_outEdges, f_outRings, f_traced, a_vertX, a_vertY, a_ringStart, a_ringPoly, a_dirX, a_dirY, a_edgePoly, a_isHot, a_chainId, a_chainKey, a_pieceKey, a_weightA, a_weightB, a_org, a_round, a_byEnds, a_cw, a_lastAt, a_windA, a_windB, a_reached, a_stack, a_outDir, a_used, a_outHalf, a_ringFrom), (g_size, g_most, g_phase, g_n, g_open, g_rings, g_op, g_rule, g_hots, g_steps, g_pieces, g_outs, g_loops, b_vx, b_vy, b_ring, b_polyOf, b_hot, b_used, b_step, b_stepPoly, b_pieceKey, b_way, b_out, b_loop), I => qv_ringAt I v1 v2 v3
theorem i_vc_ringArea {k : Nat} {u : SX} {v : SY} (I : i_Rel k u v) (hk : k + 4 ≤ 2050) (v1 : Int32) : wpX_ringArea (fun r => wpY_ringArea (fun r' => r' = r ∧ i_Rel (k + 4) u v) v v1) u v1 := match u, v, I with
  | (f_size, f_maxEdges, f_phase, f_op, f_rule, f_stored, f_rings, f_hotCount, f_chainLen, f_pieces, f_halves, f_stackTop, f_outEdges, f_outRings, f_traced, a_vertX, a_vertY, a_ringStart, a_ringPoly, a_dirX, a_dirY, a_edgePoly, a_isHot, a_chainId, a_chainKey, a_pieceKey, a_weightA, a_weightB, a_org, a_round, a_byEnds, a_cw, a_lastAt, a_windA, a_windB, a_reached, a_stack, a_outDir, a_used, a_outHalf, a_ringFrom), (g_size, g_most, g_phase, g_n, g_open, g_rings, g_op, g_rule, g_hots, g_steps, g_pieces, g_outs, g_loops, b_vx, b_vy, b_ring, b_polyOf, b_hot, b_used, b_step, b_stepPoly, b_pieceKey, b_way, b_out, b_loop), I => qv_ringArea I v1
end
