section
/-! ===== polynomials of degree at most 1 over 101, slots of the coefficient array ===== -/
/-- coefficient i of u + v X -/
def rf_c (u v i : Nat) : Nat := if i = 0 then u else if i = 1 then v else 0
/-- its degree and one: 0 for the polynomial 0 -/
def rf_e (u v : Nat) : Nat := if v = 0 then (if u = 0 then 0 else 1) else 2
/-- its degree as it is kept -/
def rf_d (u v : Nat) : Int32 := if v = 0 then (if u = 0 then -1 else 0) else 1
theorem rf_c0 (u v : Nat) : rf_c u v 0 = u := rfl
theorem rf_c1 (u v : Nat) : rf_c u v 1 = v := rfl
theorem rf_c2 {u v i : Nat} (h : 2 ≤ i) : rf_c u v i = 0 := by
  unfold rf_c
  rw [if_neg (by omega), if_neg (by omega)]
theorem rf_c00 (i : Nat) : rf_c 0 0 i = 0 := by
  unfold rf_c
  split
  · rfl
  · split
    · rfl
    · rfl
theorem rf_cl {u v : Nat} (hu : u < 101) (hv : v < 101) (i : Nat) : rf_c u v i < 101 := by
  unfold rf_c
  split
  · exact hu
  · split
    · exact hv
    · omega
theorem rf_e2 (u v : Nat) : rf_e u v ≤ 2 := by
  unfold rf_e
  split
  · split
    · omega
    · omega
  · omega
theorem rf_ce {u v i : Nat} (h : rf_e u v ≤ i) : rf_c u v i = 0 := by
  by_cases h2 : 2 ≤ i
  · exact rf_c2 h2
  · unfold rf_e at h
    by_cases hv : v = 0
    · rw [if_pos hv] at h
      by_cases hu : u = 0
      · rw [hu, hv]
        exact rf_c00 i
      · rw [if_neg hu] at h
        have : i = 1 := by omega
        rw [this, rf_c1, hv]
    · rw [if_neg hv] at h
      omega
theorem rf_dT (u v : Nat) : (rf_d u v).toInt = (rf_e u v : Int) - 1 := by
  unfold rf_d rf_e
  split
  · split
    · decide
    · decide
  · decide
theorem rf_dlt {u v i : Nat} (hi : i < 2 ^ 31) : rf_d u v < nI i ↔ rf_e u v ≤ i := by
  rw [Int32.lt_iff_toInt_lt, nI_toInt hi, rf_dT]
  omega
theorem rf_ddlt (u v e w : Nat) : rf_d u v < rf_d e w ↔ rf_e u v < rf_e e w := by
  rw [Int32.lt_iff_toInt_lt, rf_dT, rf_dT]
  omega
theorem rf_dn {u v : Nat} (h : 0 < rf_e u v) : rf_d u v = nI (rf_e u v - 1) := by
  have e2 := rf_e2 u v
  apply Int32.toInt_inj.mp
  rw [rf_dT, nI_toInt (by omega)]
  omega
theorem rf_ix (p i : Nat) : nI p * 40 + nI i = nI (p * 40 + i) := by
  show nI p * nI 40 + nI i = nI (p * 40 + i)
  rw [pk_mul, nI_add]
theorem rf_ix0 (p : Nat) : nI p * 40 = nI (p * 40) := pk_mul p 40
theorem rf_two (k : Nat) : 2 * nI k = nI (2 * k) := pk_mul 2 k
theorem rf_rem {a : Nat} (h : a < 2 ^ 31) : nI a - nI a / 101 * 101 = nI (a % 101) := pk_rem (d := 101) h (by decide) (by decide)
theorem rf_mb {a b : Nat} (ha : a < 101) (hb : b < 101) : a * b ≤ 100 * 100 := Nat.mul_le_mul (by omega) (by omega)
/-- the 40 cells of slot p hold u + v X -/
def rf_S (a : Nat → Int32) (p u v : Nat) : Prop := ∀ i, i < 40 → a (p * 40 + i) = nI (rf_c u v i)
/-- outside of slot p nothing has changed -/
def rf_F (a b : Nat → Int32) (p : Nat) : Prop := ∀ j, ¬ (p * 40 ≤ j ∧ j < p * 40 + 40) → b j = a j
/-- the picture: slot q holds the polynomial G q, with its degree -/
def rf_ok (G : Nat → Option (Nat × Nat)) (a1 a2 : Nat → Int32) : Prop := ∀ q u v, G q = some (u, v) → q < 24 ∧ u < 101 ∧ v < 101 ∧ rf_S a1 q u v ∧ a2 q = rf_d u v
def rf_set (G : Nat → Option (Nat × Nat)) (p u v : Nat) : Nat → Option (Nat × Nat) := fun q => if q = p then some (u, v) else G q
theorem rf_same (G : Nat → Option (Nat × Nat)) (p u v : Nat) : rf_set G p u v p = some (u, v) := if_pos rfl
theorem rf_other {G : Nat → Option (Nat × Nat)} {p u v q : Nat} (h : q ≠ p) : rf_set G p u v q = G q := if_neg h
theorem rf_fk {a b : Nat → Int32} {p q u v : Nat} (h : rf_S a q u v) (hf : rf_F a b p) (hq : q ≠ p) : rf_S b q u v := fun i hi => by
  rw [hf (q * 40 + i) (by omega)]
  exact h i hi
theorem rf_F0 (a : Nat → Int32) (p : Nat) : rf_F a a p := fun _ _ => rfl
theorem rf_Fu {a s : Nat → Int32} {p k : Nat} {x : Int32} (h : rf_F a s p) (h1 : p * 40 ≤ k) (h2 : k < p * 40 + 40) : rf_F a (upd s k x) p := fun j hj => by
  rw [pk_un (by omega)]
  exact h j hj
theorem rf_put {G : Nat → Option (Nat × Nat)} {a1 a2 b1 b2 : Nat → Int32} {p u v : Nat} (ok : rf_ok G a1 a2) (hp : p < 24) (hu : u < 101) (hv : v < 101) (hF : rf_F a1 b1 p) (hS : rf_S b1 p u v) (h2 : ∀ q, q ≠ p → b2 q = a2 q) (hd : b2 p = rf_d u v) :
    rf_ok (rf_set G p u v) b1 b2 := by
  intro q x y h
  by_cases e : q = p
  · subst e
    rw [rf_same] at h
    cases h
    exact ⟨hp, hu, hv, hS, hd⟩
  · rw [rf_other e] at h
    obtain ⟨k1, k2, k3, k4, k5⟩ := ok q x y h
    exact ⟨k1, k2, k3, rf_fk k4 hF e, by rw [h2 q e]; exact k5⟩
theorem rf_okF {G : Nat → Option (Nat × Nat)} {a1 a2 b1 b2 : Nat → Int32} {p : Nat} (ok : rf_ok G a1 a2) (hG : G p = none) (hF : rf_F a1 b1 p) (h2 : ∀ q, q ≠ p → b2 q = a2 q) : rf_ok G b1 b2 := by
  intro q x y h
  have e : q ≠ p := fun z => by
    rw [z, hG] at h
    cases h
  obtain ⟨k1, k2, k3, k4, k5⟩ := ok q x y h
  exact ⟨k1, k2, k3, rf_fk k4 hF e, by rw [h2 q e]; exact k5⟩
theorem rf_weak {G G' : Nat → Option (Nat × Nat)} {a1 a2 : Nat → Int32} (ok : rf_ok G a1 a2) (h : ∀ q u v, G' q = some (u, v) → G q = some (u, v)) : rf_ok G' a1 a2 := fun q u v k => ok q u v (h q u v k)
/-! ===== reduce ===== -/
theorem rf_reduce {post : Int32 → Prop} {c : Int32} {a1 a2 a3 : Nat → Int32} {x : Int32} (k : Nat) (hk : k < 101) (hz : (x.toInt - (k : Int)) % 101 = 0) (H : post (nI k)) : wpX_reduce post (c, a1, a2, a3) x := by
  have h101 : (101 : Int32).toInt = 101 := by decide
  have h0T : (0 : Int32).toInt = 0 := by decide
  have hb := Int32.le_toInt x
  have hb' := Int32.toInt_lt x
  have hq : (x.toInt.tdiv 101 = x.toInt / 101 ∧ 0 ≤ x.toInt) ∨ (x.toInt.tdiv 101 = -((-x.toInt) / 101) ∧ x.toInt < 0) := by
    rcases Int.lt_or_le x.toInt 0 with z | z
    · refine Or.inr ⟨?_, z⟩
      have e := Int.neg_tdiv (-x.toInt) 101
      rw [Int.neg_neg] at e
      rw [e, Int.tdiv_eq_ediv_of_nonneg (by omega)]
    · exact Or.inl ⟨Int.tdiv_eq_ediv_of_nonneg z, z⟩
  generalize hqq : x.toInt.tdiv 101 = q at hq
  have hd : (x / 101).toInt = q := by
    rw [Int32.toInt_div, h101, hqq]
    exact Int.bmod_eq_of_le (by omega) (by omega)
  have hm : (x / 101 * 101).toInt = q * 101 := by
    rw [Int32.toInt_mul, hd, h101]
    exact Int.bmod_eq_of_le (by omega) (by omega)
  refine ⟨by decide, fun r er => ?_⟩
  have hr : r.toInt = x.toInt - q * 101 := by
    rw [er, Int32.toInt_sub, hm]
    exact Int.bmod_eq_of_le (by omega) (by omega)
  refine br_c (fun h0 => ?_) (fun h0 => ?_)
  · have h0' := Int32.le_iff_toInt_le.mp h0
    have e : r = nI k := Int32.toInt_inj.mp (by rw [nI_toInt (by omega)]; omega)
    rw [e]
    exact H
  · have h0' : ¬ (0 : Int32).toInt ≤ r.toInt := fun z => h0 (Int32.le_iff_toInt_le.mpr z)
    have e1 : (r + 101).toInt = r.toInt + 101 := by
      rw [Int32.toInt_add, h101]
      exact Int.bmod_eq_of_le (by omega) (by omega)
    have e : r + 101 = nI k := Int32.toInt_inj.mp (by rw [nI_toInt (by omega), e1]; omega)
    rw [e]
    exact H
theorem rf_redz {a b : Nat} (ha : a < 101) (hb : b ≤ 100 * 100) : ((nI a - nI b).toInt - (((a + 100 * b) % 101 : Nat) : Int)) % 101 = 0 := by
  rw [pk_sub_toInt (by omega) (by omega)]
  omega
theorem rf_reda {a b : Nat} (ha : a < 101) (hb : b < 101) : ((nI a + nI b).toInt - (((a + b) % 101 : Nat) : Int)) % 101 = 0 := by
  rw [nI_add, nI_toInt (by omega)]
  omega
/-! ===== inverse ===== -/
def rf_step (i : Nat) (s : Nat × Nat) : Nat × Nat := (if 99 / 2 ^ i % 2 = 1 then s.1 * s.2 % 101 else s.1, s.2 * s.2 % 101)
def rf_is (k : Nat) : Nat → Nat × Nat
  | 0 => (1, k)
  | i + 1 => rf_step i (rf_is k i)
def rf_inv (k : Nat) : Nat := (rf_is k 7).1
theorem rf_bit : ∀ i, i < 7 → ((((99 : Int32) >>> (nI i &&& 31)) &&& 1) = 1 ↔ 99 / 2 ^ i % 2 = 1) := by decide +kernel
theorem rf_invlt : ∀ k, k < 101 → rf_inv k < 101 := by decide +kernel
theorem rf_invm : ∀ k, k < 101 → k ≠ 0 → rf_inv k * k % 101 = 1 := by decide +kernel
theorem rf_inv1 : rf_inv 1 = 1 := by decide +kernel
theorem rf_inverse {post : Int32 → Prop} {c : Int32} {a1 a2 a3 : Nat → Int32} {k : Nat} (hk : k < 101) (H : post (nI (rf_inv k))) : wpX_inverse post (c, a1, a2, a3) (nI k) := by
  refine pk_loop (σ := Nat × Nat) (fun n i s => wX_inverse_7 post c a1 a2 a3 n (nI s.1) (nI s.2) (nI i)) (fun i s => s = rf_is k i ∧ s.1 < 101 ∧ s.2 < 101) 7 0 (1, k) (by omega) ⟨rfl, (by show 1 < 101; decide), hk⟩ ?_ ?_
  · intro n s h
    refine pk_le 7 7 (fun _ => ?_) (fun z => absurd z (by omega))
    obtain ⟨e, _, _⟩ := h
    rw [e]
    exact H
  · intro n i s hi h hw
    obtain ⟨e, h1, h2⟩ := h
    have b1 := rf_mb h1 h2
    have b2 := rf_mb h2 h2
    have es : rf_is k (i + 1) = rf_step i s := by
      rw [e]
      rfl
    refine pk_le 7 i (fun z => absurd z (by omega)) (fun _ => ek_if (rf_bit i hi) (fun z => ⟨by decide, fun x ex => ⟨by decide, fun y ey w ew => ?_⟩⟩) (fun z => ⟨by decide, fun y ey w ew => ?_⟩))
    · rw [pk_mul, rf_rem (by omega)] at ex
      rw [pk_mul, rf_rem (by omega)] at ey
      rw [nI_1] at ew
      subst ex ey ew
      refine hw (s.1 * s.2 % 101, s.2 * s.2 % 101) ⟨?_, Nat.mod_lt _ (by decide), Nat.mod_lt _ (by decide)⟩
      rw [es]
      unfold rf_step
      rw [if_pos z]
    · rw [pk_mul, rf_rem (by omega)] at ey
      rw [nI_1] at ew
      subst ey ew
      refine hw (s.1, s.2 * s.2 % 101) ⟨?_, h1, Nat.mod_lt _ (by decide)⟩
      rw [es]
      unfold rf_step
      rw [if_neg z]
end
section
/-! ===== clear, fit, constantTo, copy ===== -/
theorem rf_clear {post : St2 → Prop} {c : Int32} {a1 a2 a3 : Nat → Int32} {x : Int32} (p : Nat) (hp : p < 24)
    (H : ∀ b1 b2, rf_F a1 b1 p → rf_S b1 p 0 0 → (∀ q, q ≠ p → b2 q = a2 q) → b2 p = rf_d 0 0 → post (c, b1, b2, a3)) (hx : x = nI p := by rfl) :
    wpX_clear post (c, a1, a2, a3) x := by
  subst hx
  refine pk_loop (fun n i s => wX_clear_2 post (nI p) c n (nI i) s a2 a3) (fun i s => rf_F a1 s p ∧ ∀ j, j < i → s (p * 40 + j) = 0) 40 0 a1 (by omega) ⟨rf_F0 a1 p, fun j hj => absurd hj (by omega)⟩ ?_ ?_
  · intro n s h
    refine pk_le 40 40 (fun _ => ⟨pk_in p 24 hp, fun b eb => ?_⟩) (fun z => absurd z (by omega))
    rw [nI_clamp (by omega)] at eb
    subst eb
    exact H s _ h.1 (fun j hj => by rw [h.2 j hj, rf_c00]; rfl) (fun q hq => pk_un hq) pk_us
  · intro n i s hi h hw
    refine pk_le 40 i (fun z => absurd z (by omega)) (fun _ => ⟨pk_in (p * 40 + i) 960 (by omega) (rf_ix p i), fun b eb y ey => ?_⟩)
    rw [rf_ix, nI_clamp (by omega)] at eb
    rw [nI_1] at ey
    subst eb ey
    refine hw _ ⟨rf_Fu h.1 (by omega) (by omega), fun j hj => ?_⟩
    by_cases e : j = i
    · rw [e, pk_us]
    · rw [pk_un (by omega)]
      exact h.2 j (by omega)
theorem rf_fdn {u v k : Nat} (hk : rf_c u v k ≠ 0) (h : ∀ j, k < j → rf_c u v j = 0) : nI k = rf_d u v := by
  have k2 : k < 2 := by
    rcases Nat.lt_or_ge k 2 with z | z
    · exact z
    · exact absurd (rf_c2 z) hk
  rcases (show k = 0 ∨ k = 1 by omega) with e | e
  · subst e
    have h1 : v = 0 := h 1 (by omega)
    have h0 : u ≠ 0 := hk
    unfold rf_d
    rw [if_pos h1, if_neg h0]
    rfl
  · subst e
    have h1 : v ≠ 0 := hk
    unfold rf_d
    rw [if_neg h1]
    rfl
theorem rf_fit {post : St2 → Prop} {c : Int32} {a1 a2 a3 : Nat → Int32} {x : Int32} (p u v : Nat) (hp : p < 24) (hS : rf_S a1 p u v) (hu : u < 101) (hv : v < 101)
    (H : ∀ b2, (∀ q, q ≠ p → b2 q = a2 q) → b2 p = rf_d u v → post (c, a1, b2, a3)) (hx : x = nI p := by rfl) :
    wpX_fit post (c, a1, a2, a3) x := by
  subst hx
  have key : ∃ n, wX_fit_5 post (nI p) c a1 a2 a3 n (39 - nI 0) (nI 0) := by
    refine pk_loop (σ := Unit) (fun n i _ => wX_fit_5 post (nI p) c a1 a2 a3 n (39 - nI i) (nI i)) (fun i _ => ∀ j, 40 ≤ i + j → rf_c u v j = 0) 40 0 () (by omega) (fun j hj => rf_c2 (by omega)) ?_ ?_
    · intro n s h
      refine pk_le 40 40 (fun _ => ⟨pk_in p 24 hp, fun b eb => ?_⟩) (fun z => absurd z (by omega))
      rw [nI_clamp (by omega)] at eb
      subst eb
      refine H _ (fun q hq => pk_un hq) ?_
      rw [pk_us]
      have h0 : u = 0 := h 0 (by omega)
      have h1 : v = 0 := h 1 (by omega)
      unfold rf_d
      rw [if_pos h1, if_pos h0]
      decide
    · intro n i s hi h hw
      have hw' : (∀ j, 40 ≤ i + 1 + j → rf_c u v j = 0) → wX_fit_5 post (nI p) c a1 a2 a3 n (39 - nI (i + 1)) (nI (i + 1)) := fun t => hw () t
      have e0 : (39 : Int32) - nI i = nI (39 - i) := pk_sub (a := 39) (by omega)
      have e1 : nI (39 - i) + (-1) = 39 - nI (i + 1) := by
        rw [← e0, ← nI_1]
        grind
      show wX_fit_5 post (nI p) c a1 a2 a3 (n + 1) (39 - nI i) (nI i)
      rw [e0]
      refine pk_le 40 i (fun z => absurd z (by omega)) (fun _ => br_f (nI_pos (by omega)) ⟨pk_in (p * 40 + (39 - i)) 960 (by omega) (rf_ix p (39 - i)), ?_⟩)
      rw [rf_ix, nI_clamp (by omega), hS (39 - i) (by omega)]
      have hc := rf_cl hu hv (39 - i)
      refine pk_eq (rf_c u v (39 - i)) 0 (fun z => ?_) (fun z => ⟨pk_in p 24 hp, fun b eb => ?_⟩)
      · intro y ey w ew
        rw [e1] at ey
        rw [nI_1] at ew
        subst ey ew
        refine hw' (fun j hj => ?_)
        by_cases e : j = 39 - i
        · rw [e]
          exact z
        · exact h j (by omega)
      · rw [nI_clamp (by omega)] at eb
        subst eb
        refine H _ (fun q hq => pk_un hq) ?_
        rw [pk_us]
        exact rf_fdn z (fun j hj => h j (by omega))
  rw [show (39 : Int32) - nI 0 = 39 by decide] at key
  exact key
theorem rf_constTo {post : St2 → Prop} {c : Int32} {a1 a2 a3 : Nat → Int32} {G : Nat → Option (Nat × Nat)} {x y : Int32} (p k : Nat) (ok : rf_ok G a1 a2) (hp : p < 24) (hk : k < 101)
    (H : ∀ b1 b2, rf_ok (rf_set G p k 0) b1 b2 → post (c, b1, b2, a3)) (hx : x = nI p := by rfl) (hy : y = nI k := by rfl) :
    wpX_constantTo post (c, a1, a2, a3) x y := by
  subst hx hy
  unfold wpX_constantTo
  refine rf_clear p hp (fun b1 b2 hF hS h2 hd => ?_)
  refine ⟨pk_in (p * 40) 960 (by omega) (rf_ix0 p), fun b eb => ?_⟩
  rw [rf_ix0, nI_clamp (by omega)] at eb
  subst eb
  have kF : rf_F a1 (upd b1 (p * 40) (nI k)) p := rf_Fu hF (by omega) (by omega)
  have kS : rf_S (upd b1 (p * 40) (nI k)) p k 0 := fun j hj => by
    by_cases e : j = 0
    · rw [e]
      exact pk_us
    · rw [pk_un (by omega), hS j hj, rf_c00]
      unfold rf_c
      rw [if_neg e]
      split
      · rfl
      · rfl
  refine pk_eq k 0 (fun z => ⟨pk_in p 24 hp, fun d ed => ?_⟩) (fun z => ⟨pk_in p 24 hp, fun d ed => ?_⟩)
  · rw [nI_clamp (by omega)] at ed
    subst ed
    refine H _ _ (rf_put ok hp hk (by omega) kF kS (fun q hq => by rw [pk_un hq]; exact h2 q hq) ?_)
    rw [pk_us]
    unfold rf_d
    rw [if_pos rfl, if_pos z]
  · rw [nI_clamp (by omega)] at ed
    subst ed
    refine H _ _ (rf_put ok hp hk (by omega) kF kS (fun q hq => by rw [pk_un hq]; exact h2 q hq) ?_)
    rw [pk_us]
    unfold rf_d
    rw [if_pos rfl, if_neg z]
theorem rf_copy {post : St2 → Prop} {c : Int32} {a1 a2 a3 : Nat → Int32} {G : Nat → Option (Nat × Nat)} {x y : Int32} (f t u v : Nat) (ok : rf_ok G a1 a2) (hf : G f = some (u, v)) (ht : t < 24) (hft : f ≠ t)
    (H : ∀ b1 b2, rf_ok (rf_set G t u v) b1 b2 → post (c, b1, b2, a3)) (hx : x = nI f := by rfl) (hy : y = nI t := by rfl) :
    wpX_copy post (c, a1, a2, a3) x y := by
  subst hx hy
  obtain ⟨f24, hu, hv, hS, hd⟩ := ok f u v hf
  refine pk_loop (fun n i s => wX_copy_2 post (nI f) (nI t) c n (nI i) s a2 a3) (fun i s => rf_F a1 s t ∧ ∀ j, j < i → s (t * 40 + j) = nI (rf_c u v j)) 40 0 a1 (by omega) ⟨rf_F0 a1 t, fun j hj => absurd hj (by omega)⟩ ?_ ?_
  · intro n s h
    refine pk_le 40 40 (fun _ => ⟨pk_in f 24 f24, pk_in t 24 ht, fun b eb => ?_⟩) (fun z => absurd z (by omega))
    rw [nI_clamp (show t < 2 ^ 31 by omega), nI_clamp (show f < 2 ^ 31 by omega)] at eb
    subst eb
    exact H s _ (rf_put ok ht hu hv h.1 (fun j hj => h.2 j hj) (fun q hq => pk_un hq) (by rw [pk_us]; exact hd))
  · intro n i s hi h hw
    refine pk_le 40 i (fun z => absurd z (by omega)) (fun _ => ⟨pk_in (f * 40 + i) 960 (by omega) (rf_ix f i), pk_in (t * 40 + i) 960 (by omega) (rf_ix t i), fun b eb y ey => ?_⟩)
    have e1 : s (f * 40 + i) = nI (rf_c u v i) := by
      rw [h.1 (f * 40 + i) (by omega)]
      exact hS i hi
    rw [rf_ix t i, rf_ix f i, nI_clamp (show t * 40 + i < 2 ^ 31 by omega), nI_clamp (show f * 40 + i < 2 ^ 31 by omega), e1] at eb
    rw [nI_1] at ey
    subst eb ey
    refine hw _ ⟨rf_Fu h.1 (by omega) (by omega), fun j hj => ?_⟩
    by_cases e : j = i
    · rw [e, pk_us]
    · rw [pk_un (by omega)]
      exact h.2 j (by omega)
/-! ===== multiply by 1 ===== -/
section
variable {post : St2 → Prop} {J : Int32 → (Nat → Int32) → (Nat → Int32) → (Nat → Int32) → Prop} {c : Int32} {s b2 a3 : Nat → Int32} {p q t i j n : Nat}
theorem rf_mstep {A B C : Nat} (hp : p < 24) (hq : q < 24) (ht : t < 24) (hij : i + j < 40) (hd : ¬ b2 q < nI j) (hA : s (p * 40 + i) = nI A) (hB : s (q * 40 + j) = nI B) (hC : s (t * 40 + i + j) = nI C) (lA : A < 101) (lB : B < 101) (lC : C < 101)
    (H : wX_multiply_22 post J (nI p) (nI q) (nI t) (nI i) c n (nI (j + 1)) (upd s (t * 40 + i + j) (nI ((C + A * B) % 101))) b2 a3) :
    wX_multiply_22 post J (nI p) (nI q) (nI t) (nI i) c (n + 1) (nI j) s b2 a3 := by
  refine ⟨pk_in q 24 hq, ?_⟩
  rw [nI_clamp (show q < 2 ^ 31 by omega)]
  refine br_f hd (pk_le 40 (i + j) (fun z => absurd z (by omega)) (fun _ => ?_) rfl (nI_add i j))
  intro x6 e6
  have e6' : x6 = nI (t * 40 + i + j) := by rw [e6, rf_ix, nI_add]
  subst e6'
  clear e6
  refine ⟨pk_in (p * 40 + i) 960 (by omega) (rf_ix p i), pk_in (q * 40 + j) 960 (by omega) (rf_ix q j), fun x7 e7 => ?_⟩
  rw [rf_ix p i, rf_ix q j, nI_clamp (show p * 40 + i < 2 ^ 31 by omega), nI_clamp (show q * 40 + j < 2 ^ 31 by omega), hA, hB, pk_mul] at e7
  subst e7
  have hm := rf_mb lA lB
  refine ⟨pk_in (t * 40 + i + j) 960 (by omega), by decide, pk_in (t * 40 + i + j) 960 (by omega), fun s' es x5 e5 => ?_⟩
  rw [nI_clamp (show t * 40 + i + j < 2 ^ 31 by omega), hC, nI_add, rf_rem (by omega)] at es
  rw [nI_1] at e5
  subst es e5
  exact H
theorem rf_mexit (hq : q < 24) (hd : b2 q < nI j) (H : J (nI (i + 1)) s b2 a3) : wX_multiply_22 post J (nI p) (nI q) (nI t) (nI i) c (n + 1) (nI j) s b2 a3 := by
  refine ⟨pk_in q 24 hq, ?_⟩
  rw [nI_clamp (show q < 2 ^ 31 by omega)]
  refine br_t hd (fun x ex => ?_)
  rw [nI_1] at ex
  subst ex
  exact H
end
/-- the cells of slot t: those of u + v X below i, 0 from i on -/
def rf_P (s : Nat → Int32) (t u v i : Nat) : Prop := ∀ j, j < 40 → s (t * 40 + j) = nI (if j < i then rf_c u v j else 0)
theorem rf_P0 {s : Nat → Int32} {t : Nat} (u v : Nat) (h : rf_S s t 0 0) : rf_P s t u v 0 := fun j hj => by
  rw [if_neg (by omega), h j hj, rf_c00]
theorem rf_Pe {s : Nat → Int32} {t u v : Nat} (h : rf_P s t u v (rf_e u v)) : rf_S s t u v := fun j hj => by
  rw [h j hj]
  by_cases e : j < rf_e u v
  · rw [if_pos e]
  · rw [if_neg e, rf_ce (by omega)]
theorem rf_Pn {s : Nat → Int32} {t u v i k : Nat} {x : Int32} (h : rf_P s t u v i) (hk : k = t * 40 + i) (hx : x = nI (rf_c u v i)) : rf_P (upd s k x) t u v (i + 1) := fun j hj => by
  subst hk hx
  by_cases e : j = i
  · rw [e, pk_us, if_pos (by omega)]
  · rw [pk_un (by omega), h j hj]
    by_cases z : j < i
    · rw [if_pos z, if_pos (by omega)]
    · rw [if_neg z, if_neg (by omega)]
theorem rf_mulR {post : St2 → Prop} {c : Int32} {a1 a2 a3 : Nat → Int32} {G : Nat → Option (Nat × Nat)} {x y z : Int32} (p q t u v : Nat) (ok : rf_ok G a1 a2) (hp : G p = some (u, v)) (hq : G q = some (1, 0)) (ht : t < 24) (hpt : p ≠ t) (hqt : q ≠ t)
    (H : ∀ b1 b2, rf_ok (rf_set G t u v) b1 b2 → post (c, b1, b2, a3)) (hx : x = nI p := by rfl) (hy : y = nI q := by rfl) (hz : z = nI t := by rfl) :
    wpX_multiply post (c, a1, a2, a3) x y z := by
  subst hx hy hz
  obtain ⟨p24, hu, hv, hS, hD⟩ := ok p u v hp
  obtain ⟨q24, _, _, hSq, hDq⟩ := ok q 1 0 hq
  unfold wpX_multiply
  refine rf_clear t ht (fun b1 b2 hF hS0 h2 hd => ?_)
  have kD : b2 p = rf_d u v := by rw [h2 p hpt]; exact hD
  have kDq : b2 q = rf_d 1 0 := by rw [h2 q hqt]; exact hDq
  have e2 := rf_e2 u v
  refine pk_loop (fun n i s => wX_multiply_8 post (nI p) (nI q) (nI t) c n (nI i) s b2 a3) (fun i s => rf_F a1 s t ∧ rf_P s t u v i) (rf_e u v) 0 b1 (by omega) ⟨hF, rf_P0 u v hS0⟩ ?_ ?_
  · intro n s h
    refine ⟨pk_in p 24 p24, ?_⟩
    rw [nI_clamp (show p < 2 ^ 31 by omega), kD]
    refine br_t ((rf_dlt (by omega)).mpr (Nat.le_refl _)) ?_
    have kS := rf_Pe h.2
    exact rf_fit t u v ht kS hu hv (fun b3 h3 h4 => H s b3 (rf_put ok ht hu hv h.1 kS (fun r hr => by rw [h3 r hr]; exact h2 r hr) h4))
  · intro n i s hi h hw
    refine ⟨pk_in p 24 p24, ?_⟩
    rw [nI_clamp (show p < 2 ^ 31 by omega), kD]
    refine br_f (fun g => absurd ((rf_dlt (by omega)).mp g) (by omega)) ⟨0 + 1 + 1, ?_⟩
    have vA : s (p * 40 + i) = nI (rf_c u v i) := by
      rw [h.1 (p * 40 + i) (by omega)]
      exact hS i (by omega)
    have vB : s (q * 40 + 0) = nI 1 := by
      rw [h.1 (q * 40 + 0) (by omega)]
      exact hSq 0 (by omega)
    have vC : s (t * 40 + i + 0) = nI 0 := by
      show s (t * 40 + i) = nI 0
      rw [h.2 i (by omega), if_neg (by omega)]
    have lA := rf_cl hu hv i
    refine rf_mstep (j := 0) p24 q24 ht (by omega) (by rw [kDq]; decide) vA vB vC lA (by omega) (by omega) (rf_mexit q24 (by rw [kDq]; decide) ?_)
    refine hw _ ⟨rf_Fu h.1 (by omega) (by omega), rf_Pn h.2 rfl (congrArg nI ?_)⟩
    omega
theorem rf_mulL {post : St2 → Prop} {c : Int32} {a1 a2 a3 : Nat → Int32} {G : Nat → Option (Nat × Nat)} {x y z : Int32} (p q t u v : Nat) (ok : rf_ok G a1 a2) (hp : G p = some (1, 0)) (hq : G q = some (u, v)) (ht : t < 24) (hpt : p ≠ t) (hqt : q ≠ t)
    (H : ∀ b1 b2, rf_ok (rf_set G t u v) b1 b2 → post (c, b1, b2, a3)) (hx : x = nI p := by rfl) (hy : y = nI q := by rfl) (hz : z = nI t := by rfl) :
    wpX_multiply post (c, a1, a2, a3) x y z := by
  subst hx hy hz
  obtain ⟨p24, _, _, hS, hD⟩ := ok p 1 0 hp
  obtain ⟨q24, hu, hv, hSq, hDq⟩ := ok q u v hq
  unfold wpX_multiply
  refine rf_clear t ht (fun b1 b2 hF hS0 h2 hd => ?_)
  have kD : b2 p = rf_d 1 0 := by rw [h2 p hpt]; exact hD
  have kDq : b2 q = rf_d u v := by rw [h2 q hqt]; exact hDq
  have e2 := rf_e2 u v
  refine ⟨0 + 1 + 1, pk_in p 24 p24, ?_⟩
  rw [nI_clamp (show p < 2 ^ 31 by omega), kD]
  refine br_f (by decide) ?_
  refine pk_loop (fun n i s => wX_multiply_22 post (wX_multiply_8 post (nI p) (nI q) (nI t) c (0 + 1)) (nI p) (nI q) (nI t) (nI 0) c n (nI i) s b2 a3) (fun i s => rf_F a1 s t ∧ rf_P s t u v i) (rf_e u v) 0 b1 (by omega) ⟨hF, rf_P0 u v hS0⟩ ?_ ?_
  · intro n s h
    refine rf_mexit q24 (by rw [kDq]; exact (rf_dlt (by omega)).mpr (Nat.le_refl _)) ?_
    refine ⟨pk_in p 24 p24, ?_⟩
    rw [nI_clamp (show p < 2 ^ 31 by omega), kD]
    refine br_t (by decide) ?_
    have kS := rf_Pe h.2
    exact rf_fit t u v ht kS hu hv (fun b3 h3 h4 => H s b3 (rf_put ok ht hu hv h.1 kS (fun r hr => by rw [h3 r hr]; exact h2 r hr) h4))
  · intro n i s hi h hw
    have vA : s (p * 40 + 0) = nI 1 := by
      rw [h.1 (p * 40 + 0) (by omega)]
      exact hS 0 (by omega)
    have vB : s (q * 40 + i) = nI (rf_c u v i) := by
      rw [h.1 (q * 40 + i) (by omega)]
      exact hSq i (by omega)
    have vC : s (t * 40 + 0 + i) = nI 0 := by
      show s (t * 40 + i) = nI 0
      rw [h.2 i (by omega), if_neg (by omega)]
    have lB := rf_cl hu hv i
    refine rf_mstep (i := 0) p24 q24 ht (by omega) (by rw [kDq]; exact fun g => absurd ((rf_dlt (by omega)).mp g) (by omega)) vA vB vC (by omega) lB (by omega) ?_
    refine hw _ ⟨rf_Fu h.1 (by omega) (by omega), rf_Pn h.2 (by omega) (congrArg nI ?_)⟩
    omega
/-! ===== add, scale ===== -/
theorem rf_cadd (u v k l j : Nat) : rf_c ((u + k) % 101) ((v + l) % 101) j = (rf_c u v j + rf_c k l j) % 101 := by
  unfold rf_c
  split
  · rfl
  · split
    · rfl
    · rfl
theorem rf_cmul (u v k j : Nat) : rf_c (u * k % 101) (v * k % 101) j = rf_c u v j * k % 101 := by
  unfold rf_c
  split
  · rfl
  · split
    · rfl
    · rw [Nat.zero_mul]
theorem rf_add {post : St2 → Prop} {c : Int32} {a1 a2 a3 : Nat → Int32} {G : Nat → Option (Nat × Nat)} {x y z : Int32} (p q t u v k l : Nat) (ok : rf_ok G a1 a2) (hp : G p = some (u, v)) (hq : G q = some (k, l)) (ht : t < 24) (hpt : p ≠ t) (hqt : q ≠ t)
    (H : ∀ b1 b2, rf_ok (rf_set G t ((u + k) % 101) ((v + l) % 101)) b1 b2 → post (c, b1, b2, a3)) (hx : x = nI p := by rfl) (hy : y = nI q := by rfl) (hz : z = nI t := by rfl) :
    wpX_add post (c, a1, a2, a3) x y 1 z := by
  subst hx hy hz
  obtain ⟨p24, hu, hv, hS, hD⟩ := ok p u v hp
  obtain ⟨q24, hk, hl, hSq, hDq⟩ := ok q k l hq
  have m1 : (u + k) % 101 < 101 := Nat.mod_lt _ (by decide)
  have m2 : (v + l) % 101 < 101 := Nat.mod_lt _ (by decide)
  refine pk_loop (fun n i s => wX_add_3 post (nI p) (nI q) 1 (nI t) c n (nI i) s a2 a3) (fun i s => rf_F a1 s t ∧ ∀ j, j < i → s (t * 40 + j) = nI (rf_c ((u + k) % 101) ((v + l) % 101) j)) 40 0 a1 (by omega) ⟨rf_F0 a1 t, fun j hj => absurd hj (by omega)⟩ ?_ ?_
  · intro n s h
    refine pk_le 40 40 (fun _ => ?_) (fun z => absurd z (by omega))
    have kS : rf_S s t ((u + k) % 101) ((v + l) % 101) := fun j hj => h.2 j hj
    exact rf_fit t _ _ ht kS m1 m2 (fun b3 h3 h4 => H s b3 (rf_put ok ht m1 m2 h.1 kS h3 h4))
  · intro n i s hi h hw
    refine pk_le 40 i (fun z => absurd z (by omega)) (fun _ => ⟨pk_in (p * 40 + i) 960 (by omega) (rf_ix p i), pk_in (q * 40 + i) 960 (by omega) (rf_ix q i), fun x6 e6 => ?_⟩)
    have vA : s (p * 40 + i) = nI (rf_c u v i) := by
      rw [h.1 (p * 40 + i) (by omega)]
      exact hS i (by omega)
    have vB : s (q * 40 + i) = nI (rf_c k l i) := by
      rw [h.1 (q * 40 + i) (by omega)]
      exact hSq i (by omega)
    rw [rf_ix p i, rf_ix q i, nI_clamp (show p * 40 + i < 2 ^ 31 by omega), nI_clamp (show q * 40 + i < 2 ^ 31 by omega), vA, vB, Int32.one_mul] at e6
    subst e6
    refine rf_reduce ((rf_c u v i + rf_c k l i) % 101) (Nat.mod_lt _ (by decide)) (rf_reda (rf_cl hu hv i) (rf_cl hk hl i)) ⟨pk_in (t * 40 + i) 960 (by omega) (rf_ix t i), fun s' es x5 e5 => ?_⟩
    rw [rf_ix t i, nI_clamp (show t * 40 + i < 2 ^ 31 by omega)] at es
    rw [nI_1] at e5
    subst es e5
    refine hw _ ⟨rf_Fu h.1 (by omega) (by omega), fun j hj => ?_⟩
    by_cases e : j = i
    · rw [e, pk_us, rf_cadd]
    · rw [pk_un (by omega)]
      exact h.2 j (by omega)
theorem rf_scale {post : St2 → Prop} {c : Int32} {a1 a2 a3 : Nat → Int32} {G : Nat → Option (Nat × Nat)} {x y : Int32} (p u v k : Nat) (ok : rf_ok G a1 a2) (hp : G p = some (u, v)) (hk : k < 101)
    (H : ∀ b1 b2, rf_ok (rf_set G p (u * k % 101) (v * k % 101)) b1 b2 → post (c, b1, b2, a3)) (hx : x = nI p := by rfl) (hy : y = nI k := by rfl) :
    wpX_scale post (c, a1, a2, a3) x y := by
  subst hx hy
  obtain ⟨p24, hu, hv, hS, hD⟩ := ok p u v hp
  have m1 : u * k % 101 < 101 := Nat.mod_lt _ (by decide)
  have m2 : v * k % 101 < 101 := Nat.mod_lt _ (by decide)
  refine pk_loop (fun n i s => wX_scale_2 post (nI p) (nI k) c n (nI i) s a2 a3) (fun i s => rf_F a1 s p ∧ ∀ j, j < 40 → s (p * 40 + j) = nI (if j < i then rf_c (u * k % 101) (v * k % 101) j else rf_c u v j)) 40 0 a1 (by omega) ⟨rf_F0 a1 p, fun j hj => by rw [if_neg (by omega)]; exact hS j hj⟩ ?_ ?_
  · intro n s h
    refine pk_le 40 40 (fun _ => ?_) (fun z => absurd z (by omega))
    have kS : rf_S s p (u * k % 101) (v * k % 101) := fun j hj => by rw [h.2 j hj, if_pos hj]
    exact rf_fit p _ _ p24 kS m1 m2 (fun b3 h3 h4 => H s b3 (rf_put ok p24 m1 m2 h.1 kS h3 h4))
  · intro n i s hi h hw
    have vA : s (p * 40 + i) = nI (rf_c u v i) := by rw [h.2 i hi, if_neg (by omega)]
    have hm := rf_mb (rf_cl hu hv i) hk
    refine pk_le 40 i (fun z => absurd z (by omega)) (fun _ => ⟨pk_in (p * 40 + i) 960 (by omega) (rf_ix p i), by decide, pk_in (p * 40 + i) 960 (by omega) (rf_ix p i), fun b eb y ey => ?_⟩)
    rw [rf_ix p i, nI_clamp (show p * 40 + i < 2 ^ 31 by omega), vA, pk_mul, rf_rem (by omega), ← rf_cmul] at eb
    rw [nI_1] at ey
    subst eb ey
    refine hw _ ⟨rf_Fu h.1 (by omega) (by omega), fun j hj => ?_⟩
    by_cases e : j = i
    · rw [e, pk_us, if_pos (by omega)]
    · rw [pk_un (by omega), h.2 j hj]
      by_cases z : j < i
      · rw [if_pos z, if_pos (by omega)]
      · rw [if_neg z, if_neg (by omega)]
end
section
/-! ===== divide ===== -/
/-- the quotient's number, -1 for none -/
def rf_x3 : Option Nat → Int32
  | none => -1
  | some t => nI t
/-- a division under way: the others as in G, p holds u + v X, the quotient's cells (if there is one) g + h X -/
def rf_D (G : Nat → Option (Nat × Nat)) (p : Nat) (T : Option Nat) (a1 a2 : Nat → Int32) (u v g h : Nat) : Prop :=
  rf_ok G a1 a2 ∧ u < 101 ∧ v < 101 ∧ rf_S a1 p u v ∧ a2 p = rf_d u v ∧ ∀ t, T = some t → rf_S a1 t g h
section
variable {post : St2 → Prop} {c : Int32} {a1 a2 a3 : Nat → Int32} {G : Nat → Option (Nat × Nat)} {p q : Nat} {T : Option Nat} {n r l u v e w u' v' g h g' h' : Nat}
theorem rf_tail {J : Int32 → Int32 → (Nat → Int32) → (Nat → Int32) → (Nat → Int32) → Prop} {x2 x4 : Int32} {s : Nat → Int32} {sh w7 : Nat}
    (hp : p < 24) (hGp : G p = none) (hT : ∀ t, T = some t → t < 24 ∧ t ≠ p ∧ G t = none) (ok : rf_ok G s a2) (hu : u < 101) (hv : v < 101) (hS : rf_S s p u v) (hQ : ∀ t, T = some t → rf_S s t g h) (hsh : sh < 40)
    (hxy : ∀ i, i < 40 → rf_c g' h' i = if i = sh then w7 else rf_c g h i)
    (H : ∀ b1 b2, rf_D G p T b1 b2 u v g' h' → J (nI (r + 1)) c b1 b2 a3) :
    (rf_x3 T < 0 → wX_divide_179 post J (nI p) x2 (rf_x3 T) x4 (nI r) c s a2 a3) ∧ (¬ rf_x3 T < 0 → (vp_in ((rf_x3 T * 40) + nI sh) 960 ∧ ∀ b : Nat → Int32, b = upd s ((rf_x3 T * 40) + nI sh).toNatClampNeg (nI w7) → wX_divide_179 post J (nI p) x2 (rf_x3 T) x4 (nI r) c b a2 a3)) := by
  cases T with
  | none =>
    refine br_t (by decide) ?_
    refine rf_fit p u v hp hS hu hv (fun b2 h2 hd => ?_)
    intro x ex
    rw [nI_1] at ex
    subst ex
    exact H s b2 ⟨rf_okF ok hGp (rf_F0 s p) h2, hu, hv, hS, hd, fun t z => absurd z.symm (Option.some_ne_none t)⟩
  | some t =>
    obtain ⟨h1, h2, h3⟩ := hT t rfl
    refine br_f (nI_pos (n := t) (by omega)) ⟨pk_in (t * 40 + sh) 960 (by omega) (rf_ix t sh), fun b eb => ?_⟩
    have eb' : b = upd s (t * 40 + sh) (nI w7) := eb.trans (congrArg (fun k => upd s k (nI w7)) (pk_cl (t * 40 + sh) (rf_ix t sh) (by omega)))
    subst eb'
    have hF : rf_F s (upd s (t * 40 + sh) (nI w7)) t := rf_Fu (rf_F0 s t) (by omega) (by omega)
    have kS := rf_fk hS hF (Ne.symm h2)
    refine rf_fit p u v hp kS hu hv (fun b2 k2 kd => ?_)
    intro x ex
    rw [nI_1] at ex
    subst ex
    refine H _ b2 ⟨rf_okF (rf_okF ok h3 hF (fun _ _ => rfl)) hGp (rf_F0 _ p) k2, hu, hv, kS, kd, fun t' z => ?_⟩
    cases z
    intro i hi
    rw [hxy i hi]
    by_cases ei : i = sh
    · rw [ei, pk_us, if_pos rfl]
    · rw [pk_un (by omega), if_neg ei]
      exact hQ t rfl i hi
theorem rf_98 {J : Int32 → Int32 → (Nat → Int32) → (Nat → Int32) → (Nat → Int32) → Prop} {sh w7 : Nat}
    (hp : p < 24) (hGp : G p = none) (hT : ∀ t, T = some t → t < 24 ∧ t ≠ p ∧ G t = none) (D : rf_D G p T a1 a2 u v g h) (hq : G q = some (e, w)) (h7 : w7 < 101) (hsh : sh + rf_e e w ≤ 40) (hsh' : sh < 40) (hu' : u' < 101) (hv' : v' < 101)
    (hnew : ∀ j, j < 40 → rf_c u' v' j = if sh ≤ j ∧ j < sh + rf_e e w then (rf_c u v j + 100 * (w7 * rf_c e w (j - sh))) % 101 else rf_c u v j)
    (hxy : ∀ i, i < 40 → rf_c g' h' i = if i = sh then w7 else rf_c g h i)
    (H : ∀ b1 b2, rf_D G p T b1 b2 u' v' g' h' → J (nI (r + 1)) c b1 b2 a3) :
    ∃ fu, wX_divide_98 post J (nI p) (nI q) (rf_x3 T) (nI l) (nI r) (nI sh) (nI w7) c fu 0 a1 a2 a3 := by
  obtain ⟨ok, hu, hv, hS, hd, hQ⟩ := D
  obtain ⟨q24, he, hw, hSq, hdq⟩ := ok q e w hq
  have hqp : q ≠ p := fun z => by
    rw [z, hGp] at hq
    cases hq
  have e2 := rf_e2 e w
  refine pk_loop (fun n i s => wX_divide_98 post J (nI p) (nI q) (rf_x3 T) (nI l) (nI r) (nI sh) (nI w7) c n (nI i) s a2 a3)
    (fun i s => rf_F a1 s p ∧ ∀ j, j < 40 → s (p * 40 + j) = nI (if sh ≤ j ∧ j < sh + i then (rf_c u v j + 100 * (w7 * rf_c e w (j - sh))) % 101 else rf_c u v j)) (rf_e e w) 0 a1 (by omega) ⟨rf_F0 a1 p, fun j hj => by rw [if_neg (by omega)]; exact hS j hj⟩ ?_ ?_
  · intro n s hh
    refine ⟨pk_in q 24 q24, ?_⟩
    rw [nI_clamp (show q < 2 ^ 31 by omega), hdq]
    refine br_t ((rf_dlt (by omega)).mpr (Nat.le_refl _)) ?_
    exact rf_tail hp hGp hT (rf_okF ok hGp hh.1 (fun _ _ => rfl)) hu' hv' (fun j hj => by rw [hh.2 j hj, hnew j hj]) (fun t ht => rf_fk (hQ t ht) hh.1 (hT t ht).2.1) hsh' hxy H
  · intro n i s hi hh hw2
    refine ⟨pk_in q 24 q24, ?_⟩
    rw [nI_clamp (show q < 2 ^ 31 by omega), hdq]
    refine br_f (fun z => absurd ((rf_dlt (by omega)).mp z) (by omega)) (fun x9 e9 => ?_)
    have e9' : x9 = nI (p * 40 + i + sh) := by rw [e9, rf_ix, nI_add]
    subst e9'
    clear e9
    have vA : s (p * 40 + i + sh) = nI (rf_c u v (i + sh)) := by rw [Nat.add_assoc, hh.2 (i + sh) (by omega), if_neg (by omega)]
    have vB : s (q * 40 + i) = nI (rf_c e w i) := by
      rw [hh.1 (q * 40 + i) (by omega)]
      exact hSq i (by omega)
    have lA := rf_cl hu hv (i + sh)
    have hm := rf_mb h7 (rf_cl he hw i)
    refine ⟨pk_in (p * 40 + i + sh) 960 (by omega), pk_in (q * 40 + i) 960 (by omega) (rf_ix q i), ?_⟩
    rw [rf_ix q i, nI_clamp (show p * 40 + i + sh < 2 ^ 31 by omega), nI_clamp (show q * 40 + i < 2 ^ 31 by omega), vA, vB, pk_mul]
    refine rf_reduce ((rf_c u v (i + sh) + 100 * (w7 * rf_c e w i)) % 101) (Nat.mod_lt _ (by decide)) (rf_redz lA hm) ⟨pk_in (p * 40 + i + sh) 960 (by omega), fun s' es x8 e8 => ?_⟩
    rw [nI_1] at e8
    subst es e8
    refine hw2 _ ⟨rf_Fu hh.1 (by omega) (by omega), fun j hj => ?_⟩
    by_cases ej : j = i + sh
    · subst ej
      rw [← Nat.add_assoc (p * 40) i sh, pk_us, if_pos (by omega), show i + sh - sh = i by omega]
    · rw [pk_un (by omega), hh.2 j hj]
      by_cases z : sh ≤ j ∧ j < sh + i
      · rw [if_pos z, if_pos (by omega)]
      · rw [if_neg z, if_neg (by omega)]
/-- one round of the division -/
theorem rf_round (sh w7 : Nat) (hp : p < 24) (hGp : G p = none) (hT : ∀ t, T = some t → t < 24 ∧ t ≠ p ∧ G t = none) (D : rf_D G p T a1 a2 u v g h) (hq : G q = some (e, w)) (hr : r < 40) (hl : l < 101)
    (he1 : 0 < rf_e e w) (hle : rf_e e w ≤ rf_e u v) (hsh : sh = rf_e u v - rf_e e w) (h7 : w7 = rf_c u v (rf_e u v - 1) * l % 101) (hu' : u' < 101) (hv' : v' < 101)
    (hnew : ∀ j, j < 40 → rf_c u' v' j = if sh ≤ j ∧ j < sh + rf_e e w then (rf_c u v j + 100 * (w7 * rf_c e w (j - sh))) % 101 else rf_c u v j)
    (hxy : ∀ i, i < 40 → rf_c g' h' i = if i = sh then w7 else rf_c g h i)
    (H : ∀ b1 b2, rf_D G p T b1 b2 u' v' g' h' → wX_divide_34 post (nI p) (nI q) (rf_x3 T) (nI l) n (nI (r + 1)) c b1 b2 a3) :
    wX_divide_34 post (nI p) (nI q) (rf_x3 T) (nI l) (n + 1) (nI r) c a1 a2 a3 := by
  have D' := D
  obtain ⟨ok, hu, hv, hS, hd, hQ⟩ := D'
  obtain ⟨q24, he, hw, hSq, hdq⟩ := ok q e w hq
  have e2 := rf_e2 u v
  have c1 : a2 (nI p).toNatClampNeg = nI (rf_e u v - 1) := by
    rw [nI_clamp (by omega), hd]
    exact rf_dn (by omega)
  have c2 : a2 (nI q).toNatClampNeg = nI (rf_e e w - 1) := by
    rw [nI_clamp (by omega), hdq]
    exact rf_dn he1
  have hm := rf_mb (rf_cl hu hv (rf_e u v - 1)) hl
  refine pk_le 40 r (fun z => absurd z (by omega)) (fun _ => ⟨pk_in p 24 hp, pk_in q 24 q24, ?_⟩)
  rw [c1, c2]
  refine br_f (nI_nlt (by omega) (by omega)) ⟨pk_in p 24 hp, pk_in q 24 q24, fun x6 e6 => ⟨pk_in p 24 hp, pk_in (p * 40 + (rf_e u v - 1)) 960 (by omega) (rf_ix p _), by decide, fun x7 e7 => ?_⟩⟩
  rw [pk_sub (by omega), show rf_e u v - 1 - (rf_e e w - 1) = sh by omega] at e6
  rw [rf_ix, nI_clamp (by omega), hS (rf_e u v - 1) (by omega), pk_mul, rf_rem (by omega), ← h7] at e7
  subst e6 e7
  exact rf_98 hp hGp hT D hq (by rw [h7]; exact Nat.mod_lt _ (by decide)) (by omega) (by omega) hu' hv' hnew hxy H
/-- the division's end: the degree of p is below that of q -/
theorem rf_dend (hp : p < 24) (hGp : G p = none) (hT : ∀ t, T = some t → t < 24 ∧ t ≠ p ∧ G t = none) (D : rf_D G p T a1 a2 u v g h) (hq : G q = some (e, w)) (hr : r < 40) (hlt : rf_e u v < rf_e e w) (hg : g < 101) (hh : h < 101)
    (H : ∀ b2, rf_D G p T a1 b2 u v g h → (∀ t, T = some t → b2 t = rf_d g h) → post (c, a1, b2, a3)) :
    wX_divide_34 post (nI p) (nI q) (rf_x3 T) (nI l) (n + 1) (nI r) c a1 a2 a3 := by
  have D' := D
  obtain ⟨ok, hu, hv, hS, hd, hQ⟩ := D'
  obtain ⟨q24, he, hw, hSq, hdq⟩ := ok q e w hq
  refine pk_le 40 r (fun z => absurd z (by omega)) (fun _ => ⟨pk_in p 24 hp, pk_in q 24 q24, ?_⟩)
  have c1 : a2 (nI p).toNatClampNeg = rf_d u v := by
    rw [nI_clamp (by omega), hd]
  have c2 : a2 (nI q).toNatClampNeg = rf_d e w := by
    rw [nI_clamp (by omega), hdq]
  rw [c1, c2]
  refine br_t ((rf_ddlt u v e w).mpr hlt) ?_
  unfold wX_divide_190
  cases T with
  | none => exact br_t (by decide) (H a2 D (fun t z => absurd z.symm (Option.some_ne_none t)))
  | some t =>
    obtain ⟨h1, h2, h3⟩ := hT t rfl
    refine br_f (nI_pos (n := t) (by omega)) ?_
    refine rf_fit t g h h1 (hQ t rfl) hg hh (fun b2 k2 kd => ?_)
    refine H b2 ⟨rf_okF ok h3 (rf_F0 a1 t) k2, hu, hv, hS, by rw [k2 p (Ne.symm h2)]; exact hd, hQ⟩ (fun t' z => ?_)
    cases z
    exact kd
/-- the division's opening: the quotient is cleared, the inverse of q's leading coefficient is taken -/
theorem rf_dopen {x y z : Int32} (hp : p < 24) (hGp : G p = none) (hT : ∀ t, T = some t → t < 24 ∧ t ≠ p ∧ G t = none) (ok : rf_ok G a1 a2) (hu : u < 101) (hv : v < 101) (hS : rf_S a1 p u v) (hd : a2 p = rf_d u v) (hq : G q = some (e, w)) (he1 : 0 < rf_e e w)
    (H : ∀ b1 b2, rf_D G p T b1 b2 u v 0 0 → ∃ fu, wX_divide_34 post (nI p) (nI q) (rf_x3 T) (nI (rf_inv (rf_c e w (rf_e e w - 1)))) fu (nI 0) c b1 b2 a3)
    (hx : x = nI p) (hy : y = nI q) (hz : z = rf_x3 T) : wpX_divide post (c, a1, a2, a3) x y z := by
  subst hx hy hz
  have key : ∀ b1 b2, rf_D G p T b1 b2 u v 0 0 → wX_divide_9 post (nI p) (nI q) (rf_x3 T) c b1 b2 a3 := by
    intro b1 b2 D
    have D' := D
    obtain ⟨ok', _, _, _, _, _⟩ := D'
    obtain ⟨q24, he, hw, hSq, hdq⟩ := ok' q e w hq
    have e2 := rf_e2 e w
    have c2 : b2 (nI q).toNatClampNeg = nI (rf_e e w - 1) := by
      rw [nI_clamp (by omega), hdq]
      exact rf_dn he1
    unfold wX_divide_9
    rw [c2]
    refine ⟨pk_in q 24 q24, pk_in (q * 40 + (rf_e e w - 1)) 960 (by omega) (rf_ix q _), ?_⟩
    rw [rf_ix, nI_clamp (by omega), hSq (rf_e e w - 1) (by omega)]
    exact rf_inverse (rf_cl he hw _) (H b1 b2 D)
  unfold wpX_divide
  cases T with
  | none => exact br_t (by decide) (key a1 a2 ⟨ok, hu, hv, hS, hd, fun t z => absurd z.symm (Option.some_ne_none t)⟩)
  | some t =>
    obtain ⟨h1, h2, h3⟩ := hT t rfl
    refine br_f (nI_pos (n := t) (by omega)) ?_
    refine rf_clear t h1 (fun b1 b2 hF hS0 k2 kd => ?_)
    refine key b1 b2 ⟨rf_okF ok h3 hF k2, hu, hv, rf_fk hS hF (Ne.symm h2), by rw [k2 p (Ne.symm h2)]; exact hd, fun t' z => ?_⟩
    cases z
    exact hS0
end
/-- what a division leaves -/
def rf_res (G : Nat → Option (Nat × Nat)) (p : Nat) (T : Option Nat) (u v g h : Nat) : Nat → Option (Nat × Nat) := match T with
  | none => rf_set G p u v
  | some t => rf_set (rf_set G p u v) t g h
/-- G without p and the quotient -/
def rf_cut (G : Nat → Option (Nat × Nat)) (p : Nat) (T : Option Nat) : Nat → Option (Nat × Nat) := fun r => if r = p ∨ T = some r then none else G r
theorem rf_fin {G : Nat → Option (Nat × Nat)} {p : Nat} {T : Option Nat} {b1 b2 : Nat → Int32} {u v g h : Nat} (hp : p < 24) (hT : ∀ t, T = some t → t < 24 ∧ t ≠ p) (D : rf_D (rf_cut G p T) p T b1 b2 u v g h) (hd : ∀ t, T = some t → b2 t = rf_d g h) (hg : g < 101) (hh : h < 101) :
    rf_ok (rf_res G p T u v g h) b1 b2 := by
  obtain ⟨ok, hu, hv, hS, hD, hQ⟩ := D
  have base : ∀ q x y, q ≠ p → T ≠ some q → G q = some (x, y) → q < 24 ∧ x < 101 ∧ y < 101 ∧ rf_S b1 q x y ∧ b2 q = rf_d x y := fun q x y h1 h2 h3 => ok q x y (by
    unfold rf_cut
    rw [if_neg (fun z => z.elim h1 h2)]
    exact h3)
  intro q x y k
  cases T with
  | none =>
    have k' : rf_set G p u v q = some (x, y) := k
    by_cases e : q = p
    · subst e
      rw [rf_same] at k'
      cases k'
      exact ⟨hp, hu, hv, hS, hD⟩
    · rw [rf_other e] at k'
      exact base q x y e (fun z => absurd z.symm (Option.some_ne_none q)) k'
  | some t =>
    have k' : rf_set (rf_set G p u v) t g h q = some (x, y) := k
    by_cases et : q = t
    · subst et
      rw [rf_same] at k'
      cases k'
      exact ⟨(hT q rfl).1, hg, hh, hQ q rfl, hd q rfl⟩
    · rw [rf_other et] at k'
      by_cases e : q = p
      · subst e
        rw [rf_same] at k'
        cases k'
        exact ⟨hp, hu, hv, hS, hD⟩
      · rw [rf_other e] at k'
        exact base q x y e (fun z => et (by cases z; rfl)) k'
theorem rf_ar (v l e : Nat) (h : l * e % 101 = 1) : (v + 100 * ((v * l % 101) * e)) % 101 = 0 := by
  have h1 : (v * l % 101) * e % 101 = v % 101 := by
    rw [Nat.mul_mod, Nat.mod_mod, ← Nat.mul_mod, Nat.mul_assoc, Nat.mul_mod, h, Nat.mul_one, Nat.mod_mod]
  omega
theorem rf_e10 {e : Nat} (h : e ≠ 0) : rf_e e 0 = 1 := by
  unfold rf_e
  rw [if_pos rfl, if_neg h]
theorem rf_e2v {u v : Nat} (h : v ≠ 0) : rf_e u v = 2 := by
  unfold rf_e
  rw [if_neg h]
theorem rf_j {P : Nat → Prop} (h0 : P 0) (h1 : P 1) (h2 : ∀ j, 2 ≤ j → P j) (j : Nat) : P j := by
  rcases Nat.lt_or_ge j 2 with z | z
  · rcases (show j = 0 ∨ j = 1 by omega) with e | e
    · rw [e]
      exact h0
    · rw [e]
      exact h1
  · exact h2 j z
section
variable {post : St2 → Prop} {c : Int32} {a1 a2 a3 : Nat → Int32} {G : Nat → Option (Nat × Nat)} {p q : Nat} {T : Option Nat} {n r l u v e h : Nat}
/-- a constant divided by a constant, the quotient's higher coefficient as it stands -/
theorem rf_divC0 (hp : p < 24) (hGp : G p = none) (hT : ∀ t, T = some t → t < 24 ∧ t ≠ p ∧ G t = none) (D : rf_D G p T a1 a2 u 0 0 h) (hq : G q = some (e, 0)) (he : e ≠ 0) (hr : r < 39) (hl : l < 101) (hle : l * e % 101 = 1) (hh : h < 101)
    (H : ∀ b1 b2, rf_D G p T b1 b2 0 0 (u * l % 101) h → (∀ t, T = some t → b2 t = rf_d (u * l % 101) h) → post (c, b1, b2, a3)) :
    wX_divide_34 post (nI p) (nI q) (rf_x3 T) (nI l) (n + 1 + 1) (nI r) c a1 a2 a3 := by
  have ee := rf_e10 he
  by_cases hu : u = 0
  · subst hu
    refine rf_dend hp hGp hT D hq (by omega) (by rw [ee]; decide) (by omega) hh (fun b2 D2 hd => ?_)
    rw [Nat.zero_mul] at H
    exact H a1 b2 D2 hd
  · have eu := rf_e10 hu
    have hm : u * l % 101 < 101 := Nat.mod_lt _ (by decide)
    refine rf_round (u' := 0) (v' := 0) (g' := u * l % 101) (h' := h) 0 (u * l % 101) hp hGp hT D hq (by omega) hl (by omega) (by omega) (by omega) (by rw [eu]; rfl) (by omega) (by omega) (rf_j ?_ ?_ ?_) (rf_j ?_ ?_ ?_) (fun b1 b2 D2 => ?_)
    · intro _
      rw [if_pos (by omega)]
      exact (rf_ar u l e hle).symm
    · intro _
      rw [if_neg (by omega)]
      rfl
    · intro j hj _
      rw [if_neg (by omega), rf_c2 hj, rf_c2 hj]
    · intro _
      rw [if_pos rfl]
      rfl
    · intro _
      rw [if_neg (by omega)]
      rfl
    · intro j hj _
      rw [if_neg (by omega), rf_c2 hj, rf_c2 hj]
    · exact rf_dend hp hGp hT D2 hq (by omega) (by rw [ee]; decide) hm hh (fun b3 D3 hd => H b1 b3 D3 hd)
theorem rf_divC1 (hp : p < 24) (hGp : G p = none) (hT : ∀ t, T = some t → t < 24 ∧ t ≠ p ∧ G t = none) (D : rf_D G p T a1 a2 u v 0 0) (hq : G q = some (e, 0)) (he : e ≠ 0) (hl : l < 101) (hle : l * e % 101 = 1)
    (H : ∀ b1 b2, rf_D G p T b1 b2 0 0 (u * l % 101) (v * l % 101) → (∀ t, T = some t → b2 t = rf_d (u * l % 101) (v * l % 101)) → post (c, b1, b2, a3)) :
    wX_divide_34 post (nI p) (nI q) (rf_x3 T) (nI l) (0 + 1 + 1 + 1) (nI 0) c a1 a2 a3 := by
  have ee := rf_e10 he
  by_cases hv : v = 0
  · subst hv
    rw [Nat.zero_mul] at H
    exact rf_divC0 hp hGp hT D hq he (by omega) hl hle (by decide) H
  · have ev := rf_e2v (u := u) hv
    have hm : v * l % 101 < 101 := Nat.mod_lt _ (by decide)
    have hu := D.2.1
    refine rf_round (u' := u) (v' := 0) (g' := 0) (h' := v * l % 101) 1 (v * l % 101) hp hGp hT D hq (by omega) hl (by omega) (by omega) (by omega) (by rw [ev]; rfl) hu (by omega) (rf_j ?_ ?_ ?_) (rf_j ?_ ?_ ?_) (fun b1 b2 D2 => ?_)
    · intro _
      rw [if_neg (by omega)]
      rfl
    · intro _
      rw [if_pos (by omega)]
      exact (rf_ar v l e hle).symm
    · intro j hj _
      rw [if_neg (by omega), rf_c2 hj, rf_c2 hj]
    · intro _
      rw [if_neg (by omega)]
      rfl
    · intro _
      rw [if_pos rfl]
      rfl
    · intro j hj _
      rw [if_neg (by omega), rf_c2 hj, rf_c2 hj]
    · exact rf_divC0 hp hGp hT D2 hq he (by omega) hl hle hm H
end
theorem rf_cutP (G : Nat → Option (Nat × Nat)) (p : Nat) (T : Option Nat) : rf_cut G p T p = none := if_pos (Or.inl rfl)
theorem rf_cutT (G : Nat → Option (Nat × Nat)) (p : Nat) {T : Option Nat} {t : Nat} (h : T = some t) : rf_cut G p T t = none := if_pos (Or.inr h)
theorem rf_cutO {G : Nat → Option (Nat × Nat)} {p : Nat} {T : Option Nat} {q : Nat} (h1 : q ≠ p) (h2 : T ≠ some q) : rf_cut G p T q = G q := if_neg (fun z => z.elim h1 h2)
theorem rf_cutW {G : Nat → Option (Nat × Nat)} {p : Nat} {T : Option Nat} {a1 a2 : Nat → Int32} (ok : rf_ok G a1 a2) : rf_ok (rf_cut G p T) a1 a2 := rf_weak ok (fun q u v h => by
  unfold rf_cut at h
  by_cases z : q = p ∨ T = some q
  · rw [if_pos z] at h
    cases h
  · rw [if_neg z] at h
    exact h)
section
variable {post : St2 → Prop} {c : Int32} {a1 a2 a3 : Nat → Int32} {G : Nat → Option (Nat × Nat)} {x y z : Int32}
/-- u + v X by the constant e -/
theorem rf_divC (p q : Nat) (T : Option Nat) (u v e : Nat) (ok : rf_ok G a1 a2) (hp : G p = some (u, v)) (hq : G q = some (e, 0)) (he : e ≠ 0) (hpq : q ≠ p) (hT : ∀ t, T = some t → t < 24 ∧ t ≠ p ∧ q ≠ t)
    (H : ∀ b1 b2, rf_ok (rf_res G p T 0 0 (u * rf_inv e % 101) (v * rf_inv e % 101)) b1 b2 → post (c, b1, b2, a3))
    (hx : x = nI p := by rfl) (hy : y = nI q := by rfl) (hz : z = rf_x3 T := by rfl) : wpX_divide post (c, a1, a2, a3) x y z := by
  obtain ⟨p24, hu, hv, hS, hD⟩ := ok p u v hp
  obtain ⟨q24, he', _, _, _⟩ := ok q e 0 hq
  have ee := rf_e10 he
  have hq' : rf_cut G p T q = some (e, 0) := by
    rw [rf_cutO hpq (fun k => (hT q k).2.2 rfl)]
    exact hq
  have hT' : ∀ t, T = some t → t < 24 ∧ t ≠ p ∧ rf_cut G p T t = none := fun t k => ⟨(hT t k).1, (hT t k).2.1, rf_cutT G p k⟩
  refine rf_dopen p24 (rf_cutP G p T) hT' (rf_cutW ok) hu hv hS hD hq' (by omega) (fun b1 b2 D => ⟨0 + 1 + 1 + 1, ?_⟩) hx hy hz
  rw [ee]
  refine rf_divC1 p24 (rf_cutP G p T) hT' D hq' he (rf_invlt e he') (rf_invm e he' he) (fun d1 d2 D2 hd => H d1 d2 ?_)
  exact rf_fin p24 (fun t k => ⟨(hT t k).1, (hT t k).2.1⟩) D2 hd (Nat.mod_lt _ (by decide)) (Nat.mod_lt _ (by decide))
/-- u + X by k + X -/
theorem rf_divL (p q : Nat) (T : Option Nat) (u k : Nat) (ok : rf_ok G a1 a2) (hp : G p = some (u, 1)) (hq : G q = some (k, 1)) (hpq : q ≠ p) (hT : ∀ t, T = some t → t < 24 ∧ t ≠ p ∧ q ≠ t)
    (H : ∀ b1 b2, rf_ok (rf_res G p T ((u + 100 * k) % 101) 0 1 0) b1 b2 → post (c, b1, b2, a3))
    (hx : x = nI p := by rfl) (hy : y = nI q := by rfl) (hz : z = rf_x3 T := by rfl) : wpX_divide post (c, a1, a2, a3) x y z := by
  obtain ⟨p24, hu, hv, hS, hD⟩ := ok p u 1 hp
  obtain ⟨q24, hk, _, _, _⟩ := ok q k 1 hq
  have eu : rf_e u 1 = 2 := rf_e2v (by omega)
  have ek : rf_e k 1 = 2 := rf_e2v (by omega)
  have hq' : rf_cut G p T q = some (k, 1) := by
    rw [rf_cutO hpq (fun z => (hT q z).2.2 rfl)]
    exact hq
  have hT' : ∀ t, T = some t → t < 24 ∧ t ≠ p ∧ rf_cut G p T t = none := fun t z => ⟨(hT t z).1, (hT t z).2.1, rf_cutT G p z⟩
  have hm : (u + 100 * k) % 101 < 101 := Nat.mod_lt _ (by decide)
  refine rf_dopen p24 (rf_cutP G p T) hT' (rf_cutW ok) hu hv hS hD hq' (by omega) (fun b1 b2 D => ⟨0 + 1 + 1, ?_⟩) hx hy hz
  rw [ek, show rf_c k 1 (2 - 1) = 1 from rfl, rf_inv1]
  refine rf_round (u' := (u + 100 * k) % 101) (v' := 0) (g' := 1) (h' := 0) 0 1 p24 (rf_cutP G p T) hT' D hq' (by omega) (by omega) (by omega) (by omega) (by omega) (by rw [eu]; rfl) hm (by omega) (rf_j ?_ ?_ ?_) (rf_j ?_ ?_ ?_) (fun d1 d2 D2 => ?_)
  · intro _
    rw [if_pos (by omega), Nat.one_mul]
    rfl
  · intro _
    rw [if_pos (by omega)]
    show rf_c ((u + 100 * k) % 101) 0 1 = (rf_c u 1 1 + 100 * (1 * rf_c k 1 1)) % 101
    rw [rf_c1, rf_c1, rf_c1]
  · intro j hj _
    rw [if_neg (by omega), rf_c2 hj, rf_c2 hj]
  · intro _
    rw [if_pos rfl]
    rfl
  · intro _
    rw [if_neg (by omega)]
    rfl
  · intro j hj _
    rw [if_neg (by omega), rf_c2 hj, rf_c2 hj]
  · refine rf_dend p24 (rf_cutP G p T) hT' D2 hq' (by omega) ?_ (by omega) (by omega) (fun b3 D3 hd => H d1 b3 (rf_fin p24 (fun t z => ⟨(hT t z).1, (hT t z).2.1⟩) D3 hd (by omega) (by omega)))
    rw [ek]
    unfold rf_e
    rw [if_pos rfl]
    split
    · omega
    · omega
end
end
section
/-! ===== lower ===== -/
theorem rf_ar0 (v l e : Nat) (h : l * e % 101 = 1) : (v * l % 101) * e % 101 = v % 101 := by
  rw [Nat.mul_mod, Nat.mod_mod, ← Nat.mul_mod, Nat.mul_assoc, Nat.mul_mod, h, Nat.mul_one, Nat.mod_mod]
theorem rf_resS (G : Nat → Option (Nat × Nat)) (p t u v g h : Nat) : rf_res G p (some t) u v g h = rf_set (rf_set G p u v) t g h := rfl
theorem rf_resN (G : Nat → Option (Nat × Nat)) (p u v g h : Nat) : rf_res G p none u v g h = rf_set G p u v := rfl
section
variable {post : St2 → Prop} {c : Int32} {a1 a2 a3 : Nat → Int32} {K : Nat → Option (Nat × Nat)}
theorem rf_divC' {G : Nat → Option (Nat × Nat)} {x y z : Int32} (p q t u v e L : Nat) (ok : rf_ok G a1 a2) (hp : G p = some (u, v)) (hq : G q = some (e, 0)) (he : e ≠ 0) (hpq : q ≠ p) (ht : t < 24) (htp : t ≠ p) (hqt : q ≠ t) (hL : L = rf_inv e)
    (H : ∀ b1 b2, rf_ok (rf_set (rf_set G p 0 0) t (u * L % 101) (v * L % 101)) b1 b2 → post (c, b1, b2, a3))
    (hx : x = nI p := by rfl) (hy : y = nI q := by rfl) (hz : z = nI t := by rfl) : wpX_divide post (c, a1, a2, a3) x y z := by
  subst hL
  exact rf_divC p q (some t) u v e ok hp hq he hpq (fun t' k => by cases k; exact ⟨ht, htp, hqt⟩) H hx hy hz
/-- both quotients by the constant e, then the common factor -/
theorem rf_87C (p q u v k l e L m : Nat) (hK : ∀ r, 12 ≤ r → K r = none) (hp : p < 12) (hq : q < 12) (hpq : p ≠ q) (gp : K p = some (u, v)) (gq : K q = some (k, l)) (he : e ≠ 0) (hL : L = rf_inv e) (ok : rf_ok (rf_set (rf_set K 12 e 0) 13 0 0) a1 a2)
    (hn : 0 < rf_e (k * L % 101) (l * L % 101)) (hm : m = rf_inv (rf_c (k * L % 101) (l * L % 101) (rf_e (k * L % 101) (l * L % 101) - 1)))
    (H : ∀ b1 b2, rf_ok (rf_set (rf_set K p ((u * L % 101) * m % 101) ((v * L % 101) * m % 101)) q ((k * L % 101) * m % 101) ((l * L % 101) * m % 101)) b1 b2 → post (c, b1, b2, a3)) :
    wX_lower_87 post (nI p) (nI q) c a1 a2 a3 := by
  unfold wX_lower_87
  refine rf_copy p 14 u v ok (by simp (disch := omega) only [rf_same, rf_other, rf_resS, rf_resN, gp]) (by omega) (by omega) (fun b1 b2 ok1 => ?_)
  refine rf_divC' 14 12 15 u v e L ok1 (by simp (disch := omega) only [rf_same, rf_other, rf_resS, rf_resN]) (by simp (disch := omega) only [rf_same, rf_other, rf_resS, rf_resN]) he (by omega) (by omega) (by omega) (by omega) hL (fun b1 b2 ok2 => ?_)
  refine rf_copy 15 p (u * L % 101) (v * L % 101) ok2 (by simp (disch := omega) only [rf_same, rf_other, rf_resS, rf_resN]) (by omega) (by omega) (fun b1 b2 ok3 => ?_)
  refine rf_copy q 14 k l ok3 (by simp (disch := omega) only [rf_same, rf_other, rf_resS, rf_resN, gq]) (by omega) (by omega) (fun b1 b2 ok4 => ?_)
  refine rf_divC' 14 12 15 k l e L ok4 (by simp (disch := omega) only [rf_same, rf_other, rf_resS, rf_resN]) (by simp (disch := omega) only [rf_same, rf_other, rf_resS, rf_resN]) he (by omega) (by omega) (by omega) (by omega) hL (fun b1 b2 ok5 => ?_)
  refine rf_copy 15 q (k * L % 101) (l * L % 101) ok5 (by simp (disch := omega) only [rf_same, rf_other, rf_resS, rf_resN]) (by omega) (by omega) (fun b1 b2 ok6 => ?_)
  obtain ⟨q24, hk1, hl1, hSq, hdq⟩ := ok6 q (k * L % 101) (l * L % 101) (rf_same _ _ _ _)
  have e2 := rf_e2 (k * L % 101) (l * L % 101)
  have hlt := rf_cl hk1 hl1 (rf_e (k * L % 101) (l * L % 101) - 1)
  have c2 : b2 (nI q).toNatClampNeg = nI (rf_e (k * L % 101) (l * L % 101) - 1) := by
    rw [nI_clamp (by omega), hdq]
    exact rf_dn hn
  have c3 : b1 (nI q * 40 + b2 (nI q).toNatClampNeg).toNatClampNeg = nI (rf_c (k * L % 101) (l * L % 101) (rf_e (k * L % 101) (l * L % 101) - 1)) := by
    rw [c2, rf_ix, nI_clamp (by omega)]
    exact hSq _ (by omega)
  refine ⟨pk_in q 24 q24, pk_in (q * 40 + (rf_e (k * L % 101) (l * L % 101) - 1)) 960 (by omega) (by rw [c2, rf_ix]), ?_⟩
  rw [c3]
  refine rf_inverse hlt ?_
  rw [← hm]
  have hm1 : m < 101 := by
    rw [hm]
    exact rf_invlt _ hlt
  refine rf_scale p (u * L % 101) (v * L % 101) m ok6 (by simp (disch := omega) only [rf_same, rf_other, rf_resS, rf_resN]) hm1 (fun d1 d2 ok7 => ?_)
  refine rf_scale q (k * L % 101) (l * L % 101) m ok7 (by simp (disch := omega) only [rf_same, rf_other, rf_resS, rf_resN]) hm1 (fun d1 d2 ok8 => ?_)
  refine H d1 d2 (rf_weak ok8 (fun r x y h => ?_))
  by_cases e1 : r = q
  · subst e1
    rw [rf_same] at h ⊢
    exact h
  · rw [rf_other e1] at h ⊢
    by_cases e3 : r = p
    · subst e3
      rw [rf_same] at h ⊢
      exact h
    · rw [rf_other e3] at h ⊢
      have hr : r < 12 := by
        rcases Nat.lt_or_ge r 12 with z | z
        · exact z
        · rw [hK r z] at h
          cases h
      simp (disch := omega) only [rf_other, rf_resS]
      exact h
/-- both quotients by d + X: 1 -/
theorem rf_87L (p q u k d m : Nat) (hK : ∀ r, 12 ≤ r → K r = none) (hp : p < 12) (hq : q < 12) (hpq : p ≠ q) (gp : K p = some (u, 1)) (gq : K q = some (k, 1)) (ok : rf_ok (rf_set (rf_set K 12 d 1) 13 0 0) a1 a2)
    (hn : 0 < rf_e (1) (0)) (hm : m = rf_inv (rf_c (1) (0) (rf_e (1) (0) - 1)))
    (H : ∀ b1 b2, rf_ok (rf_set (rf_set K p ((1) * m % 101) ((0) * m % 101)) q ((1) * m % 101) ((0) * m % 101)) b1 b2 → post (c, b1, b2, a3)) :
    wX_lower_87 post (nI p) (nI q) c a1 a2 a3 := by
  unfold wX_lower_87
  refine rf_copy p 14 u 1 ok (by simp (disch := omega) only [rf_same, rf_other, rf_resS, rf_resN, gp]) (by omega) (by omega) (fun b1 b2 ok1 => ?_)
  refine rf_divL 14 12 (some 15) u d ok1 (by simp (disch := omega) only [rf_same, rf_other, rf_resS, rf_resN]) (by simp (disch := omega) only [rf_same, rf_other, rf_resS, rf_resN]) (by omega) (fun t z => by cases z; exact ⟨by omega, by omega, by omega⟩) (fun b1 b2 ok2 => ?_)
  refine rf_copy 15 p (1) (0) ok2 (by simp (disch := omega) only [rf_same, rf_other, rf_resS, rf_resN]) (by omega) (by omega) (fun b1 b2 ok3 => ?_)
  refine rf_copy q 14 k 1 ok3 (by simp (disch := omega) only [rf_same, rf_other, rf_resS, rf_resN, gq]) (by omega) (by omega) (fun b1 b2 ok4 => ?_)
  refine rf_divL 14 12 (some 15) k d ok4 (by simp (disch := omega) only [rf_same, rf_other, rf_resS, rf_resN]) (by simp (disch := omega) only [rf_same, rf_other, rf_resS, rf_resN]) (by omega) (fun t z => by cases z; exact ⟨by omega, by omega, by omega⟩) (fun b1 b2 ok5 => ?_)
  refine rf_copy 15 q (1) (0) ok5 (by simp (disch := omega) only [rf_same, rf_other, rf_resS, rf_resN]) (by omega) (by omega) (fun b1 b2 ok6 => ?_)
  obtain ⟨q24, hk1, hl1, hSq, hdq⟩ := ok6 q (1) (0) (rf_same _ _ _ _)
  have e2 := rf_e2 (1) (0)
  have hlt := rf_cl hk1 hl1 (rf_e (1) (0) - 1)
  have c2 : b2 (nI q).toNatClampNeg = nI (rf_e (1) (0) - 1) := by
    rw [nI_clamp (by omega), hdq]
    exact rf_dn hn
  have c3 : b1 (nI q * 40 + b2 (nI q).toNatClampNeg).toNatClampNeg = nI (rf_c (1) (0) (rf_e (1) (0) - 1)) := by
    rw [c2, rf_ix, nI_clamp (by omega)]
    exact hSq _ (by omega)
  refine ⟨pk_in q 24 q24, pk_in (q * 40 + (rf_e (1) (0) - 1)) 960 (by omega) (by rw [c2, rf_ix]), ?_⟩
  rw [c3]
  refine rf_inverse hlt ?_
  rw [← hm]
  have hm1 : m < 101 := by
    rw [hm]
    exact rf_invlt _ hlt
  refine rf_scale p (1) (0) m ok6 (by simp (disch := omega) only [rf_same, rf_other, rf_resS, rf_resN]) hm1 (fun d1 d2 ok7 => ?_)
  refine rf_scale q (1) (0) m ok7 (by simp (disch := omega) only [rf_same, rf_other, rf_resS, rf_resN]) hm1 (fun d1 d2 ok8 => ?_)
  refine H d1 d2 (rf_weak ok8 (fun r x y h => ?_))
  by_cases e1 : r = q
  · subst e1
    rw [rf_same] at h ⊢
    exact h
  · rw [rf_other e1] at h ⊢
    by_cases e3 : r = p
    · subst e3
      rw [rf_same] at h ⊢
      exact h
    · rw [rf_other e3] at h ⊢
      have hr : r < 12 := by
        rcases Nat.lt_or_ge r 12 with z | z
        · exact z
        · rw [hK r z] at h
          cases h
      simp (disch := omega) only [rf_other, rf_resS]
      exact h
/-- the loop's exit: the divisor is 0 -/
theorem rf_l32x {G : Nat → Option (Nat × Nat)} {x1 x2 : Int32} {n r : Nat} (ok : rf_ok G a1 a2) (g13 : G 13 = some (0, 0)) (hr : r < 80) (H : wX_lower_87 post x1 x2 c a1 a2 a3) : wX_lower_32 post x1 x2 (n + 1) (nI r) c a1 a2 a3 := by
  obtain ⟨_, _, _, _, hd⟩ := ok 13 0 0 g13
  exact pk_le 80 r (fun z => absurd z (by omega)) (fun _ => br_t (by rw [hd]; decide) H)
/-- a round with a constant divisor -/
theorem rf_l32C {x1 x2 : Int32} {n r u v e : Nat} (hK : ∀ r, 12 ≤ r → K r = none) (ok : rf_ok (rf_set (rf_set K 12 u v) 13 e 0) a1 a2) (he : e ≠ 0) (hr : r < 80)
    (H : ∀ b1 b2, rf_ok (rf_set (rf_set K 12 e 0) 13 0 0) b1 b2 → wX_lower_32 post x1 x2 n (nI (r + 1)) c b1 b2 a3) : wX_lower_32 post x1 x2 (n + 1) (nI r) c a1 a2 a3 := by
  obtain ⟨_, _, _, _, hd⟩ := ok 13 e 0 (rf_same _ _ _ _)
  have ee := rf_e10 he
  refine pk_le 80 r (fun z => absurd z (by omega)) (fun _ => br_f (by rw [hd]; exact fun z => absurd ((rf_dlt (i := 0) (by omega)).mp z) (by omega)) ?_)
  refine rf_divC 12 13 none u v e ok (by simp (disch := omega) only [rf_same, rf_other, rf_resS, rf_resN]) (by simp (disch := omega) only [rf_same, rf_other, rf_resS, rf_resN]) he (by omega) (fun t z => absurd z.symm (Option.some_ne_none t)) (fun b1 b2 ok1 => ?_)
  refine rf_copy 12 14 0 0 ok1 (by simp (disch := omega) only [rf_same, rf_other, rf_resS, rf_resN]) (by omega) (by omega) (fun b1 b2 ok2 => ?_)
  refine rf_copy 13 12 e 0 ok2 (by simp (disch := omega) only [rf_same, rf_other, rf_resS, rf_resN]) (by omega) (by omega) (fun b1 b2 ok3 => ?_)
  refine rf_copy 14 13 0 0 ok3 (by simp (disch := omega) only [rf_same, rf_other, rf_resS, rf_resN]) (by omega) (by omega) (fun b1 b2 ok4 => ?_)
  intro x3 e3
  rw [nI_1] at e3
  subst e3
  refine H _ _ (rf_weak ok4 (fun s x y h => ?_))
  by_cases e1 : s = 13
  · subst e1
    rw [rf_same] at h ⊢
    exact h
  · rw [rf_other e1] at h ⊢
    by_cases e3 : s = 12
    · subst e3
      rw [rf_same] at h ⊢
      exact h
    · rw [rf_other e3] at h ⊢
      have hr : s < 12 := by
        rcases Nat.lt_or_ge s 12 with z | z
        · exact z
        · rw [hK s z] at h
          cases h
      simp (disch := omega) only [rf_other, rf_resN]
      exact h
/-- a round with two linear polynomials -/
theorem rf_l32L {x1 x2 : Int32} {n r u k : Nat} (hK : ∀ r, 12 ≤ r → K r = none) (ok : rf_ok (rf_set (rf_set K 12 u 1) 13 k 1) a1 a2) (hr : r < 80)
    (H : ∀ b1 b2, rf_ok (rf_set (rf_set K 12 k 1) 13 ((u + 100 * k) % 101) 0) b1 b2 → wX_lower_32 post x1 x2 n (nI (r + 1)) c b1 b2 a3) : wX_lower_32 post x1 x2 (n + 1) (nI r) c a1 a2 a3 := by
  obtain ⟨_, _, _, _, hd⟩ := ok 13 k 1 (rf_same _ _ _ _)
  refine pk_le 80 r (fun z => absurd z (by omega)) (fun _ => br_f (by rw [hd]; exact (by decide : ¬ (1 : Int32) < 0)) ?_)
  refine rf_divL 12 13 none u k ok (by simp (disch := omega) only [rf_same, rf_other, rf_resS, rf_resN]) (by simp (disch := omega) only [rf_same, rf_other, rf_resS, rf_resN]) (by omega) (fun t z => absurd z.symm (Option.some_ne_none t)) (fun b1 b2 ok1 => ?_)
  refine rf_copy 12 14 ((u + 100 * k) % 101) 0 ok1 (by simp (disch := omega) only [rf_same, rf_other, rf_resS, rf_resN]) (by omega) (by omega) (fun b1 b2 ok2 => ?_)
  refine rf_copy 13 12 k 1 ok2 (by simp (disch := omega) only [rf_same, rf_other, rf_resS, rf_resN]) (by omega) (by omega) (fun b1 b2 ok3 => ?_)
  refine rf_copy 14 13 ((u + 100 * k) % 101) 0 ok3 (by simp (disch := omega) only [rf_same, rf_other, rf_resS, rf_resN]) (by omega) (by omega) (fun b1 b2 ok4 => ?_)
  intro x3 e3
  rw [nI_1] at e3
  subst e3
  refine H _ _ (rf_weak ok4 (fun s x y h => ?_))
  by_cases e1 : s = 13
  · subst e1
    rw [rf_same] at h ⊢
    exact h
  · rw [rf_other e1] at h ⊢
    by_cases e3 : s = 12
    · subst e3
      rw [rf_same] at h ⊢
      exact h
    · rw [rf_other e3] at h ⊢
      have hr : s < 12 := by
        rcases Nat.lt_or_ge s 12 with z | z
        · exact z
        · rw [hK s z] at h
          cases h
      simp (disch := omega) only [rf_other, rf_resN]
      exact h
/-- the opening: copies of both to 12 and 13 -/
theorem rf_lopen {x y : Int32} (p q u k l : Nat) (hp : p < 12) (hq : q < 12) (gp : K p = some (u, 1)) (gq : K q = some (k, l)) (ok : rf_ok K a1 a2)
    (H : ∀ b1 b2, rf_ok (rf_set (rf_set K 12 u 1) 13 k l) b1 b2 → ∃ fu, wX_lower_32 post (nI p) (nI q) fu (nI 0) c b1 b2 a3) (hx : x = nI p) (hy : y = nI q) : wpX_lower post (c, a1, a2, a3) x y := by
  subst hx hy
  obtain ⟨p24, _, _, _, hd⟩ := ok p u 1 gp
  have c1 : a2 (nI p).toNatClampNeg = rf_d u 1 := by
    rw [nI_clamp (by omega), hd]
  refine ⟨pk_in p 24 p24, br_t (by rw [c1]; exact (by decide : (0 : Int32) ≤ 1)) ?_⟩
  refine rf_copy p 12 u 1 ok gp (by omega) (by omega) (fun b1 b2 ok1 => ?_)
  refine rf_copy q 13 k l ok1 (by simp (disch := omega) only [rf_same, rf_other, rf_resS, rf_resN, gq]) (by omega) (by omega) (fun b1 b2 ok2 => ?_)
  exact H b1 b2 ok2
/-- (u + X) / 1 stays -/
theorem rf_lowA {x y : Int32} (p q u : Nat) (hK : ∀ r, 12 ≤ r → K r = none) (hp : p < 12) (hq : q < 12) (hpq : p ≠ q) (gp : K p = some (u, 1)) (gq : K q = some (1, 0)) (ok : rf_ok K a1 a2)
    (H : ∀ b1 b2, rf_ok (rf_set (rf_set K p u 1) q 1 0) b1 b2 → post (c, b1, b2, a3)) (hx : x = nI p := by rfl) (hy : y = nI q := by rfl) : wpX_lower post (c, a1, a2, a3) x y := by
  have hu := (ok p u 1 gp).2.1
  refine rf_lopen p q u 1 0 hp hq gp gq ok (fun b1 b2 ok1 => ⟨0 + 1 + 1, ?_⟩) hx hy
  refine rf_l32C hK ok1 (by omega) (by omega) (fun b1 b2 ok2 => ?_)
  refine rf_l32x ok2 (rf_same _ _ _ _) (by omega) ?_
  refine rf_87C p q u 1 1 0 1 1 1 hK hp hq hpq gp gq (by omega) rf_inv1.symm ok2 (by decide) (by decide +kernel) (fun b1 b2 ok3 => H b1 b2 ?_)
  have e1 : u * 1 % 101 * 1 % 101 = u := by omega
  rw [e1] at ok3
  exact ok3
/-- (u + X) / (u + X) becomes 1 / 1 -/
theorem rf_lowB {x y : Int32} (p q u : Nat) (hK : ∀ r, 12 ≤ r → K r = none) (hp : p < 12) (hq : q < 12) (hpq : p ≠ q) (gp : K p = some (u, 1)) (gq : K q = some (u, 1)) (ok : rf_ok K a1 a2)
    (H : ∀ b1 b2, rf_ok (rf_set (rf_set K p 1 0) q 1 0) b1 b2 → post (c, b1, b2, a3)) (hx : x = nI p := by rfl) (hy : y = nI q := by rfl) : wpX_lower post (c, a1, a2, a3) x y := by
  refine rf_lopen p q u u 1 hp hq gp gq ok (fun b1 b2 ok1 => ⟨0 + 1 + 1, ?_⟩) hx hy
  refine rf_l32L hK ok1 (by omega) (fun b1 b2 ok2 => ?_)
  rw [show (u + 100 * u) % 101 = 0 by omega] at ok2
  refine rf_l32x ok2 (rf_same _ _ _ _) (by omega) ?_
  refine rf_87L p q u u u 1 hK hp hq hpq gp gq ok2 (by decide) (by decide +kernel) (fun b1 b2 ok3 => H b1 b2 ok3)
/-- (u + X) / (k + X) in lowest terms stays -/
theorem rf_lowC {x y : Int32} (p q u k : Nat) (hK : ∀ r, 12 ≤ r → K r = none) (hp : p < 12) (hq : q < 12) (hpq : p ≠ q) (gp : K p = some (u, 1)) (gq : K q = some (k, 1)) (huk : u ≠ k) (ok : rf_ok K a1 a2)
    (H : ∀ b1 b2, rf_ok (rf_set (rf_set K p u 1) q k 1) b1 b2 → post (c, b1, b2, a3)) (hx : x = nI p := by rfl) (hy : y = nI q := by rfl) : wpX_lower post (c, a1, a2, a3) x y := by
  have hu := (ok p u 1 gp).2.1
  have hk := (ok q k 1 gq).2.1
  have he : (u + 100 * k) % 101 ≠ 0 := by omega
  have he1 : (u + 100 * k) % 101 < 101 := Nat.mod_lt _ (by decide)
  refine rf_lopen p q u k 1 hp hq gp gq ok (fun b1 b2 ok1 => ⟨0 + 1 + 1 + 1, ?_⟩) hx hy
  refine rf_l32L hK ok1 (by omega) (fun b1 b2 ok2 => ?_)
  refine rf_l32C hK ok2 he (by omega) (fun b1 b2 ok3 => ?_)
  refine rf_l32x ok3 (rf_same _ _ _ _) (by omega) ?_
  generalize (u + 100 * k) % 101 = e at he he1 ok3
  have hL := rf_invlt e he1
  have hLe := rf_invm e he1 he
  have hL0 : rf_inv e ≠ 0 := fun z => by
    rw [z] at hLe
    omega
  have l1 : 1 * rf_inv e % 101 = rf_inv e := by omega
  have ev : rf_e (k * rf_inv e % 101) (1 * rf_inv e % 101) = 2 := rf_e2v (by omega)
  have hM := rf_invm (rf_inv e) hL hL0
  have hLM : rf_inv e * rf_inv (rf_inv e) % 101 = 1 := by
    rw [Nat.mul_comm]
    exact hM
  refine rf_87C p q u 1 k 1 e (rf_inv e) (rf_inv (rf_inv e)) hK hp hq hpq gp gq he rfl ok3 (by omega) ?_ (fun b1 b2 ok4 => H b1 b2 ?_)
  · rw [ev, show (2 : Nat) - 1 = 1 from rfl, rf_c1, l1]
  · rw [rf_ar0 u _ _ hLM, rf_ar0 k _ _ hLM, rf_ar0 1 _ _ hLM, Nat.mod_eq_of_lt hu, Nat.mod_eq_of_lt hk] at ok4
    exact ok4
end
end
section
/-! ===== the stack's methods ===== -/
theorem rf_t0 (k : Nat) : 2 * nI k = nI (2 * k) := pk_mul 2 k
theorem rf_t1 (k : Nat) : 2 * nI k + 1 = nI (2 * k + 1) := by
  rw [rf_t0]
  exact nI_1 (2 * k)
theorem rf_t2 (k : Nat) : 2 * nI (k + 1) = nI (2 * k + 2) := pk_mul 2 (k + 1)
theorem rf_t3 (k : Nat) : 2 * nI (k + 1) + 1 = nI (2 * k + 3) := by
  rw [rf_t2]
  exact nI_1 (2 * k + 2)
theorem rf_two2 {K : Nat → Option (Nat × Nat)} {a1 a2 : Nat → Int32} {p q u v k l u' v' k' l' : Nat} (ok : rf_ok (rf_set (rf_set (rf_set (rf_set K p u v) q k l) p u' v') q k' l') a1 a2) : rf_ok (rf_set (rf_set K p u' v') q k' l') a1 a2 := rf_weak ok (fun r x y h => by
  by_cases e1 : r = q
  · subst e1
    rw [rf_same] at h ⊢
    exact h
  · rw [rf_other e1] at h ⊢
    by_cases e3 : r = p
    · subst e3
      rw [rf_same] at h ⊢
      exact h
    · rw [rf_other e3] at h ⊢
      rw [rf_other e1, rf_other e3]
      exact h)
theorem rf_lowK {K : Nat → Option (Nat × Nat)} {p q u v k l : Nat} (hK : ∀ r, 12 ≤ r → K r = none) (hp : p < 12) (hq : q < 12) : ∀ r, 12 ≤ r → rf_set (rf_set K p u v) q k l r = none := fun r hr => by
  rw [rf_other (by omega), rf_other (by omega)]
  exact hK r hr
section
variable {post : Int32 → St2 → Prop} {a1 a2 a3 : Nat → Int32} {K : Nat → Option (Nat × Nat)}
theorem rf_push {x : Int32} (k : Nat) (hk : k < 6) (H : post (nI (k + 1)) (nI (k + 1), a1, a2, upd a3 k x)) : wpX_push post (nI k, a1, a2, a3) x := by
  refine ⟨pk_in k 6 hk, fun b eb f ef => ?_⟩
  rw [nI_clamp (by omega)] at eb
  rw [nI_1] at ef
  subst eb ef
  exact H
theorem rf_variable (k : Nat) (hk : k < 6) (ok : rf_ok K a1 a2)
    (H : ∀ b1 b2, rf_ok (rf_set (rf_set K (2 * k) 0 1) (2 * k + 1) 1 0) b1 b2 → post (nI (k + 1)) (nI (k + 1), b1, b2, upd a3 k 1)) : wpX_variable post (nI k, a1, a2, a3) := by
  refine pk_eq k 6 (fun z => absurd z (by omega)) (fun _ => ?_)
  refine rf_clear (2 * k) (by omega) (fun b1 b2 hF hS h2 hd => ?_) (rf_t0 k)
  have e0 : nI (2 * k) * 40 + 1 = nI (2 * k * 40 + 1) := rf_ix (2 * k) 1
  refine ⟨pk_in (2 * k * 40 + 1) 960 (by omega) (by rw [rf_t0]; exact e0), fun d1 e1 => ⟨pk_in (2 * k) 24 (by omega) (rf_t0 k), fun d2 e2 => ?_⟩⟩
  rw [rf_t0, e0, nI_clamp (by omega)] at e1
  rw [rf_t0, nI_clamp (by omega)] at e2
  subst e1 e2
  have ok1 : rf_ok (rf_set K (2 * k) 0 1) (upd b1 (2 * k * 40 + 1) 1) (upd b2 (2 * k) 1) := by
    refine rf_put ok (by omega) (by omega) (by omega) (rf_Fu hF (by omega) (by omega)) (fun j hj => ?_) (fun q hq => by rw [pk_un hq]; exact h2 q hq) (by rw [pk_us]; rfl)
    by_cases e : j = 1
    · rw [e, pk_us]
      rfl
    · rw [pk_un (by omega), hS j hj, rf_c00]
      unfold rf_c
      split
      · rfl
      · rfl
  refine rf_constTo (2 * k + 1) 1 ok1 (by omega) (by omega) (fun d1 d2 ok2 => ?_) (rf_t1 k)
  exact rf_push k hk (H d1 d2 ok2)
theorem rf_constant (k m : Nat) (hk : k < 6) (hm : m < 101) (ok : rf_ok K a1 a2)
    (H : ∀ b1 b2, rf_ok (rf_set (rf_set K (2 * k) m 0) (2 * k + 1) 1 0) b1 b2 → post (nI (k + 1)) (nI (k + 1), b1, b2, upd a3 k 0)) : wpX_constant post (nI k, a1, a2, a3) (nI m) := by
  refine br_f (nI_pos (by omega)) (pk_lt m 101 (fun _ => pk_eq k 6 (fun z => absurd z (by omega)) (fun _ => ?_)) (fun z => absurd z (by omega)))
  refine rf_constTo (2 * k) m ok (by omega) hm (fun d1 d2 ok1 => ?_) (rf_t0 k)
  refine rf_constTo (2 * k + 1) 1 ok1 (by omega) (by omega) (fun d1 d2 ok2 => ?_) (rf_t1 k)
  exact rf_push k hk (H d1 d2 ok2)
end
section
variable {post : St2 → Prop} {c : Int32} {a1 a2 a3 : Nat → Int32} {K : Nat → Option (Nat × Nat)}
/-- X / 1 + m / 1 -/
theorem rf_addF (k m : Nat) (hk : k ≤ 4) (hK : ∀ r, 12 ≤ r → K r = none) (ok : rf_ok K a1 a2) (g0 : K (2 * k) = some (0, 1)) (g1 : K (2 * k + 1) = some (1, 0)) (g2 : K (2 * k + 2) = some (m, 0)) (g3 : K (2 * k + 3) = some (1, 0))
    (H : ∀ b1 b2, rf_ok (rf_set (rf_set K (2 * k) m 1) (2 * k + 1) 1 0) b1 b2 → post (c, b1, b2, a3)) : wpX_addFractions post (c, a1, a2, a3) (nI k) (nI (k + 1)) 1 := by
  have hm := (ok _ _ _ g2).2.1
  unfold wpX_addFractions
  refine rf_mulR (2 * k) (2 * k + 3) 16 0 1 ok g0 g3 (by omega) (by omega) (by omega) (fun b1 b2 ok1 => ?_) (rf_t0 k) (rf_t3 k)
  refine rf_mulR (2 * k + 2) (2 * k + 1) 17 m 0 ok1 (by simp (disch := omega) only [rf_same, rf_other, g2]) (by simp (disch := omega) only [rf_same, rf_other, g1]) (by omega) (by omega) (by omega) (fun b1 b2 ok2 => ?_) (rf_t2 k) (rf_t1 k)
  refine rf_mulR (2 * k + 1) (2 * k + 3) 18 1 0 ok2 (by simp (disch := omega) only [rf_same, rf_other, g1]) (by simp (disch := omega) only [rf_same, rf_other, g3]) (by omega) (by omega) (by omega) (fun b1 b2 ok3 => ?_) (rf_t1 k) (rf_t3 k)
  refine rf_add 16 17 (2 * k) 0 1 m 0 ok3 (by simp (disch := omega) only [rf_same, rf_other]) (by simp (disch := omega) only [rf_same, rf_other]) (by omega) (by omega) (by omega) (fun b1 b2 ok4 => ?_) rfl rfl (rf_t0 k)
  rw [show (0 + m) % 101 = m by omega, show (1 + 0) % 101 = 1 by omega] at ok4
  refine rf_copy 18 (2 * k + 1) 1 0 ok4 (by simp (disch := omega) only [rf_same, rf_other]) (by omega) (by omega) (fun b1 b2 ok5 => ?_) rfl (rf_t1 k)
  refine H b1 b2 (rf_weak ok5 (fun r x y h => ?_))
  by_cases e1 : r = 2 * k + 1
  · subst e1
    rw [rf_same] at h ⊢
    exact h
  · rw [rf_other e1] at h ⊢
    by_cases e3 : r = 2 * k
    · subst e3
      rw [rf_same] at h ⊢
      exact h
    · rw [rf_other e3] at h ⊢
      have hr : r < 12 := by
        rcases Nat.lt_or_ge r 12 with z | z
        · exact z
        · rw [hK r z] at h
          cases h
      simp (disch := omega) only [rf_other]
      exact h
/-- (u + X) / 1 by (m + X) / 1 -/
theorem rf_mulF (k u m : Nat) (hk : k ≤ 4) (hK : ∀ r, 12 ≤ r → K r = none) (ok : rf_ok K a1 a2) (g0 : K (2 * k) = some (u, 1)) (g1 : K (2 * k + 1) = some (1, 0)) (g2 : K (2 * k + 2) = some (m, 1)) (g3 : K (2 * k + 3) = some (1, 0))
    (H : ∀ b1 b2, rf_ok (rf_set (rf_set K (2 * k) u 1) (2 * k + 1) m 1) b1 b2 → post (c, b1, b2, a3)) : wpX_multiplyFractions post (c, a1, a2, a3) (nI k) (2 * nI (k + 1) + 1) (2 * nI (k + 1)) := by
  unfold wpX_multiplyFractions
  refine rf_mulR (2 * k) (2 * k + 3) 16 u 1 ok g0 g3 (by omega) (by omega) (by omega) (fun b1 b2 ok1 => ?_) (rf_t0 k) (rf_t3 k)
  refine rf_mulL (2 * k + 1) (2 * k + 2) 17 m 1 ok1 (by simp (disch := omega) only [rf_same, rf_other, g1]) (by simp (disch := omega) only [rf_same, rf_other, g2]) (by omega) (by omega) (by omega) (fun b1 b2 ok2 => ?_) (rf_t1 k) (rf_t2 k)
  refine rf_copy 16 (2 * k) u 1 ok2 (by simp (disch := omega) only [rf_same, rf_other]) (by omega) (by omega) (fun b1 b2 ok3 => ?_) rfl (rf_t0 k)
  refine rf_copy 17 (2 * k + 1) m 1 ok3 (by simp (disch := omega) only [rf_same, rf_other]) (by omega) (by omega) (fun b1 b2 ok4 => ?_) rfl (rf_t1 k)
  refine H b1 b2 (rf_weak ok4 (fun r x y h => ?_))
  by_cases e1 : r = 2 * k + 1
  · subst e1
    rw [rf_same] at h ⊢
    exact h
  · rw [rf_other e1] at h ⊢
    by_cases e3 : r = 2 * k
    · subst e3
      rw [rf_same] at h ⊢
      exact h
    · rw [rf_other e3] at h ⊢
      have hr : r < 12 := by
        rcases Nat.lt_or_ge r 12 with z | z
        · exact z
        · rw [hK r z] at h
          cases h
      simp (disch := omega) only [rf_other]
      exact h
end
section
variable {post : Int32 → St2 → Prop} {a1 a2 a3 : Nat → Int32} {K : Nat → Option (Nat × Nat)}
/-- apply's end behind lower -/
theorem rf_aend {b1 b2 : Nat → Int32} (k : Nat) (hk : k ≤ 4) (H : post (nI (k + 1)) (nI (k + 1), b1, b2, upd a3 k (a3 k + a3 (k + 1)))) :
    vp_in (nI k) 6 ∧ (vp_in (nI (k + 1)) 6 ∧ (vp_in (nI k) 6 ∧ ∀ d : Nat → Int32, d = upd a3 (nI k).toNatClampNeg ((a3 (nI k).toNatClampNeg) + (a3 (nI (k + 1)).toNatClampNeg)) → (∀ f : Int32, f = nI (k + 2) - 1 → post f (f, b1, b2, d)))) := by
  refine ⟨pk_in k 6 (by omega), pk_in (k + 1) 6 (by omega), pk_in k 6 (by omega), fun d ed f ef => ?_⟩
  rw [nI_clamp (show k < 2 ^ 31 by omega), nI_clamp (show k + 1 < 2 ^ 31 by omega)] at ed
  have ef' : f = nI (k + 1) := ef.trans (nI_pred (k + 1))
  subst ed ef'
  exact H
theorem rf_apply0 (k m : Nat) (hk : k ≤ 4) (hK : ∀ r, 12 ≤ r → K r = none) (ok : rf_ok K a1 a2) (g0 : K (2 * k) = some (0, 1)) (g1 : K (2 * k + 1) = some (1, 0)) (g2 : K (2 * k + 2) = some (m, 0)) (g3 : K (2 * k + 3) = some (1, 0)) (hh : a3 k + a3 (k + 1) ≤ 12)
    (H : ∀ b1 b2, rf_ok (rf_set (rf_set K (2 * k) m 1) (2 * k + 1) 1 0) b1 b2 → post (nI (k + 1)) (nI (k + 1), b1, b2, upd a3 k (a3 k + a3 (k + 1)))) : wpX_apply post (nI (k + 2), a1, a2, a3) 0 := by
  refine br_f (by decide) (br_t (by decide) (pk_le 2 (k + 2) (fun _ x2 e2 x3 e3 => ?_) (fun z => absurd z (by omega))))
  have e2' : x2 = nI k := e2.trans (pk_sub (a := k + 2) (b := 2) (by omega))
  have e3' : x3 = nI (k + 1) := e3.trans (nI_pred (k + 1))
  subst e2' e3'
  refine ⟨pk_in k 6 (by omega), pk_in (k + 1) 6 (by omega), br_t (by rw [nI_clamp (show k < 2 ^ 31 by omega), nI_clamp (show k + 1 < 2 ^ 31 by omega)]; exact hh) (br_f (by decide) ?_)⟩
  unfold wX_apply_76
  refine br_f (by decide) (br_t (by decide) ?_)
  unfold wX_apply_93
  refine rf_addF k m hk hK ok g0 g1 g2 g3 (fun b1 b2 ok1 => ?_)
  refine rf_lowA (2 * k) (2 * k + 1) m (rf_lowK hK (by omega) (by omega)) (by omega) (by omega) (by omega) (by rw [rf_other (by omega)]; exact rf_same _ _ _ _) (rf_same _ _ _ _) ok1 (fun b1 b2 ok2 => ?_) (rf_t0 k) (rf_t1 k)
  exact rf_aend k hk (H b1 b2 (rf_two2 ok2))
theorem rf_apply3 (k u m : Nat) (hk : k ≤ 4) (hK : ∀ r, 12 ≤ r → K r = none) (ok : rf_ok K a1 a2) (g0 : K (2 * k) = some (u, 1)) (g1 : K (2 * k + 1) = some (1, 0)) (g2 : K (2 * k + 2) = some (m, 1)) (g3 : K (2 * k + 3) = some (1, 0)) (hh : a3 k + a3 (k + 1) ≤ 12)
    (H0 : u = m → ∀ b1 b2, rf_ok (rf_set (rf_set K (2 * k) 1 0) (2 * k + 1) 1 0) b1 b2 → post (nI (k + 1)) (nI (k + 1), b1, b2, upd a3 k (a3 k + a3 (k + 1))))
    (H1 : u ≠ m → ∀ b1 b2, rf_ok (rf_set (rf_set K (2 * k) u 1) (2 * k + 1) m 1) b1 b2 → post (nI (k + 1)) (nI (k + 1), b1, b2, upd a3 k (a3 k + a3 (k + 1)))) : wpX_apply post (nI (k + 2), a1, a2, a3) 3 := by
  have hd := (ok _ _ _ g2).2.2.2.2
  refine br_f (by decide) (br_t (by decide) (pk_le 2 (k + 2) (fun _ x2 e2 x3 e3 => ?_) (fun z => absurd z (by omega))))
  have e2' : x2 = nI k := e2.trans (pk_sub (a := k + 2) (b := 2) (by omega))
  have e3' : x3 = nI (k + 1) := e3.trans (nI_pred (k + 1))
  subst e2' e3'
  have c1 : a2 (2 * nI (k + 1)).toNatClampNeg = rf_d m 1 := by
    rw [rf_t2, nI_clamp (by omega)]
    exact hd
  refine ⟨pk_in k 6 (by omega), pk_in (k + 1) 6 (by omega), br_t (by rw [nI_clamp (show k < 2 ^ 31 by omega), nI_clamp (show k + 1 < 2 ^ 31 by omega)]; exact hh) (br_t rfl ⟨pk_in (2 * k + 2) 24 (by omega) (rf_t2 k), br_t (by rw [c1]; exact (by decide : (0 : Int32) ≤ 1)) ?_⟩)⟩
  unfold wX_apply_76
  refine br_t (by decide) (br_f (by decide) ?_)
  refine rf_mulF k u m hk hK ok g0 g1 g2 g3 (fun b1 b2 ok1 => ?_)
  by_cases eum : u = m
  · have H0' := H0 eum
    subst eum
    refine rf_lowB (2 * k) (2 * k + 1) u (rf_lowK hK (by omega) (by omega)) (by omega) (by omega) (by omega) (by rw [rf_other (by omega)]; exact rf_same _ _ _ _) (rf_same _ _ _ _) ok1 (fun b1 b2 ok2 => ?_) (rf_t0 k) (rf_t1 k)
    exact rf_aend k hk (H0' b1 b2 (rf_two2 ok2))
  · refine rf_lowC (2 * k) (2 * k + 1) u m (rf_lowK hK (by omega) (by omega)) (by omega) (by omega) (by omega) (by rw [rf_other (by omega)]; exact rf_same _ _ _ _) (rf_same _ _ _ _) eum ok1 (fun b1 b2 ok2 => ?_) (rf_t0 k) (rf_t1 k)
    exact rf_aend k hk (H1 eum b1 b2 (rf_two2 ok2))
end
end
section
/-! ===== values, poles, coefficients ===== -/
/-- how many of 0 .. i - 1 are zeros of u + v X -/
def rf_np (u v : Nat) : Nat → Nat
  | 0 => 0
  | i + 1 => if (v * i + u) % 101 = 0 then rf_np u v i + 1 else rf_np u v i
theorem rf_npl (u v i : Nat) : rf_np u v i ≤ i := by
  induction i with
  | zero => exact Nat.le_refl 0
  | succ i ih =>
    unfold rf_np
    split
    · omega
    · omega
theorem rf_np0 : rf_np 1 0 101 = 0 := by decide +kernel
theorem rf_np1 : ∀ d, d < 101 → rf_np d 1 101 = 1 := by decide +kernel
section
variable {post : Int32 → Prop} {c : Int32} {a1 a2 a3 : Nat → Int32} {G : Nat → Option (Nat × Nat)}
theorem rf_atE {n : Nat} {x1 x2 y : Int32} (H : post y) : wX_at_10 post x1 x2 c a1 a2 a3 (n + 1) y (-1) := br_t (by decide) H
theorem rf_atS {n p a y i u v : Nat} (x4 : Int32) (p24 : p < 24) (hu : u < 101) (hv : v < 101) (hS : rf_S a1 p u v) (ha : a < 101) (hy : y < 101) (hi : i < 40) (hx : nI i + (-1) = x4)
    (H : wX_at_10 post (nI p) (nI a) c a1 a2 a3 n (nI ((y * a + rf_c u v i) % 101)) x4) : wX_at_10 post (nI p) (nI a) c a1 a2 a3 (n + 1) (nI y) (nI i) := by
  have hc := rf_cl hu hv i
  have hm := rf_mb hy ha
  refine br_f (nI_pos (by omega)) ⟨pk_in (p * 40 + i) 960 (by omega) (rf_ix p i), by decide, fun z ez w ew => ?_⟩
  rw [rf_ix, nI_clamp (by omega), hS i hi, pk_mul, nI_add, rf_rem (by omega)] at ez
  rw [hx] at ew
  subst ez ew
  exact H
theorem rf_at {x : Int32} (p u v a : Nat) (ok : rf_ok G a1 a2) (hp : G p = some (u, v)) (ha : a < 101) (H : post (nI ((v * a + u) % 101))) (hx : x = nI p := by rfl) : wpX_at post (c, a1, a2, a3) x (nI a) := by
  subst hx
  obtain ⟨p24, hu, hv, hS, hd⟩ := ok p u v hp
  refine ⟨pk_in p 24 p24, fun x4 e4 => ⟨0 + 1 + 1 + 1, ?_⟩⟩
  rw [nI_clamp (by omega), hd] at e4
  subst e4
  show wX_at_10 post (nI p) (nI a) c a1 a2 a3 (0 + 1 + 1 + 1) (nI 0) (rf_d u v)
  by_cases h1 : v = 0
  · by_cases h0 : u = 0
    · have e : rf_d u v = -1 := by
        unfold rf_d
        rw [if_pos h1, if_pos h0]
      rw [h1, h0, Nat.zero_mul] at H
      rw [e]
      exact rf_atE H
    · have e : rf_d u v = nI 0 := by
        unfold rf_d
        rw [if_pos h1, if_neg h0]
        rfl
      rw [e]
      refine rf_atS (-1) p24 hu hv hS ha (by omega) (by omega) (by decide) (rf_atE ?_)
      rw [h1] at H
      exact H
  · have e : rf_d u v = nI 1 := by
      unfold rf_d
      rw [if_neg h1]
      rfl
    rw [e]
    refine rf_atS (nI 0) p24 hu hv hS ha (by omega) (by omega) (pk_m1 0) (rf_atS (-1) p24 hu hv hS ha (Nat.mod_lt _ (by decide)) (by omega) (by decide) (rf_atE ?_))
    rw [rf_c1, rf_c0, Nat.zero_mul, Nat.zero_add, Nat.mod_eq_of_lt hv]
    exact H
theorem rf_fracAt {x y : Int32} (p q u v k l a : Nat) (ok : rf_ok G a1 a2) (gp : G p = some (u, v)) (gq : G q = some (k, l)) (ha : a < 101)
    (H0 : (l * a + k) % 101 = 0 → post (-4)) (H1 : (l * a + k) % 101 ≠ 0 → post (nI ((v * a + u) % 101 * rf_inv ((l * a + k) % 101) % 101))) (hx : x = nI p := by rfl) (hy : y = nI q := by rfl) :
    wpX_fractionAt post (c, a1, a2, a3) x y (nI a) := by
  have hB : (l * a + k) % 101 < 101 := Nat.mod_lt _ (by decide)
  have hA : (v * a + u) % 101 < 101 := Nat.mod_lt _ (by decide)
  have hm := rf_mb hA (rf_invlt _ hB)
  unfold wpX_fractionAt
  refine rf_at q k l a ok gq ha ?_ hy
  refine pk_eq ((l * a + k) % 101) 0 (fun z => H0 z) (fun z => ?_)
  refine rf_at p u v a ok gp ha ?_ hx
  refine rf_inverse hB ⟨by decide, ?_⟩
  rw [pk_mul, rf_rem (by omega)]
  exact H1 z
theorem rf_value (u v k l a : Nat) (ok : rf_ok G a1 a2) (gp : G 0 = some (u, v)) (gq : G 1 = some (k, l)) (ha : a < 101)
    (H0 : (l * a + k) % 101 = 0 → post (-4)) (H1 : (l * a + k) % 101 ≠ 0 → post (nI ((v * a + u) % 101 * rf_inv ((l * a + k) % 101) % 101))) :
    wpX_value post (nI 1, a1, a2, a3) (nI a) := by
  refine br_f (nI_pos (by omega)) (pk_lt a 101 (fun _ => br_f (by decide) ?_) (fun z => absurd z (by omega)))
  exact rf_fracAt 0 1 u v k l a ok gp gq ha H0 H1 (by decide) (by decide)
theorem rf_poles (k l : Nat) (ok : rf_ok G a1 a2) (gq : G 1 = some (k, l)) (H : post (nI (rf_np k l 101))) : wpX_poles post (nI 1, a1, a2, a3) := by
  refine br_f (by decide) ?_
  refine pk_loop (σ := Nat) (fun n i s => wX_poles_14 post (nI 1) a1 a2 a3 n (nI s) (nI i)) (fun i s => s = rf_np k l i) 101 0 0 (by omega) rfl ?_ ?_
  · intro n s h
    subst h
    exact pk_le 101 101 (fun _ => H) (fun z => absurd z (by omega))
  · intro n i s hi h hw
    have hB : (l * i + k) % 101 < 101 := Nat.mod_lt _ (by decide)
    refine pk_le 101 i (fun z => absurd z (by omega)) (fun _ => ?_)
    refine rf_at 1 k l i ok gq hi ?_ (by decide)
    refine pk_eq ((l * i + k) % 101) 0 (fun z y ey w ew => ?_) (fun z w ew => ?_)
    · rw [nI_1] at ey ew
      subst ey ew
      refine hw (s + 1) ?_
      unfold rf_np
      rw [if_pos z, h]
    · rw [nI_1] at ew
      subst ew
      refine hw s ?_
      unfold rf_np
      rw [if_neg z, h]
theorem rf_coef (k l : Nat) (ok : rf_ok G a1 a2) (gq : G 1 = some (k, l)) (H : post (nI k)) : wpX_coefficient post (nI 1, a1, a2, a3) 0 1 := by
  obtain ⟨_, _, _, hS, _⟩ := ok 1 k l gq
  refine br_f (by decide) (br_t (by decide) (br_f (by decide) (br_f (by decide) ⟨pk_in 40 960 (by omega) (by decide), ?_⟩)))
  have e : ((2 * nI 1 - 1) * 40 + 0).toNatClampNeg = 40 := by decide
  have e2 : a1 40 = nI k := hS 0 (by omega)
  rw [e, e2]
  exact H
end
end
section
/-! ===== the law ===== -/
theorem rf_mask (x : Int32) : ∃ c : Nat, c < 101 ∧ (x &&& 127) - (x &&& 127) / 101 * 101 = nI c := by
  obtain ⟨j, hj, e⟩ := pk_andE x (m := 127) 7 (by decide)
  refine ⟨j % 101, Nat.mod_lt _ (by decide), ?_⟩
  rw [e, rf_rem (by omega)]
/-- the answers for the same two constants -/
theorem rf_fin0 {mc ms kc ks : Nat} {x4 x6 : Int32} : wL_lawOf_111 (fun r _ => r = 1) mc ms x4 x4 x6 (nI 1) (nI 0) (nI 1) 1 kc ks := by
  have h : ∀ z : Int32, wL_lawOf_129 (fun r _ => r = 1) mc ms x4 x4 x6 (nI 1) (nI 0) (nI 1) 1 z kc ks := by
    intro z
    unfold wL_lawOf_129
    refine br_f (by decide) ?_
    unfold wL_lawOf_143
    refine br_t (by decide) (br_f (by decide) ?_)
    unfold wL_lawOf_159
    exact br_t (by decide) (br_f (by decide) (br_t (by decide) rfl))
  exact ⟨by decide, br_c (fun _ => h 1) (fun _ => h 0)⟩
/-- the answers for two different ones -/
theorem rf_fin1 {mc ms kc ks : Nat} {x7 : Int32} (c d a : Nat) (hc : c < 101) (hd : d < 101) (ha : a < 101) (H0 : (a + d) % 101 = 0 → x7 = -4)
    (H1 : (a + d) % 101 ≠ 0 → ∃ w, w < 101 ∧ x7 = nI w ∧ w * (a + d) % 101 = (a + c) % 101) : wL_lawOf_111 (fun r _ => r = 1) mc ms (nI c) (nI d) (nI a) x7 (nI 1) (nI d) 0 kc ks := by
  unfold wL_lawOf_111
  rw [nI_add, rf_rem (show a + d < 2 ^ 31 by omega)]
  have hB : (a + d) % 101 < 101 := Nat.mod_lt _ (by decide)
  refine ⟨by decide, pk_eq ((a + d) % 101) 0 (fun z => ?_) (fun z => ?_)⟩
  · unfold wL_lawOf_129
    refine br_t rfl ?_
    unfold wL_lawOf_143
    refine br_t (by decide) (br_t rfl ?_)
    unfold wL_lawOf_159
    exact br_t rfl (br_t rfl (br_f (by decide) (br_t (H0 z) rfl)))
  · obtain ⟨w, hw, e7, hz⟩ := H1 z
    subst e7
    have hm : w * (a + d) ≤ 100 * 200 := Nat.mul_le_mul (by omega) (by omega)
    unfold wL_lawOf_129
    refine br_t rfl ?_
    unfold wL_lawOf_143
    refine br_t (by decide) (br_t rfl ?_)
    unfold wL_lawOf_159
    refine br_t rfl (br_t rfl (br_t rfl (br_f (nI_pos (by omega)) (pk_le 101 w (fun g => absurd g (by omega)) (fun _ => ⟨by decide, by decide, ?_⟩)))))
    rw [nI_add, nI_add, pk_mul, rf_rem (show w * (a + d) < 2 ^ 31 by omega), rf_rem (show a + c < 2 ^ 31 by omega), hz]
    exact br_t rfl rfl
theorem rf_val (A s : Nat) (hs : s % 101 ≠ 0) : A * rf_inv (s % 101) % 101 * s % 101 = A % 101 := by
  have h1 : ∀ X, X * s % 101 = X * (s % 101) % 101 := fun X => by
    rw [Nat.mul_mod X s, Nat.mul_mod X (s % 101), Nat.mod_mod]
  rw [h1]
  exact rf_ar0 A _ _ (rf_invm _ (Nat.mod_lt _ (by decide)) hs)
theorem rf_lawOf (x y z : Int32) : wpL_lawOf (fun r _ => r = 1) 4 994 () x y z := by
  obtain ⟨c, hc, ec⟩ := rf_mask x
  obtain ⟨d, hd, ed⟩ := rf_mask y
  obtain ⟨a, ha, ea⟩ := rf_mask z
  unfold wpL_lawOf
  refine ⟨by omega, by omega, 3, 990, by omega, by omega, ?_⟩
  refine ⟨by omega, by omega, by omega, by omega, by omega, by omega, ?_⟩
  refine ⟨by decide, fun x4 e4 => ⟨by decide, fun x5 e5 => ⟨by decide, fun x6 e6 => ?_⟩⟩⟩
  rw [ec] at e4
  rw [ed] at e5
  rw [ea] at e6
  subst e4 e5 e6
  refine rf_variable (K := fun _ => none) 0 (by omega) (fun q u v h => absurd h.symm (Option.some_ne_none _)) (fun b1 b2 ok1 => ?_)
  refine rf_constant 1 c (by omega) hc ok1 (fun b1 b2 ok2 => ?_)
  refine rf_apply0 0 c (by omega) (fun r hr => by simp (disch := omega) only [rf_other]) ok2 rfl rfl rfl rfl (by decide) (fun b1 b2 ok3 => ?_)
  refine rf_variable 1 (by omega) ok3 (fun b1 b2 ok4 => ?_)
  refine rf_constant 2 d (by omega) hd ok4 (fun b1 b2 ok5 => ?_)
  refine rf_apply0 1 d (by omega) (fun r hr => by simp (disch := omega) only [rf_other]) ok5 rfl rfl rfl rfl (by decide) (fun b1 b2 ok6 => ?_)
  refine rf_apply3 0 c d (by omega) (fun r hr => by simp (disch := omega) only [rf_other]) ok6 rfl rfl rfl rfl (by decide) (fun ecd b1 b2 ok7 => ?_) (fun ecd b1 b2 ok7 => ?_)
  · subst ecd
    refine rf_value 1 0 1 0 a ok7 rfl rfl ha (fun g => ?_) (fun g => ?_)
    · rw [Nat.zero_mul] at g
      exact absurd g (by decide)
    · rw [Nat.zero_mul, show (0 + 1) % 101 * rf_inv ((0 + 1) % 101) % 101 = 1 by decide +kernel]
      refine rf_poles 1 0 ok7 rfl ?_
      rw [rf_np0]
      refine rf_coef 1 0 ok7 rfl ?_
      exact br_t rfl rf_fin0
  · have key : ∀ (h3 : Nat → Int32) (r7 : Int32), ((a + d) % 101 = 0 → r7 = -4) → ((a + d) % 101 ≠ 0 → ∃ w, w < 101 ∧ r7 = nI w ∧ w * (a + d) % 101 = (a + c) % 101) → wpX_poles (fun r_103 => (wpX_coefficient (fun r_104 => (((nI c = nI d → (wL_lawOf_111 (fun r _ => r = 1) 4 994 (nI c) (nI d) (nI a) r7 r_103 r_104 1 (1 + 3) (4 + 990))) ∧ (¬ nI c = nI d → (wL_lawOf_111 (fun r _ => r = 1) 4 994 (nI c) (nI d) (nI a) r7 r_103 r_104 0 (1 + 3) (4 + 990)))))) (nI 1, b1, b2, h3) 0 1)) (nI 1, b1, b2, h3) := by
      intro h3 r7 k0 k1
      refine rf_poles d 1 ok7 rfl ?_
      rw [rf_np1 d hd]
      refine rf_coef d 1 ok7 rfl ?_
      exact pk_eq c d (fun g => absurd g ecd) (fun _ => rf_fin1 c d a hc hd ha k0 k1)
    refine rf_value c 1 d 1 a ok7 rfl rfl ha (fun g => ?_) (fun g => ?_)
    · rw [Nat.one_mul] at g
      exact key _ (-4) (fun _ => rfl) (fun n => absurd g n)
    · rw [Nat.one_mul] at g
      rw [Nat.one_mul]
      refine key _ _ (fun n => absurd n g) (fun _ => ⟨_, Nat.mod_lt _ (by decide), rfl, ?_⟩)
      rw [rf_val _ _ g, Nat.mod_mod]
theorem rf_cell {post : Int32 → Prop} {L : Nat} {xs : Nat → Int32} {x : Int32} (k : Nat) (hL : L ≤ 3) (hk : k ≤ 3) (H : ∀ y, post y) (hx : x = nI k := by rfl) : wpL_cellAt post L xs () x :=
  pk_le L k (fun _ => H 0) (fun z => ⟨pk_in k L z hx, H _⟩) rfl hx
theorem i_vc (xs : Nat → Int32) (L : Nat) (hL : L ≤ 3) : wpL_law (fun r => r = 1) L xs := by
  unfold wpL_law
  refine rf_cell 0 hL (by omega) (fun x => ?_)
  refine rf_cell 1 hL (by omega) (fun y => ?_)
  refine rf_cell 2 hL (by omega) (fun z => ?_)
  exact ⟨4, 994, by omega, by omega, rf_lawOf x y z⟩
end
