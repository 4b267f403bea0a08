section
/-- the int of a whole number -/
def rb_c (z : Int) : Int32 := Int32.ofInt z
def rb_B (a : Int) : Prop := -100000 ≤ a ∧ a ≤ 100000
theorem rb_add (a b : Int) : rb_c a + rb_c b = rb_c (a + b) := (Int32.ofInt_add a b).symm
theorem rb_sub (a b : Int) : rb_c a - rb_c b = rb_c (a - b) := (Int32.ofInt_sub a b).symm
theorem rb_mul (a b : Int) : rb_c a * rb_c b = rb_c (a * b) := (Int32.ofInt_mul a b).symm
theorem rb_neg (a : Int) : - rb_c a = rb_c (-a) := (Int32.ofInt_neg a).symm
theorem rb_nI (n : Nat) : nI n = rb_c (n : Int) := Int32.ofInt_eq_ofNat.symm
theorem rb_z : rb_c 0 = 0 := by decide
theorem rb_toInt {a : Int} (h : rb_B a) : (rb_c a).toInt = a := by
  obtain ⟨h1, h2⟩ := h
  exact Int32.toInt_ofInt_of_le (by omega) (by omega)
theorem rb_le {a b : Int} (ha : rb_B a) (hb : rb_B b) : rb_c a ≤ rb_c b ↔ a ≤ b := by
  rw [Int32.le_iff_toInt_le, rb_toInt ha, rb_toInt hb]
theorem rb_lt {a b : Int} (ha : rb_B a) (hb : rb_B b) : rb_c a < rb_c b ↔ a < b := by
  rw [Int32.lt_iff_toInt_lt, rb_toInt ha, rb_toInt hb]
theorem rb_eq {a b : Int} (ha : rb_B a) (hb : rb_B b) : rb_c a = rb_c b ↔ a = b := by
  rw [← Int32.toInt_inj, rb_toInt ha, rb_toInt hb]
theorem rb_B0 : rb_B 0 := ⟨by decide, by decide⟩
theorem rb_le0 {a : Int} (ha : rb_B a) : rb_c a ≤ 0 ↔ a ≤ 0 := by
  rw [← rb_z]
  exact rb_le ha rb_B0
theorem rb_lt0 {a : Int} (ha : rb_B a) : rb_c a < 0 ↔ a < 0 := by
  rw [← rb_z]
  exact rb_lt ha rb_B0
theorem rb_gt0 {a : Int} (ha : rb_B a) : 0 < rb_c a ↔ 0 < a := by
  rw [← rb_z]
  exact rb_lt rb_B0 ha
theorem rb_eq0 {a : Int} (ha : rb_B a) : rb_c a = 0 ↔ a = 0 := by
  rw [← rb_z]
  exact rb_eq ha rb_B0
theorem rb_brle {x y : Int32} {A B : Prop} (a b : Int) (hx : x = rb_c a) (hy : y = rb_c b) (ha : rb_B a) (hb : rb_B b) (f : a ≤ b → A) (g : b < a → B) : (x ≤ y → A) ∧ (¬ x ≤ y → B) := by
  subst hx
  subst hy
  rw [rb_le ha hb]
  exact ⟨f, fun h => g (by omega)⟩
theorem rb_brlt {x y : Int32} {A B : Prop} (a b : Int) (hx : x = rb_c a) (hy : y = rb_c b) (ha : rb_B a) (hb : rb_B b) (f : a < b → A) (g : b ≤ a → B) : (x < y → A) ∧ (¬ x < y → B) := by
  subst hx
  subst hy
  rw [rb_lt ha hb]
  exact ⟨f, fun h => g (by omega)⟩
theorem rb_half {z : Int} (h : rb_B z) : rb_c z >>> ((1 : Int32) &&& 31) = rb_c (z / 2) := by
  have hb : rb_B (z / 2) := by
    obtain ⟨h1, h2⟩ := h
    exact ⟨by omega, by omega⟩
  rw [← Int32.toInt_inj, pk_shr _ _ 1 (by decide), rb_toInt h, rb_toInt hb, Int.shiftRight_eq_div_pow]
  rfl
/-- products of small numbers -/
theorem rb_m5 {p x n : Int} (h1 : -5 ≤ p) (h2 : p ≤ 5) (h3 : -n ≤ x) (h4 : x ≤ n) : -(5 * n) ≤ p * x ∧ p * x ≤ 5 * n := by
  have hp : p = -5 ∨ p = -4 ∨ p = -3 ∨ p = -2 ∨ p = -1 ∨ p = 0 ∨ p = 1 ∨ p = 2 ∨ p = 3 ∨ p = 4 ∨ p = 5 := by omega
  rcases hp with e | e | e | e | e | e | e | e | e | e | e <;> subst e <;> exact ⟨by omega, by omega⟩
theorem rb_mpos {a l h : Int} (ha : 0 ≤ a) (hl : l ≤ h) : a * l ≤ a * h := Int.mul_le_mul_of_nonneg_left hl ha
theorem rb_mneg {a l h : Int} (ha : a ≤ 0) (hl : l ≤ h) : a * h ≤ a * l := Int.mul_le_mul_of_nonpos_left ha hl
/-- the result's value at an input -/
def rb_F (p q r x : Int) : Int := r + q * max 0 (p * x)
theorem rb_Fb {p q r x : Int} (hp : -5 ≤ p ∧ p ≤ 5) (hq : -5 ≤ q ∧ q ≤ 5) (hr : -50 ≤ r ∧ r ≤ 50) (hx : -16 ≤ x ∧ x ≤ 16) : rb_B (rb_F p q r x) := by
  have h := rb_m5 (n := 16) hp.1 hp.2 (by omega) hx.2
  have g := rb_m5 (x := max 0 (p * x)) (n := 80) hq.1 hq.2 (by omega) (by omega)
  unfold rb_F
  exact ⟨by omega, by omega⟩
theorem rb_Fm {p q r l x h : Int} (h1 : l ≤ x) (h2 : x ≤ h) : rb_F p q r x ≤ max (rb_F p q r l) (rb_F p q r h) ∧ min (rb_F p q r l) (rb_F p q r h) ≤ rb_F p q r x := by
  have mon : ∀ u v w : Int, u ≤ v → v ≤ w → q * v ≤ max (q * u) (q * w) ∧ min (q * u) (q * w) ≤ q * v := by
    intro u v w a b
    rcases Int.le_total 0 q with g | g
    · have := rb_mpos g a
      have := rb_mpos g b
      exact ⟨by omega, by omega⟩
    · have := rb_mneg g a
      have := rb_mneg g b
      exact ⟨by omega, by omega⟩
  unfold rb_F
  rcases Int.le_total 0 p with g | g
  · have a := rb_mpos g h1
    have b := rb_mpos g h2
    have c := mon (max 0 (p * l)) (max 0 (p * x)) (max 0 (p * h)) (by omega) (by omega)
    exact ⟨by omega, by omega⟩
  · have a := rb_mneg g h1
    have b := rb_mneg g h2
    have c := mon (max 0 (p * h)) (max 0 (p * x)) (max 0 (p * l)) (by omega) (by omega)
    exact ⟨by omega, by omega⟩
end
section
/-- what the six arrays lows, highs, factor0, factor1, rest, linear hold of one unit -/
abbrev rb_T : Type := Int32 × Int32 × Int32 × Int32 × Int32 × Int32
def rb_u (P : Nat → rb_T) (k : Nat) (v : rb_T) : Nat → rb_T := fun j => if j = k then v else P j
theorem rb_us {P : Nat → rb_T} {k : Nat} {v : rb_T} : rb_u P k v k = v := if_pos rfl
theorem rb_un {P : Nat → rb_T} {k j : Nat} {v : rb_T} (h : j ≠ k) : rb_u P k v j = P j := if_neg h
theorem rb_uu (P : Nat → rb_T) (k : Nat) (v v' : rb_T) : rb_u (rb_u P k v) k v' = rb_u P k v' := by
  funext j
  unfold rb_u
  by_cases e : j = k
  · rw [if_pos e, if_pos e]
  · rw [if_neg e, if_neg e, if_neg e]
abbrev rb_S (w b : Int32) (a1 a2 : Nat → Int32) (P : Nat → rb_T) (a9 a10 a11 a12 : Nat → Int32) : St2 := (w, b, a1, a2, fun j => (P j).1, fun j => (P j).2.1, fun j => (P j).2.2.1, fun j => (P j).2.2.2.1, fun j => (P j).2.2.2.2.1, fun j => (P j).2.2.2.2.2, a9, a10, a11, a12)
theorem rb_view {post : St2 → Prop} {w b : Int32} {a1 a2 a3 a4 a5 a6 a7 a8 a9 a10 a11 a12 : Nat → Int32} {Q : Nat → rb_T} (h : ∀ j, (a3 j, a4 j, a5 j, a6 j, a7 j, a8 j) = Q j) (hp : post (rb_S w b a1 a2 Q a9 a10 a11 a12)) : post (w, b, a1, a2, a3, a4, a5, a6, a7, a8, a9, a10, a11, a12) := by
  have e : Q = fun j => (a3 j, a4 j, a5 j, a6 j, a7 j, a8 j) := funext fun j => (h j).symm
  subst e
  exact hp
/-- the range of a linear sum: its least value (its greatest: the ends exchanged) -/
def rb_lo (a b r l0 h0 l1 h1 : Int32) : Int32 := r + (if a ≤ 0 then a * h0 else a * l0) + (if b ≤ 0 then b * h1 else b * l1)
def rb_X (v : rb_T) (l0 h0 l1 h1 : Int32) : rb_T := (rb_lo v.2.2.1 v.2.2.2.1 v.2.2.2.2.1 l0 h0 l1 h1, rb_lo v.2.2.1 v.2.2.2.1 v.2.2.2.2.1 h0 l0 h1 l1, v.2.2)
def rb_Fi (v : rb_T) (l0 h0 l1 h1 : Int32) : rb_T := ((rb_X v l0 h0 l1 h1).1 + v.1, (rb_X v l0 h0 l1 h1).2.1 + v.2.1, v.2.2)
def rb_mx (v u : rb_T) (f : Int32) : rb_T := (v.1 + (if f ≤ 0 then f * u.2.1 else f * (if u.1 ≤ 0 then 0 else u.1)), v.2.1 + (if f ≤ 0 then f * (if u.1 ≤ 0 then 0 else u.1) else f * u.2.1), v.2.2.1, v.2.2.2.1, v.2.2.2.2.1, 0)
def rb_ln (v u : rb_T) (f : Int32) : rb_T := (v.1, v.2.1, v.2.2.1 + f * u.2.2.1, v.2.2.2.1 + f * u.2.2.2.1, v.2.2.2.2.1 + f * u.2.2.2.2.1, v.2.2.2.2.2)
def rb_br (v u : rb_T) (f : Int32) : rb_T := if f = 0 then v else if 0 < u.2.1 then (if u.2.2.2.2.2 = 0 then rb_mx v u f else if u.1 < 0 then rb_mx v u f else rb_ln v u f) else v
theorem rb_exact {post : St2 → Prop} {w b : Int32} {a1 a2 a9 a10 a11 a12 : Nat → Int32} {P : Nat → rb_T} {k : Nat} (hk : k < 6) {l0 h0 l1 h1 : Int32}
    (hp : post (rb_S w b a1 a2 (rb_u P k (rb_X (P k) l0 h0 l1 h1)) a9 a10 a11 a12)) :
    wpX_exact post (rb_S w b a1 a2 P a9 a10 a11 a12) (nI k) l0 h0 l1 h1 := by
  have hi : vp_in (nI k) 6 := vp_in_nI hk (by omega)
  have hc : (nI k).toNatClampNeg = k := nI_clamp (by omega)
  unfold wpX_exact
  dsimp only
  refine ⟨hi, nm_e ⟨hi, nm_e ⟨hi, br_c (fun ha => ?_) (fun ha => ?_)⟩⟩⟩
  · unfold wX_exact_43
    refine br_c (fun hb => ?_) (fun hb => ?_)
    · unfold wX_exact_62
      refine ⟨hi, nm_e ⟨hi, br_t ha ?_⟩⟩
      unfold wX_exact_91
      refine br_t hb ⟨hi, nm_e (rb_view (fun j => ?_) hp)⟩
      rw [hc] at ha hb ⊢
      by_cases e : j = k
      · subst e
        simp only [upd, rb_u, rb_X, rb_lo, ha, hb, if_true]
      · simp only [upd, rb_u, e, if_false]
    · unfold wX_exact_62
      refine ⟨hi, nm_e ⟨hi, br_t ha ?_⟩⟩
      unfold wX_exact_91
      refine br_f hb ⟨hi, nm_e (rb_view (fun j => ?_) hp)⟩
      rw [hc] at ha hb ⊢
      by_cases e : j = k
      · subst e
        simp only [upd, rb_u, rb_X, rb_lo, ha, hb, if_true, if_false]
      · simp only [upd, rb_u, e, if_false]
  · unfold wX_exact_43
    refine br_c (fun hb => ?_) (fun hb => ?_)
    · unfold wX_exact_62
      refine ⟨hi, nm_e ⟨hi, br_f ha ?_⟩⟩
      unfold wX_exact_91
      refine br_t hb ⟨hi, nm_e (rb_view (fun j => ?_) hp)⟩
      rw [hc] at ha hb ⊢
      by_cases e : j = k
      · subst e
        simp only [upd, rb_u, rb_X, rb_lo, ha, hb, if_true, if_false]
      · simp only [upd, rb_u, e, if_false]
    · unfold wX_exact_62
      refine ⟨hi, nm_e ⟨hi, br_f ha ?_⟩⟩
      unfold wX_exact_91
      refine br_f hb ⟨hi, nm_e (rb_view (fun j => ?_) hp)⟩
      rw [hc] at ha hb ⊢
      by_cases e : j = k
      · subst e
        simp only [upd, rb_u, rb_X, rb_lo, ha, hb, if_true, if_false]
      · simp only [upd, rb_u, e, if_false]
theorem rb_begin {post : St2 → Prop} {w b : Int32} {a1 a2 a9 a10 a11 a12 : Nat → Int32} {P : Nat → rb_T} {k : Nat} (hk : k < 6) {x : Int32}
    (hp : post (rb_S w b a1 a2 (rb_u P k (0, 0, 0, 0, x, 1)) a9 a10 a11 a12)) :
    wpX_begin post (rb_S w b a1 a2 P a9 a10 a11 a12) (nI k) x := by
  have hi : vp_in (nI k) 6 := vp_in_nI hk (by omega)
  have hc : (nI k).toNatClampNeg = k := nI_clamp (by omega)
  unfold wpX_begin
  dsimp only
  refine ⟨hi, nm_e ⟨hi, nm_e ⟨hi, nm_e ⟨hi, nm_e ⟨hi, nm_e ⟨hi, nm_e (rb_view (fun j => ?_) hp)⟩⟩⟩⟩⟩⟩
  rw [hc]
  by_cases e : j = k
  · simp only [upd, rb_u, e, if_true]
  · simp only [upd, rb_u, e, if_false]
theorem rb_finish {post : St2 → Prop} {w b : Int32} {a1 a2 a9 a10 a11 a12 : Nat → Int32} {P : Nat → rb_T} {k : Nat} (hk : k < 6) {l0 h0 l1 h1 : Int32}
    (hp : post (rb_S w b a1 a2 (rb_u P k (rb_Fi (P k) l0 h0 l1 h1)) a9 a10 a11 a12)) :
    wpX_finish post (rb_S w b a1 a2 P a9 a10 a11 a12) (nI k) l0 h0 l1 h1 := by
  have hi : vp_in (nI k) 6 := vp_in_nI hk (by omega)
  have hc : (nI k).toNatClampNeg = k := nI_clamp (by omega)
  unfold wpX_finish
  dsimp only
  refine ⟨hi, nm_e ⟨hi, nm_e (rb_exact hk ?_)⟩⟩
  dsimp only
  refine ⟨hi, hi, nm_e ⟨hi, hi, nm_e (rb_view (fun j => ?_) hp)⟩⟩
  rw [hc]
  by_cases e : j = k
  · subst e
    simp only [upd, rb_u, rb_Fi, rb_X, if_true]
  · simp only [upd, rb_u, e, if_false]
theorem rb_bring {post : St2 → Prop} {w b : Int32} {a1 a2 a9 a10 a11 a12 : Nat → Int32} {P : Nat → rb_T} {k i : Nat} (hk : k < 6) (hi : i < 6) {f : Int32}
    (hp : post (rb_S w b a1 a2 (rb_u P k (rb_br (P k) (P i) f)) a9 a10 a11 a12)) :
    wpX_bring post (rb_S w b a1 a2 P a9 a10 a11 a12) (nI k) (nI i) f := by
  have gk : vp_in (nI k) 6 := vp_in_nI hk (by omega)
  have gi : vp_in (nI i) 6 := vp_in_nI hi (by omega)
  have ck : (nI k).toNatClampNeg = k := nI_clamp (by omega)
  have ci : (nI i).toNatClampNeg = i := nI_clamp (by omega)
  have same : rb_br (P k) (P i) f = P k → post (rb_S w b a1 a2 P a9 a10 a11 a12) := by
    intro e
    refine rb_view (fun j => ?_) hp
    rw [e]
    by_cases g : j = k
    · simp only [rb_u, g, if_true]
    · simp only [rb_u, g, if_false]
  have mix : rb_br (P k) (P i) f = rb_mx (P k) (P i) f → wX_bring_84 post (nI k) (nI i) f w b a1 a2 (fun j => (P j).1) (fun j => (P j).2.1) (fun j => (P j).2.2.1) (fun j => (P j).2.2.2.1) (fun j => (P j).2.2.2.2.1) (fun j => (P j).2.2.2.2.2) a9 a10 a11 a12 := by
    intro e
    rw [e] at hp
    have go : ∀ z : Int32, z = (if (P i).1 ≤ 0 then 0 else (P i).1) → wX_bring_103 post (nI k) (nI i) f z w b a1 a2 (fun j => (P j).1) (fun j => (P j).2.1) (fun j => (P j).2.2.1) (fun j => (P j).2.2.2.1) (fun j => (P j).2.2.2.2.1) (fun j => (P j).2.2.2.2.2) a9 a10 a11 a12 := by
      intro z hz
      unfold wX_bring_103
      refine ⟨gi, nm_e ⟨gk, br_c (fun hf => ?_) (fun hf => ?_)⟩⟩
      · unfold wX_bring_135
        refine ⟨gk, nm_e ⟨gk, br_t hf ?_⟩⟩
        unfold wX_bring_159
        refine ⟨gk, nm_e ⟨gk, nm_e (rb_view (fun j => ?_) hp)⟩⟩
        rw [ck, ci]
        by_cases g : j = k
        · subst g
          simp only [upd, rb_u, rb_mx, hf, hz, if_true]
        · simp only [upd, rb_u, g, if_false]
      · unfold wX_bring_135
        refine ⟨gk, nm_e ⟨gk, br_f hf ?_⟩⟩
        unfold wX_bring_159
        refine ⟨gk, nm_e ⟨gk, nm_e (rb_view (fun j => ?_) hp)⟩⟩
        rw [ck, ci]
        by_cases g : j = k
        · subst g
          simp only [upd, rb_u, rb_mx, hf, hz, if_true, if_false]
        · simp only [upd, rb_u, g, if_false]
    unfold wX_bring_84
    rw [ci]
    refine ⟨gi, br_c (fun h => go 0 (if_pos h).symm) (fun h => ⟨gi, go _ (if_neg h).symm⟩)⟩
  unfold wpX_bring
  dsimp only
  rw [ck, ci]
  refine br_c (fun h0 => same (if_pos h0)) (fun h0 => ⟨gi, br_c (fun h1 => ⟨gi, br_c (fun h2 => mix ?_) (fun h2 => ⟨gi, br_c (fun h3 => mix ?_) (fun h3 => ⟨gk, gi, gk, nm_e ⟨gk, gi, gk, nm_e ⟨gk, gi, gk, nm_e (rb_view (fun j => ?_) hp)⟩⟩⟩)⟩)⟩) (fun h1 => same ?_)⟩)
  · simp only [rb_br, h0, h1, h2, if_true, if_false]
  · simp only [rb_br, h0, h1, h2, h3, if_true, if_false]
  · by_cases g : j = k
    · subst g
      simp only [upd, rb_u, rb_br, rb_ln, h0, h1, h2, h3, if_true, if_false]
    · simp only [upd, rb_u, g, if_false]
  · simp only [rb_br, h0, h1, if_false]
end
section
abbrev rb_ap (W : Int32 → Int32 → (Nat → Int32) → (Nat → Int32) → (Nat → Int32) → (Nat → Int32) → (Nat → Int32) → (Nat → Int32) → (Nat → Int32) → (Nat → Int32) → (Nat → Int32) → (Nat → Int32) → (Nat → Int32) → (Nat → Int32) → Prop) (w b : Int32) (a1 a2 : Nat → Int32) (P : Nat → rb_T) (a9 a10 a11 a12 : Nat → Int32) : Prop := W w b a1 a2 (fun j => (P j).1) (fun j => (P j).2.1) (fun j => (P j).2.2.1) (fun j => (P j).2.2.2.1) (fun j => (P j).2.2.2.2.1) (fun j => (P j).2.2.2.2.2) a9 a10 a11 a12
/-- a first unit -/
def rb_N (a1 : Nat → Int32) (i : Nat) (l0 h0 l1 h1 : Int32) : rb_T := (rb_lo (a1 (2 * i)) (a1 (2 * i + 1)) (a1 (6 + i)) l0 h0 l1 h1, rb_lo (a1 (2 * i)) (a1 (2 * i + 1)) (a1 (6 + i)) h0 l0 h1 l1, a1 (2 * i), a1 (2 * i + 1), a1 (6 + i), 1)
/-- a second unit -/
def rb_V3 (P : Nat → rb_T) (o f0 f1 f2 : Int32) (l0 h0 l1 h1 : Int32) : rb_T := rb_Fi (rb_br (rb_br (rb_br (0, 0, 0, 0, o, 1) (P 0) f0) (P 1) f1) (P 2) f2) l0 h0 l1 h1
/-- the result -/
def rb_V5 (P : Nat → rb_T) (o f0 f1 : Int32) (l0 h0 l1 h1 : Int32) : rb_T := rb_Fi (rb_br (rb_br (0, 0, 0, 0, o, 1) (P 3) f0) (P 4) f1) l0 h0 l1 h1
def rb_P2 (a1 : Nat → Int32) (P : Nat → rb_T) (l0 h0 l1 h1 : Int32) : Nat → rb_T := rb_u (rb_u (rb_u P 0 (rb_N a1 0 l0 h0 l1 h1)) 1 (rb_N a1 1 l0 h0 l1 h1)) 2 (rb_N a1 2 l0 h0 l1 h1)
def rb_P3 (a1 : Nat → Int32) (P : Nat → rb_T) (l0 h0 l1 h1 : Int32) : Nat → rb_T := rb_u (rb_P2 a1 P l0 h0 l1 h1) 3 (rb_V3 (rb_P2 a1 P l0 h0 l1 h1) (a1 15) (a1 9) (a1 10) (a1 11) l0 h0 l1 h1)
def rb_P4 (a1 : Nat → Int32) (P : Nat → rb_T) (l0 h0 l1 h1 : Int32) : Nat → rb_T := rb_u (rb_P3 a1 P l0 h0 l1 h1) 4 (rb_V3 (rb_P3 a1 P l0 h0 l1 h1) (a1 16) (a1 12) (a1 13) (a1 14) l0 h0 l1 h1)
def rb_rng (a1 : Nat → Int32) (P : Nat → rb_T) (l0 h0 l1 h1 : Int32) : Nat → rb_T := rb_u (rb_P4 a1 P l0 h0 l1 h1) 5 (rb_V5 (rb_P4 a1 P l0 h0 l1 h1) (a1 19) (a1 17) (a1 18) l0 h0 l1 h1)
theorem rb_r3 {post : St2 → Prop} {n i : Nat} (hi : i < 3) {w b : Int32} {a1 a2 a9 a10 a11 a12 : Nat → Int32} {P : Nat → rb_T} {l0 h0 l1 h1 : Int32}
    (hp : rb_ap (wX_range_3 post l0 h0 l1 h1 n (nI (i + 1))) w b a1 a2 (rb_u P i (rb_N a1 i l0 h0 l1 h1)) a9 a10 a11 a12) :
    rb_ap (wX_range_3 post l0 h0 l1 h1 (n + 1) (nI i)) w b a1 a2 P a9 a10 a11 a12 := by
  have g : vp_in (nI i) 6 := vp_in_nI (by omega) (by omega)
  have c : (nI i).toNatClampNeg = i := nI_clamp (by omega)
  have e2 : (2 : Int32) * nI i = nI (2 * i) := pk_mul 2 i
  have e6 : (6 : Int32) + nI i = nI (6 + i) := nI_add 6 i
  have c1 : (nI (2 * i)).toNatClampNeg = 2 * i := nI_clamp (by omega)
  have c2 : (nI (2 * i + 1)).toNatClampNeg = 2 * i + 1 := nI_clamp (by omega)
  have c3 : (nI (6 + i)).toNatClampNeg = 6 + i := nI_clamp (by omega)
  refine br_f (nI_ge (b := 3) hi (by decide)) ?_
  rw [e2, nI_1 (2 * i), e6, c1, c2, c3, c]
  refine ⟨vp_in_nI (by omega) (by omega), g, nm_e ⟨vp_in_nI (by omega) (by omega), g, nm_e ⟨vp_in_nI (by omega) (by omega), g, nm_e ⟨g, nm_e ?_⟩⟩⟩⟩
  refine rb_view (post := fun u => wpX_exact _ u _ _ _ _ _) (Q := rb_u P i ((P i).1, (P i).2.1, a1 (2 * i), a1 (2 * i + 1), a1 (6 + i), 1)) (fun j => ?_) (rb_exact (by omega) ?_)
  · by_cases e : j = i
    · subst e
      simp only [upd, rb_u, if_true]
    · simp only [upd, rb_u, e, if_false]
  · rw [rb_us, rb_uu]
    exact nm_r (nI_1 i) hp
theorem rb_bringU {post : St2 → Prop} {w b : Int32} {a1 a2 a9 a10 a11 a12 : Nat → Int32} {P : Nat → rb_T} {v : rb_T} {k i : Nat} (hk : k < 6) (hi : i < 6) (ne : i ≠ k) {f : Int32}
    (hp : post (rb_S w b a1 a2 (rb_u P k (rb_br v (P i) f)) a9 a10 a11 a12)) :
    wpX_bring post (rb_S w b a1 a2 (rb_u P k v) a9 a10 a11 a12) (nI k) (nI i) f := by
  refine rb_bring hk hi ?_
  rw [rb_us, rb_un ne, rb_uu]
  exact hp
theorem rb_finishU {post : St2 → Prop} {w b : Int32} {a1 a2 a9 a10 a11 a12 : Nat → Int32} {P : Nat → rb_T} {v : rb_T} {k : Nat} (hk : k < 6) {l0 h0 l1 h1 : Int32}
    (hp : post (rb_S w b a1 a2 (rb_u P k (rb_Fi v l0 h0 l1 h1)) a9 a10 a11 a12)) :
    wpX_finish post (rb_S w b a1 a2 (rb_u P k v) a9 a10 a11 a12) (nI k) l0 h0 l1 h1 := by
  refine rb_finish hk ?_
  rw [rb_us, rb_uu]
  exact hp
theorem rb_r113 {post : St2 → Prop} {J : Int32 → Int32 → Int32 → (Nat → Int32) → (Nat → Int32) → (Nat → Int32) → (Nat → Int32) → (Nat → Int32) → (Nat → Int32) → (Nat → Int32) → (Nat → Int32) → (Nat → Int32) → (Nat → Int32) → (Nat → Int32) → (Nat → Int32) → Prop} {n c i : Nat} (hc : c < 2) (hi : i < 3) {w b : Int32} {a1 a2 a9 a10 a11 a12 : Nat → Int32} {P : Nat → rb_T} {v : rb_T} {l0 h0 l1 h1 : Int32}
    (hp : rb_ap (wX_range_113 post J l0 h0 l1 h1 (nI (3 + c)) n (nI (i + 1))) w b a1 a2 (rb_u P (3 + c) (rb_br v (P i) (a1 (9 + 3 * c + i)))) a9 a10 a11 a12) :
    rb_ap (wX_range_113 post J l0 h0 l1 h1 (nI (3 + c)) (n + 1) (nI i)) w b a1 a2 (rb_u P (3 + c) v) a9 a10 a11 a12 := by
  have e1 : nI (3 + c) - (3 : Int32) = nI c := by
    have h : nI (3 + c) - nI 3 = nI (3 + c - 3) := pk_sub (by omega)
    rw [show 3 + c - 3 = c by omega] at h
    exact h
  have e2 : (3 : Int32) * nI c = nI (3 * c) := pk_mul 3 c
  have e3 : (9 : Int32) + nI (3 * c) = nI (9 + 3 * c) := nI_add 9 (3 * c)
  have c1 : (nI (9 + 3 * c + i)).toNatClampNeg = 9 + 3 * c + i := nI_clamp (by omega)
  refine br_f (nI_ge (b := 3) hi (by decide)) ?_
  rw [e1, e2, e3, nI_add (9 + 3 * c) i, c1]
  exact ⟨vp_in_nI (by omega) (by omega), rb_bringU (by omega) (by omega) (by omega) (nm_r (nI_1 i) hp)⟩
theorem rb_r88 {post : St2 → Prop} {n c : Nat} (hc : c < 2) {w b : Int32} {a1 a2 a9 a10 a11 a12 : Nat → Int32} {P : Nat → rb_T} {l0 h0 l1 h1 : Int32}
    (hp : rb_ap (wX_range_88 post l0 h0 l1 h1 n (nI (3 + c + 1))) w b a1 a2 (rb_u P (3 + c) (rb_V3 P (a1 (15 + c)) (a1 (9 + 3 * c + 0)) (a1 (9 + 3 * c + 1)) (a1 (9 + 3 * c + 2)) l0 h0 l1 h1)) a9 a10 a11 a12) :
    rb_ap (wX_range_88 post l0 h0 l1 h1 (n + 1) (nI (3 + c))) w b a1 a2 P a9 a10 a11 a12 := by
  have e1 : (12 : Int32) + nI (3 + c) = nI (15 + c) := by
    have h : nI 12 + nI (3 + c) = nI (12 + (3 + c)) := nI_add 12 (3 + c)
    rw [show 12 + (3 + c) = 15 + c by omega] at h
    exact h
  have c1 : (nI (15 + c)).toNatClampNeg = 15 + c := nI_clamp (by omega)
  refine br_f (nI_ge (b := 5) (by omega) (by decide)) ?_
  rw [e1, c1]
  refine ⟨vp_in_nI (by omega) (by omega), rb_begin (by omega) ⟨4, ?_⟩⟩
  refine rb_r113 (i := 0) hc (by omega) (rb_r113 (i := 1) hc (by omega) (rb_r113 (i := 2) hc (by omega) ?_))
  exact br_t (nI_le (a := 3) (b := 3) (by omega) (by decide)) (rb_finishU (by omega) (nm_r (nI_1 (3 + c)) hp))
theorem rb_r182 {post : St2 → Prop} {n i : Nat} (hi : i < 5) {w b : Int32} {a1 a2 a9 a10 a11 a12 : Nat → Int32} {P : Nat → rb_T} {v : rb_T} {l0 h0 l1 h1 : Int32}
    (hp : rb_ap (wX_range_182 post l0 h0 l1 h1 n (nI (i + 1))) w b a1 a2 (rb_u P 5 (rb_br v (P i) (a1 (14 + i)))) a9 a10 a11 a12) :
    rb_ap (wX_range_182 post l0 h0 l1 h1 (n + 1) (nI i)) w b a1 a2 (rb_u P 5 v) a9 a10 a11 a12 := by
  have e1 : (14 : Int32) + nI i = nI (14 + i) := nI_add 14 i
  have c1 : (nI (14 + i)).toNatClampNeg = 14 + i := nI_clamp (by omega)
  refine br_f (nI_ge (b := 5) (by omega) (by decide)) ?_
  rw [e1, c1]
  exact ⟨vp_in_nI (by omega) (by omega), rb_bringU (k := 5) (by omega) (by omega) (by omega) (nm_r (nI_1 i) hp)⟩
theorem rb_rC {post : St2 → Prop} {w b : Int32} {a1 a2 a9 a10 a11 a12 : Nat → Int32} {P : Nat → rb_T} {l0 h0 l1 h1 : Int32}
    (hp : post (rb_S w b a1 a2 (rb_u P 5 (rb_V5 P (a1 19) (a1 17) (a1 18) l0 h0 l1 h1)) a9 a10 a11 a12)) :
    ∃ f, rb_ap (wX_range_182 post l0 h0 l1 h1 f (nI 3)) w b a1 a2 (rb_u P 5 (0, 0, 0, 0, a1 19, 1)) a9 a10 a11 a12 := by
  refine ⟨3, rb_r182 (i := 3) (by omega) (rb_r182 (i := 4) (by omega) ?_)⟩
  exact br_t (nI_le (a := 5) (b := 5) (by omega) (by decide)) (rb_finishU (k := 5) (by omega) hp)
theorem rb_rB2 {post : St2 → Prop} {n : Nat} {w b : Int32} {a1 a2 a9 a10 a11 a12 : Nat → Int32} {P : Nat → rb_T} {l0 h0 l1 h1 : Int32}
    (hp : ∃ f, rb_ap (wX_range_182 post l0 h0 l1 h1 f (nI 3)) w b a1 a2 (rb_u P 5 (0, 0, 0, 0, a1 19, 1)) a9 a10 a11 a12) :
    rb_ap (wX_range_88 post l0 h0 l1 h1 (n + 1) (nI 5)) w b a1 a2 P a9 a10 a11 a12 :=
  br_t (nI_le (a := 5) (b := 5) (by omega) (by decide)) (rb_begin (k := 5) (by omega) hp)
theorem rb_rB1 {post : St2 → Prop} {n : Nat} {w b : Int32} {a1 a2 a9 a10 a11 a12 : Nat → Int32} {P : Nat → rb_T} {l0 h0 l1 h1 : Int32}
    (hp : rb_ap (wX_range_88 post l0 h0 l1 h1 n (nI 5)) w b a1 a2 (rb_u P 4 (rb_V3 P (a1 16) (a1 12) (a1 13) (a1 14) l0 h0 l1 h1)) a9 a10 a11 a12) :
    rb_ap (wX_range_88 post l0 h0 l1 h1 (n + 1) (nI 4)) w b a1 a2 P a9 a10 a11 a12 := rb_r88 (c := 1) (by omega) hp
theorem rb_rB0 {post : St2 → Prop} {n : Nat} {w b : Int32} {a1 a2 a9 a10 a11 a12 : Nat → Int32} {P : Nat → rb_T} {l0 h0 l1 h1 : Int32}
    (hp : rb_ap (wX_range_88 post l0 h0 l1 h1 n (nI 4)) w b a1 a2 (rb_u P 3 (rb_V3 P (a1 15) (a1 9) (a1 10) (a1 11) l0 h0 l1 h1)) a9 a10 a11 a12) :
    rb_ap (wX_range_88 post l0 h0 l1 h1 (n + 1) (nI 3)) w b a1 a2 P a9 a10 a11 a12 := rb_r88 (c := 0) (by omega) hp
theorem rb_rA {post : St2 → Prop} {w b : Int32} {a1 a2 a9 a10 a11 a12 : Nat → Int32} {P : Nat → rb_T} {l0 h0 l1 h1 : Int32}
    (hp : ∃ f, rb_ap (wX_range_88 post l0 h0 l1 h1 f (nI 3)) w b a1 a2 (rb_P2 a1 P l0 h0 l1 h1) a9 a10 a11 a12) :
    wpX_range post (rb_S w b a1 a2 P a9 a10 a11 a12) l0 h0 l1 h1 := by
  refine ⟨4, rb_r3 (i := 0) (by omega) (rb_r3 (i := 1) (by omega) (rb_r3 (i := 2) (by omega) ?_))⟩
  exact br_t (nI_le (a := 3) (b := 3) (by omega) (by decide)) hp
theorem rb_range {post : St2 → Prop} {w b : Int32} {a1 a2 a9 a10 a11 a12 : Nat → Int32} {P : Nat → rb_T} {l0 h0 l1 h1 : Int32}
    (hp : post (rb_S w b a1 a2 (rb_rng a1 P l0 h0 l1 h1) a9 a10 a11 a12)) :
    wpX_range post (rb_S w b a1 a2 P a9 a10 a11 a12) l0 h0 l1 h1 := by
  have h4 : rb_ap (wX_range_88 post l0 h0 l1 h1 1 (nI 5)) w b a1 a2 (rb_P4 a1 P l0 h0 l1 h1) a9 a10 a11 a12 := rb_rB2 (n := 0) (rb_rC hp)
  have h3 : rb_ap (wX_range_88 post l0 h0 l1 h1 2 (nI 4)) w b a1 a2 (rb_P3 a1 P l0 h0 l1 h1) a9 a10 a11 a12 := rb_rB1 (n := 1) h4
  have h2 : rb_ap (wX_range_88 post l0 h0 l1 h1 3 (nI 3)) w b a1 a2 (rb_P2 a1 P l0 h0 l1 h1) a9 a10 a11 a12 := rb_rB0 (n := 2) h3
  exact rb_rA ⟨3, h2⟩
end
section
/-- the law's numbers -/
def rb_A (p q r : Int) : Nat → Int32 := upd (upd (upd (upd (fun _ => 0) 0 (rb_c p)) 9 1) 17 (rb_c q)) 19 (rb_c r)
theorem rb_loA {A R l h : Int} (hA : rb_B A) (hl : l ≤ h) (y0 y1 : Int32) : rb_lo (rb_c A) 0 (rb_c R) (rb_c l) (rb_c h) y0 y1 = rb_c (R + min (A * l) (A * h)) := by
  have z : (0 : Int32) ≤ 0 := by decide
  unfold rb_lo
  rw [if_pos z, Int32.zero_mul, Int32.add_zero]
  by_cases g : A ≤ 0
  · rw [if_pos ((rb_le0 hA).mpr g), rb_mul, rb_add]
    have := rb_mneg g hl
    rw [show min (A * l) (A * h) = A * h by omega]
  · rw [if_neg (fun t => g ((rb_le0 hA).mp t)), rb_mul, rb_add]
    have := rb_mpos (a := A) (by omega) hl
    rw [show min (A * l) (A * h) = A * l by omega]
theorem rb_hiA {A R l h : Int} (hA : rb_B A) (hl : l ≤ h) (y0 y1 : Int32) : rb_lo (rb_c A) 0 (rb_c R) (rb_c h) (rb_c l) y0 y1 = rb_c (R + max (A * l) (A * h)) := by
  have z : (0 : Int32) ≤ 0 := by decide
  unfold rb_lo
  rw [if_pos z, Int32.zero_mul, Int32.add_zero]
  by_cases g : A ≤ 0
  · rw [if_pos ((rb_le0 hA).mpr g), rb_mul, rb_add]
    have := rb_mneg g hl
    rw [show max (A * l) (A * h) = A * l by omega]
  · rw [if_neg (fun t => g ((rb_le0 hA).mp t)), rb_mul, rb_add]
    have := rb_mpos (a := A) (by omega) hl
    rw [show max (A * l) (A * h) = A * h by omega]
theorem rb_FiA {x y n : Int32} {A R l h : Int} (hA : rb_B A) (hl : l ≤ h) (y0 y1 : Int32) : rb_Fi (x, y, rb_c A, 0, rb_c R, n) (rb_c l) (rb_c h) y0 y1 = (rb_c (R + min (A * l) (A * h)) + x, rb_c (R + max (A * l) (A * h)) + y, rb_c A, 0, rb_c R, n) := by
  unfold rb_Fi rb_X
  dsimp only
  rw [rb_loA hA hl, rb_hiA hA hl]
theorem rb_Fi0 {x y n : Int32} {R l h : Int} (hl : l ≤ h) (y0 y1 : Int32) : rb_Fi (x, y, 0, 0, rb_c R, n) (rb_c l) (rb_c h) y0 y1 = (rb_c R + x, rb_c R + y, 0, 0, rb_c R, n) := by
  have h0 := rb_FiA (x := x) (y := y) (n := n) (R := R) rb_B0 hl y0 y1
  rw [rb_z, Int.zero_mul, Int.zero_mul] at h0
  rw [h0, show R + min 0 0 = R by omega, show R + max 0 0 = R by omega]
theorem rb_br0 (v u : rb_T) : rb_br v u 0 = v := if_pos rfl
theorem rb_brO {v u : rb_T} {f : Int32} (h : ¬ 0 < u.2.1) : rb_br v u f = v := by
  unfold rb_br
  by_cases e : f = 0
  · rw [if_pos e]
  · rw [if_neg e, if_neg h]
theorem rb_brL {v u : rb_T} {f : Int32} (h0 : ¬ f = 0) (h1 : 0 < u.2.1) (h2 : ¬ u.2.2.2.2.2 = 0) (h3 : ¬ u.1 < 0) : rb_br v u f = rb_ln v u f := by
  unfold rb_br
  rw [if_neg h0, if_pos h1, if_neg h2, if_neg h3]
theorem rb_brM {v u : rb_T} {f : Int32} (h0 : ¬ f = 0) (h1 : 0 < u.2.1) (h2 : u.2.2.2.2.2 = 0 ∨ u.1 < 0) : rb_br v u f = rb_mx v u f := by
  unfold rb_br
  rw [if_neg h0, if_pos h1]
  by_cases e : u.2.2.2.2.2 = 0
  · rw [if_pos e]
  · rw [if_neg e, if_pos (h2.resolve_left e)]
/-- the first unit of the law's numbers -/
def rb_U0 (p l h : Int) : rb_T := (rb_c (min (p * l) (p * h)), rb_c (max (p * l) (p * h)), rb_c p, 0, 0, 1)
theorem rb_N0 {p q r l h : Int} (hp : rb_B p) (hl : l ≤ h) (y0 y1 : Int32) : rb_N (rb_A p q r) 0 (rb_c l) (rb_c h) y0 y1 = rb_U0 p l h := by
  have e0 : rb_A p q r 0 = rb_c p := rfl
  have e1 : rb_A p q r 1 = 0 := rfl
  have e6 : rb_A p q r 6 = 0 := rfl
  have a := rb_loA (R := 0) hp hl y0 y1
  have b := rb_hiA (R := 0) hp hl y1 y0
  rw [rb_z, Int.zero_add] at a b
  show (rb_lo (rb_A p q r 0) (rb_A p q r 1) (rb_A p q r 6) _ _ _ _, rb_lo (rb_A p q r 0) (rb_A p q r 1) (rb_A p q r 6) _ _ _ _, rb_A p q r 0, rb_A p q r 1, rb_A p q r 6, (1 : Int32)) = rb_U0 p l h
  rw [e0, e1, e6, a, b]
  rfl
theorem rb_N1 {p q r l h : Int} (hl : l ≤ h) (y0 y1 : Int32) : rb_N (rb_A p q r) 1 (rb_c l) (rb_c h) y0 y1 = (0, 0, 0, 0, 0, 1) := by
  have e0 : rb_A p q r 2 = 0 := rfl
  have e1 : rb_A p q r 3 = 0 := rfl
  have e6 : rb_A p q r 7 = 0 := rfl
  have a := rb_loA (R := 0) rb_B0 hl y0 y1
  have b := rb_hiA (R := 0) rb_B0 hl y1 y0
  rw [Int.zero_mul, Int.zero_mul, show (0 : Int) + min 0 0 = 0 by omega, rb_z] at a
  rw [Int.zero_mul, Int.zero_mul, show (0 : Int) + max 0 0 = 0 by omega, rb_z] at b
  show (rb_lo (rb_A p q r 2) (rb_A p q r 3) (rb_A p q r 7) _ _ _ _, rb_lo (rb_A p q r 2) (rb_A p q r 3) (rb_A p q r 7) _ _ _ _, rb_A p q r 2, rb_A p q r 3, rb_A p q r 7, (1 : Int32)) = _
  rw [e0, e1, e6, a, b]
def rb_U3 (p l h : Int) (y0 y1 : Int32) : rb_T := rb_Fi (rb_br (0, 0, 0, 0, 0, 1) (rb_U0 p l h) 1) (rb_c l) (rb_c h) y0 y1
def rb_U5 (p q r l h : Int) (y0 y1 : Int32) : rb_T := rb_Fi (rb_br (0, 0, 0, 0, rb_c r, 1) (rb_U3 p l h y0 y1) (rb_c q)) (rb_c l) (rb_c h) y0 y1
theorem rb_U3c {p l h : Int} (hp : rb_B p) (hA : rb_B (p * l)) (hB : rb_B (p * h)) (hl : l ≤ h) (y0 y1 : Int32) :
    (max (p * l) (p * h) ≤ 0 ∧ rb_U3 p l h y0 y1 = (0, 0, 0, 0, 0, 1)) ∨ (0 < max (p * l) (p * h) ∧ 0 ≤ min (p * l) (p * h) ∧ rb_U3 p l h y0 y1 = (rb_c (min (p * l) (p * h)), rb_c (max (p * l) (p * h)), rb_c p, 0, 0, 1)) ∨ (0 < max (p * l) (p * h) ∧ min (p * l) (p * h) < 0 ∧ rb_U3 p l h y0 y1 = (0, rb_c (max (p * l) (p * h)), 0, 0, 0, 0)) := by
  have bm : rb_B (min (p * l) (p * h)) := by
    obtain ⟨a1, a2⟩ := hA
    obtain ⟨b1, b2⟩ := hB
    exact ⟨by omega, by omega⟩
  have bM : rb_B (max (p * l) (p * h)) := by
    obtain ⟨a1, a2⟩ := hA
    obtain ⟨b1, b2⟩ := hB
    exact ⟨by omega, by omega⟩
  have o1 : ¬ (1 : Int32) = 0 := by decide
  have o2 : ¬ (1 : Int32) ≤ 0 := by decide
  rcases Int.lt_or_le 0 (max (p * l) (p * h)) with g | g
  · have g' : 0 < (rb_U0 p l h).2.1 := (rb_gt0 bM).mpr g
    rcases Int.lt_or_le (min (p * l) (p * h)) 0 with m | m
    · refine Or.inr (Or.inr ⟨g, m, ?_⟩)
      have m' : (rb_U0 p l h).1 < 0 := (rb_lt0 bm).mpr m
      have m2 : (rb_U0 p l h).1 ≤ 0 := (rb_le0 bm).mpr (by omega)
      unfold rb_U3
      rw [rb_brM o1 g' (Or.inr m')]
      unfold rb_mx
      dsimp only
      rw [if_neg o2, if_pos m2, if_neg o2]
      have f := rb_Fi0 (x := 0 + 1 * 0) (y := 0 + 1 * (rb_U0 p l h).2.1) (n := 0) (R := 0) hl y0 y1
      rw [rb_z] at f
      rw [f, Int32.one_mul, Int32.one_mul, Int32.zero_add, Int32.zero_add, Int32.zero_add, Int32.zero_add]
      rfl
    · refine Or.inr (Or.inl ⟨g, m, ?_⟩)
      have m' : ¬ (rb_U0 p l h).1 < 0 := fun t => absurd ((rb_lt0 bm).mp t) (by omega)
      unfold rb_U3
      rw [rb_brL o1 g' (show ¬ (rb_U0 p l h).2.2.2.2.2 = 0 from o1) m']
      unfold rb_ln rb_U0
      dsimp only
      rw [Int32.one_mul, Int32.one_mul, Int32.zero_add, Int32.zero_add]
      have f := rb_FiA (x := 0) (y := 0) (n := 1) (R := 0) hp hl y0 y1
      rw [rb_z, Int.zero_add, Int.zero_add, Int32.add_zero, Int32.add_zero] at f
      exact f
  · refine Or.inl ⟨g, ?_⟩
    have g' : ¬ 0 < (rb_U0 p l h).2.1 := fun t => absurd ((rb_gt0 bM).mp t) (by omega)
    unfold rb_U3
    rw [rb_brO g']
    have f := rb_Fi0 (x := 0) (y := 0) (n := 1) (R := 0) hl y0 y1
    rw [rb_z, Int32.add_zero] at f
    exact f
theorem rb_mix {q r A B : Int} (h1 : 0 < max A B) (h2 : min A B < 0) :
    (0 ≤ q → min (r + q * max 0 A) (r + q * max 0 B) = r ∧ max (r + q * max 0 A) (r + q * max 0 B) = r + q * max A B) ∧ (q ≤ 0 → min (r + q * max 0 A) (r + q * max 0 B) = r + q * max A B ∧ max (r + q * max 0 A) (r + q * max 0 B) = r) := by
  rcases Int.le_total A B with g | g
  · rw [show max 0 A = 0 by omega, show max 0 B = B by omega, show max A B = B by omega, Int.mul_zero]
    refine ⟨fun hq => ?_, fun hq => ?_⟩
    · have := rb_mpos (l := 0) (h := B) hq (by omega)
      rw [Int.mul_zero] at this
      exact ⟨by omega, by omega⟩
    · have := rb_mneg (l := 0) (h := B) hq (by omega)
      rw [Int.mul_zero] at this
      exact ⟨by omega, by omega⟩
  · rw [show max 0 A = A by omega, show max 0 B = 0 by omega, show max A B = A by omega, Int.mul_zero]
    refine ⟨fun hq => ?_, fun hq => ?_⟩
    · have := rb_mpos (l := 0) (h := A) hq (by omega)
      rw [Int.mul_zero] at this
      exact ⟨by omega, by omega⟩
    · have := rb_mneg (l := 0) (h := A) hq (by omega)
      rw [Int.mul_zero] at this
      exact ⟨by omega, by omega⟩
theorem rb_U5c {p q r l h : Int} (hp : rb_B p) (hq : rb_B q) (hqp : rb_B (q * p)) (hA : rb_B (p * l)) (hB : rb_B (p * h)) (hl : l ≤ h) (y0 y1 : Int32) :
    (rb_U5 p q r l h y0 y1).1 = rb_c (min (rb_F p q r l) (rb_F p q r h)) ∧ (rb_U5 p q r l h y0 y1).2.1 = rb_c (max (rb_F p q r l) (rb_F p q r h)) := by
  have flat : rb_br (0, 0, 0, 0, rb_c r, 1) (rb_U3 p l h y0 y1) (rb_c q) = (0, 0, 0, 0, rb_c r, 1) → rb_F p q r l = r → rb_F p q r h = r → (rb_U5 p q r l h y0 y1).1 = rb_c (min (rb_F p q r l) (rb_F p q r h)) ∧ (rb_U5 p q r l h y0 y1).2.1 = rb_c (max (rb_F p q r l) (rb_F p q r h)) := by
    intro e f1 f2
    unfold rb_U5
    rw [e, rb_Fi0 hl, f1, f2, show min r r = r by omega, show max r r = r by omega, Int32.add_zero]
    exact ⟨rfl, rfl⟩
  by_cases q0 : q = 0
  · refine flat ?_ ?_ ?_
    · rw [q0, rb_z]
      exact rb_br0 _ _
    · unfold rb_F
      rw [q0]
      omega
    · unfold rb_F
      rw [q0]
      omega
  have q1 : ¬ rb_c q = 0 := fun t => q0 ((rb_eq0 hq).mp t)
  rcases rb_U3c hp hA hB hl y0 y1 with ⟨g, e⟩ | ⟨g, m, e⟩ | ⟨g, m, e⟩
  · refine flat ?_ ?_ ?_
    · rw [e]
      exact rb_brO (by decide)
    · unfold rb_F
      rw [show max 0 (p * l) = 0 by omega, Int.mul_zero, Int.add_zero]
    · unfold rb_F
      rw [show max 0 (p * h) = 0 by omega, Int.mul_zero, Int.add_zero]
  · have bm : rb_B (min (p * l) (p * h)) := by
      obtain ⟨a1, a2⟩ := hA
      obtain ⟨b1, b2⟩ := hB
      exact ⟨by omega, by omega⟩
    have bM : rb_B (max (p * l) (p * h)) := by
      obtain ⟨a1, a2⟩ := hA
      obtain ⟨b1, b2⟩ := hB
      exact ⟨by omega, by omega⟩
    unfold rb_U5 rb_F
    rw [e, rb_brL (u := (rb_c (min (p * l) (p * h)), rb_c (max (p * l) (p * h)), rb_c p, 0, 0, 1)) q1 ((rb_gt0 bM).mpr g) (show ¬ (1 : Int32) = 0 by decide) (fun t => absurd ((rb_lt0 bm).mp t) (by omega))]
    unfold rb_ln
    dsimp only
    rw [Int32.mul_zero, Int32.add_zero, Int32.add_zero, Int32.zero_add, rb_mul, rb_FiA hqp hl, Int32.add_zero, Int32.add_zero, show max 0 (p * l) = p * l by omega, show max 0 (p * h) = p * h by omega, Int.mul_assoc, Int.mul_assoc]
    dsimp only
    rw [show min (r + q * (p * l)) (r + q * (p * h)) = r + min (q * (p * l)) (q * (p * h)) by omega, show max (r + q * (p * l)) (r + q * (p * h)) = r + max (q * (p * l)) (q * (p * h)) by omega]
    exact ⟨rfl, rfl⟩
  · have bM : rb_B (max (p * l) (p * h)) := by
      obtain ⟨a1, a2⟩ := hA
      obtain ⟨b1, b2⟩ := hB
      exact ⟨by omega, by omega⟩
    have mm := rb_mix (q := q) (r := r) g m
    unfold rb_U5 rb_F
    rw [e, rb_brM (u := (0, rb_c (max (p * l) (p * h)), 0, 0, 0, 0)) q1 ((rb_gt0 bM).mpr g) (Or.inl rfl)]
    unfold rb_mx
    dsimp only
    rw [if_pos (show (0 : Int32) ≤ 0 by decide), Int32.mul_zero]
    by_cases s : q ≤ 0
    · have s' : rb_c q ≤ 0 := (rb_le0 hq).mpr s
      rw [if_pos s', if_pos s', rb_Fi0 hl, (mm.2 s).1, (mm.2 s).2, rb_mul]
      dsimp only
      rw [Int32.zero_add, Int32.zero_add, Int32.add_zero, rb_add]
      exact ⟨rfl, rfl⟩
    · have s' : ¬ rb_c q ≤ 0 := fun t => s ((rb_le0 hq).mp t)
      rw [if_neg s', if_neg s', rb_Fi0 hl, (mm.1 (by omega)).1, (mm.1 (by omega)).2, rb_mul]
      dsimp only
      rw [Int32.zero_add, Int32.zero_add, Int32.add_zero, rb_add]
      exact ⟨rfl, rfl⟩
theorem rb_rng0 {p q r l h : Int} (hp : rb_B p) (hl : l ≤ h) (P : Nat → rb_T) (y0 y1 : Int32) : rb_rng (rb_A p q r) P (rb_c l) (rb_c h) y0 y1 0 = rb_U0 p l h := by
  have e : rb_rng (rb_A p q r) P (rb_c l) (rb_c h) y0 y1 0 = rb_N (rb_A p q r) 0 (rb_c l) (rb_c h) y0 y1 := rfl
  rw [e, rb_N0 hp hl]
theorem rb_rng1 {p q r l h : Int} (hl : l ≤ h) (P : Nat → rb_T) (y0 y1 : Int32) : rb_rng (rb_A p q r) P (rb_c l) (rb_c h) y0 y1 1 = (0, 0, 0, 0, 0, 1) := by
  have e : rb_rng (rb_A p q r) P (rb_c l) (rb_c h) y0 y1 1 = rb_N (rb_A p q r) 1 (rb_c l) (rb_c h) y0 y1 := rfl
  rw [e, rb_N1 hl]
theorem rb_rng5 {p q r l h : Int} (hp : rb_B p) (hl : l ≤ h) (P : Nat → rb_T) (y0 y1 : Int32) : rb_rng (rb_A p q r) P (rb_c l) (rb_c h) y0 y1 5 = rb_U5 p q r l h y0 y1 := by
  have a15 : rb_A p q r 15 = 0 := rfl
  have a9 : rb_A p q r 9 = 1 := rfl
  have a10 : rb_A p q r 10 = 0 := rfl
  have a11 : rb_A p q r 11 = 0 := rfl
  have a17 : rb_A p q r 17 = rb_c q := rfl
  have a18 : rb_A p q r 18 = 0 := rfl
  have a19 : rb_A p q r 19 = rb_c r := rfl
  have e0 : rb_P2 (rb_A p q r) P (rb_c l) (rb_c h) y0 y1 0 = rb_N (rb_A p q r) 0 (rb_c l) (rb_c h) y0 y1 := rfl
  have e3 : rb_P4 (rb_A p q r) P (rb_c l) (rb_c h) y0 y1 3 = rb_V3 (rb_P2 (rb_A p q r) P (rb_c l) (rb_c h) y0 y1) (rb_A p q r 15) (rb_A p q r 9) (rb_A p q r 10) (rb_A p q r 11) (rb_c l) (rb_c h) y0 y1 := rfl
  have e5 : rb_rng (rb_A p q r) P (rb_c l) (rb_c h) y0 y1 5 = rb_V5 (rb_P4 (rb_A p q r) P (rb_c l) (rb_c h) y0 y1) (rb_A p q r 19) (rb_A p q r 17) (rb_A p q r 18) (rb_c l) (rb_c h) y0 y1 := rfl
  rw [e5]
  unfold rb_V5
  rw [a18, rb_br0, e3]
  unfold rb_V3
  rw [a10, a11, rb_br0, rb_br0, e0, rb_N0 hp hl, a15, a9, a17, a19]
  rfl
end
section
def rb_re (f u : Int32) : Int32 := if u ≤ 0 then 0 else f * u
def rb_w0 (a1 : Nat → Int32) (x y : Int32) (i : Nat) : Int32 := a1 (2 * i) * x + a1 (2 * i + 1) * y + a1 (6 + i)
def rb_ws (a1 a2 : Nat → Int32) (c : Nat) : Int32 := a1 (15 + c) + rb_re (a1 (9 + 3 * c + 0)) (a2 0) + rb_re (a1 (9 + 3 * c + 1)) (a2 1) + rb_re (a1 (9 + 3 * c + 2)) (a2 2)
def rb_k2 (a1 a2 : Nat → Int32) (x y : Int32) : Nat → Int32 := upd (upd (upd a2 0 (rb_w0 a1 x y 0)) 1 (rb_w0 a1 x y 1)) 2 (rb_w0 a1 x y 2)
def rb_k3 (a1 a2 : Nat → Int32) (x y : Int32) : Nat → Int32 := upd (rb_k2 a1 a2 x y) (3 + 0) (rb_ws a1 (rb_k2 a1 a2 x y) 0)
def rb_k4 (a1 a2 : Nat → Int32) (x y : Int32) : Nat → Int32 := upd (rb_k3 a1 a2 x y) (3 + 1) (rb_ws a1 (rb_k3 a1 a2 x y) 1)
def rb_wk (a1 a2 : Nat → Int32) (x y : Int32) : Nat → Int32 := upd (rb_k4 a1 a2 x y) 5 (a1 19 + rb_re (a1 (17 + 0)) (rb_k4 a1 a2 x y (3 + 0)) + rb_re (a1 (17 + 1)) (rb_k4 a1 a2 x y (3 + 1)))
section
variable {post : St2 → Prop} {w b : Int32} {a1 a2 a3 a4 a5 a6 a7 a8 a9 a10 a11 a12 : Nat → Int32}
theorem rb_w2 {x y : Int32} {n i : Nat} (hi : i < 3) (hp : wX_work_2 post x y w b n (nI (i + 1)) a1 (upd a2 i (rb_w0 a1 x y i)) a3 a4 a5 a6 a7 a8 a9 a10 a11 a12) : wX_work_2 post x y w b (n + 1) (nI i) a1 a2 a3 a4 a5 a6 a7 a8 a9 a10 a11 a12 := by
  have g : vp_in (nI i) 6 := vp_in_nI (by omega) (by omega)
  have c : (nI i).toNatClampNeg = i := nI_clamp (by omega)
  have e2 : (2 : Int32) * nI i = nI (2 * i) := pk_mul 2 i
  have e6 : (6 : Int32) + nI i = nI (6 + i) := nI_add 6 i
  have c1 : (nI (2 * i)).toNatClampNeg = 2 * i := nI_clamp (by omega)
  have c2 : (nI (2 * i + 1)).toNatClampNeg = 2 * i + 1 := nI_clamp (by omega)
  have c3 : (nI (6 + i)).toNatClampNeg = 6 + i := nI_clamp (by omega)
  refine br_f (nI_ge (b := 3) hi (by decide)) ?_
  rw [e2, nI_1 (2 * i), e6, c1, c2, c3, c]
  exact ⟨vp_in_nI (by omega) (by omega), vp_in_nI (by omega) (by omega), vp_in_nI (by omega) (by omega), g, nm_e (nm_r (nI_1 i) hp)⟩
theorem rb_w73 {J : Int32 → (Nat → Int32) → (Nat → Int32) → (Nat → Int32) → (Nat → Int32) → (Nat → Int32) → (Nat → Int32) → (Nat → Int32) → (Nat → Int32) → (Nat → Int32) → (Nat → Int32) → (Nat → Int32) → (Nat → Int32) → Prop} {x : Int32} {n c i : Nat} (hc : c < 2) (hi : i < 3) (hp : wX_work_73 post J (nI c) w b a1 a2 a3 a4 a5 a6 a7 a8 a9 a10 a11 a12 n (x + rb_re (a1 (9 + 3 * c + i)) (a2 i)) (nI (i + 1))) : wX_work_73 post J (nI c) w b a1 a2 a3 a4 a5 a6 a7 a8 a9 a10 a11 a12 (n + 1) x (nI i) := by
  have g : vp_in (nI i) 6 := vp_in_nI (by omega) (by omega)
  have e : (nI i).toNatClampNeg = i := nI_clamp (by omega)
  have e2 : (3 : Int32) * nI c = nI (3 * c) := pk_mul 3 c
  have e3 : (9 : Int32) + nI (3 * c) = nI (9 + 3 * c) := nI_add 9 (3 * c)
  have c1 : (nI (9 + 3 * c + i)).toNatClampNeg = 9 + 3 * c + i := nI_clamp (by omega)
  refine br_f (nI_ge (b := 3) hi (by decide)) ?_
  rw [e2, e3, nI_add (9 + 3 * c) i, c1, e]
  refine ⟨g, br_c (fun h => nm_e (nm_r (nI_1 i) ?_)) (fun h => ⟨vp_in_nI (by omega) (by omega), g, nm_e (nm_r (nI_1 i) ?_)⟩)⟩
  · unfold rb_re at hp
    rw [if_pos h] at hp
    exact hp
  · unfold rb_re at hp
    rw [if_neg h] at hp
    exact hp
theorem rb_w54 {n c : Nat} (hc : c < 2) (hp : wX_work_54 post w b n (nI (c + 1)) a1 (upd a2 (3 + c) (rb_ws a1 a2 c)) a3 a4 a5 a6 a7 a8 a9 a10 a11 a12) : wX_work_54 post w b (n + 1) (nI c) a1 a2 a3 a4 a5 a6 a7 a8 a9 a10 a11 a12 := by
  have e1 : (15 : Int32) + nI c = nI (15 + c) := nI_add 15 c
  have e2 : (3 : Int32) + nI c = nI (3 + c) := nI_add 3 c
  have c1 : (nI (15 + c)).toNatClampNeg = 15 + c := nI_clamp (by omega)
  have c2 : (nI (3 + c)).toNatClampNeg = 3 + c := nI_clamp (by omega)
  refine br_f (nI_ge (b := 2) hc (by decide)) ?_
  rw [e1, c1]
  refine ⟨vp_in_nI (by omega) (by omega), nm_e ⟨4, ?_⟩⟩
  refine rb_w73 (i := 0) hc (by omega) (rb_w73 (i := 1) hc (by omega) (rb_w73 (i := 2) hc (by omega) ?_))
  refine br_t (nI_le (a := 3) (b := 3) (by omega) (by decide)) ?_
  rw [e2, c2]
  exact ⟨vp_in_nI (by omega) (by omega), nm_e (nm_r (nI_1 c) hp)⟩
theorem rb_w153 {x : Int32} {n c : Nat} (hc : c < 2) (hp : wX_work_153 post w b a1 a2 a3 a4 a5 a6 a7 a8 a9 a10 a11 a12 n (x + rb_re (a1 (17 + c)) (a2 (3 + c))) (nI (c + 1))) : wX_work_153 post w b a1 a2 a3 a4 a5 a6 a7 a8 a9 a10 a11 a12 (n + 1) x (nI c) := by
  have e1 : (17 : Int32) + nI c = nI (17 + c) := nI_add 17 c
  have e2 : (3 : Int32) + nI c = nI (3 + c) := nI_add 3 c
  have c1 : (nI (17 + c)).toNatClampNeg = 17 + c := nI_clamp (by omega)
  have c2 : (nI (3 + c)).toNatClampNeg = 3 + c := nI_clamp (by omega)
  refine br_f (nI_ge (b := 2) hc (by decide)) ?_
  rw [e1, e2, c1, c2]
  refine ⟨vp_in_nI (by omega) (by omega), br_c (fun h => nm_e (nm_r (nI_1 c) ?_)) (fun h => ⟨vp_in_nI (by omega) (by omega), vp_in_nI (by omega) (by omega), nm_e (nm_r (nI_1 c) ?_)⟩)⟩
  · unfold rb_re at hp
    rw [if_pos h] at hp
    exact hp
  · unfold rb_re at hp
    rw [if_neg h] at hp
    exact hp
theorem rb_work {x y : Int32} (hp : post (w, b, a1, rb_wk a1 a2 x y, a3, a4, a5, a6, a7, a8, a9, a10, a11, a12)) : wpX_work post (w, b, a1, a2, a3, a4, a5, a6, a7, a8, a9, a10, a11, a12) x y := by
  refine ⟨4, rb_w2 (i := 0) (by omega) (rb_w2 (i := 1) (by omega) (rb_w2 (i := 2) (by omega) ?_))⟩
  refine br_t (nI_le (a := 3) (b := 3) (by omega) (by decide)) ⟨3, ?_⟩
  refine rb_w54 (c := 0) (by omega) (rb_w54 (c := 1) (by omega) ?_)
  refine br_t (nI_le (a := 2) (b := 2) (by omega) (by decide)) (nm_e ⟨3, ?_⟩)
  refine rb_w153 (c := 0) (by omega) (rb_w153 (c := 1) (by omega) ?_)
  exact br_t (nI_le (a := 2) (b := 2) (by omega) (by decide)) (nm_e hp)
end
theorem rb_re0 (u : Int32) : rb_re 0 u = 0 := by
  unfold rb_re
  rw [Int32.zero_mul, ite_self]
theorem rb_reA {f z : Int} (hz : rb_B z) : rb_re (rb_c f) (rb_c z) = rb_c (f * max 0 z) := by
  unfold rb_re
  by_cases g : z ≤ 0
  · rw [if_pos ((rb_le0 hz).mpr g), show max 0 z = 0 by omega, Int.mul_zero, rb_z]
  · rw [if_neg (fun t => g ((rb_le0 hz).mp t)), show max 0 z = z by omega, rb_mul]
theorem rb_wk0 (p q r l : Int) (a2 : Nat → Int32) (y : Int32) : rb_wk (rb_A p q r) a2 (rb_c l) y 0 = rb_c (p * l) := by
  have e : rb_wk (rb_A p q r) a2 (rb_c l) y 0 = rb_A p q r 0 * rb_c l + rb_A p q r 1 * y + rb_A p q r 6 := rfl
  have e0 : rb_A p q r 0 = rb_c p := rfl
  have e1 : rb_A p q r 1 = 0 := rfl
  have e6 : rb_A p q r 6 = 0 := rfl
  rw [e, e0, e1, e6, Int32.zero_mul, Int32.add_zero, Int32.add_zero, rb_mul]
theorem rb_wk1 (p q r : Int) (a2 : Nat → Int32) (x y : Int32) : rb_wk (rb_A p q r) a2 x y 1 = 0 := by
  have e : rb_wk (rb_A p q r) a2 x y 1 = rb_A p q r 2 * x + rb_A p q r 3 * y + rb_A p q r 7 := rfl
  have e0 : rb_A p q r 2 = 0 := rfl
  have e1 : rb_A p q r 3 = 0 := rfl
  have e6 : rb_A p q r 7 = 0 := rfl
  rw [e, e0, e1, e6, Int32.zero_mul, Int32.zero_mul, Int32.add_zero, Int32.add_zero]
theorem rb_wk5 {p q r l : Int} (hA : rb_B (p * l)) (a2 : Nat → Int32) (y : Int32) : rb_wk (rb_A p q r) a2 (rb_c l) y 5 = rb_c (rb_F p q r l) := by
  have a15 : rb_A p q r (15 + 0) = 0 := rfl
  have a9 : rb_A p q r (9 + 3 * 0 + 0) = rb_c 1 := (show rb_A p q r (9 + 3 * 0 + 0) = (1 : Int32) from rfl).trans (by decide)
  have a10 : rb_A p q r (9 + 3 * 0 + 1) = 0 := rfl
  have a11 : rb_A p q r (9 + 3 * 0 + 2) = 0 := rfl
  have a17 : rb_A p q r (17 + 0) = rb_c q := rfl
  have a18 : rb_A p q r (17 + 1) = 0 := rfl
  have a19 : rb_A p q r 19 = rb_c r := rfl
  have e5 : rb_wk (rb_A p q r) a2 (rb_c l) y 5 = rb_A p q r 19 + rb_re (rb_A p q r (17 + 0)) (rb_k4 (rb_A p q r) a2 (rb_c l) y (3 + 0)) + rb_re (rb_A p q r (17 + 1)) (rb_k4 (rb_A p q r) a2 (rb_c l) y (3 + 1)) := rfl
  have e3 : rb_k4 (rb_A p q r) a2 (rb_c l) y (3 + 0) = rb_ws (rb_A p q r) (rb_k2 (rb_A p q r) a2 (rb_c l) y) 0 := rfl
  have e0 : rb_k2 (rb_A p q r) a2 (rb_c l) y 0 = rb_wk (rb_A p q r) a2 (rb_c l) y 0 := rfl
  have hm : rb_B (1 * max 0 (p * l)) := by
    obtain ⟨h1, h2⟩ := hA
    exact ⟨by omega, by omega⟩
  rw [e5, e3, a18, rb_re0]
  unfold rb_ws
  rw [a10, a11, rb_re0, rb_re0, a15, a9, e0, rb_wk0, rb_reA hA, Int32.add_zero, Int32.add_zero, Int32.add_zero, Int32.zero_add, a17, rb_reA hm, a19, rb_add]
  unfold rb_F
  rw [show max 0 (1 * max 0 (p * l)) = max 0 (p * l) by omega]
end
section
section
variable {w b : Int32} {a1 a2 a3 a4 a5 a6 a7 a8 a9 a10 a11 a12 : Nat → Int32}
theorem rb_open {post : St2 → Prop} {x y l0 h0 l1 h1 : Int32} (e1 : (x >>> ((5 : Int32) &&& 31)) - 16 = l0) (e2 : (x &&& 31) - 16 = h0) (e3 : (y >>> ((5 : Int32) &&& 31)) - 16 = l1) (e4 : (y &&& 31) - 16 = h1)
    (hp : post (nI 1, b, a1, a2, a3, a4, a5, a6, a7, a8, upd a9 0 l0, upd a10 0 h0, upd a11 0 l1, upd a12 0 h1)) : wpX_open post (w, b, a1, a2, a3, a4, a5, a6, a7, a8, a9, a10, a11, a12) x y := by
  subst e1
  subst e2
  subst e3
  subst e4
  exact nm_e (nm_e (nm_e (nm_e hp)))
theorem rb_isPoint {post : Int32 → Prop} {k : Nat} (hk : k < 16) (h1 : a9 k = a10 k → a11 k = a12 k → post 1) (h0 : ¬ (a9 k = a10 k ∧ a11 k = a12 k) → post 0) : wpX_isPoint post (w, b, a1, a2, a3, a4, a5, a6, a7, a8, a9, a10, a11, a12) (nI k) := by
  have g : vp_in (nI k) 16 := vp_in_nI hk (by omega)
  have c : (nI k).toNatClampNeg = k := nI_clamp (by omega)
  unfold wpX_isPoint
  dsimp only
  rw [c]
  exact ⟨g, g, br_c (fun e => ⟨g, g, br_c (fun e' => h1 e e') (fun e' => h0 (fun t => e' t.2))⟩) (fun e => h0 (fun t => e t.1))⟩
/-- a box whose first interval is no point: cut there -/
theorem rb_cut {post : St2 → Prop} {k : Nat} (hk : k + 1 < 16) {L H : Int} (hL : a9 k = rb_c L) (hH : a10 k = rb_c H) (bL : -1000 ≤ L) (bH : H ≤ 1000) (lt : L < H)
    (hp : post (nI (k + 2), b, a1, a2, a3, a4, a5, a6, a7, a8, upd (upd a9 (k + 1) (rb_c L)) k (rb_c ((L + H) / 2 + 1)), upd a10 (k + 1) (rb_c ((L + H) / 2)), upd (upd a11 (k + 1) (a11 k)) k (a11 k), upd a12 (k + 1) (a12 k))) : wpX_cut post (w, b, a1, a2, a3, a4, a5, a6, a7, a8, a9, a10, a11, a12) (nI k) := by
  have g : vp_in (nI k) 16 := vp_in_nI (by omega) (by omega)
  have g1 : vp_in (nI (k + 1)) 16 := vp_in_nI (by omega) (by omega)
  have c : (nI k).toNatClampNeg = k := nI_clamp (by omega)
  have c1 : (nI (k + 1)).toNatClampNeg = k + 1 := nI_clamp (by omega)
  have o : ¬ (1 : Int32) = 0 := by decide
  have bb : rb_B (L + H) := ⟨by omega, by omega⟩
  have one : (1 : Int32) = rb_c 1 := by decide
  have nle : ¬ a10 k ≤ a9 k := by
    rw [hL, hH, rb_le ⟨by omega, by omega⟩ ⟨by omega, by omega⟩]
    omega
  have n1 : k ≠ k + 1 := by omega
  unfold wpX_cut
  dsimp only
  rw [c]
  refine ⟨g, g, br_f nle ?_⟩
  unfold wX_cut_20
  refine br_f o ?_
  unfold wX_cut_41
  refine br_f o ⟨g, ?_⟩
  unfold wX_cut_60
  refine br_f o ⟨g, ?_⟩
  unfold wX_cut_80
  rw [c, hL, hH, rb_add, rb_half bb]
  refine nm_e ⟨g, ?_⟩
  rw [nI_1 k, c1]
  refine ⟨g1, nm_e (br_f o ?_)⟩
  unfold wX_cut_126
  rw [c, nI_1 k, c1]
  refine ⟨g1, nm_e ⟨g, g1, nm_e (br_f o ⟨g, ?_⟩)⟩⟩
  unfold wX_cut_163
  rw [c1]
  refine ⟨g1, nm_e (br_f o ?_)⟩
  unfold wX_cut_186
  rw [c, pk_un n1]
  refine ⟨g, nm_e (br_f o ⟨g, g, nm_e (nm_r (nI_add k 2) ?_)⟩)⟩
  rw [one, rb_add]
  exact hp
theorem rb_bx {m n : Nat} (hm : m < 32) (hn : n < 32) : nI (32 * m + n) >>> ((5 : Int32) &&& 31) = nI m ∧ nI (32 * m + n) &&& 31 = nI n := by
  have a := pk_shrN (n := 32 * m + n) (by omega) ((5 : Int32) &&& 31) 5 (by decide)
  have c := pk_andN (n := 32 * m + n) (by omega) (m := 31) 5 (by decide)
  rw [show (32 * m + n) / 2 ^ 5 = m by omega] at a
  rw [show (32 * m + n) % 2 ^ 5 = n by omega] at c
  exact ⟨a, c⟩
theorem rb_bxv {m n : Nat} (hm : m < 32) (hn : n < 32) : (nI (32 * m + n) >>> ((5 : Int32) &&& 31)) - 16 = rb_c ((m : Int) - 16) ∧ (nI (32 * m + n) &&& 31) - 16 = rb_c ((n : Int) - 16) := by
  have e : (16 : Int32) = rb_c 16 := by decide
  rw [(rb_bx hm hn).1, (rb_bx hm hn).2, rb_nI, rb_nI, e, rb_sub, rb_sub]
  exact ⟨rfl, rfl⟩
theorem rb_isInterval {post : Int32 → Prop} {m n : Nat} (hm : m ≤ n) (hn : n < 32) (hp : post 1) : wpX_isInterval post () (nI (32 * m + n)) := by
  have e := rb_bx (m := m) (n := n) (by omega) hn
  refine br_f (nI_pos (by omega)) (br_f (nI_nlt (a := 1023) (b := 32 * m + n) (by omega) (by decide)) (br_f ?_ hp))
  rw [e.1, e.2]
  exact nI_nlt hm (by omega)
end
end
section
/-- how large the box at a place of the stack may be -/
def rb_cap : Nat → Int
  | 0 => 32
  | 1 => 16
  | 2 => 8
  | 3 => 4
  | 4 => 2
  | 5 => 1
  | _ => 0
theorem rb_cap1 {k : Nat} {n : Int} (h2 : 2 ≤ n) (h : n ≤ rb_cap k) : k ≤ 4 ∧ rb_cap k = 2 * rb_cap (k + 1) := by
  match k, h with
  | 0, _ => exact ⟨by omega, by decide⟩
  | 1, _ => exact ⟨by omega, by decide⟩
  | 2, _ => exact ⟨by omega, by decide⟩
  | 3, _ => exact ⟨by omega, by decide⟩
  | 4, _ => exact ⟨by omega, by decide⟩
  | 5, h => exact absurd (show n ≤ 1 from h) (by omega)
  | m + 6, h => exact absurd (show n ≤ 0 from h) (by omega)
/-- the stack: k boxes that hold the numbers from L (k - 1) to h0, each below its place's bound -/
def rb_K (l0 h0 : Int) (y : Int32) (k : Nat) (L H : Nat → Int) (a9 a10 a11 a12 : Nat → Int32) : Prop :=
  (∀ i, i < k → a9 i = rb_c (L i) ∧ a10 i = rb_c (H i) ∧ a11 i = y ∧ a12 i = y) ∧ (∀ i, i < k → l0 ≤ L i ∧ L i ≤ H i ∧ H i ≤ h0 ∧ H i - L i + 1 ≤ rb_cap i) ∧ (∀ i, i + 1 < k → L i = H (i + 1) + 1) ∧ (0 < k → H 0 = h0)
def rb_uI (f : Nat → Int) (k : Nat) (x : Int) : Nat → Int := fun j => if j = k then x else f j
theorem rb_uIs {f : Nat → Int} {k : Nat} {x : Int} : rb_uI f k x k = x := if_pos rfl
theorem rb_uIn {f : Nat → Int} {k j : Nat} {x : Int} (h : j ≠ k) : rb_uI f k x j = f j := if_neg h
theorem rb_Kpop {l0 h0 : Int} {y : Int32} {k : Nat} {L H : Nat → Int} {a9 a10 a11 a12 : Nat → Int32} (h : rb_K l0 h0 y (k + 1) L H a9 a10 a11 a12) : rb_K l0 h0 y k L H a9 a10 a11 a12 :=
  ⟨fun i hi => h.1 i (by omega), fun i hi => h.2.1 i (by omega), fun i hi => h.2.2.1 i (by omega), fun _ => h.2.2.2 (by omega)⟩
theorem rb_Kcut {l0 h0 : Int} {y : Int32} {k : Nat} {L H : Nat → Int} {a9 a10 a11 a12 : Nat → Int32} (h : rb_K l0 h0 y (k + 1) L H a9 a10 a11 a12) (lt : L k < H k) :
    rb_K l0 h0 y (k + 2) (rb_uI (rb_uI L (k + 1) (L k)) k ((L k + H k) / 2 + 1)) (rb_uI H (k + 1) ((L k + H k) / 2)) (upd (upd a9 (k + 1) (rb_c (L k))) k (rb_c ((L k + H k) / 2 + 1))) (upd a10 (k + 1) (rb_c ((L k + H k) / 2))) (upd (upd a11 (k + 1) (a11 k)) k (a11 k)) (upd a12 (k + 1) (a12 k)) := by
  obtain ⟨h1, h2, h3, h4⟩ := h
  have hk := h2 k (by omega)
  have cap := rb_cap1 (k := k) (n := H k - L k + 1) (by omega) hk.2.2.2
  have n1 : k ≠ k + 1 := by omega
  have n2 : k + 1 ≠ k := by omega
  refine ⟨fun i hi => ?_, fun i hi => ?_, fun i hi => ?_, fun _ => ?_⟩
  · by_cases e : i = k + 1
    · subst e
      rw [pk_un n2, pk_us, pk_us, pk_un n2, pk_us, pk_us, rb_uIn n2, rb_uIs, rb_uIs]
      exact ⟨rfl, rfl, (h1 k (by omega)).2.2.1, (h1 k (by omega)).2.2.2⟩
    · by_cases e' : i = k
      · subst e'
        rw [pk_us, pk_un e, pk_us, pk_un e, rb_uIs, rb_uIn e]
        exact ⟨rfl, (h1 i (by omega)).2.1, (h1 i (by omega)).2.2.1, (h1 i (by omega)).2.2.2⟩
      · rw [pk_un e', pk_un e, pk_un e, pk_un e', pk_un e, pk_un e, rb_uIn e', rb_uIn e, rb_uIn e]
        exact h1 i (by omega)
  · by_cases e : i = k + 1
    · subst e
      rw [rb_uIn n2, rb_uIs, rb_uIs]
      exact ⟨by omega, by omega, by omega, by omega⟩
    · by_cases e' : i = k
      · subst e'
        rw [rb_uIs, rb_uIn e]
        exact ⟨by omega, by omega, by omega, by omega⟩
      · rw [rb_uIn e', rb_uIn e, rb_uIn e]
        exact h2 i (by omega)
  · by_cases e : i = k
    · subst e
      rw [rb_uIs, rb_uIs]
    · have e1 : i ≠ k + 1 := by omega
      have e2 : i + 1 ≠ k + 1 := by omega
      rw [rb_uIn e, rb_uIn e1, rb_uIn e2]
      exact h3 i (by omega)
  · have e : 0 ≠ k + 1 := by omega
    rw [rb_uIn e]
    exact h4 (by omega)
/-- the value that extreme takes of a box -/
def rb_bd (s : Int32) (v : rb_T) : Int32 := if s ≤ 0 then -v.1 else v.2.1
theorem rb_cap5 {k : Nat} {n : Int} (h1 : 1 ≤ n) (h : n ≤ rb_cap k) : k ≤ 5 := by
  match k, h with
  | 0, _ => omega
  | 1, _ => omega
  | 2, _ => omega
  | 3, _ => omega
  | 4, _ => omega
  | 5, _ => omega
  | m + 6, h => exact absurd (show n ≤ 0 from h) (by omega)
section
variable {post : Int32 → St2 → Prop} {a1 a2 : Nat → Int32} {t : Nat} {s y : Int32} {V : Int → Int} {l0 h0 : Int}
theorem rb_x38 (ht : t < 6) (bl : -16 ≤ l0) (bh : h0 ≤ 16)
    (hV : ∀ (P : Nat → rb_T) (l h : Int), l0 ≤ l → l ≤ h → h ≤ h0 → rb_bd s (rb_rng a1 P (rb_c l) (rb_c h) y y t) = rb_c (max (V l) (V h)))
    (hM : ∀ x, l0 ≤ x → x ≤ h0 → V x ≤ max (V l0) (V h0)) (hB : ∀ x, l0 ≤ x → x ≤ h0 → rb_B (V x))
    (hp : ∀ (w : Int32) (P : Nat → rb_T) (a9 a10 a11 a12 : Nat → Int32), post (rb_c (max (V l0) (V h0))) (rb_S w (rb_c (max (V l0) (V h0))) a1 a2 P a9 a10 a11 a12)) :
    ∀ (m st k : Nat) (b : Int) (L H : Nat → Int) (P : Nat → rb_T) (a9 a10 a11 a12 : Nat → Int32), st + m ≤ 2000 → 0 < m → rb_K l0 h0 y k L H a9 a10 a11 a12 → (∀ j, k = j + 1 → 16 * (h0 - L j + 1) - (j + 1) + 1 ≤ (m : Int)) → rb_B b → b ≤ max (V l0) (V h0) → (b = max (V l0) (V h0) ∨ (0 < k ∧ V h0 = max (V l0) (V h0))) →
      rb_ap (wX_extreme_38 post (nI t) s m (nI st)) (nI k) (rb_c b) a1 a2 P a9 a10 a11 a12 := by
  intro m
  induction m with
  | zero =>
    intro st k b L H P a9 a10 a11 a12 hst h0m
    exact absurd h0m (by omega)
  | succ m ih =>
    intro st k b L H P a9 a10 a11 a12 hst h0m hK hm bb hb hor
    refine br_f (nI_ge (b := 2048) (by omega) (by decide)) ?_
    cases k with
    | zero =>
      have e : b = max (V l0) (V h0) := by
        rcases hor with e | e
        · exact e
        · exact absurd e.1 (by omega)
      subst e
      exact br_t (nI_le (a := 0) (b := 0) (by omega) (by decide)) (hp _ _ _ _ _ _)
    | succ k =>
      obtain ⟨f9, f10, f11, f12⟩ := hK.1 k (by omega)
      obtain ⟨g1, g2, g3, g4⟩ := hK.2.1 k (by omega)
      have hm' := hm k rfl
      have k5 : k ≤ 5 := rb_cap5 (by omega) g4
      have g : vp_in (nI k) 16 := vp_in_nI (by omega) (by omega)
      have gt : vp_in (nI t) 6 := vp_in_nI ht (by omega)
      have c : (nI k).toNatClampNeg = k := nI_clamp (by omega)
      have ct : (nI t).toNatClampNeg = t := nI_clamp (by omega)
      have bL := hB (L k) (by omega) (by omega)
      have bH := hB (H k) (by omega) (by omega)
      have mL := hM (L k) (by omega) (by omega)
      have mH := hM (H k) (by omega) (by omega)
      have bd : rb_B (max (V (L k)) (V (H k))) := by
        obtain ⟨u1, u2⟩ := bL
        obtain ⟨v1, v2⟩ := bH
        exact ⟨by omega, by omega⟩
      have hpop : ∀ j, k = j + 1 → 16 * (h0 - L j + 1) - (j + 1) + 1 ≤ (m : Int) := by
        intro j e
        subst e
        have := hK.2.2.1 j (by omega)
        omega
      have hbot : V h0 = max (V l0) (V h0) → k = 0 → max (V l0) (V h0) ≤ max (V (L k)) (V (H k)) := by
        intro e z
        have h4 := hK.2.2.2 (by omega)
        subst z
        rw [h4]
        omega
      have setb : b < max (V (L k)) (V (H k)) → ∀ Q : Nat → rb_T, rb_ap (wX_extreme_38 post (nI t) s m (nI (st + 1))) (nI k) (rb_c (max (V (L k)) (V (H k)))) a1 a2 Q a9 a10 a11 a12 := by
        intro lt Q
        refine ih (st + 1) k _ L H Q a9 a10 a11 a12 (by omega) (by omega) (rb_Kpop hK) hpop bd (by omega) ?_
        rcases hor with e | e
        · exact absurd lt (by omega)
        · by_cases z : k = 0
          · have := hbot e.2 z
            exact Or.inl (by omega)
          · exact Or.inr ⟨by omega, e.2⟩
      have main : ∀ (z : Int32) (Q : Nat → rb_T), z = rb_c (max (V (L k)) (V (H k))) → rb_ap (wX_extreme_122 post (wX_extreme_38 post (nI t) s m) (nI t) s (nI st) (nI k) z) (nI k) (rb_c b) a1 a2 Q a9 a10 a11 a12 := by
        intro z Q hz
        subst hz
        refine rb_brle _ _ rfl rfl bd bb (fun le => nm_r (nI_1 st) ?_) (fun lt => ⟨gt, br_c (fun hl => ?_) (fun hl => nm_r (nI_1 st) (setb lt Q))⟩)
        · refine ih (st + 1) k b L H Q a9 a10 a11 a12 (by omega) (by omega) (rb_Kpop hK) hpop bb hb ?_
          rcases hor with e | e
          · exact Or.inl e
          · by_cases z : k = 0
            · have := hbot e.2 z
              exact Or.inl (by omega)
            · exact Or.inr ⟨by omega, e.2⟩
        · refine rb_isPoint (by omega) (fun e e' => br_f (by decide) (nm_r (nI_1 st) (setb lt Q))) (fun ne => br_t rfl ?_)
          have lt2 : L k < H k := by
            rcases Int.lt_or_le (L k) (H k) with u | u
            · exact u
            · exact absurd ⟨by rw [f9, f10, show L k = H k by omega], by rw [f11, f12]⟩ ne
          have k4 := (rb_cap1 (n := H k - L k + 1) (by omega) g4).1
          refine rb_cut (by omega) f9 f10 (by omega) (by omega) lt2 (nm_r (nI_1 st) ?_)
          refine ih (st + 1) (k + 2) b _ _ Q _ _ _ _ (by omega) (by omega) (rb_Kcut hK lt2) (fun j e => ?_) bb hb ?_
          · have e' : j = k + 1 := by omega
            subst e'
            rw [rb_uIn (show k + 1 ≠ k by omega), rb_uIs]
            omega
          · rcases hor with e | e
            · exact Or.inl e
            · exact Or.inr ⟨by omega, e.2⟩
      refine br_f (nI_nle (by omega) (by omega)) (nm_r (nI_pred k) ?_)
      rw [c, f9, f10, f11, f12]
      refine ⟨g, g, g, g, rb_range ?_⟩
      have v := hV P (L k) (H k) g1 g2 g3
      unfold rb_bd at v
      refine br_c (fun hs => ⟨gt, ?_⟩) (fun hs => ⟨gt, ?_⟩)
      · rw [if_pos hs] at v
        rw [ct]
        exact main _ _ v
      · rw [if_neg hs] at v
        rw [ct]
        exact main _ _ v
/-- extreme over a box whose second interval is a point: the greater of the values at the ends -/
theorem rb_extreme {w b : Int32} {a3 a4 a5 a6 a7 a8 a9 a10 a11 a12 : Nat → Int32} {x yy : Int32} (ht : t < 6) (bl : -16 ≤ l0) (hl : l0 ≤ h0) (bh : h0 ≤ 15)
    (e1 : (x >>> ((5 : Int32) &&& 31)) - 16 = rb_c l0) (e2 : (x &&& 31) - 16 = rb_c h0) (e3 : (yy >>> ((5 : Int32) &&& 31)) - 16 = y) (e4 : (yy &&& 31) - 16 = y)
    (hV : ∀ (P : Nat → rb_T) (l h : Int), l0 ≤ l → l ≤ h → h ≤ h0 → rb_bd s (rb_rng a1 P (rb_c l) (rb_c h) y y t) = rb_c (max (V l) (V h)))
    (hW : s * rb_wk a1 a2 (rb_c l0) y t = rb_c (V l0))
    (hM : ∀ x, l0 ≤ x → x ≤ h0 → V x ≤ max (V l0) (V h0)) (hB : ∀ x, l0 ≤ x → x ≤ h0 → rb_B (V x))
    (hp : ∀ (w b : Int32) (a2 : Nat → Int32) (P : Nat → rb_T) (a9 a10 a11 a12 : Nat → Int32), post (rb_c (max (V l0) (V h0))) (rb_S w b a1 a2 P a9 a10 a11 a12)) :
    wpX_extreme post (w, b, a1, a2, a3, a4, a5, a6, a7, a8, a9, a10, a11, a12) x yy (nI t) s := by
  have gt : vp_in (nI t) 6 := vp_in_nI ht (by omega)
  have ct : (nI t).toNatClampNeg = t := nI_clamp (by omega)
  unfold wpX_extreme
  dsimp only
  refine rb_open e1 e2 e3 e4 ?_
  refine rb_work ⟨gt, nm_r (e' := rb_c (V l0)) ?_ ⟨1000, ?_⟩⟩
  · rw [ct]
    exact hW
  · refine rb_x38 ht bl (by omega) hV hM hB (fun w P a9 a10 a11 a12 => hp _ _ _ _ _ _ _ _) 1000 0 1 (V l0) (fun _ => l0) (fun _ => h0) (fun j => (a3 j, a4 j, a5 j, a6 j, a7 j, a8 j)) _ _ _ _ (by omega) (by omega) ⟨fun i hi => ?_, fun i hi => ?_, fun i hi => absurd hi (by omega), fun _ => rfl⟩ (fun j e => ?_) (hB _ (by omega) (by omega)) (by omega) ?_
    · have z : i = 0 := by omega
      subst z
      exact ⟨rfl, rfl, rfl, rfl⟩
    · have z : i = 0 := by omega
      subst z
      have z0 : rb_cap 0 = 32 := rfl
      rw [z0]
      dsimp only
      exact ⟨by omega, by omega, by omega, by omega⟩
    · omega
    · rcases Int.le_total (V h0) (V l0) with g | g
      · exact Or.inl (by omega)
      · exact Or.inr ⟨by omega, by omega⟩
end
end
section
section
variable {post : Int32 → St2 → Prop} {w b : Int32} {a1 a2 a3 a4 a5 a6 a7 a8 a9 a10 a11 a12 : Nat → Int32}
theorem rb_firstAbove {x yy lim l0 h0 l1 h1 : Int32} (e1 : (x >>> ((5 : Int32) &&& 31)) - 16 = l0) (e2 : (x &&& 31) - 16 = h0) (e3 : (yy >>> ((5 : Int32) &&& 31)) - 16 = l1) (e4 : (yy &&& 31) - 16 = h1)
    (hb : ∀ P : Nat → rb_T, (rb_rng a1 P l0 h0 l1 h1 5).2.1 ≤ lim)
    (hp : ∀ (w b : Int32) (a2 : Nat → Int32) (P : Nat → rb_T) (a9 a10 a11 a12 : Nat → Int32), post (-2) (rb_S w b a1 a2 P a9 a10 a11 a12)) :
    wpX_firstAbove post (w, b, a1, a2, a3, a4, a5, a6, a7, a8, a9, a10, a11, a12) x yy lim := by
  have g : vp_in (nI 0) 16 := vp_in_nI (by omega) (by omega)
  have c0 : (nI 0).toNatClampNeg = 0 := nI_clamp (by omega)
  unfold wpX_firstAbove
  refine rb_open e1 e2 e3 e4 ⟨2, ?_⟩
  refine br_f (nI_ge (a := 0) (b := 2048) (by omega) (by decide)) (br_f (nI_nle (n := 1) (by omega) (by omega)) (nm_r (nI_pred 0) ⟨g, g, g, g, ?_⟩))
  dsimp only
  rw [c0, pk_us, pk_us, pk_us, pk_us]
  refine rb_range (P := fun j => (a3 j, a4 j, a5 j, a6 j, a7 j, a8 j)) ?_
  refine br_t (hb _) (nm_r (nI_1 0) ?_)
  exact br_f (nI_ge (a := 1) (b := 2048) (by omega) (by decide)) (br_t (nI_le (a := 0) (b := 0) (by omega) (by decide)) (hp _ _ _ _ _ _ _ _))
end
theorem rb_528 : (((528 : Int32) >>> ((5 : Int32) &&& 31)) - 16 = 0) ∧ (((528 : Int32) &&& 31) - 16 = 0) := by decide
section
variable {post : Int32 → St2 → Prop} {w b : Int32} {a2 a3 a4 a5 a6 a7 a8 a9 a10 a11 a12 : Nat → Int32} {p q r : Int} {m n : Nat}
theorem rb_sm (hp : -5 ≤ p ∧ p ≤ 5) {l : Int} (h1 : -16 ≤ l) (h2 : l ≤ 15) : rb_B (p * l) := by
  have h := rb_m5 (x := l) (n := 16) hp.1 hp.2 (by omega) (by omega)
  exact ⟨by omega, by omega⟩
theorem rb_top (hp : -5 ≤ p ∧ p ≤ 5) (hq : -5 ≤ q ∧ q ≤ 5) {l h : Int} (h1 : -16 ≤ l) (h2 : l ≤ h) (h3 : h ≤ 15) (P : Nat → rb_T) (y0 y1 : Int32) :
    (rb_rng (rb_A p q r) P (rb_c l) (rb_c h) y0 y1 5).1 = rb_c (min (rb_F p q r l) (rb_F p q r h)) ∧ (rb_rng (rb_A p q r) P (rb_c l) (rb_c h) y0 y1 5).2.1 = rb_c (max (rb_F p q r l) (rb_F p q r h)) := by
  have bp : rb_B p := ⟨by omega, by omega⟩
  have bq : rb_B q := ⟨by omega, by omega⟩
  have bqp : rb_B (q * p) := by
    have h := rb_m5 (x := p) (n := 5) hq.1 hq.2 (by omega) (by omega)
    exact ⟨by omega, by omega⟩
  rw [rb_rng5 bp h2]
  exact rb_U5c bp bq bqp (rb_sm hp h1 (by omega)) (rb_sm hp (by omega) h3) h2 y0 y1
theorem rb_most (hp : -5 ≤ p ∧ p ≤ 5) (hq : -5 ≤ q ∧ q ≤ 5) (hr : -50 ≤ r ∧ r ≤ 50) (hm : m ≤ n) (hn : n < 32)
    (H : ∀ (w b : Int32) (a2 : Nat → Int32) (P : Nat → rb_T) (a9 a10 a11 a12 : Nat → Int32), post (rb_c (max (rb_F p q r ((m : Int) - 16)) (rb_F p q r ((n : Int) - 16)))) (rb_S w b (rb_A p q r) a2 P a9 a10 a11 a12)) :
    wpX_most post (w, b, rb_A p q r, a2, a3, a4, a5, a6, a7, a8, a9, a10, a11, a12) (nI (32 * m + n)) 528 := by
  have ev := rb_bxv (m := m) (n := n) (by omega) hn
  have o : ¬ (1 : Int32) ≤ 0 := by decide
  unfold wpX_most
  dsimp only
  refine rb_isInterval hm hn (br_f (by decide) (rb_isInterval (m := 16) (n := 16) (by omega) (by omega) (br_f (by decide) ?_)))
  refine rb_extreme (t := 5) (s := 1) (y := 0) (V := rb_F p q r) (l0 := (m : Int) - 16) (h0 := (n : Int) - 16) (by omega) (by omega) (by omega) (by omega) ev.1 ev.2 rb_528.1 rb_528.2 (fun P l h h1 h2 h3 => ?_) ?_ (fun x h1 h2 => (rb_Fm h1 h2).1) (fun x h1 h2 => rb_Fb hp hq hr ⟨by omega, by omega⟩) (fun _ _ _ _ _ _ _ _ => H _ _ _ _ _ _ _ _)
  · unfold rb_bd
    rw [if_neg o]
    exact (rb_top hp hq (by omega) h2 (by omega) P 0 0).2
  · rw [rb_wk5 (rb_sm hp (by omega) (by omega)), Int32.one_mul]
theorem rb_least (hp : -5 ≤ p ∧ p ≤ 5) (hq : -5 ≤ q ∧ q ≤ 5) (hr : -50 ≤ r ∧ r ≤ 50) (hm : m ≤ n) (hn : n < 32)
    (H : ∀ (w b : Int32) (a2 : Nat → Int32) (P : Nat → rb_T) (a9 a10 a11 a12 : Nat → Int32), post (rb_c (min (rb_F p q r ((m : Int) - 16)) (rb_F p q r ((n : Int) - 16)))) (rb_S w b (rb_A p q r) a2 P a9 a10 a11 a12)) :
    wpX_least post (w, b, rb_A p q r, a2, a3, a4, a5, a6, a7, a8, a9, a10, a11, a12) (nI (32 * m + n)) 528 := by
  have ev := rb_bxv (m := m) (n := n) (by omega) hn
  have o : (-1 : Int32) ≤ 0 := by decide
  have o1 : (-1 : Int32) = rb_c (-1) := by decide
  have en : - rb_c (max (-rb_F p q r ((m : Int) - 16)) (-rb_F p q r ((n : Int) - 16))) = rb_c (min (rb_F p q r ((m : Int) - 16)) (rb_F p q r ((n : Int) - 16))) := by
    rw [rb_neg]
    congr 1
    omega
  unfold wpX_least
  dsimp only
  refine rb_isInterval hm hn (br_f (by decide) (rb_isInterval (m := 16) (n := 16) (by omega) (by omega) (br_f (by decide) ?_)))
  refine rb_extreme (t := 5) (s := -1) (y := 0) (V := fun x => -rb_F p q r x) (l0 := (m : Int) - 16) (h0 := (n : Int) - 16) (by omega) (by omega) (by omega) (by omega) ev.1 ev.2 rb_528.1 rb_528.2 (fun P l h h1 h2 h3 => ?_) ?_ (fun x h1 h2 => ?_) (fun x h1 h2 => ?_) (fun w b a2 P a9 a10 a11 a12 => ?_)
  · unfold rb_bd
    rw [if_pos o, (rb_top hp hq (by omega) h2 (by omega) P 0 0).1, rb_neg]
    congr 1
    omega
  · rw [rb_wk5 (rb_sm hp (by omega) (by omega)), o1, rb_mul]
    congr 1
    omega
  · have := (rb_Fm (p := p) (q := q) (r := r) h1 h2).2
    omega
  · obtain ⟨h1, h2⟩ := rb_Fb (x := x) hp hq hr ⟨by omega, by omega⟩
    exact ⟨by omega, by omega⟩
  · have h := H w b a2 P a9 a10 a11 a12
    rw [← en] at h
    exact h
theorem rb_safe (hp : -5 ≤ p ∧ p ≤ 5) (hq : -5 ≤ q ∧ q ≤ 5) (hr : -50 ≤ r ∧ r ≤ 50) (hm : m ≤ n) (hn : n < 32)
    (H : ∀ (w b : Int32) (a2 : Nat → Int32) (P : Nat → rb_T) (a9 a10 a11 a12 : Nat → Int32), post 1 (rb_S w b (rb_A p q r) a2 P a9 a10 a11 a12)) :
    wpX_safe post (w, b, rb_A p q r, a2, a3, a4, a5, a6, a7, a8, a9, a10, a11, a12) (nI (32 * m + n)) 3 (rb_c (max (rb_F p q r ((m : Int) - 16)) (rb_F p q r ((n : Int) - 16)))) := by
  have ev := rb_bxv (m := m) (n := n) (by omega) hn
  unfold wpX_safe
  dsimp only
  refine rb_isInterval hm hn (br_f (by decide) (rb_isInterval (m := 0) (n := 3) (by omega) (by omega) (br_f (by decide) ?_)))
  refine rb_firstAbove ev.1 ev.2 rfl rfl (fun P => ?_) (fun _ _ _ _ _ _ _ _ => br_t rfl (H _ _ _ _ _ _ _ _))
  rw [(rb_top hp hq (by omega) (by omega) (by omega) P _ _).2]
  exact Int32.le_refl _
theorem rb_breach (hp : -5 ≤ p ∧ p ≤ 5) (hq : -5 ≤ q ∧ q ≤ 5) (hr : -50 ≤ r ∧ r ≤ 50) (hm : m ≤ n) (hn : n < 32)
    (H : ∀ (w b : Int32) (a2 : Nat → Int32) (P : Nat → rb_T) (a9 a10 a11 a12 : Nat → Int32), post (-2) (rb_S w b (rb_A p q r) a2 P a9 a10 a11 a12)) :
    wpX_breach post (w, b, rb_A p q r, a2, a3, a4, a5, a6, a7, a8, a9, a10, a11, a12) (nI (32 * m + n)) 528 (rb_c (max (rb_F p q r ((m : Int) - 16)) (rb_F p q r ((n : Int) - 16)))) := by
  have ev := rb_bxv (m := m) (n := n) (by omega) hn
  unfold wpX_breach
  dsimp only
  refine rb_isInterval hm hn (br_f (by decide) (rb_isInterval (m := 16) (n := 16) (by omega) (by omega) (br_f (by decide) ?_)))
  refine rb_firstAbove ev.1 ev.2 rfl rfl (fun P => ?_) (fun _ _ _ _ _ _ _ _ => H _ _ _ _ _ _ _ _)
  rw [(rb_top hp hq (by omega) (by omega) (by omega) P _ _).2]
  exact Int32.le_refl _
theorem rb_lin {l x h : Int} (h1 : l ≤ x) (h2 : x ≤ h) : p * x ≤ max (p * l) (p * h) ∧ min (p * l) (p * h) ≤ p * x := by
  rcases Int.le_total 0 p with g | g
  · have a := rb_mpos g h1
    have c := rb_mpos g h2
    exact ⟨by omega, by omega⟩
  · have a := rb_mneg g h1
    have c := rb_mneg g h2
    exact ⟨by omega, by omega⟩
/-- fixed's answer for unit 0 -/
def rb_fx (A B : Int) : Int32 := if A ≤ 0 ∧ B ≤ 0 then 1 else if 0 < A ∧ 0 < B then 2 else 0
theorem rb_fixed0 (hp : -5 ≤ p ∧ p ≤ 5) (hm : m ≤ n) (hn : n < 32)
    (H : ∀ (w b : Int32) (a2 : Nat → Int32) (P : Nat → rb_T) (a9 a10 a11 a12 : Nat → Int32), post (rb_fx (p * ((m : Int) - 16)) (p * ((n : Int) - 16))) (rb_S w b (rb_A p q r) a2 P a9 a10 a11 a12)) :
    wpX_fixed post (w, b, rb_A p q r, a2, a3, a4, a5, a6, a7, a8, a9, a10, a11, a12) 0 (nI (32 * m + n)) 528 := by
  have ev := rb_bxv (m := m) (n := n) (by omega) hn
  have bp : rb_B p := ⟨by omega, by omega⟩
  have o : ¬ (1 : Int32) ≤ 0 := by decide
  have o' : (-1 : Int32) ≤ 0 := by decide
  have o1 : (-1 : Int32) = rb_c (-1) := by decide
  have bA : rb_B (p * ((m : Int) - 16)) := rb_sm hp (by omega) (by omega)
  have bB : rb_B (p * ((n : Int) - 16)) := rb_sm hp (by omega) (by omega)
  have bM : rb_B (max (p * ((m : Int) - 16)) (p * ((n : Int) - 16))) := by
    obtain ⟨u1, u2⟩ := bA
    obtain ⟨v1, v2⟩ := bB
    exact ⟨by omega, by omega⟩
  have bN : rb_B (min (p * ((m : Int) - 16)) (p * ((n : Int) - 16))) := by
    obtain ⟨u1, u2⟩ := bA
    obtain ⟨v1, v2⟩ := bB
    exact ⟨by omega, by omega⟩
  have en : - rb_c (max (-(p * ((m : Int) - 16))) (-(p * ((n : Int) - 16)))) = rb_c (min (p * ((m : Int) - 16)) (p * ((n : Int) - 16))) := by
    rw [rb_neg]
    congr 1
    omega
  refine br_f (by decide) (br_t (by decide) (rb_isInterval hm hn (br_f (by decide) (rb_isInterval (m := 16) (n := 16) (by omega) (by omega) (br_f (by decide) ?_)))))
  refine rb_extreme (t := 0) (s := 1) (y := 0) (V := fun x => p * x) (l0 := (m : Int) - 16) (h0 := (n : Int) - 16) (by omega) (by omega) (by omega) (by omega) ev.1 ev.2 rb_528.1 rb_528.2 (fun P l h h1 h2 h3 => ?_) ?_ (fun x h1 h2 => (rb_lin h1 h2).1) (fun x h1 h2 => rb_sm hp (by omega) (by omega)) (fun w b a2 P a9 a10 a11 a12 => ?_)
  · unfold rb_bd
    rw [if_neg o, rb_rng0 bp h2]
    rfl
  · rw [rb_wk0, Int32.one_mul]
  · refine br_c (fun g => ?_) (fun g => ?_)
    · rw [rb_gt0 bM] at g
      refine rb_extreme (t := 0) (s := -1) (y := 0) (V := fun x => -(p * x)) (l0 := (m : Int) - 16) (h0 := (n : Int) - 16) (by omega) (by omega) (by omega) (by omega) ev.1 ev.2 rb_528.1 rb_528.2 (fun P l h h1 h2 h3 => ?_) ?_ (fun x h1 h2 => ?_) (fun x h1 h2 => ?_) (fun w b a2 P a9 a10 a11 a12 => nm_r en ?_)
      · unfold rb_bd
        rw [if_pos o', rb_rng0 bp h2]
        show - rb_c (min (p * l) (p * h)) = _
        rw [rb_neg]
        congr 1
        omega
      · rw [rb_wk0, o1, rb_mul]
        congr 1
        omega
      · have := (rb_lin (p := p) h1 h2).2
        omega
      · obtain ⟨u1, u2⟩ := rb_sm (l := x) hp (by omega) (by omega)
        exact ⟨by omega, by omega⟩
      · have h := H w b a2 P a9 a10 a11 a12
        unfold rb_fx at h
        rw [if_neg (by omega)] at h
        refine br_c (fun k => ?_) (fun k => ?_)
        · rw [rb_le0 bN] at k
          rw [if_neg (by omega)] at h
          exact h
        · rw [rb_le0 bN] at k
          rw [if_pos (by omega)] at h
          exact h
    · rw [rb_gt0 bM] at g
      have h := H w b a2 P a9 a10 a11 a12
      unfold rb_fx at h
      rw [if_pos (by omega)] at h
      exact h
theorem rb_fixed1 (hm : m ≤ n) (hn : n < 32)
    (H : ∀ (w b : Int32) (a2 : Nat → Int32) (P : Nat → rb_T) (a9 a10 a11 a12 : Nat → Int32), post 1 (rb_S w b (rb_A p q r) a2 P a9 a10 a11 a12)) :
    wpX_fixed post (w, b, rb_A p q r, a2, a3, a4, a5, a6, a7, a8, a9, a10, a11, a12) 1 (nI (32 * m + n)) 528 := by
  have ev := rb_bxv (m := m) (n := n) (by omega) hn
  have o : ¬ (1 : Int32) ≤ 0 := by decide
  have z : rb_c (max 0 0) = 0 := by decide
  have z' : ¬ 0 < rb_c (max 0 0) := by decide
  refine br_f (by decide) (br_t (by decide) (rb_isInterval hm hn (br_f (by decide) (rb_isInterval (m := 16) (n := 16) (by omega) (by omega) (br_f (by decide) ?_)))))
  refine rb_extreme (t := 1) (s := 1) (y := 0) (V := fun _ => 0) (l0 := (m : Int) - 16) (h0 := (n : Int) - 16) (by omega) (by omega) (by omega) (by omega) ev.1 ev.2 rb_528.1 rb_528.2 (fun P l h h1 h2 h3 => ?_) ?_ (fun x h1 h2 => ?_) (fun x h1 h2 => rb_B0) (fun w b a2 P a9 a10 a11 a12 => br_f z' (H _ _ _ _ _ _ _ _))
  · unfold rb_bd
    rw [if_neg o, rb_rng1 h2]
    exact z.symm
  · rw [rb_wk1, Int32.one_mul, rb_z]
  · omega
end
end
section
theorem rb_off0 {P : Int32 → Prop} (h : P 0) : wpX_isOffset P () (nI 0) := br_t (by decide) (br_f (by decide) (br_f (by decide) (br_f (by decide) h)))
theorem rb_off9 {P : Int32 → Prop} (h : P 0) : wpX_isOffset P () (nI 9) := br_f (by decide) (br_f (by decide) (br_f (by decide) (br_f (by decide) (br_f (by decide) h))))
theorem rb_off17 {P : Int32 → Prop} (h : P 0) : wpX_isOffset P () (nI 17) := br_f (by decide) (br_f (by decide) (br_f (by decide) (br_f (by decide) (br_f (by decide) h))))
theorem rb_off19 {P : Int32 → Prop} (h : P 1) : wpX_isOffset P () (nI 19) := br_f (by decide) (br_f (by decide) (br_f (by decide) (br_f (by decide) (br_t (by decide) h))))
section
variable {w b : Int32} {a1 a2 a3 a4 a5 a6 a7 a8 a9 a10 a11 a12 : Nat → Int32}
theorem rb_s25 {post : Int32 → St2 → Prop} {k : Nat} (hk : k < 20) {x z : Int32} {v n : Int} (hx : x = rb_c v) (hz : z = rb_c n) (h1 : -n ≤ v) (h2 : v ≤ n) (hn : n ≤ 1000)
    (H : ∀ y, post y (w, b, upd a1 k x, a2, a3, a4, a5, a6, a7, a8, a9, a10, a11, a12)) : wX_set_25 post (nI k) x z w b a1 a2 a3 a4 a5 a6 a7 a8 a9 a10 a11 a12 := by
  have g : vp_in (nI k) 20 := vp_in_nI hk (by omega)
  have c : (nI k).toNatClampNeg = k := nI_clamp (by omega)
  have go : ∀ y, wX_set_55 post (nI k) x y w b a1 a2 a3 a4 a5 a6 a7 a8 a9 a10 a11 a12 := by
    intro y
    unfold wX_set_55
    rw [c]
    exact ⟨g, nm_e (H y)⟩
  have b1 : rb_B v := ⟨by omega, by omega⟩
  have b2 : rb_B n := ⟨by omega, by omega⟩
  have b3 : rb_B (-n) := ⟨by omega, by omega⟩
  have hz' : -z = rb_c (-n) := by rw [hz, rb_neg]
  exact rb_brlt _ _ hx hz' b1 b3 (fun t => absurd t (by omega)) (fun _ => rb_brle _ _ hx hz b1 b2 (fun _ => ⟨g, br_c (fun _ => go 0) (fun _ => go 1)⟩) (fun t => absurd t (by omega)))
theorem rb_set0 {post : Int32 → St2 → Prop} {k : Nat} (hk : k < 20) {x : Int32} {v : Int} (hx : x = rb_c v) (h1 : -5 ≤ v) (h2 : v ≤ 5) (ho : ∀ P : Int32 → Prop, P 0 → wpX_isOffset P () (nI k))
    (H : ∀ y, post y (w, b, upd a1 k x, a2, a3, a4, a5, a6, a7, a8, a9, a10, a11, a12)) : wpX_set post (w, b, a1, a2, a3, a4, a5, a6, a7, a8, a9, a10, a11, a12) (nI k) x :=
  br_f (nI_pos (by omega)) (br_t (nI_le (b := 19) (by omega) (by decide)) (ho _ (br_t rfl (rb_s25 (n := 5) hk hx (by decide) (by omega) h2 (by omega) H))))
theorem rb_set1 {post : Int32 → St2 → Prop} {k : Nat} (hk : k < 20) {x : Int32} {v : Int} (hx : x = rb_c v) (h1 : -50 ≤ v) (h2 : v ≤ 50) (ho : ∀ P : Int32 → Prop, P 1 → wpX_isOffset P () (nI k))
    (H : ∀ y, post y (w, b, upd a1 k x, a2, a3, a4, a5, a6, a7, a8, a9, a10, a11, a12)) : wpX_set post (w, b, a1, a2, a3, a4, a5, a6, a7, a8, a9, a10, a11, a12) (nI k) x :=
  br_f (nI_pos (by omega)) (br_t (nI_le (b := 19) (by omega) (by decide)) (ho _ (br_f (by decide) (rb_s25 (n := 50) hk hx (by decide) (by omega) h2 (by omega) H))))
end
theorem rb_p11 (x : Int32) : ∃ p : Int, (-5 ≤ p ∧ p ≤ 5) ∧ ((x &&& 15) - (x &&& 15) / 11 * 11) - 5 = rb_c p := by
  obtain ⟨j, hj, e⟩ := pk_andE x (m := 15) 4 (by decide)
  have h : nI j - nI j / (11 : Int32) * 11 = nI (j % 11) := pk_rem (d := 11) (by omega) (by omega) (by omega)
  have f : (5 : Int32) = rb_c 5 := by decide
  refine ⟨((j % 11 : Nat) : Int) - 5, ⟨by omega, by omega⟩, ?_⟩
  rw [e, h, f, rb_nI, rb_sub]
theorem rb_p101 (x : Int32) : ∃ p : Int, (-50 ≤ p ∧ p ≤ 50) ∧ ((x &&& 127) - (x &&& 127) / 101 * 101) - 50 = rb_c p := by
  obtain ⟨j, hj, e⟩ := pk_andE x (m := 127) 7 (by decide)
  have h : nI j - nI j / (101 : Int32) * 101 = nI (j % 101) := pk_rem (d := 101) (by omega) (by omega) (by omega)
  have f : (50 : Int32) = rb_c 50 := by decide
  refine ⟨((j % 101 : Nat) : Int) - 50, ⟨by omega, by omega⟩, ?_⟩
  rw [e, h, f, rb_nI, rb_sub]
section
variable {post : Int32 → St0 → Prop} {mc ms kc ks : Nat} {w b : Int32} {a2 a3 a4 a5 a6 a7 a8 a9 a10 a11 a12 : Nat → Int32} {p q r : Int} {m n : Nat}
theorem rb_l370 (hp : -5 ≤ p ∧ p ≤ 5) (hm : m ≤ n) (hn : n < 32) {z : Int32} (hz : rb_fx (p * ((m : Int) - 16)) (p * ((n : Int) - 16)) = z) (H : post 1 ()) : wL_lawOf_370 post mc ms (nI (32 * m + n)) z kc ks w b (rb_A p q r) a2 a3 a4 a5 a6 a7 a8 a9 a10 a11 a12 :=
  rb_fixed0 hp hm hn (fun _ _ _ _ _ _ _ _ => br_t hz (rb_fixed1 hm hn (fun _ _ _ _ _ _ _ _ => br_t rfl H)))
theorem rb_l355 (hp : -5 ≤ p ∧ p ≤ 5) (hm : m ≤ n) (hn : n < 32) (h0 : 0 < p * ((m : Int) - 16) ∨ 0 < p * ((n : Int) - 16)) (H : post 1 ()) : wL_lawOf_355 post mc ms (rb_c (p * ((m : Int) - 16))) (rb_c (p * ((n : Int) - 16))) (nI (32 * m + n)) kc ks w b (rb_A p q r) a2 a3 a4 a5 a6 a7 a8 a9 a10 a11 a12 := by
  have bA : rb_B (p * ((m : Int) - 16)) := rb_sm hp (by omega) (by omega)
  have bB : rb_B (p * ((n : Int) - 16)) := rb_sm hp (by omega) (by omega)
  refine rb_brle _ _ rfl rb_z.symm bA rb_B0 (fun g => rb_l370 hp hm hn ?_ H) (fun g => rb_brle _ _ rfl rb_z.symm bB rb_B0 (fun g' => rb_l370 hp hm hn ?_ H) (fun g' => rb_l370 hp hm hn ?_ H))
  · unfold rb_fx
    rw [if_neg (by omega), if_neg (by omega)]
  · unfold rb_fx
    rw [if_neg (by omega), if_neg (by omega)]
  · unfold rb_fx
    rw [if_neg (by omega), if_pos (by omega)]
theorem rb_l266 (hp : -5 ≤ p ∧ p ≤ 5) (hq : -5 ≤ q ∧ q ≤ 5) (hr : -50 ≤ r ∧ r ≤ 50) (hm : m ≤ n) (hn : n < 32) (H : post 1 ()) :
    wL_lawOf_266 post mc ms (nI m) (nI n) (rb_c (p * ((m : Int) - 16))) (rb_c (p * ((n : Int) - 16))) (rb_c (max (rb_F p q r ((m : Int) - 16)) (rb_F p q r ((n : Int) - 16)))) (rb_c (min (rb_F p q r ((m : Int) - 16)) (rb_F p q r ((n : Int) - 16)))) kc ks w b (rb_A p q r) a2 a3 a4 a5 a6 a7 a8 a9 a10 a11 a12 := by
  have bA : rb_B (p * ((m : Int) - 16)) := rb_sm hp (by omega) (by omega)
  have bB : rb_B (p * ((n : Int) - 16)) := rb_sm hp (by omega) (by omega)
  have e : (32 : Int32) * nI m + nI n = nI (32 * m + n) := by
    have h : nI 32 * nI m = nI (32 * m) := pk_mul 32 m
    rw [← nI_add, ← h]
    rfl
  refine nm_r e (rb_most hp hq hr hm hn (fun _ _ _ _ _ _ _ _ => br_t rfl (rb_least hp hq hr hm hn (fun _ _ _ _ _ _ _ _ => br_t rfl (rb_safe hp hq hr hm hn (fun _ _ _ _ _ _ _ _ => br_t rfl (rb_breach hp hq hr hm hn (fun _ _ _ _ _ _ _ _ => br_t rfl ?_))))))))
  refine rb_brlt _ _ rb_z.symm rfl rb_B0 bA (fun g => rb_l355 hp hm hn (Or.inl g) H) (fun g => rb_brlt _ _ rb_z.symm rfl rb_B0 bB (fun g' => rb_l355 hp hm hn (Or.inr g') H) (fun g' => rb_l370 hp hm hn ?_ H))
  unfold rb_fx
  rw [if_pos (by omega)]
theorem rb_zero (h1 : m ≤ 16) (h2 : 16 ≤ n) : r ≤ max (rb_F p q r ((m : Int) - 16)) (rb_F p q r ((n : Int) - 16)) ∧ min (rb_F p q r ((m : Int) - 16)) (rb_F p q r ((n : Int) - 16)) ≤ r := by
  have h := rb_Fm (p := p) (q := q) (r := r) (l := (m : Int) - 16) (x := 0) (h := (n : Int) - 16) (by omega) (by omega)
  have e : rb_F p q r 0 = r := by
    unfold rb_F
    rw [Int.mul_zero, show max (0 : Int) 0 = 0 by omega, Int.mul_zero, Int.add_zero]
  rw [e] at h
  exact h
theorem rb_l214 (hp : -5 ≤ p ∧ p ≤ 5) (hq : -5 ≤ q ∧ q ≤ 5) (hr : -50 ≤ r ∧ r ≤ 50) (hm : m ≤ n) (hn : n < 32) (H : post 1 ()) :
    wL_lawOf_214 post mc ms (rb_c r) (nI m) (nI n) (rb_c (p * ((m : Int) - 16))) (rb_c (p * ((n : Int) - 16))) (rb_c (max (rb_F p q r ((m : Int) - 16)) (rb_F p q r ((n : Int) - 16)))) (rb_c (min (rb_F p q r ((m : Int) - 16)) (rb_F p q r ((n : Int) - 16)))) kc ks w b (rb_A p q r) a2 a3 a4 a5 a6 a7 a8 a9 a10 a11 a12 := by
  have bF := rb_Fb (x := (m : Int) - 16) hp hq hr ⟨by omega, by omega⟩
  have bG := rb_Fb (x := (n : Int) - 16) hp hq hr ⟨by omega, by omega⟩
  have br : rb_B r := ⟨by omega, by omega⟩
  have bM : rb_B (max (rb_F p q r ((m : Int) - 16)) (rb_F p q r ((n : Int) - 16))) := by
    obtain ⟨u1, u2⟩ := bF
    obtain ⟨v1, v2⟩ := bG
    exact ⟨by omega, by omega⟩
  have bN : rb_B (min (rb_F p q r ((m : Int) - 16)) (rb_F p q r ((n : Int) - 16))) := by
    obtain ⟨u1, u2⟩ := bF
    obtain ⟨v1, v2⟩ := bG
    exact ⟨by omega, by omega⟩
  have fin := rb_l266 (mc := mc) (ms := ms) (kc := kc) (ks := ks) (w := w) (b := b) (a2 := a2) (a3 := a3) (a4 := a4) (a5 := a5) (a6 := a6) (a7 := a7) (a8 := a8) (a9 := a9) (a10 := a10) (a11 := a11) (a12 := a12) hp hq hr hm hn H
  have mid : wL_lawOf_241 post mc ms (rb_c r) (nI m) (nI n) (rb_c (p * ((m : Int) - 16))) (rb_c (p * ((n : Int) - 16))) (rb_c (max (rb_F p q r ((m : Int) - 16)) (rb_F p q r ((n : Int) - 16)))) (rb_c (min (rb_F p q r ((m : Int) - 16)) (rb_F p q r ((n : Int) - 16)))) kc ks w b (rb_A p q r) a2 a3 a4 a5 a6 a7 a8 a9 a10 a11 a12 :=
    pk_lt 16 m (fun _ => fin) (fun g1 => pk_lt n 16 (fun _ => fin) (fun g2 => rb_brle _ _ rfl rfl bN br (fun _ => fin) (fun t => absurd (rb_zero (p := p) (q := q) (r := r) g1 g2).2 (by omega))))
  exact pk_lt 16 m (fun _ => mid) (fun g1 => pk_lt n 16 (fun _ => mid) (fun g2 => rb_brle _ _ rfl rfl br bM (fun _ => mid) (fun t => absurd (rb_zero (p := p) (q := q) (r := r) g1 g2).1 (by omega))))
theorem rb_l124 (hp : -5 ≤ p ∧ p ≤ 5) (hq : -5 ≤ q ∧ q ≤ 5) (hr : -50 ≤ r ∧ r ≤ 50) (hm : m ≤ n) (hn : n < 32) (H : post 1 ()) :
    wL_lawOf_124 post mc ms (rb_c p) (rb_c q) (rb_c r) (nI m) (nI n) kc ks w b (rb_A p q r) a2 a3 a4 a5 a6 a7 a8 a9 a10 a11 a12 := by
  have bA : rb_B (p * ((m : Int) - 16)) := rb_sm hp (by omega) (by omega)
  have bB : rb_B (p * ((n : Int) - 16)) := rb_sm hp (by omega) (by omega)
  have bF := rb_Fb (x := (m : Int) - 16) hp hq hr ⟨by omega, by omega⟩
  have bG := rb_Fb (x := (n : Int) - 16) hp hq hr ⟨by omega, by omega⟩
  have e16 : (16 : Int32) = rb_c 16 := by decide
  have eA : rb_c p * (nI m - 16) = rb_c (p * ((m : Int) - 16)) := by rw [e16, rb_nI, rb_sub, rb_mul]
  have eB : rb_c p * (nI n - 16) = rb_c (p * ((n : Int) - 16)) := by rw [e16, rb_nI, rb_sub, rb_mul]
  have eF : ∀ x : Int, rb_c q * rb_c (max 0 (p * x)) + rb_c r = rb_c (rb_F p q r x) := by
    intro x
    unfold rb_F
    rw [rb_mul, rb_add, Int.add_comm]
  have fin := rb_l214 (mc := mc) (ms := ms) (kc := kc) (ks := ks) (w := w) (b := b) (a2 := a2) (a3 := a3) (a4 := a4) (a5 := a5) (a6 := a6) (a7 := a7) (a8 := a8) (a9 := a9) (a10 := a10) (a11 := a11) (a12 := a12) hp hq hr hm hn H
  have h178 : ∀ z : Int32, z = rb_c (max 0 (p * ((n : Int) - 16))) → wL_lawOf_178 post mc ms (rb_c r) (nI m) (nI n) (rb_c (p * ((m : Int) - 16))) (rb_c (p * ((n : Int) - 16))) (rb_c (rb_F p q r ((m : Int) - 16))) z (rb_c q) kc ks w b (rb_A p q r) a2 a3 a4 a5 a6 a7 a8 a9 a10 a11 a12 := by
    intro z hz
    subst hz
    refine nm_r (eF ((n : Int) - 16)) (rb_brle _ _ rfl rfl bF bG (fun g => ?_) (fun g => ?_))
    · refine br_t ((rb_le bF bG).mpr g) ?_
      rw [show max (rb_F p q r ((m : Int) - 16)) (rb_F p q r ((n : Int) - 16)) = rb_F p q r ((n : Int) - 16) by omega, show min (rb_F p q r ((m : Int) - 16)) (rb_F p q r ((n : Int) - 16)) = rb_F p q r ((m : Int) - 16) by omega] at fin
      exact fin
    · refine br_f (fun t => absurd ((rb_le bF bG).mp t) (by omega)) ?_
      rw [show max (rb_F p q r ((m : Int) - 16)) (rb_F p q r ((n : Int) - 16)) = rb_F p q r ((m : Int) - 16) by omega, show min (rb_F p q r ((m : Int) - 16)) (rb_F p q r ((n : Int) - 16)) = rb_F p q r ((n : Int) - 16) by omega] at fin
      exact fin
  have h159 : ∀ z : Int32, z = rb_c (max 0 (p * ((m : Int) - 16))) → wL_lawOf_159 post mc ms (rb_c q) (rb_c r) (nI m) (nI n) (rb_c (p * ((m : Int) - 16))) (rb_c (p * ((n : Int) - 16))) z (rb_c q) kc ks w b (rb_A p q r) a2 a3 a4 a5 a6 a7 a8 a9 a10 a11 a12 := by
    intro z hz
    subst hz
    refine nm_r (eF ((m : Int) - 16)) (rb_brle _ _ rfl rb_z.symm bB rb_B0 (fun g => h178 _ ?_) (fun g => h178 _ ?_))
    · rw [show max 0 (p * ((n : Int) - 16)) = 0 by omega, rb_z]
    · rw [show max 0 (p * ((n : Int) - 16)) = p * ((n : Int) - 16) by omega]
  refine nm_r eA (nm_r eB (rb_brle _ _ rfl rb_z.symm bA rb_B0 (fun g => h159 _ ?_) (fun g => h159 _ ?_)))
  · rw [show max 0 (p * ((m : Int) - 16)) = 0 by omega, rb_z]
  · rw [show max 0 (p * ((m : Int) - 16)) = p * ((m : Int) - 16) by omega]
end
theorem rb_lawOf {post : Int32 → St0 → Prop} (x y z l h : Int32) (H : post 1 ()) : wpL_lawOf post 94 1504 () x y z l h := by
  obtain ⟨p, hp, ep⟩ := rb_p11 x
  obtain ⟨q, hq, eq⟩ := rb_p11 y
  obtain ⟨r, hr, er⟩ := rb_p101 z
  obtain ⟨u, hu, eu⟩ := pk_andE l (m := 31) 5 (by decide)
  obtain ⟨v, hv, ev⟩ := pk_andE h (m := 31) 5 (by decide)
  have hu' : u < 32 := hu
  have hv' : v < 32 := hv
  refine ⟨by omega, by omega, 12, 126, by omega, by omega, ?_⟩
  refine ⟨by omega, by omega, by omega, by omega, by omega, by omega, by omega, by omega, by omega, by omega, by omega, by omega, by omega, by omega, by omega, by omega, by omega, by omega, by omega, by omega, by omega, by omega, by omega, by omega, ?_⟩
  refine ⟨by decide, nm_r ep ⟨by decide, nm_r eq ⟨by decide, nm_r er ?_⟩⟩⟩
  refine rb_set0 (k := 0) (by omega) rfl hp.1 hp.2 (fun _ => rb_off0) (fun _ => ?_)
  refine rb_set0 (k := 9) (x := 1) (v := 1) (by omega) (by decide) (by omega) (by omega) (fun _ => rb_off9) (fun _ => ?_)
  refine rb_set0 (k := 17) (by omega) rfl hq.1 hq.2 (fun _ => rb_off17) (fun _ => ?_)
  refine rb_set1 (k := 19) (by omega) rfl hr.1 hr.2 (fun _ => rb_off19) (fun _ => ?_)
  refine nm_r eu (nm_r ev (pk_le v u (fun g => ?_) (fun g => ?_)))
  · exact br_t (nI_le g (by omega)) (rb_l124 hp hq hr g hu' H)
  · exact br_f (nI_ge g (by omega)) (rb_l124 hp hq hr (by omega) hv' H)
end
section
theorem rb_cell {post : Int32 → Prop} {L : Nat} {xs : Nat → Int32} (hL : L ≤ 5) {k : Nat} (hk : k < 5) (H : ∀ x, post x) : wpL_cellAt post L xs () (nI k) := by
  refine br_c (fun _ => H 0) (fun g => ⟨vp_in_nI ?_ (by omega), H _⟩)
  rcases Nat.lt_or_ge k L with u | u
  · exact u
  · exact absurd (show Int32.ofNat L ≤ nI k from nI_le u (by omega)) g
theorem i_vc (xs : Nat → Int32) (L : Nat) (hL : L ≤ 5) : wpL_law (fun r => r = 1) L xs :=
  rb_cell (k := 0) hL (by omega) (fun x => rb_cell (k := 1) hL (by omega) (fun y => rb_cell (k := 2) hL (by omega) (fun z => rb_cell (k := 3) hL (by omega) (fun l => rb_cell (k := 4) hL (by omega) (fun h => ⟨94, 1504, by omega, by omega, rb_lawOf x y z l h rfl⟩)))))
end
