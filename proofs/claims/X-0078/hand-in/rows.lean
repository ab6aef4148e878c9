section
/-- turn of three places -/
def ge_o (p q r : Int × Int) : Int := (q.1 - p.1) * (r.2 - p.2) - (q.2 - p.2) * (r.1 - p.1)
theorem ge_rot (p q r : Int × Int) : ge_o q r p = ge_o p q r := by unfold ge_o; grind
theorem ge_rot2 (p q r : Int × Int) : ge_o r p q = ge_o p q r := by unfold ge_o; grind
theorem ge_sw (p q r : Int × Int) : ge_o q p r = - ge_o p q r := by unfold ge_o; grind
theorem ge_sw2 (p q r : Int × Int) : ge_o p r q = - ge_o p q r := by unfold ge_o; grind
theorem ge_sw3 (p q r : Int × Int) : ge_o r q p = - ge_o p q r := by unfold ge_o; grind
theorem ge_aff (a b c d : Int × Int) : ge_o a b c = ge_o d a b + ge_o d b c + ge_o d c a := by unfold ge_o; grind
theorem ge_gp (a b c d e : Int × Int) : ge_o a b c * ge_o a d e - ge_o a b d * ge_o a c e + ge_o a b e * ge_o a c d = 0 := by unfold ge_o; grind
theorem ge_bary (p q r u v k : Int × Int) : ge_o p q r * ge_o u v k = ge_o q r k * ge_o u v p + ge_o r p k * ge_o u v q + ge_o p q k * ge_o u v r := by unfold ge_o; grind
theorem ge_pps (p q : Int × Int) : ge_o p p q = 0 := by unfold ge_o; grind
theorem ge_psp (p q : Int × Int) : ge_o p q p = 0 := by unfold ge_o; grind
theorem ge_spp (p q : Int × Int) : ge_o q p p = 0 := by unfold ge_o; grind
/-- lifted turn -/
def ge_D (H : Nat → Int) (P : Nat → Int × Int) (a b c d : Nat) : Int :=
  H d * ge_o (P a) (P b) (P c) - H c * ge_o (P a) (P b) (P d) + H b * ge_o (P a) (P c) (P d) - H a * ge_o (P b) (P c) (P d)
theorem ge_Dgp (H : Nat → Int) (P : Nat → Int × Int) (a b c d e : Nat) :
    ge_D H P a b c d * ge_o (P a) (P b) (P e) - ge_D H P a b c e * ge_o (P a) (P b) (P d) + ge_D H P a b d e * ge_o (P a) (P b) (P c) = 0 := by
  unfold ge_D ge_o; grind
theorem ge_Drot (H : Nat → Int) (P : Nat → Int × Int) (a b c d : Nat) : ge_D H P b c a d = ge_D H P a b c d := by
  unfold ge_D ge_o; grind
theorem ge_Dsw (H : Nat → Int) (P : Nat → Int × Int) (a b c d : Nat) : ge_D H P b a c d = - ge_D H P a b c d := by
  unfold ge_D ge_o; grind
theorem ge_Dsw2 (H : Nat → Int) (P : Nat → Int × Int) (a b c d : Nat) : ge_D H P a c b d = - ge_D H P a b c d := by
  unfold ge_D ge_o; grind
theorem ge_Dsw3 (H : Nat → Int) (P : Nat → Int × Int) (a b c d : Nat) : ge_D H P a b d c = - ge_D H P a b c d := by
  unfold ge_D ge_o; grind
theorem ge_Dpp (H : Nat → Int) (P : Nat → Int × Int) (a b c : Nat) : ge_D H P a b c c = 0 := by
  unfold ge_D ge_o; grind
theorem ge_Dpa (H : Nat → Int) (P : Nat → Int × Int) (a b c : Nat) : ge_D H P a b c a = 0 := by
  unfold ge_D ge_o; grind
theorem ge_Dpb (H : Nat → Int) (P : Nat → Int × Int) (a b c : Nat) : ge_D H P a b c b = 0 := by
  unfold ge_D ge_o; grind
/-! signs -/
theorem sg_pp {A B : Int} (a : 0 < A) (b : 0 < B) : 0 < A * B := Int.mul_pos a b
theorem sg_ww {A B : Int} (a : 0 ≤ A) (b : 0 ≤ B) : 0 ≤ A * B := Int.mul_nonneg a b
theorem sg_inv {A B : Int} (a : 0 < A) (h : 0 < A * B) : 0 < B := by
  rcases Int.lt_or_le 0 B with hb | hb
  · exact hb
  · have := Int.mul_nonneg (Int.le_of_lt a) (show 0 ≤ -B by omega)
    rw [Int.mul_neg] at this; omega
theorem sg_invw {A B : Int} (a : 0 < A) (h : 0 ≤ A * B) : 0 ≤ B := by
  rcases Int.lt_or_le B 0 with hb | hb
  · have := Int.mul_pos a (show 0 < -B by omega)
    rw [Int.mul_neg] at this; omega
  · exact hb
theorem sg_p {A B C D E F : Int} (h : A * B = C * D + E * F) (ha : 0 < A) (hc : 0 < C) (hd : 0 < D) (he : 0 ≤ E) (hf : 0 ≤ F) : 0 < B := by
  have h1 := sg_pp hc hd
  have h2 := sg_ww he hf
  exact sg_inv ha (by omega)
theorem sg_w {A B C D E F : Int} (h : A * B = C * D + E * F) (ha : 0 < A) (hc : 0 ≤ C) (hd : 0 ≤ D) (he : 0 ≤ E) (hf : 0 ≤ F) : 0 ≤ B := by
  have h1 := sg_ww hc hd
  have h2 := sg_ww he hf
  exact sg_invw ha (by omega)
theorem sg_z {A B C D E F : Int} (h : A * B + C * D + E * F = 0) (ha : 0 < A) (hb : 0 < B) (hc : 0 ≤ C) (hd : 0 ≤ D) (he : 0 ≤ E) (hf : 0 ≤ F) : False := by
  have h1 := sg_pp ha hb
  have h2 := sg_ww hc hd
  have h3 := sg_ww he hf
  omega
theorem sg_eq0 {A B : Int} (a : 0 < A) (h : A * B = 0) : B = 0 := by
  rcases Int.mul_eq_zero.mp h with h | h
  · omega
  · exact h
/-! places between, triangles, crossings -/
def ge_d (a b k : Int × Int) : Int := (a.1 - k.1) * (b.1 - k.1) + (a.2 - k.2) * (b.2 - k.2)
/-- k strictly between a and b -/
def ge_B (k a b : Int × Int) : Prop := ge_o a b k = 0 ∧ ge_d a b k < 0
/-- k on ab, ends too -/
def ge_C (k a b : Int × Int) : Prop := ge_o a b k = 0 ∧ ge_d a b k ≤ 0
/-- the closed triangle -/
def ge_T (a b c k : Int × Int) : Prop := 0 ≤ ge_o a b k ∧ 0 ≤ ge_o b c k ∧ 0 ≤ ge_o c a k
/-- ab and pq cross, p left of ab, q right -/
def ge_X (a b p q : Int × Int) : Prop := 0 < ge_o a b p ∧ 0 < ge_o b a q ∧ 0 < ge_o p q b ∧ 0 < ge_o q p a
theorem ge_X1 {a b p q : Int × Int} (h : ge_X a b p q) : ge_X b a q p := ⟨h.2.1, h.1, h.2.2.2, h.2.2.1⟩
theorem ge_X2 {a b p q : Int × Int} (h : ge_X a b p q) : ge_X p q b a := ⟨h.2.2.1, h.2.2.2, h.2.1, h.1⟩
theorem ge_X3 {a b p q : Int × Int} (h : ge_X a b p q) : ge_X q p a b := ⟨h.2.2.2, h.2.2.1, h.1, h.2.1⟩
theorem ge_B1 {k a b : Int × Int} (h : ge_B k a b) : ge_B k b a := by
  unfold ge_B ge_o ge_d at *; grind
theorem ge_C1 {k a b : Int × Int} (h : ge_C k a b) : ge_C k b a := by
  unfold ge_C ge_o ge_d at *; grind
theorem ge_BC {k a b : Int × Int} (h : ge_B k a b) : ge_C k a b := ⟨h.1, Int.le_of_lt h.2⟩
theorem ge_T1 {a b c k : Int × Int} (h : ge_T a b c k) : ge_T b c a k := ⟨h.2.1, h.2.2, h.1⟩
theorem ge_sq (x : Int) : 0 ≤ x * x := by
  rcases Int.lt_or_le x 0 with h | h
  · have := Int.mul_pos (show 0 < -x by omega) (show 0 < -x by omega)
    rw [Int.neg_mul_neg] at this; omega
  · exact Int.mul_nonneg h h
theorem ge_sq0 {x y : Int} (h : x * x + y * y = 0) : x = 0 ∧ y = 0 := by
  have h1 := ge_sq x
  have h2 := ge_sq y
  constructor
  · exact (Int.mul_eq_zero.mp (show x * x = 0 by omega)).elim id id
  · exact (Int.mul_eq_zero.mp (show y * y = 0 by omega)).elim id id
theorem ge_ne {a b : Int × Int} (h : a ≠ b) : 0 < (b.1 - a.1) * (b.1 - a.1) + (b.2 - a.2) * (b.2 - a.2) := by
  have h1 := ge_sq (b.1 - a.1)
  have h2 := ge_sq (b.2 - a.2)
  rcases Int.lt_or_le 0 ((b.1 - a.1) * (b.1 - a.1) + (b.2 - a.2) * (b.2 - a.2)) with h3 | h3
  · exact h3
  · have := ge_sq0 (show (b.1 - a.1) * (b.1 - a.1) + (b.2 - a.2) * (b.2 - a.2) = 0 by omega)
    exact absurd (Prod.ext (by omega) (by omega)) h
theorem ge_Bne {k a b : Int × Int} (h : ge_B k a b) : k ≠ a ∧ k ≠ b ∧ a ≠ b := by
  refine ⟨?_, ?_, ?_⟩
  · rintro rfl; have := h.2; unfold ge_d at this; grind
  · rintro rfl; have := h.2; unfold ge_d at this; grind
  · rintro rfl
    have h2 := h.2
    unfold ge_d at h2
    have h1 := ge_sq (a.1 - k.1)
    have h3 := ge_sq (a.2 - k.2)
    omega
/-- a place strictly between is a mean with positive weights -/
theorem ge_Bw {k a b : Int × Int} (h : ge_B k a b) : ∃ l m : Int, 0 < l ∧ 0 < m ∧
    (l + m) * k.1 = l * a.1 + m * b.1 ∧ (l + m) * k.2 = l * a.2 + m * b.2 := by
  obtain ⟨n1, n2, n3⟩ := ge_Bne h
  have g1 := ge_ne n1
  have g2 := ge_ne n2
  obtain ⟨h1, h2⟩ := h
  unfold ge_o at h1
  unfold ge_d at h2
  refine ⟨(b.1 - a.1) * (b.1 - k.1) + (b.2 - a.2) * (b.2 - k.2), (b.1 - a.1) * (k.1 - a.1) + (b.2 - a.2) * (k.2 - a.2), ?_, ?_, ?_, ?_⟩
  · grind
  · grind
  · grind
  · grind
theorem ge_lin {k a b : Int × Int} {l m : Int} (h1 : (l + m) * k.1 = l * a.1 + m * b.1) (h2 : (l + m) * k.2 = l * a.2 + m * b.2) (u v : Int × Int) :
    (l + m) * ge_o u v k = l * ge_o u v a + m * ge_o u v b := by
  unfold ge_o; grind
/-- mean form for turns -/
theorem ge_Bo {k a b : Int × Int} (h : ge_B k a b) : ∃ l m : Int, 0 < l ∧ 0 < m ∧
    ∀ u v : Int × Int, (l + m) * ge_o u v k = l * ge_o u v a + m * ge_o u v b := by
  obtain ⟨l, m, h1, h2, h3, h4⟩ := ge_Bw h
  exact ⟨l, m, h1, h2, ge_lin h3 h4⟩
/-- test for strictly between -/
theorem ge_Bi {z f e u v : Int × Int} (h : ge_o f e z = 0) (h1 : ge_o u v f < ge_o u v z) (h2 : ge_o u v z < ge_o u v e) : ge_B z f e := by
  refine ⟨h, ?_⟩
  have hne : f ≠ z := by rintro rfl; omega
  have hp := ge_ne hne
  have key : (ge_o u v z - ge_o u v f) * (- ge_d f e z) = ((z.1 - f.1) * (z.1 - f.1) + (z.2 - f.2) * (z.2 - f.2)) * (ge_o u v e - ge_o u v z) + ge_o f e z * ((v.1 - u.1) * (z.1 - f.1) + (v.2 - u.2) * (z.2 - f.2)) := by
    unfold ge_o ge_d; grind
  rw [h] at key
  have := sg_inv (A := ge_o u v z - ge_o u v f) (B := - ge_d f e z) (by omega) (by
    rw [key]; have := sg_pp hp (show 0 < ge_o u v e - ge_o u v z by omega); omega)
  omega
theorem ge_Cd {k a b : Int × Int} (h : ge_C k a b) : k = a ∨ k = b ∨ ge_B k a b := by
  by_cases hd : ge_d a b k < 0
  · exact Or.inr (Or.inr ⟨h.1, hd⟩)
  · have h0 : ge_d a b k = 0 := by have := h.2; omega
    have h1 := h.1
    by_cases ha : a = k
    · exact Or.inl ha.symm
    · have hp := ge_ne ha
      right; left
      have e1 : ((k.1 - a.1) * (k.1 - a.1) + (k.2 - a.2) * (k.2 - a.2)) * (b.1 - k.1) = 0 := by
        unfold ge_o at h1; unfold ge_d at h0; grind
      have e2 : ((k.1 - a.1) * (k.1 - a.1) + (k.2 - a.2) * (k.2 - a.2)) * (b.2 - k.2) = 0 := by
        unfold ge_o at h1; unfold ge_d at h0; grind
      have f1 := sg_eq0 hp e1
      have f2 := sg_eq0 hp e2
      exact Prod.ext (by omega) (by omega)
theorem ge_Ca (a b : Int × Int) : ge_C a a b := by unfold ge_C ge_o ge_d; grind
theorem ge_Cb (a b : Int × Int) : ge_C b a b := by unfold ge_C ge_o ge_d; grind
/-- the way out of a triangle -/
theorem ge_exit {x y z e f : Int × Int} (h : 0 < ge_o x y z) (hX : ge_X x y e f) :
    ge_T x y z e ∨ ge_X y z f e ∨ ge_X z x f e ∨ ge_B z f e := by
  obtain ⟨he, hf, hp, hq⟩ := hX
  have I1 : ge_o x y e * ge_o y z f = ge_o e f y * ge_o x y z + ge_o y x f * ge_o z y e := by unfold ge_o; grind
  have I2 : ge_o x y e * ge_o z x f = ge_o f e x * ge_o x y z + ge_o y x f * ge_o x z e := by unfold ge_o; grind
  have I3 : ge_o f e x * ge_o y z e = ge_o e f y * ge_o z x e + ge_o e f z * ge_o x y e := by unfold ge_o; grind
  have S1 := ge_sw y z e
  have S2 := ge_sw z x e
  have S3 := ge_sw e f z
  rcases Int.lt_trichotomy (ge_o e f z) 0 with hs | hs | hs
  · by_cases hy : 0 ≤ ge_o y z e
    · left
      have I5 : ge_o e f y * ge_o z x e = ge_o f e x * ge_o y z e + ge_o f e z * ge_o x y e := by unfold ge_o; grind
      exact ⟨Int.le_of_lt he, hy, sg_w I5 hp (Int.le_of_lt hq) hy (by omega) (Int.le_of_lt he)⟩
    · right; left
      exact ⟨sg_p I1 he hp h (Int.le_of_lt hf) (by omega), by omega, by omega, hp⟩
  · by_cases hz : 0 ≤ ge_o z x e
    · left
      exact ⟨Int.le_of_lt he, sg_w I3 hq (Int.le_of_lt hp) hz (by omega) (Int.le_of_lt he), hz⟩
    · right; right; right
      rw [hs, Int.zero_mul, Int.add_zero] at I3
      have hy : ge_o y z e < 0 := by
        rcases Int.lt_or_le (ge_o y z e) 0 with hy | hy
        · exact hy
        · have := sg_ww (Int.le_of_lt hq) hy
          have := sg_pp hp (show 0 < - ge_o z x e by omega)
          rw [Int.mul_neg] at this; omega
      have A := ge_aff x y z e
      have r1 := ge_rot2 x y e
      have r2 := ge_rot2 y z e
      have r3 := ge_rot2 z x e
      have := ge_sw x y f
      exact ge_Bi (u := x) (v := y) (by omega) (by omega) (by omega)
  · by_cases hz : 0 ≤ ge_o z x e
    · left
      have := sg_p (A := ge_o f e x) (B := ge_o y z e) (C := ge_o e f z) (D := ge_o x y e) (E := ge_o e f y) (F := ge_o z x e) (by omega) hq hs he (Int.le_of_lt hp) hz
      exact ⟨Int.le_of_lt he, Int.le_of_lt this, hz⟩
    · right; right; left
      exact ⟨sg_p I2 he hq h (Int.le_of_lt hf) (by omega), by omega, hq, hs⟩
end
section
/-! extremal choice by rational keys -/
theorem mx_1 (Q : Nat → Prop) (n d : Nat → Int) : ∀ N : Nat, (∀ i, i < N → Q i → 0 < d i) → (∃ i, i < N ∧ Q i) →
    ∃ i, i < N ∧ Q i ∧ ∀ j, j < N → Q j → n j * d i ≤ n i * d j := by
  intro N
  induction N with
  | zero => intro _ h; obtain ⟨i, h, _⟩ := h; omega
  | succ N ih =>
    intro hd h
    by_cases h1 : ∃ i, i < N ∧ Q i
    · obtain ⟨i, hi, qi, hm⟩ := ih (fun i hi => hd i (by omega)) h1
      by_cases qN : Q N
      · by_cases hc : n N * d i ≤ n i * d N
        · refine ⟨i, by omega, qi, fun j hj qj => ?_⟩
          rcases Nat.lt_or_ge j N with h2 | h2
          · exact hm j h2 qj
          · have : j = N := by omega
            subst this; exact hc
        · refine ⟨N, by omega, qN, fun j hj qj => ?_⟩
          rcases Nat.lt_or_ge j N with h2 | h2
          · have a1 := hm j h2 qj
            have di := hd i (by omega) qi
            have dN := hd N (by omega) qN
            have dj := hd j (by omega) qj
            have e1 : 0 ≤ d N * (n i * d j - n j * d i) := Int.mul_nonneg (by omega) (by omega)
            have e2 : 0 < d j * (n N * d i - n i * d N) := Int.mul_pos dj (by omega)
            have e3 : d i * (n N * d j - n j * d N) = d N * (n i * d j - n j * d i) + d j * (n N * d i - n i * d N) := by grind
            have := sg_inv di (show 0 < d i * (n N * d j - n j * d N) by omega)
            omega
          · have : j = N := by omega
            subst this; omega
      · refine ⟨i, by omega, qi, fun j hj qj => ?_⟩
        rcases Nat.lt_or_ge j N with h2 | h2
        · exact hm j h2 qj
        · have : j = N := by omega
          subst this; exact absurd qj qN
    · obtain ⟨i, hi, qi⟩ := h
      have : i = N := by
        rcases Nat.lt_or_ge i N with h2 | h2
        · exact absurd ⟨i, h2, qi⟩ h1
        · omega
      subst this
      refine ⟨i, hi, qi, fun j hj qj => ?_⟩
      rcases Nat.lt_or_ge j i with h2 | h2
      · exact absurd ⟨j, h2, qj⟩ h1
      · have : j = i := by omega
        subst this; omega
theorem mx_2 (Q : Nat → Nat → Prop) (n d : Nat → Nat → Int) (hd : ∀ a b, a < 16 → b < 16 → Q a b → 0 < d a b) (h : ∃ a b, a < 16 ∧ b < 16 ∧ Q a b) :
    ∃ a b, a < 16 ∧ b < 16 ∧ Q a b ∧ ∀ p q, p < 16 → q < 16 → Q p q → n p q * d a b ≤ n a b * d p q := by
  obtain ⟨a, b, ha, hb, hq⟩ := h
  have e1 : ∀ p q : Nat, q < 16 → (p * 16 + q) / 16 = p := by intro p q h; omega
  have e2 : ∀ p q : Nat, q < 16 → (p * 16 + q) % 16 = q := by intro p q h; omega
  obtain ⟨i, hi, qi, hm⟩ := mx_1 (fun i => Q (i / 16) (i % 16)) (fun i => n (i / 16) (i % 16)) (fun i => d (i / 16) (i % 16)) 256
    (fun i hi q => hd _ _ (by omega) (by omega) q) ⟨a * 16 + b, by omega, by show Q ((a * 16 + b) / 16) ((a * 16 + b) % 16); rw [e1 a b hb, e2 a b hb]; exact hq⟩
  refine ⟨i / 16, i % 16, by omega, by omega, qi, fun p q hp hq' hQ => ?_⟩
  have := hm (p * 16 + q) (by omega) (by show Q ((p * 16 + q) / 16) ((p * 16 + q) % 16); rw [e1 p q hq', e2 p q hq']; exact hQ)
  rw [e1 p q hq', e2 p q hq'] at this
  exact this
/-! points, segments, the mesh -/
/-- the points: the box and what lies strictly in it -/
def tr_pt (m : Int) (V : Nat → Prop) (P : Nat → Int × Int) : Prop :=
  0 < m ∧ P 0 = (0, 0) ∧ P 1 = (m, 0) ∧ P 2 = (m, m) ∧ P 3 = (0, m) ∧ (∀ k, k < 4 → V k) ∧ (∀ k, V k → k < 16) ∧
  (∀ k, V k → 4 ≤ k → 0 < (P k).1 ∧ (P k).1 < m ∧ 0 < (P k).2 ∧ (P k).2 < m) ∧
  (∀ a b, V a → V b → P a = P b → a = b)
/-- the segments: ends live and different; where two cross, a live point lies on both -/
def tr_sg (V : Nat → Prop) (P : Nat → Int × Int) (S : List (Nat × Nat)) : Prop :=
  (∀ s ∈ S, V s.1 ∧ V s.2 ∧ s.1 ≠ s.2) ∧
  (∀ s ∈ S, ∀ r ∈ S, (ge_X (P (s.1)) (P (s.2)) (P (r.1)) (P (r.2))) ∨ (ge_X (P (s.1)) (P (s.2)) (P (r.2)) (P (r.1))) → ∃ k, V k ∧ (ge_C (P k) (P (s.1)) (P (s.2))) ∧ (ge_C (P k) (P (r.1)) (P (r.2))))
/-- outer directed edges -/
def tr_O (a b : Nat) : Prop := (a = 1 ∧ b = 0) ∨ (a = 2 ∧ b = 1) ∨ (a = 3 ∧ b = 2) ∨ (a = 0 ∧ b = 3)
def tr_T (V : Nat → Prop) (P : Nat → Int × Int) (S : List (Nat × Nat)) (L : Nat → Nat → Nat) : Prop :=
  (∀ a b, L a b ≤ 16 → V a ∧ V b ∧ a ≠ b ∧ L b a ≤ 16) ∧
  (∀ a b c, L a b = c → c < 16 → L b c = a ∧ L c a = b ∧ 0 < (ge_o (P a) (P b) (P c))) ∧
  (∀ a b, L a b = 16 ↔ tr_O a b) ∧
  (∀ a b k, L a b ≤ 16 → V k → ¬ (ge_B (P k) (P a) (P b))) ∧
  (∀ a b c d, L a b ≤ 16 → L c d ≤ 16 → ¬ (ge_X (P a) (P b) (P c) (P d))) ∧
  (∀ a b c k, L a b = c → c < 16 → V k → (ge_T (P a) (P b) (P c) (P k)) → k = a ∨ k = b ∨ k = c) ∧
  (∀ a, V a → ∃ b, L a b ≤ 16) ∧
  (∀ s ∈ S, ∀ p q, V p → V q → p ≠ q → (ge_C (P p) (P (s.1)) (P (s.2))) → (ge_C (P q) (P (s.1)) (P (s.2))) → (∀ k, V k → ¬ (ge_B (P k) (P p) (P q))) → L p q ≤ 16)
/-- a and b see each other -/
def tr_see (V : Nat → Prop) (P : Nat → Int × Int) (S : List (Nat × Nat)) (a b : Nat) : Prop :=
  V a ∧ V b ∧ a ≠ b ∧ (∀ k, V k → ¬ (ge_B (P k) (P a) (P b))) ∧ (∀ s ∈ S, ¬ (ge_X (P a) (P b) (P (s.1)) (P (s.2))) ∧ ¬ (ge_X (P a) (P b) (P (s.2)) (P (s.1))))
/-- some segment covers ab -/
def tr_cov (P : Nat → Int × Int) (S : List (Nat × Nat)) (a b : Nat) : Prop := ∃ s ∈ S, (ge_C (P a) (P (s.1)) (P (s.2))) ∧ (ge_C (P b) (P (s.1)) (P (s.2)))
/-- locally Delaunay for heights H -/
def tr_LD (H : Nat → Int) (P : Nat → Int × Int) (S : List (Nat × Nat)) (L : Nat → Nat → Nat) : Prop :=
  ∀ a b c d, L a b = c → c < 16 → L b a = d → d < 16 → ¬ tr_cov P S a b → 0 ≤ (ge_D H P a b c d)
section
variable {m : Int} {V : Nat → Prop} {P : Nat → Int × Int} {S : List (Nat × Nat)} {L : Nat → Nat → Nat}
theorem tp_16 (h : tr_pt m V P) {k : Nat} (v : V k) : k < 16 := h.2.2.2.2.2.2.1 k v
theorem tp_c (h : tr_pt m V P) {k : Nat} (v : k < 4) : V k := h.2.2.2.2.2.1 k v
theorem tp_in (h : tr_pt m V P) {k : Nat} (v : V k) (h4 : 4 ≤ k) : 0 < (P k).1 ∧ (P k).1 < m ∧ 0 < (P k).2 ∧ (P k).2 < m := h.2.2.2.2.2.2.2.1 k v h4
theorem tp_inj (h : tr_pt m V P) {a b : Nat} (va : V a) (vb : V b) (e : P a = P b) : a = b := h.2.2.2.2.2.2.2.2 a b va vb e
theorem tp_m (h : tr_pt m V P) : 0 < m := h.1
theorem tp_0 (h : tr_pt m V P) : P 0 = (0, 0) := h.2.1
theorem tp_1 (h : tr_pt m V P) : P 1 = (m, 0) := h.2.2.1
theorem tp_2 (h : tr_pt m V P) : P 2 = (m, m) := h.2.2.2.1
theorem tp_3 (h : tr_pt m V P) : P 3 = (0, m) := h.2.2.2.2.1
theorem tp_box (h : tr_pt m V P) {k : Nat} (v : V k) : 0 ≤ (P k).1 ∧ (P k).1 ≤ m ∧ 0 ≤ (P k).2 ∧ (P k).2 ≤ m := by
  have hm := h.1
  by_cases h4 : 4 ≤ k
  · have := tp_in h v h4; omega
  · have : k = 0 ∨ k = 1 ∨ k = 2 ∨ k = 3 := by omega
    rcases this with rfl | rfl | rfl | rfl
    · rw [tp_0 h]; simp; omega
    · rw [tp_1 h]; simp; omega
    · rw [tp_2 h]; simp; omega
    · rw [tp_3 h]; simp; omega
theorem tt_va (h : tr_T V P S L) {a b : Nat} (e : L a b ≤ 16) : V a := (h.1 a b e).1
theorem tt_vb (h : tr_T V P S L) {a b : Nat} (e : L a b ≤ 16) : V b := (h.1 a b e).2.1
theorem tt_ne (h : tr_T V P S L) {a b : Nat} (e : L a b ≤ 16) : a ≠ b := (h.1 a b e).2.2.1
theorem tt_sy (h : tr_T V P S L) {a b : Nat} (e : L a b ≤ 16) : L b a ≤ 16 := (h.1 a b e).2.2.2
theorem tt_f2 (h : tr_T V P S L) {a b c : Nat} (e : L a b = c) (hc : c < 16) : L b c = a := (h.2.1 a b c e hc).1
theorem tt_f3 (h : tr_T V P S L) {a b c : Nat} (e : L a b = c) (hc : c < 16) : L c a = b := (h.2.1 a b c e hc).2.1
theorem tt_fo (h : tr_T V P S L) {a b c : Nat} (e : L a b = c) (hc : c < 16) : 0 < (ge_o (P a) (P b) (P c)) := (h.2.1 a b c e hc).2.2
theorem tt_out (h : tr_T V P S L) (a b : Nat) : L a b = 16 ↔ tr_O a b := h.2.2.1 a b
theorem tt_F (h : tr_T V P S L) {a b k : Nat} (e : L a b ≤ 16) (v : V k) : ¬ (ge_B (P k) (P a) (P b)) := h.2.2.2.1 a b k e v
theorem tt_N (h : tr_T V P S L) {a b c d : Nat} (e : L a b ≤ 16) (e' : L c d ≤ 16) : ¬ (ge_X (P a) (P b) (P c) (P d)) := h.2.2.2.2.1 a b c d e e'
theorem tt_E (h : tr_T V P S L) {a b c k : Nat} (e : L a b = c) (hc : c < 16) (v : V k) (t : (ge_T (P a) (P b) (P c) (P k))) : k = a ∨ k = b ∨ k = c := h.2.2.2.2.2.1 a b c k e hc v t
theorem tt_deg (h : tr_T V P S L) {a : Nat} (v : V a) : ∃ b, L a b ≤ 16 := h.2.2.2.2.2.2.1 a v
theorem tt_C (h : tr_T V P S L) {s : Nat × Nat} (hs : s ∈ S) {p q : Nat} (vp : V p) (vq : V q) (ne : p ≠ q) (cp : (ge_C (P p) (P (s.1)) (P (s.2)))) (cq : (ge_C (P q) (P (s.1)) (P (s.2)))) (hb : ∀ k, V k → ¬ (ge_B (P k) (P p) (P q))) : L p q ≤ 16 :=
  h.2.2.2.2.2.2.2 s hs p q vp vq ne cp cq hb
/-- corners of a face: all three are live and edges go round -/
theorem tt_face (hp : tr_pt m V P) (h : tr_T V P S L) {a b c : Nat} (e : L a b = c) (hc : c < 16) :
    V a ∧ V b ∧ V c ∧ L b c = a ∧ L c a = b ∧ 0 < (ge_o (P a) (P b) (P c)) ∧ L a b ≤ 16 ∧ L b c ≤ 16 ∧ L c a ≤ 16 ∧ L b a ≤ 16 ∧ L c b ≤ 16 ∧ L a c ≤ 16 := by
  have e0 : L a b ≤ 16 := by omega
  have va := tt_va h e0
  have vb := tt_vb h e0
  have e1 := tt_f2 h e hc
  have e2 := tt_f3 h e hc
  have a16 := tp_16 hp va
  have b16 := tp_16 hp vb
  have f1 : L b c ≤ 16 := by omega
  have f2 : L c a ≤ 16 := by omega
  exact ⟨va, vb, tt_vb h f1, e1, e2, tt_fo h e hc, e0, f1, f2, tt_sy h e0, tt_sy h f1, tt_sy h f2⟩
theorem ge_Pne {a b : Nat} (h : P a ≠ P b) : a ≠ b := fun e => h (by rw [e])
/-- beyond an outer edge lies nothing -/
theorem tt_hull (hp : tr_pt m V P) {a b : Nat} (h : tr_O a b) {t : Int × Int} (ht : 0 ≤ t.1 ∧ t.1 ≤ m ∧ 0 ≤ t.2 ∧ t.2 ≤ m) : 0 ≤ (ge_o (P b) (P a) t) := by
  have hm := tp_m hp
  have e0 := tp_0 hp
  have e1 := tp_1 hp
  have e2 := tp_2 hp
  have e3 := tp_3 hp
  unfold tr_O at h
  rcases h with ⟨rfl, rfl⟩ | ⟨rfl, rfl⟩ | ⟨rfl, rfl⟩ | ⟨rfl, rfl⟩
  · rw [e0, e1]; unfold ge_o; simp only
    have := Int.mul_nonneg (Int.le_of_lt hm) ht.2.2.1
    grind
  · rw [e1, e2]; unfold ge_o; simp only
    have := Int.mul_nonneg (Int.le_of_lt hm) (show 0 ≤ m - t.1 by omega)
    grind
  · rw [e2, e3]; unfold ge_o; simp only
    have := Int.mul_nonneg (Int.le_of_lt hm) (show 0 ≤ m - t.2 by omega)
    grind
  · rw [e3, e0]; unfold ge_o; simp only
    have := Int.mul_nonneg (Int.le_of_lt hm) ht.1
    grind
/-- an edge with a place of the box strictly on its left has a face there -/
theorem tt_num (hp : tr_pt m V P) (h : tr_T V P S L) {a b : Nat} (e : L a b ≤ 16) {t : Int × Int} (ht : 0 ≤ t.1 ∧ t.1 ≤ m ∧ 0 ≤ t.2 ∧ t.2 ≤ m) (o : 0 < (ge_o (P a) (P b) t)) : L a b < 16 := by
  rcases Nat.lt_or_ge (L a b) 16 with h1 | h1
  · exact h1
  · have := tt_hull hp ((tt_out h a b).mp (by omega)) ht
    have := ge_sw (P a) (P b) t
    omega
theorem tt_numV (hp : tr_pt m V P) (h : tr_T V P S L) {a b k : Nat} (e : L a b ≤ 16) (v : V k) (o : 0 < (ge_o (P a) (P b) (P k))) : L a b < 16 :=
  tt_num hp h e (tp_box hp v) o
/-! the face of a towards t -/
theorem en_1 {a : Nat} {t : Int × Int} (hN : ∀ q, L a q ≤ 16 → q < 16)
    (hf : ∀ q, L a q < 16 → L a (L a q) ≤ 16 ∧ 0 < (ge_o (P a) (P q) (P (L a q))))
    (h0 : ∃ q, L a q ≤ 16 ∧ 0 < (ge_o (P a) (P q) t)) (ho : ∀ q, L a q = 16 → (ge_o (P a) (P q) t) ≤ 0) :
    ∃ q p, L a q = p ∧ p < 16 ∧ 0 < (ge_o (P a) (P q) t) ∧ (ge_o (P a) (P p) t) ≤ 0 := by
  obtain ⟨q0, hq0, hq1⟩ := h0
  obtain ⟨q, hq, ⟨hq2, hq3⟩, hm⟩ := mx_1 (fun q => L a q ≤ 16 ∧ 0 < (ge_o (P a) (P q) t))
    (fun q => ((P q).1 - (P a).1) * (t.1 - (P a).1) + ((P q).2 - (P a).2) * (t.2 - (P a).2)) (fun q => (ge_o (P a) (P q) t)) 16
    (fun i _ h => h.2) ⟨q0, hN q0 hq0, hq0, hq1⟩
  have h16 : L a q < 16 := by
    rcases Nat.lt_or_ge (L a q) 16 with h1 | h1
    · exact h1
    · have := ho q (by omega); omega
  obtain ⟨f1, f2⟩ := hf q h16
  refine ⟨q, L a q, rfl, h16, hq3, ?_⟩
  rcases Int.lt_or_le 0 ((ge_o (P a) (P (L a q)) t)) with h1 | h1
  · exfalso
    have hk := hm (L a q) h16 ⟨f1, h1⟩
    have hne : P a ≠ t := by
      intro e
      rw [← e] at h1
      rw [ge_psp] at h1; omega
    have hB := ge_ne hne
    have I : ((t.1 - (P a).1) * (t.1 - (P a).1) + (t.2 - (P a).2) * (t.2 - (P a).2)) * (ge_o (P a) (P q) (P (L a q))) =
        (((P (L a q)).1 - (P a).1) * (t.1 - (P a).1) + ((P (L a q)).2 - (P a).2) * (t.2 - (P a).2)) * (ge_o (P a) (P q) t) -
        (((P q).1 - (P a).1) * (t.1 - (P a).1) + ((P q).2 - (P a).2) * (t.2 - (P a).2)) * (ge_o (P a) (P (L a q)) t) := by
      unfold ge_o; grind
    have := sg_pp hB f2
    omega
  · exact h1
theorem en_fan (hp : tr_pt m V P) (h : tr_T V P S L) (a q : Nat) (e : L a q < 16) : L a (L a q) ≤ 16 ∧ 0 < (ge_o (P a) (P q) (P (L a q))) := by
  obtain ⟨_, _, _, _, _, f, _, _, _, _, _, g⟩ := tt_face hp h (a := a) (b := q) (c := L a q) rfl e
  exact ⟨g, f⟩
theorem en_N (hp : tr_pt m V P) (h : tr_T V P S L) (a q : Nat) (e : L a q ≤ 16) : q < 16 := tp_16 hp (tt_vb h e)
/-- at an inner vertex every direction has a neighbour to its right -/
theorem en_int {a : Nat} {t : Int × Int} (hN : ∀ q, L a q ≤ 16 → q < 16)
    (hf : ∀ q, L a q < 16 → L a (L a q) ≤ 16 ∧ 0 < (ge_o (P a) (P q) (P (L a q)))) (hi : ∀ q, L a q ≠ 16) (h0 : ∃ q, L a q ≤ 16) (ht : P a ≠ t) :
    ∃ q, L a q ≤ 16 ∧ 0 < (ge_o (P a) (P q) t) := by
  refine Classical.byContradiction fun hn => ?_
  have hn' : ∀ q, L a q ≤ 16 → (ge_o (P a) (P q) t) ≤ 0 := by
    intro q hq
    rcases Int.lt_or_le 0 ((ge_o (P a) (P q) t)) with h1 | h1
    · exact absurd ⟨q, hq, h1⟩ hn
    · exact h1
  have hl : ∀ q, L a q ≤ 16 → L a q < 16 := fun q hq => by have := hi q; omega
  let t' : Int × Int := (2 * (P a).1 - t.1, 2 * (P a).2 - t.2)
  have ht' : ∀ q, (ge_o (P a) (P q) t') = - (ge_o (P a) (P q) t) := by intro q; show ge_o (P a) (P q) (2 * (P a).1 - t.1, 2 * (P a).2 - t.2) = _; unfold ge_o; grind
  obtain ⟨q0, hq0⟩ := h0
  by_cases hx : ∃ q, L a q ≤ 16 ∧ 0 < (ge_o (P a) (P q) t')
  · obtain ⟨x, y, e1, e2, e3, e4⟩ := en_1 (t := t') hN hf hx (fun q hq => absurd hq (hi q))
    have f1 := hf x (by omega)
    rw [e1] at f1
    have g1 := hn' y f1.1
    rw [ht'] at e4
    have y0 : (ge_o (P a) (P y) t) = 0 := by omega
    have f2 := hf y (hl y f1.1)
    have g2 := hn' _ f2.1
    rw [ht'] at e3
    have I := ge_gp (P a) (P x) (P y) (P (L a y)) t
    rw [y0, Int.mul_zero, Int.sub_zero] at I
    have k1 := sg_pp (A := - (ge_o (P a) (P x) t)) e3 f2.2
    have k2 := sg_ww (A := (ge_o (P a) (P x) (P y))) (B := - (ge_o (P a) (P (L a y)) t)) (by omega) (by omega)
    rw [Int.neg_mul] at k1
    rw [Int.mul_neg] at k2
    omega
  · have z : ∀ q, L a q ≤ 16 → (ge_o (P a) (P q) t) = 0 := by
      intro q hq
      have := hn' q hq
      rcases Int.lt_or_le 0 ((ge_o (P a) (P q) t')) with h1 | h1
      · exact absurd ⟨q, hq, h1⟩ hx
      · rw [ht'] at h1; omega
    have f1 := hf q0 (hl q0 hq0)
    have z1 := z q0 hq0
    have z2 := z _ f1.1
    have hB := ge_ne ht
    have I : ((t.1 - (P a).1) * (t.1 - (P a).1) + (t.2 - (P a).2) * (t.2 - (P a).2)) * (ge_o (P a) (P q0) (P (L a q0))) =
        (((P (L a q0)).1 - (P a).1) * (t.1 - (P a).1) + ((P (L a q0)).2 - (P a).2) * (t.2 - (P a).2)) * (ge_o (P a) (P q0) t) -
        (((P q0).1 - (P a).1) * (t.1 - (P a).1) + ((P q0).2 - (P a).2) * (t.2 - (P a).2)) * (ge_o (P a) (P (L a q0)) t) := by
      unfold ge_o; grind
    rw [z1, z2, Int.mul_zero, Int.mul_zero] at I
    have := sg_pp hB f1.2
    omega
end
end
section
/-! weights on closed segments -/
theorem ge_Cw {k a b : Int × Int} (h : ge_C k a b) : ∃ l m : Int, 0 ≤ l ∧ 0 ≤ m ∧ 0 < l + m ∧
    (l + m) * k.1 = l * a.1 + m * b.1 ∧ (l + m) * k.2 = l * a.2 + m * b.2 := by
  rcases ge_Cd h with rfl | rfl | h
  · exact ⟨1, 0, by omega, by omega, by omega, by omega, by omega⟩
  · exact ⟨0, 1, by omega, by omega, by omega, by omega, by omega⟩
  · obtain ⟨l, m, h1, h2, h3, h4⟩ := ge_Bw h
    exact ⟨l, m, by omega, by omega, by omega, h3, h4⟩
theorem ge_Ci {k a b : Int × Int} {l m : Int} (hl : 0 ≤ l) (hm : 0 ≤ m) (hs : 0 < l + m)
    (h1 : (l + m) * k.1 = l * a.1 + m * b.1) (h2 : (l + m) * k.2 = l * a.2 + m * b.2) : ge_C k a b := by
  constructor
  · have e : (l + m) * ge_o a b k = l * ge_o a b a + m * ge_o a b b := ge_lin h1 h2 a b
    rw [ge_psp, ge_spp, Int.mul_zero, Int.mul_zero] at e
    exact sg_eq0 hs (by omega)
  · have e : (l + m) * ((l + m) * (- ge_d a b k)) = (l * m) * ((b.1 - a.1) * (b.1 - a.1) + (b.2 - a.2) * (b.2 - a.2)) := by
      have e1 : (l + m) * (a.1 - k.1) = m * (a.1 - b.1) := by grind
      have e2 : (l + m) * (b.1 - k.1) = l * (b.1 - a.1) := by grind
      have e3 : (l + m) * (a.2 - k.2) = m * (a.2 - b.2) := by grind
      have e4 : (l + m) * (b.2 - k.2) = l * (b.2 - a.2) := by grind
      have e5 : (l + m) * ((l + m) * (- ge_d a b k)) = - (((l + m) * (a.1 - k.1)) * ((l + m) * (b.1 - k.1)) + ((l + m) * (a.2 - k.2)) * ((l + m) * (b.2 - k.2))) := by
        unfold ge_d; grind
      rw [e5, e1, e2, e3, e4]; grind
    have p1 := Int.mul_nonneg (Int.mul_nonneg hl hm) (show 0 ≤ (b.1 - a.1) * (b.1 - a.1) + (b.2 - a.2) * (b.2 - a.2) by have := ge_sq (b.1 - a.1); have := ge_sq (b.2 - a.2); omega)
    have := sg_invw hs (sg_invw hs (by rw [e]; exact p1))
    omega
theorem ge_mix {l m a b c d k p q u v : Int} (h : (l + m) * k = l * p + m * q) (h1 : (a + b) * p = a * u + b * v) (h2 : (c + d) * q = c * u + d * v) :
    (l * (c + d) * a + m * (a + b) * c + (l * (c + d) * b + m * (a + b) * d)) * k = (l * (c + d) * a + m * (a + b) * c) * u + (l * (c + d) * b + m * (a + b) * d) * v := by
  have e1 : (l * (c + d) * a + m * (a + b) * c + (l * (c + d) * b + m * (a + b) * d)) * k = (a + b) * (c + d) * ((l + m) * k) := by grind
  have e2 : (a + b) * (c + d) * (l * p + m * q) = (c + d) * l * ((a + b) * p) + (a + b) * m * ((c + d) * q) := by grind
  rw [e1, h, e2, h1, h2]; grind
/-- between two places of a segment lies the segment -/
theorem ge_BCC {k p q u v : Int × Int} (h : ge_B k p q) (hp : ge_C p u v) (hq : ge_C q u v) : ge_C k u v := by
  obtain ⟨l, m, h1, h2, h3, h4⟩ := ge_Bw h
  obtain ⟨a, b, a1, a2, a3, a4, a5⟩ := ge_Cw hp
  obtain ⟨c, d, c1, c2, c3, c4, c5⟩ := ge_Cw hq
  have s1 : 0 < l * (a + b) := sg_pp h1 a3
  refine ge_Ci (l := l * (c + d) * a + m * (a + b) * c) (m := l * (c + d) * b + m * (a + b) * d) ?_ ?_ ?_ ?_ ?_
  · have := Int.mul_nonneg (Int.mul_nonneg (Int.le_of_lt h1) (Int.le_of_lt c3)) a1
    have := Int.mul_nonneg (Int.mul_nonneg (Int.le_of_lt h2) (Int.le_of_lt a3)) c1
    omega
  · have := Int.mul_nonneg (Int.mul_nonneg (Int.le_of_lt h1) (Int.le_of_lt c3)) a2
    have := Int.mul_nonneg (Int.mul_nonneg (Int.le_of_lt h2) (Int.le_of_lt a3)) c2
    omega
  · have e : l * (c + d) * a + m * (a + b) * c + (l * (c + d) * b + m * (a + b) * d) = (l + m) * ((a + b) * (c + d)) := by grind
    rw [e]
    exact sg_pp (by omega) (sg_pp a3 c3)
  · exact ge_mix h3 a4 c4
  · exact ge_mix h4 a5 c5
theorem ge_lin2 {p q u v : Int × Int} {l m l' m' : Int} (e1 : (l + m) * p.1 = l * u.1 + m * v.1) (e2 : (l + m) * p.2 = l * u.2 + m * v.2)
    (e3 : (l' + m') * q.1 = l' * u.1 + m' * v.1) (e4 : (l' + m') * q.2 = l' * u.2 + m' * v.2) (z : Int × Int) :
    ((l + m) * (l' + m')) * ge_o p q z = (l * m' - m * l') * ge_o u v z := by
  have f1 := ge_lin e1 e2 q z
  have f2 := ge_lin e3 e4 z u
  have f3 := ge_lin e3 e4 z v
  rw [ge_rot p q z] at f1
  rw [ge_rot q z u, ge_spp, ge_rot2 u v z] at f2
  rw [ge_rot q z v, ge_spp, ge_sw2 z u v, ge_rot2 u v z] at f3
  clear e1 e2 e3 e4
  generalize ge_o p q z = A at *
  generalize ge_o q z u = B at *
  generalize ge_o q z v = C at *
  generalize ge_o u v z = W at *
  grind
/-- two places of uv crossed by ab: uv is crossed by ab -/
theorem ge_Xcov {p q u v a b : Int × Int} (hp : ge_C p u v) (hq : ge_C q u v) (h : ge_X p q a b) : ge_X u v a b ∨ ge_X v u a b := by
  obtain ⟨l, m, l1, m1, s1, e1, e2⟩ := ge_Cw hp
  obtain ⟨l', m', l2, m2, s2, e3, e4⟩ := ge_Cw hq
  obtain ⟨h1, h2, h3, h4⟩ := h
  have k := ge_lin2 e1 e2 e3 e4
  have ka := k a
  have kb := k b
  have fp := ge_lin e1 e2 b a
  have fq := ge_lin e3 e4 a b
  have S := sg_pp s1 s2
  have su := ge_sw a b u
  have sv := ge_sw a b v
  have hka := sg_pp S h1
  have hkb := sg_pp S h2
  rw [ge_sw p q b] at hkb
  rw [Int.mul_neg, kb] at hkb
  rw [ka] at hka
  have g1 := sg_pp s1 h4
  have g2 := sg_pp s2 h3
  rw [fp] at g1
  rw [fq] at g2
  have sb := ge_sw u v b
  have sa := ge_sw u v a
  rw [su, sv] at g1
  -- g1 : 0 < l * (-ou) + m * (-ov); g2 : 0 < l' * ou + m' * ov
  rcases Int.lt_trichotomy (l * m' - m * l') 0 with hk | hk | hk
  · right
    have a1 := sg_inv (A := -(l * m' - m * l')) (B := - ge_o u v a) (by omega) (by rw [Int.neg_mul_neg]; exact hka)
    have a2 := sg_inv (A := -(l * m' - m * l')) (B := ge_o u v b) (by omega) (by rw [Int.neg_mul]; exact hkb)
    have I1 : -(l * m' - m * l') * ge_o a b u = m * (l' * ge_o a b u + m' * ge_o a b v) + m' * (l * -ge_o a b u + m * -ge_o a b v) := by grind
    have I2 : -(l * m' - m * l') * (-ge_o a b v) = l' * (l * -ge_o a b u + m * -ge_o a b v) + l * (l' * ge_o a b u + m' * ge_o a b v) := by grind
    have b1 : 0 ≤ ge_o a b u := sg_w I1 (by omega) m1 (by omega) m2 (by omega)
    have b2 : 0 ≤ - ge_o a b v := sg_w I2 (by omega) l2 (by omega) l1 (by omega)
    have c1 : 0 < ge_o a b u := by
      rcases Int.lt_or_le 0 (ge_o a b u) with z | z
      · exact z
      · have : ge_o a b u = 0 := by omega
        rw [this] at g2
        have := sg_ww m2 b2
        rw [Int.mul_neg] at this; omega
    have c2 : 0 < - ge_o a b v := by
      rcases Int.lt_or_le 0 (- ge_o a b v) with z | z
      · exact z
      · have : ge_o a b v = 0 := by omega
        rw [this] at g1
        have := sg_ww l1 b1
        rw [Int.mul_neg] at g1; omega
    exact ⟨by omega, by omega, by omega, by omega⟩
  · rw [hk] at hka; omega
  · left
    have a1 := sg_inv (A := (l * m' - m * l')) (B := ge_o u v a) (by omega) hka
    have a2 := sg_inv (A := (l * m' - m * l')) (B := - ge_o u v b) (by omega) (by rw [Int.mul_neg]; exact hkb)
    have I1 : (l * m' - m * l') * ge_o a b v = l * (l' * ge_o a b u + m' * ge_o a b v) + l' * (l * -ge_o a b u + m * -ge_o a b v) := by grind
    have I2 : (l * m' - m * l') * (-ge_o a b u) = m' * (l * -ge_o a b u + m * -ge_o a b v) + m * (l' * ge_o a b u + m' * ge_o a b v) := by grind
    have b1 : 0 ≤ ge_o a b v := sg_w I1 (by omega) l1 (by omega) l2 (by omega)
    have b2 : 0 ≤ - ge_o a b u := sg_w I2 (by omega) m2 (by omega) m1 (by omega)
    have c1 : 0 < ge_o a b v := by
      rcases Int.lt_or_le 0 (ge_o a b v) with z | z
      · exact z
      · have : ge_o a b v = 0 := by omega
        rw [this] at g2
        have := sg_ww l2 b2
        rw [Int.mul_neg] at this; omega
    have c2 : 0 < - ge_o a b u := by
      rcases Int.lt_or_le 0 (- ge_o a b u) with z | z
      · exact z
      · have : ge_o a b u = 0 := by omega
        rw [this, Int.neg_zero, Int.mul_zero, Int.mul_neg] at g1
        have := sg_ww m1 b1
        omega
    exact ⟨by omega, by omega, by omega, by omega⟩
/-- ab crosses uv; p, q on uv at the two sides of ab: ab crosses pq -/
theorem ge_Xsub {p q u v a b : Int × Int} (hp : ge_C p u v) (hq : ge_C q u v) (h : ge_X a b u v) (h1 : 0 < ge_o a b p) (h2 : 0 < ge_o b a q) : ge_X a b p q := by
  obtain ⟨l, m, l1, m1, s1, e1, e2⟩ := ge_Cw hp
  obtain ⟨l', m', l2, m2, s2, e3, e4⟩ := ge_Cw hq
  obtain ⟨g1, g2, g3, g4⟩ := h
  have k := ge_lin2 e1 e2 e3 e4
  have fp := ge_lin e1 e2 a b
  have fq := ge_lin e3 e4 b a
  have k1 := sg_pp s1 h1
  have k2 := sg_pp s2 h2
  rw [fp] at k1
  rw [fq] at k2
  have su := ge_sw a b u
  have sv := ge_sw a b v
  have S := sg_pp s1 s2
  rw [su] at k2
  have sv' : ge_o a b v = - ge_o b a v := by omega
  rw [sv'] at k1
  -- k1 : 0 < l * ou + m * -(bv) ; k2 : 0 < l' * -ou + m' * bv
  have hk : 0 < l * m' - m * l' := by
    have I : ge_o a b u * (l * m' - m * l') = m' * (l * ge_o a b u + m * -ge_o b a v) + m * (l' * -ge_o a b u + m' * ge_o b a v) := by grind
    have hm' : 0 < m' := by
      rcases Int.lt_or_le 0 m' with z | z
      · exact z
      · have : m' = 0 := by omega
        rw [this] at k2
        have := sg_ww l2 (Int.le_of_lt g1)
        rw [Int.mul_neg] at k2; omega
    exact sg_p I g1 hm' k1 m1 (Int.le_of_lt k2)
  have ka := k a
  have kb := k b
  refine ⟨h1, h2, ?_, ?_⟩
  · exact sg_inv S (by rw [kb]; exact sg_pp hk g3)
  · have := ge_sw p q a
    have := ge_sw u v a
    have := sg_inv (A := (l + m) * (l' + m')) (B := - ge_o p q a) S (by rw [Int.mul_neg, ka]; have := sg_pp hk g4; rw [ge_sw u v a, Int.mul_neg] at this; exact this)
    omega
section
variable {m : Int} {V : Nat → Prop} {P : Nat → Int × Int} {S : List (Nat × Nat)} {L : Nat → Nat → Nat} {H : Nat → Int}
theorem se_sy {a b : Nat} (h : tr_see V P S a b) : tr_see V P S b a :=
  ⟨h.2.1, h.1, fun e => h.2.2.1 e.symm, fun k v e => h.2.2.2.1 k v (ge_B1 e),
    fun s hs => ⟨fun e => (h.2.2.2.2 s hs).2 (ge_X1 e), fun e => (h.2.2.2.2 s hs).1 (ge_X1 e)⟩⟩
theorem se_B {a b k : Nat} (h : tr_see V P S a b) (v : V k) : ¬ (ge_B (P k) (P a) (P b)) := h.2.2.2.1 k v
theorem se_X {a b : Nat} (h : tr_see V P S a b) {s : Nat × Nat} (hs : s ∈ S) : ¬ (ge_X (P a) (P b) (P (s.1)) (P (s.2))) ∧ ¬ (ge_X (P a) (P b) (P (s.2)) (P (s.1))) := h.2.2.2.2 s hs
theorem co_sy {a b : Nat} (h : tr_cov P S a b) : tr_cov P S b a := by
  obtain ⟨s, hs, h1, h2⟩ := h
  exact ⟨s, hs, h2, h1⟩
/-- a seen pair crosses no covered pair -/
theorem se_cov {a b p q : Nat} (h : tr_see V P S a b) (hc : tr_cov P S p q) : ¬ (ge_X (P p) (P q) (P a) (P b)) := by
  intro hX
  obtain ⟨s, hs, h1, h2⟩ := hc
  rcases ge_Xcov h1 h2 hX with g | g
  · exact (se_X h hs).2 (ge_X2 g)
  · exact (se_X h hs).1 (ge_X2 g)
/-- edges are seen -/
theorem se_E1 (hp : tr_pt m V P) (hS : tr_sg V P S) (h : tr_T V P S L) {a b : Nat} (e : L a b ≤ 16) {s : Nat × Nat} (hs : s ∈ S) : ¬ (ge_X (P a) (P b) (P (s.1)) (P (s.2))) := by
  intro hX
  obtain ⟨vu, vv, _⟩ := hS.1 s hs
  obtain ⟨p, p16, ⟨vp, cp, op⟩, mp⟩ := mx_1 (fun k => V k ∧ (ge_C (P k) (P (s.1)) (P (s.2))) ∧ 0 < (ge_o (P a) (P b) (P k))) (fun k => - (ge_o (P a) (P b) (P k))) (fun _ => 1) 16
    (fun _ _ _ => by omega) ⟨s.1, tp_16 hp vu, vu, ge_Ca _ _, hX.1⟩
  obtain ⟨q, q16, ⟨vq, cq, oq⟩, mq⟩ := mx_1 (fun k => V k ∧ (ge_C (P k) (P (s.1)) (P (s.2))) ∧ 0 < (ge_o (P b) (P a) (P k))) (fun k => - (ge_o (P b) (P a) (P k))) (fun _ => 1) 16
    (fun _ _ _ => by omega) ⟨s.2, tp_16 hp vv, vv, ge_Cb _ _, hX.2.1⟩
  have ne : p ≠ q := by rintro rfl; have := ge_sw (P a) (P b) (P p); omega
  have hb : ∀ k, V k → ¬ (ge_B (P k) (P p) (P q)) := by
    intro k vk hk
    have ck := ge_BCC hk cp cq
    obtain ⟨l, n, l0, n0, hl⟩ := ge_Bo hk
    have e1 := hl (P a) (P b)
    have s1 := ge_sw (P a) (P b) (P q)
    have s2 := ge_sw (P a) (P b) (P k)
    rcases Int.lt_trichotomy ((ge_o (P a) (P b) (P k))) 0 with z | z | z
    · have := mq k (tp_16 hp vk) ⟨vk, ck, by omega⟩
      have g1 := sg_pp l0 op
      have g2 : (l + n) * ((ge_o (P b) (P a) (P q)) - (ge_o (P b) (P a) (P k))) = l * ((ge_o (P b) (P a) (P q))) + l * ((ge_o (P a) (P b) (P p))) := by
        have s3 : (ge_o (P b) (P a) (P q)) = - (ge_o (P a) (P b) (P q)) := s1
        rw [s3, s2]; grind
      have g3 := sg_pp l0 oq
      have := sg_inv (A := l + n) (B := (ge_o (P b) (P a) (P q)) - (ge_o (P b) (P a) (P k))) (by omega) (by omega)
      omega
    · have cks := ck.1
      have s3 := ge_sw (P s.1) (P s.2) (P a)
      have := hX.2.2.1
      have := hX.2.2.2
      exact tt_F h e vk (ge_Bi (u := P s.1) (v := P s.2) z (by omega) (by omega))
    · have := mp k (tp_16 hp vk) ⟨vk, ck, z⟩
      have g1 := sg_pp n0 oq
      have g2 : (l + n) * ((ge_o (P a) (P b) (P p)) - (ge_o (P a) (P b) (P k))) = n * ((ge_o (P a) (P b) (P p))) + n * ((ge_o (P b) (P a) (P q))) := by
        rw [s1]; grind
      have g3 := sg_pp n0 op
      have := sg_inv (A := l + n) (B := (ge_o (P a) (P b) (P p)) - (ge_o (P a) (P b) (P k))) (by omega) (by omega)
      omega
  have epq := tt_C h hs vp vq ne cp cq hb
  exact tt_N h e epq (ge_Xsub cp cq hX op oq)
theorem se_E (hp : tr_pt m V P) (hS : tr_sg V P S) (h : tr_T V P S L) {a b : Nat} (e : L a b ≤ 16) : tr_see V P S a b :=
  ⟨tt_va h e, tt_vb h e, tt_ne h e, fun _ v => tt_F h e v, fun _ hs => ⟨se_E1 hp hS h e hs, fun g => se_E1 hp hS h (tt_sy h e) hs (ge_X1 g)⟩⟩
end
end
section
/-- no four points are coplanar above a true triangle -/
def tr_gen (H : Nat → Int) (V : Nat → Prop) (P : Nat → Int × Int) : Prop :=
  ∀ a b c d, V a → V b → V c → V d → d ≠ a → d ≠ b → d ≠ c → 0 < (ge_o (P a) (P b) (P c)) → (ge_D H P a b c d) ≠ 0
/-- heights are convex on the points -/
def tr_hull (H : Nat → Int) (V : Nat → Prop) (P : Nat → Int × Int) : Prop :=
  ∀ a b c d, V a → V b → V c → V d → 0 < (ge_o (P a) (P b) (P c)) → (ge_T (P a) (P b) (P c) (P d)) → (ge_D H P a b c d) ≤ 0
theorem ge_Dex (H : Nat → Int) (P : Nat → Int × Int) (a b c d : Nat) : (ge_D H P c d a b) = (ge_D H P a b c d) := by
  unfold ge_D ge_o; grind
section
variable {m : Int} {V : Nat → Prop} {P : Nat → Int × Int} {S : List (Nat × Nat)} {L : Nat → Nat → Nat} {H : Nat → Int}
/-- the face of a towards the live point t, which is no neighbour along the rim -/
theorem en_V (hp : tr_pt m V P) (h : tr_T V P S L) {a t : Nat} (va : V a) (vt : V t) (ne : a ≠ t) (hn : ¬ L a t ≤ 16) :
    ∃ q p, L a q = p ∧ p < 16 ∧ 0 < (ge_o (P a) (P q) (P t)) ∧ (ge_o (P a) (P p) (P t)) ≤ 0 := by
  have ho : ∀ q, L a q = 16 → (ge_o (P a) (P q) (P t)) ≤ 0 := by
    intro q hq
    have := tt_hull hp ((tt_out h a q).mp hq) (tp_box hp vt)
    have := ge_sw (P a) (P q) (P t)
    omega
  refine en_1 (t := P t) (en_N hp h a) (en_fan hp h a) ?_ ho
  have hm := tp_m hp
  have e0 := tp_0 hp
  have e1 := tp_1 hp
  have e2 := tp_2 hp
  have e3 := tp_3 hp
  by_cases h4 : 4 ≤ a
  · refine en_int (en_N hp h a) (en_fan hp h a) (fun q hq => ?_) (tt_deg h va) (fun e => ne (tp_inj hp va vt e))
    have := (tt_out h a q).mp hq
    unfold tr_O at this; omega
  · have k01 : L 0 1 ≤ 16 := tt_sy h (by rw [(tt_out h 1 0).mpr (by unfold tr_O; omega)]; omega)
    have k12 : L 1 2 ≤ 16 := tt_sy h (by rw [(tt_out h 2 1).mpr (by unfold tr_O; omega)]; omega)
    have k23 : L 2 3 ≤ 16 := tt_sy h (by rw [(tt_out h 3 2).mpr (by unfold tr_O; omega)]; omega)
    have k30 : L 3 0 ≤ 16 := tt_sy h (by rw [(tt_out h 0 3).mpr (by unfold tr_O; omega)]; omega)
    have hx : ∀ t', t' = t → 4 ≤ t' ∨ t' = 0 ∨ t' = 1 ∨ t' = 2 ∨ t' = 3 := by intro t' _; omega
    have : a = 0 ∨ a = 1 ∨ a = 2 ∨ a = 3 := by omega
    rcases this with rfl | rfl | rfl | rfl
    · refine ⟨1, k01, ?_⟩
      have : 0 < (P t).2 := by
        rcases hx t rfl with g | rfl | rfl | rfl | rfl
        · exact (tp_in hp vt g).2.2.1
        · omega
        · exact absurd k01 hn
        · rw [e2]; exact hm
        · rw [e3]; exact hm
      rw [e0, e1]; unfold ge_o; simp only
      have := sg_pp hm this
      grind
    · refine ⟨2, k12, ?_⟩
      have : (P t).1 < m := by
        rcases hx t rfl with g | rfl | rfl | rfl | rfl
        · exact (tp_in hp vt g).2.1
        · rw [e0]; exact hm
        · omega
        · exact absurd k12 hn
        · rw [e3]; exact hm
      rw [e1, e2]; unfold ge_o; simp only
      have := sg_pp hm (show 0 < m - (P t).1 by omega)
      grind
    · refine ⟨3, k23, ?_⟩
      have : (P t).2 < m := by
        rcases hx t rfl with g | rfl | rfl | rfl | rfl
        · exact (tp_in hp vt g).2.2.2
        · rw [e0]; exact hm
        · rw [e1]; exact hm
        · omega
        · exact absurd k23 hn
      rw [e2, e3]; unfold ge_o; simp only
      have := sg_pp hm (show 0 < m - (P t).2 by omega)
      grind
    · refine ⟨0, k30, ?_⟩
      have : 0 < (P t).1 := by
        rcases hx t rfl with g | rfl | rfl | rfl | rfl
        · exact (tp_in hp vt g).1
        · exact absurd k30 hn
        · rw [e1]; exact hm
        · rw [e2]; exact hm
        · omega
      rw [e3, e0]; unfold ge_o; simp only
      have := sg_pp hm this
      grind
/-- a seen pair that is no edge is crossed by an edge -/
theorem ms_1 (hp : tr_pt m V P) (h : tr_T V P S L) {p q : Nat} (hs : tr_see V P S p q) (hn : ¬ L p q ≤ 16) :
    ∃ u v, L u v ≤ 16 ∧ (ge_X (P u) (P v) (P p) (P q)) := by
  obtain ⟨x, y, e, y16, ox, oy⟩ := en_V hp h hs.1 hs.2.1 hs.2.2.1 hn
  obtain ⟨vp, vx, vy, f1, f2, fo, g1, g2, g3, g4, g5, g6⟩ := tt_face hp h e y16
  have r1 := ge_sw2 (P p) (P x) (P q)
  have r2 := ge_sw2 (P p) (P y) (P q)
  have r3 := ge_rot (P p) (P x) (P y)
  have r4 := ge_sw (P p) (P q) (P x)
  have r5 := ge_sw (P x) (P y) (P q)
  have nqx : q ≠ x := by rintro rfl; rw [ge_spp] at ox; omega
  have nqy : q ≠ y := by rintro rfl; exact hn g6
  have npq : p ≠ q := hs.2.2.1
  rcases Int.lt_or_le ((ge_o (P p) (P y) (P q))) 0 with hy | hy
  · rcases Int.lt_or_le ((ge_o (P x) (P y) (P q))) 0 with hz | hz
    · exact ⟨x, y, g2, by omega, by omega, by omega, by omega⟩
    · exfalso
      have r6 := ge_sw (P p) (P y) (P q)
      rcases tt_E h e y16 hs.2.1 ⟨Int.le_of_lt ox, hz, by omega⟩ with k | k | k
      · exact npq k.symm
      · exact nqx k
      · exact nqy k
  · exfalso
    have z : (ge_o (P p) (P y) (P q)) = 0 := by omega
    -- y and q on one ray from p
    have A := ge_aff (P p) (P x) (P y) (P q)
    have s1 := ge_rot2 (P p) (P x) (P q)
    have s2 := ge_rot2 (P x) (P y) (P q)
    have s3 := ge_rot2 (P y) (P p) (P q)
    have s4 := ge_sw (P p) (P y) (P q)
    rcases Int.lt_trichotomy ((ge_o (P p) (P x) (P y))) ((ge_o (P p) (P x) (P q))) with c | c | c
    · exact se_B hs vy (ge_Bi (u := P p) (v := P x) (by omega) (by rw [ge_psp]; omega) c)
    · have e1 : (ge_o (P p) (P x) (P q)) * ((P y).1 - (P q).1) = 0 := by
        have z' := z
        unfold ge_o at c z' ⊢; grind
      have e2 : (ge_o (P p) (P x) (P q)) * ((P y).2 - (P q).2) = 0 := by
        have z' := z
        unfold ge_o at c z' ⊢; grind
      have f1 := sg_eq0 ox e1
      have f2 := sg_eq0 ox e2
      have : P y = P q := Prod.ext (by omega) (by omega)
      exact absurd (tp_inj hp vy hs.2.1 this).symm nqy
    · exact tt_F h g6 hs.2.1 (ge_Bi (u := P p) (v := P x) z (by rw [ge_psp]; omega) c)
/-- along a seen pair the lifted mesh is convex: each face on the way lies below the end -/
theorem cl_W (hp : tr_pt m V P) (h : tr_T V P S L) (hl : tr_LD H P S L) {p q : Nat} (hs : tr_see V P S p q) :
    ∀ x y, L x y ≤ 16 → (ge_X (P x) (P y) (P p) (P q)) → 0 ≤ (ge_D H P x y (L x y) q) := by
  intro x0 y0 e0 X0
  refine Classical.byContradiction fun hneg => ?_
  obtain ⟨x, y, x16, y16, ⟨e, hX, hD⟩, hm⟩ := mx_2 (fun x y => L x y ≤ 16 ∧ (ge_X (P x) (P y) (P p) (P q)) ∧ (ge_D H P x y (L x y) q) < 0)
    (fun x y => (ge_o (P x) (P y) (P p))) (fun x y => (ge_o (P p) (P q) (P y)) + (ge_o (P q) (P p) (P x)))
    (fun a b _ _ g => by have := g.2.1.2.2.1; have := g.2.1.2.2.2; omega)
    ⟨x0, y0, tp_16 hp (tt_va h e0), tp_16 hp (tt_vb h e0), e0, X0, by omega⟩
  obtain ⟨o1, o2, o3, o4⟩ := hX
  have z16 := tt_numV hp h e hs.1 o1
  have e' := tt_sy h e
  have w16 := tt_numV hp h e' hs.2.1 o2
  obtain ⟨_, _, vz, _, _, fz, _, _, _, _, _, _⟩ := tt_face hp h (a := x) (b := y) rfl z16
  obtain ⟨_, _, vw, w1, w2, fw, _, g2, g3, _, _, _⟩ := tt_face hp h (a := y) (b := x) rfl w16
  have hnc : ¬ tr_cov P S x y := fun c => se_cov hs c ⟨o1, o2, o3, o4⟩
  have hld := hl x y _ _ rfl z16 rfl w16 hnc
  have hgp := ge_Dgp H P x y (L x y) q (L y x)
  have t1 := ge_sw (P x) (P y) (P (L y x))
  have t2 := ge_sw (P x) (P y) (P q)
  have fin : 0 ≤ (ge_D H P x y q (L y x)) → False := by
    intro hd
    have I : (ge_o (P y) (P x) (P (L y x))) * (ge_D H P x y (L x y) q) = (ge_o (P y) (P x) (P q)) * (ge_D H P x y (L x y) (L y x)) + (ge_o (P x) (P y) (P (L x y))) * (ge_D H P x y q (L y x)) := by
      rw [t1, t2]; grind
    have := sg_w I fw (by omega) hld (by omega) hd
    omega
  rcases ge_exit fw (ge_X1 ⟨o1, o2, o3, o4⟩) with k | k | k | k
  · rcases tt_E h (a := y) (b := x) rfl w16 hs.2.1 k with j | j | j
    · rw [j, ge_psp] at o2; omega
    · rw [j, ge_spp] at o2; omega
    · rw [← j] at hld; omega
  · refine fin ?_
    have n1 := hm x (L y x) x16 w16
    have I : (ge_o (P x) (P y) (P p)) * ((ge_o (P p) (P q) (P (L y x))) + (ge_o (P q) (P p) (P x))) - (ge_o (P x) (P (L y x)) (P p)) * ((ge_o (P p) (P q) (P y)) + (ge_o (P q) (P p) (P x))) = (ge_o (P x) (P y) (P (L y x))) * (ge_o (P q) (P p) (P x)) := by
      unfold ge_o; grind
    have J := sg_pp fw o4
    rw [t1, Int.neg_mul] at J
    have hq : 0 ≤ (ge_D H P x (L y x) (L x (L y x)) q) := by
      rcases Int.lt_or_le ((ge_D H P x (L y x) (L x (L y x)) q)) 0 with c | c
      · have := n1 ⟨g2, k, c⟩; omega
      · exact c
    rw [w1] at hq
    have d1 := ge_Drot H P y x (L y x) q
    have d2 := ge_Dsw H P x y (L y x) q
    have d3 := ge_Dsw3 H P x y q (L y x)
    omega
  · refine fin ?_
    have n1 := hm (L y x) y w16 y16
    have I : (ge_o (P x) (P y) (P p)) * ((ge_o (P p) (P q) (P y)) + (ge_o (P q) (P p) (P (L y x)))) - (ge_o (P (L y x)) (P y) (P p)) * ((ge_o (P p) (P q) (P y)) + (ge_o (P q) (P p) (P x))) = (ge_o (P x) (P y) (P (L y x))) * (ge_o (P p) (P q) (P y)) := by
      unfold ge_o; grind
    have J := sg_pp fw o3
    rw [t1, Int.neg_mul] at J
    have hq : 0 ≤ (ge_D H P (L y x) y (L (L y x) y) q) := by
      rcases Int.lt_or_le ((ge_D H P (L y x) y (L (L y x) y) q)) 0 with c | c
      · have := n1 ⟨g3, k, c⟩; omega
      · exact c
    rw [w2] at hq
    have d0 := ge_Drot H P (L y x) y x q
    have d2 := ge_Dsw H P x y (L y x) q
    have d3 := ge_Dsw3 H P x y q (L y x)
    omega
  · exact se_B hs vw k
/-- a seen pair lies above the edges that it crosses -/
theorem cl_1 (hp : tr_pt m V P) (h : tr_T V P S L) (hl : tr_LD H P S L) {p q : Nat} (hs : tr_see V P S p q) {u v : Nat} (e : L u v ≤ 16) (hX : (ge_X (P u) (P v) (P p) (P q))) :
    0 ≤ (ge_D H P u v p q) := by
  have hq := cl_W hp h hl hs u v e hX
  have z16 := tt_numV hp h e hs.1 hX.1
  obtain ⟨vu, vv, vz, w1, w2, fz, _, g2, g3, _, _, _⟩ := tt_face hp h (a := u) (b := v) rfl z16
  have hpz : 0 ≤ (ge_D H P u v (L u v) p) := by
    rcases ge_exit fz hX with k | k | k | k
    · rcases tt_E h (a := u) (b := v) rfl z16 hs.1 k with j | j | j
      · have := hX.1; rw [j, ge_psp] at this; omega
      · have := hX.1; rw [j, ge_spp] at this; omega
      · rw [← j, ge_Dpp]; omega
    · have := cl_W hp h hl (se_sy hs) v (L u v) g2 k
      rw [w1] at this
      have := ge_Drot H P u v (L u v) p
      omega
    · have := cl_W hp h hl (se_sy hs) (L u v) u g3 k
      rw [w2] at this
      have := ge_Drot H P (L u v) u v p
      omega
    · exact absurd (ge_B1 k) (se_B hs vz)
  have hgp := ge_Dgp H P u v (L u v) p q
  have t2 := ge_sw (P u) (P v) (P q)
  have I : (ge_o (P u) (P v) (P (L u v))) * (ge_D H P u v p q) = (ge_o (P u) (P v) (P p)) * (ge_D H P u v (L u v) q) + (ge_o (P v) (P u) (P q)) * (ge_D H P u v (L u v) p) := by
    rw [t2]; grind
  exact sg_w I fz (Int.le_of_lt hX.1) hq (Int.le_of_lt hX.2.1) hpz
/-- so no edge crosses a seen pair that lies strictly below it -/
theorem cl_2 (hp : tr_pt m V P) (h : tr_T V P S L) (hl : tr_LD H P S L) {u v : Nat} (hs : tr_see V P S u v) {a b : Nat} (e : L a b ≤ 16) (hX : (ge_X (P u) (P v) (P a) (P b))) :
    (ge_D H P u v a b) ≤ 0 := by
  have := cl_1 hp h hl hs (u := b) (v := a) (tt_sy h e) (ge_X1 (ge_X2 hX))
  have d1 := ge_Dsw H P a b u v
  have d2 := ge_Dex H P u v a b
  omega
/-- the apex of a face is best among those that see both ends -/
theorem be_1 (hp : tr_pt m V P) (h : tr_T V P S L) (hl : tr_LD H P S L) (hh : tr_hull H V P) {a b c c' : Nat} (e : L a b = c) (hc : c < 16)
    (s1 : tr_see V P S a c') (s2 : tr_see V P S b c') (o : 0 < (ge_o (P a) (P b) (P c'))) : 0 ≤ (ge_D H P a b c c') := by
  obtain ⟨va, vb, vc, w1, w2, fo, g1, g2, g3, _, _, _⟩ := tt_face hp h e hc
  have v' := s1.2.1
  by_cases hcc : c' = c
  · rw [hcc, ge_Dpp]; omega
  · have t1 := ge_sw (P b) (P c) (P c')
    have t2 := ge_sw (P c) (P a) (P c')
    have r1 := ge_rot (P c) (P a) (P c')
    have r2 := ge_rot2 (P a) (P b) (P c')
    have r3 := ge_rot (P a) (P b) (P c)
    have r4 := ge_rot2 (P a) (P b) (P c)
    have r5 := ge_rot (P a) (P b) (P c')
    have r6 := ge_rot2 (P b) (P c) (P c')
    have r7 := ge_rot (P c) (P b) (P c')
    have r8 := ge_rot2 (P a) (P c) (P c')
    have hull : 0 ≤ (ge_o (P c) (P b) (P c')) → 0 ≤ (ge_o (P a) (P c) (P c')) → 0 ≤ (ge_D H P a b c c') := by
      intro k1 k2
      have := hh a b c' c va vb v' vc o ⟨Int.le_of_lt fo, by omega, by omega⟩
      have := ge_Dsw3 H P a b c' c
      omega
    by_cases k1 : 0 < (ge_o (P c) (P b) (P c'))
    · by_cases k2 : 0 < (ge_o (P c) (P a) (P c'))
      · have := cl_1 hp h hl s1 g2 ⟨by omega, k1, by omega, by omega⟩
        have := ge_Drot H P a b c c'
        omega
      · exact hull (by omega) (by omega)
    · by_cases k2 : 0 < (ge_o (P a) (P c) (P c'))
      · by_cases k3 : 0 < (ge_o (P b) (P c) (P c'))
        · have := cl_1 hp h hl s2 g3 ⟨by omega, k2, by omega, by omega⟩
          have := ge_Drot H P c a b c'
          omega
        · exact hull (by omega) (by omega)
      · rcases tt_E h e hc v' ⟨Int.le_of_lt o, by omega, by omega⟩ with j | j | j
        · rw [j, ge_psp] at o; omega
        · rw [j, ge_spp] at o; omega
        · exact absurd j hcc
/-- no witness pair against an uncovered edge -/
theorem nw_1 (hp : tr_pt m V P) (h : tr_T V P S L) (hl : tr_LD H P S L) (hh : tr_hull H V P) {a b c d : Nat} (e : L a b ≤ 16) (hn : ¬ tr_cov P S a b)
    (s1 : tr_see V P S a c) (s2 : tr_see V P S b c) (o : 0 < (ge_o (P a) (P b) (P c))) (s3 : tr_see V P S a d) (s4 : tr_see V P S b d) (o' : 0 < (ge_o (P b) (P a) (P d))) : 0 ≤ (ge_D H P a b c d) := by
  have c16 := tt_numV hp h e s1.2.1 o
  have d16 := tt_numV hp h (tt_sy h e) s3.2.1 o'
  have fo := tt_fo h (a := a) (b := b) rfl c16
  have fd := tt_fo h (a := b) (b := a) rfl d16
  have k1 := be_1 hp h hl hh rfl c16 s1 s2 o
  have k2 := be_1 hp h hl hh rfl d16 s4 s3 o'
  have k3 := hl a b _ _ rfl c16 rfl d16 hn
  have G1 := ge_Dgp H P a b (L a b) c (L b a)
  have G2 := ge_Dgp H P a b c (L b a) d
  have t1 := ge_sw (P a) (P b) (P (L b a))
  have t2 := ge_sw (P a) (P b) (P d)
  have t3 := ge_Dsw H P a b (L b a) d
  have I1 : (ge_o (P a) (P b) (P (L a b))) * (ge_D H P a b c (L b a)) = (ge_o (P a) (P b) (P c)) * (ge_D H P a b (L a b) (L b a)) + (ge_o (P b) (P a) (P (L b a))) * (ge_D H P a b (L a b) c) := by rw [t1]; grind
  have k4 := sg_w I1 fo (Int.le_of_lt o) k3 (Int.le_of_lt fd) k1
  have I2 : (ge_o (P b) (P a) (P (L b a))) * (ge_D H P a b c d) = (ge_o (P b) (P a) (P d)) * (ge_D H P a b c (L b a)) + (ge_o (P a) (P b) (P c)) * (ge_D H P b a (L b a) d) := by rw [t1, t2, t3]; grind
  exact sg_w I2 fd (Int.le_of_lt o') k4 (Int.le_of_lt o) k2
/-- an empty true triangle of edges is a face -/
theorem fc_1 (hp : tr_pt m V P) (h : tr_T V P S L) {a b c : Nat} (e1 : L a b ≤ 16) (e2 : L b c ≤ 16) (e3 : L c a ≤ 16) (o : 0 < (ge_o (P a) (P b) (P c)))
    (hn : ∀ k, V k → ¬ (0 < (ge_o (P a) (P b) (P k)) ∧ 0 < (ge_o (P b) (P c) (P k)) ∧ 0 < (ge_o (P c) (P a) (P k)))) : L a b = c := by
  have vc := tt_va h e3
  have c16 := tt_numV hp h e1 vc o
  obtain ⟨va, vb, vz, w1, w2, fo, g1, g2, g3, g4, g5, g6⟩ := tt_face hp h (a := a) (b := b) rfl c16
  refine Classical.byContradiction fun hcc => ?_
  have t1 := ge_sw (P b) (P c) (P (L a b))
  have t2 := ge_sw (P c) (P a) (P (L a b))
  have r1 := ge_rot (P c) (P a) (P (L a b))
  have r2 := ge_rot2 (P a) (P b) (P (L a b))
  have r3 := ge_rot (P a) (P b) (P c)
  have r4 := ge_rot2 (P a) (P b) (P c)
  have r5 := ge_rot (P a) (P b) (P (L a b))
  have r6 := ge_rot2 (P b) (P c) (P (L a b))
  have r7 := ge_rot (P c) (P b) (P (L a b))
  have r8 := ge_rot2 (P a) (P c) (P (L a b))
  have hin : 0 ≤ (ge_o (P c) (P b) (P (L a b))) → 0 ≤ (ge_o (P a) (P c) (P (L a b))) → False := by
    intro k1 k2
    rcases tt_E h (a := a) (b := b) rfl c16 vc ⟨Int.le_of_lt o, by omega, by omega⟩ with j | j | j
    · rw [j, ge_psp] at o; omega
    · rw [j, ge_spp] at o; omega
    · exact hcc j.symm
  by_cases k1 : 0 < (ge_o (P c) (P b) (P (L a b)))
  · by_cases k2 : 0 < (ge_o (P c) (P a) (P (L a b)))
    · exact tt_N h e2 g6 ⟨by omega, k1, by omega, by omega⟩
    · exact hin (by omega) (by omega)
  · by_cases k2 : 0 < (ge_o (P a) (P c) (P (L a b)))
    · by_cases k3 : 0 < (ge_o (P b) (P c) (P (L a b)))
      · exact tt_N h e3 g2 ⟨by omega, k2, by omega, by omega⟩
      · exact hin (by omega) (by omega)
    · -- inside or on a side
      have := hn _ vz
      by_cases k3 : 0 < (ge_o (P b) (P c) (P (L a b)))
      · have k4 : (ge_o (P c) (P a) (P (L a b))) = 0 := by
          rcases Int.lt_or_le 0 ((ge_o (P c) (P a) (P (L a b)))) with z | z
          · exact absurd ⟨fo, k3, z⟩ this
          · omega
        refine tt_F h e3 vz (ge_Bi (u := P b) (v := P c) k4 ?_ ?_)
        · rw [ge_spp]; exact k3
        · have A := ge_aff (P b) (P c) (P a) (P (L a b))
          have s1 := ge_rot2 (P b) (P c) (P (L a b))
          have s2 := ge_rot2 (P c) (P a) (P (L a b))
          have s3 := ge_rot2 (P a) (P b) (P (L a b))
          omega
      · have k4 : (ge_o (P b) (P c) (P (L a b))) = 0 := by omega
        have A := ge_aff (P a) (P b) (P c) (P (L a b))
        have s1 := ge_rot2 (P b) (P c) (P (L a b))
        have s2 := ge_rot2 (P c) (P a) (P (L a b))
        have s3 := ge_rot2 (P a) (P b) (P (L a b))
        by_cases k5 : (ge_o (P c) (P a) (P (L a b))) = 0
        · -- then it is c itself
          have e1 : (ge_o (P a) (P b) (P c)) * ((P (L a b)).1 - (P c).1) = 0 := by
            unfold ge_o at k4 k5 ⊢; grind
          have e2 : (ge_o (P a) (P b) (P c)) * ((P (L a b)).2 - (P c).2) = 0 := by
            unfold ge_o at k4 k5 ⊢; grind
          have f1 := sg_eq0 o e1
          have f2 := sg_eq0 o e2
          exact hcc (tp_inj hp vz vc (Prod.ext (by omega) (by omega)))
        · have k6 : 0 < (ge_o (P c) (P a) (P (L a b))) := by omega
          refine tt_F h e2 vz (ge_Bi (u := P a) (v := P b) k4 ?_ ?_)
          · rw [ge_spp]; exact fo
          · omega
/-- two meshes of one configuration have the same edges -/
theorem uq_1 (hp : tr_pt m V P) (hS : tr_sg V P S) {L' : Nat → Nat → Nat} (h : tr_T V P S L) (hl : tr_LD H P S L) (h' : tr_T V P S L') (hl' : tr_LD H P S L')
    (hg : tr_gen H V P) {a b : Nat} (e : L a b ≤ 16) : L' a b ≤ 16 := by
  refine Classical.byContradiction fun hn => ?_
  have hs := se_E hp hS h e
  obtain ⟨u, v, euv, hX⟩ := ms_1 hp h' hs hn
  have k1 := cl_1 hp h' hl' hs euv hX
  have k2 := cl_2 hp h hl (se_E hp hS h' euv) e hX
  have nb : b ≠ u ∧ b ≠ v ∧ b ≠ a := by
    obtain ⟨x1, x2, x3, x4⟩ := hX
    refine ⟨?_, ?_, ?_⟩
    · rintro rfl; rw [ge_spp] at x2; omega
    · rintro rfl; rw [ge_psp] at x2; omega
    · exact hs.2.2.1.symm
  exact hg u v a b (tt_va h' euv) (tt_vb h' euv) hs.1 hs.2.1 nb.1 nb.2.1 nb.2.2 hX.1 (by omega)
/-- and the same faces -/
theorem uq_f (hp : tr_pt m V P) {L' : Nat → Nat → Nat} (h : tr_T V P S L) {S' : List (Nat × Nat)} (h' : tr_T V P S' L') (hE : ∀ a b, L a b ≤ 16 → L' a b ≤ 16)
    {a b : Nat} (e : L a b ≤ 16) : L' a b = L a b := by
  rcases Nat.lt_or_ge (L a b) 16 with c | c
  · obtain ⟨va, vb, vz, w1, w2, fo, g1, g2, g3, g4, g5, g6⟩ := tt_face hp h (a := a) (b := b) rfl c
    refine fc_1 hp h' (hE _ _ g1) (hE _ _ g2) (hE _ _ g3) fo (fun k vk hk => ?_)
    rcases tt_E h (a := a) (b := b) rfl c vk ⟨Int.le_of_lt hk.1, Int.le_of_lt hk.2.1, Int.le_of_lt hk.2.2⟩ with j | j | j
    · rw [j] at hk; rw [ge_psp] at hk; omega
    · rw [j] at hk; rw [ge_spp] at hk; omega
    · rw [j] at hk; have := hk.2.1; rw [ge_spp] at this; omega
  · have c' : L a b = 16 := by omega
    rw [c']
    exact (tt_out h' a b).mpr ((tt_out h a b).mp c')
end
end
section
/-! a place strictly inside a face, or on an edge -/
/-- e in the closed triangle t a b, t in a b c: e in a b c -/
theorem ge_sub {a b c t e : Int × Int} (ta : 0 < ge_o a b t) (tb : 0 ≤ ge_o b c t) (tc : 0 ≤ ge_o c a t) (h : 0 < ge_o a b c) (he : ge_T t a b e) : ge_T a b c e := by
  obtain ⟨h1, h2, h3⟩ := he
  have I1 : ge_o a b t * ge_o b c e = ge_o a b e * ge_o b c t + ge_o b t e * ge_o a b c := by unfold ge_o; grind
  have I2 : ge_o a b t * ge_o c a e = ge_o a b e * ge_o c a t + ge_o t a e * ge_o a b c := by unfold ge_o; grind
  exact ⟨h2, sg_w I1 ta h2 tb h3 (Int.le_of_lt h), sg_w I2 ta h2 tc h1 (Int.le_of_lt h)⟩
theorem ge_tri0 (a b c t v : Int × Int) : ge_o b c t * ge_o t a v + ge_o c a t * ge_o t b v + ge_o a b t * ge_o t c v = 0 := by
  unfold ge_o; grind
/-- a place seen from t inside a b c lies in some sector -/
theorem ge_sec {a b c t v : Int × Int} (ta : 0 < ge_o a b t) (tb : 0 < ge_o b c t) (tc : 0 < ge_o c a t) (hv : t ≠ v) :
    (0 < ge_o t a v ∧ ge_o t b v ≤ 0) ∨ (0 < ge_o t b v ∧ ge_o t c v ≤ 0) ∨ (0 < ge_o t c v ∧ ge_o t a v ≤ 0) := by
  have I := ge_tri0 a b c t v
  by_cases h1 : 0 < ge_o t a v
  · by_cases h2 : 0 < ge_o t b v
    · by_cases h3 : 0 < ge_o t c v
      · exact (sg_z I tb h1 (Int.le_of_lt tc) (Int.le_of_lt h2) (Int.le_of_lt ta) (Int.le_of_lt h3)).elim
      · exact Or.inr (Or.inl ⟨h2, by omega⟩)
    · exact Or.inl ⟨h1, by omega⟩
  · by_cases h3 : 0 < ge_o t c v
    · exact Or.inr (Or.inr ⟨h3, by omega⟩)
    · by_cases h2 : 0 < ge_o t b v
      · exact Or.inr (Or.inl ⟨h2, by omega⟩)
      · exfalso
        have k1 := sg_ww (Int.le_of_lt tb) (show 0 ≤ - ge_o t a v by omega)
        have k2 := sg_ww (Int.le_of_lt tc) (show 0 ≤ - ge_o t b v by omega)
        have k3 := sg_ww (Int.le_of_lt ta) (show 0 ≤ - ge_o t c v by omega)
        rw [Int.mul_neg] at k1 k2 k3
        have z1 := sg_eq0 tb (show ge_o b c t * ge_o t a v = 0 by omega)
        have z2 := sg_eq0 tc (show ge_o c a t * ge_o t b v = 0 by omega)
        have e1 : ge_o a b t * (v.1 - t.1) = 0 := by unfold ge_o at z1 z2 ⊢; grind
        have e2 : ge_o a b t * (v.2 - t.2) = 0 := by unfold ge_o at z1 z2 ⊢; grind
        have f1 := sg_eq0 ta e1
        have f2 := sg_eq0 ta e2
        exact hv (Prod.ext (by omega) (by omega))
section
variable {m : Int} {V : Nat → Prop} {P : Nat → Int × Int} {S : List (Nat × Nat)} {L : Nat → Nat → Nat} {H : Nat → Int}
/-- an edge through t strictly inside a face ends at its corners -/
theorem pf_s (hp : tr_pt m V P) (h : tr_T V P S L) {a b c : Nat} (e : L a b = c) (hc : c < 16) {t : Int × Int} (ta : 0 < (ge_o (P a) (P b) t)) (tb : 0 < (ge_o (P b) (P c) t)) (tc : 0 < (ge_o (P c) (P a) t))
    {u v : Nat} (euv : L u v ≤ 16) (hB : ge_B t (P u) (P v)) (s1 : 0 < (ge_o t (P a) (P v))) (s2 : (ge_o t (P b) (P v)) ≤ 0) : v = a ∨ v = b ∨ v = c := by
  obtain ⟨va, vb, vc, w1, w2, fo, g1, g2, g3, g4, g5, g6⟩ := tt_face hp h e hc
  have vv := tt_vb h euv
  obtain ⟨l, n, l0, n0, hl⟩ := ge_Bo hB
  have r1 := ge_rot2 (P a) (P b) t
  have sb := ge_sw t (P b) (P v)
  rcases Int.lt_or_le ((ge_o t (P b) (P v))) 0 with c1 | c1
  · rcases Int.lt_or_le ((ge_o (P a) (P b) (P v))) 0 with c2 | c2
    · exfalso
      have k1 := hl (P a) (P b)
      have k2 := hl (P v) (P b)
      have k3 := hl (P v) (P a)
      rw [ge_psp] at k2 k3
      have r2 := ge_rot (P v) (P b) t
      have r3 := ge_rot2 (P v) (P b) t
      have q1 : 0 < l * (ge_o (P a) (P b) (P u)) := by
        have := sg_pp (show 0 < l + n by omega) ta
        have := sg_pp n0 (show 0 < - (ge_o (P a) (P b) (P v)) by omega)
        rw [Int.mul_neg] at this; omega
      have q2 : 0 < l * (ge_o (P v) (P b) (P u)) := by
        have := sg_pp (show 0 < l + n by omega) (show 0 < (ge_o (P v) (P b) t) by have := ge_rot (P v) (P b) t; have := ge_rot2 t (P b) (P v); have := ge_sw2 t (P b) (P v); have := ge_sw3 t (P b) (P v); omega)
        omega
      have q3 : l * (ge_o (P v) (P a) (P u)) < 0 := by
        have := sg_pp (show 0 < l + n by omega) (show 0 < - (ge_o (P v) (P a) t) by have := ge_sw3 t (P a) (P v); omega)
        rw [Int.mul_neg] at this
        omega
      have p1 := sg_inv l0 q1
      have p2 := sg_inv l0 q2
      have p3 := sg_inv (B := - (ge_o (P v) (P a) (P u))) l0 (by rw [Int.mul_neg]; omega)
      have x1 := ge_sw (P a) (P b) (P v)
      have x2 := ge_rot2 (P v) (P b) (P u)
      have x3 := ge_sw2 (P v) (P a) (P u)
      have x4 := ge_rot (P u) (P v) (P b)
      exact tt_N h g1 euv ⟨p1, by omega, by omega, by omega⟩
    · exact tt_E h e hc vv (ge_sub ta (Int.le_of_lt tb) (Int.le_of_lt tc) fo ⟨Int.le_of_lt s1, c2, by omega⟩)
  · have z : (ge_o t (P b) (P v)) = 0 := by omega
    have s3 : 0 < (ge_o t (P a) (P b)) := by have := ge_rot2 (P a) (P b) t; omega
    rcases Int.lt_or_le ((ge_o t (P a) (P b))) ((ge_o t (P a) (P v))) with c2 | c2
    · exfalso
      have k1 := hl t (P a)
      rw [ge_psp] at k1
      have k2 : (ge_o t (P a) (P u)) < 0 := by
        have := sg_pp n0 s1
        have := sg_inv (B := - (ge_o t (P a) (P u))) l0 (by rw [Int.mul_neg]; omega)
        omega
      have k3 := hl (P v) (P b)
      rw [ge_psp] at k3
      have y1 := ge_sw3 t (P b) (P v)
      have y2 : (ge_o (P v) (P b) t) = 0 := by omega
      rw [y2] at k3
      have y3 := sg_eq0 l0 (show l * (ge_o (P v) (P b) (P u)) = 0 by omega)
      have y4 := ge_rot (P u) (P v) (P b)
      exact tt_F h euv vb (ge_Bi (u := t) (v := P a) (by omega) (by omega) c2)
    · refine tt_E h e hc vv ?_
      have I0 : ∀ x y : Int × Int, ge_o t (P a) (P b) * ge_o x y (P v) = (ge_o t (P a) (P b) - ge_o t (P a) (P v)) * ge_o x y t + ge_o t (P a) (P v) * ge_o x y (P b) := by
        intro x y
        have z' := z
        unfold ge_o at z' ⊢; grind
      refine ⟨sg_w (I0 _ _) s3 (by omega) (Int.le_of_lt ta) (Int.le_of_lt s1) (by rw [ge_spp]; omega), sg_w (I0 _ _) s3 (by omega) (Int.le_of_lt tb) (Int.le_of_lt s1) (by rw [ge_psp]; omega), sg_w (I0 _ _) s3 (by omega) (Int.le_of_lt tc) (Int.le_of_lt s1) (by have := ge_rot2 (P a) (P b) (P c); omega)⟩
theorem pf_0 (hp : tr_pt m V P) (h : tr_T V P S L) {a b c : Nat} (e : L a b = c) (hc : c < 16) {t : Int × Int} (ta : 0 < (ge_o (P a) (P b) t)) (tb : 0 < (ge_o (P b) (P c) t)) (tc : 0 < (ge_o (P c) (P a) t))
    {u v : Nat} (euv : L u v ≤ 16) (hB : ge_B t (P u) (P v)) : v = a ∨ v = b ∨ v = c := by
  obtain ⟨va, vb, vc, w1, w2, fo, g1, g2, g3, g4, g5, g6⟩ := tt_face hp h e hc
  rcases ge_sec ta tb tc (ge_Bne hB).2.1 with k | k | k
  · exact pf_s hp h e hc ta tb tc euv hB k.1 k.2
  · have := pf_s hp h w1 (tp_16 hp va) tb tc ta euv hB k.1 k.2; omega
  · have := pf_s hp h w2 (tp_16 hp vb) tc ta tb euv hB k.1 k.2; omega
/-- no edge goes through the inside of a face -/
theorem pf_1 (hp : tr_pt m V P) (h : tr_T V P S L) {a b c : Nat} (e : L a b = c) (hc : c < 16) {t : Int × Int} (ta : 0 < (ge_o (P a) (P b) t)) (tb : 0 < (ge_o (P b) (P c) t)) (tc : 0 < (ge_o (P c) (P a) t))
    {u v : Nat} (euv : L u v ≤ 16) : ¬ ge_B t (P u) (P v) := by
  intro hB
  have hv := pf_0 hp h e hc ta tb tc euv hB
  have hu := pf_0 hp h e hc ta tb tc (tt_sy h euv) (ge_B1 hB)
  have ne := tt_ne h euv
  have z := hB.1
  have y1 := ge_sw (P a) (P b) t
  have y2 := ge_sw (P b) (P c) t
  have y3 := ge_sw (P c) (P a) t
  rcases hv with rfl | rfl | rfl <;> rcases hu with rfl | rfl | rfl <;> first | exact absurd rfl ne | omega
/-- no edge crosses the way from t inside a face to a corner -/
theorem pf_3 (hp : tr_pt m V P) (h : tr_T V P S L) {a b c : Nat} (e : L a b = c) (hc : c < 16) {t : Int × Int} (ta : 0 < (ge_o (P a) (P b) t)) (tb : 0 < (ge_o (P b) (P c) t)) (tc : 0 < (ge_o (P c) (P a) t))
    {u v : Nat} (euv : L u v ≤ 16) : ¬ ge_X t (P a) (P u) (P v) := by
  intro hX
  obtain ⟨va, vb, vc, w1, w2, fo, g1, g2, g3, g4, g5, g6⟩ := tt_face hp h e hc
  have evu := tt_sy h euv
  have vu := tt_va h euv
  have vv := tt_vb h euv
  have fo2 : 0 < (ge_o (P b) (P c) (P a)) := by have := ge_rot (P a) (P b) (P c); omega
  have fo3 : 0 < (ge_o (P c) (P a) (P b)) := by have := ge_rot2 (P a) (P b) (P c); omega
  have q1 : 0 < (ge_o t (P a) (P b)) := by have := ge_rot2 (P a) (P b) t; omega
  have q2 : 0 < (ge_o t (P b) (P c)) := by have := ge_rot2 (P b) (P c) t; omega
  have q3 : 0 < (ge_o t (P c) (P a)) := by have := ge_rot2 (P c) (P a) t; omega
  have nua : u ≠ a := by rintro rfl; have := hX.1; rw [ge_spp] at this; omega
  have nva : v ≠ a := by rintro rfl; have := hX.2.1; rw [ge_psp] at this; omega
  have I1 := ge_tri0 (P a) (P b) (P c) t (P u)
  have I2 := ge_tri0 (P a) (P b) (P c) t (P v)
  have hu : u = a ∨ u = b ∨ u = c := by
    rcases ge_exit q1 hX with k | k | k | k
    · exact tt_E h e hc vu (ge_sub ta (Int.le_of_lt tb) (Int.le_of_lt tc) fo k)
    · exact absurd k (tt_N h g1 evu)
    · rcases ge_exit q2 (ge_X1 k) with j | j | j | j
      · have := tt_E h w1 (tp_16 hp va) vu (ge_sub tb (Int.le_of_lt tc) (Int.le_of_lt ta) fo2 j); omega
      · exact absurd j (tt_N h g2 evu)
      · exact (sg_z I1 tb hX.1 (Int.le_of_lt tc) (Int.le_of_lt k.2.1) (Int.le_of_lt ta) (Int.le_of_lt j.2.1)).elim
      · exact absurd j (tt_F h evu vc)
    · exact absurd k (tt_F h evu vb)
  have hv : v = a ∨ v = b ∨ v = c := by
    rcases ge_exit (x := P a) (y := t) (z := P c) (by have := ge_rot t (P c) (P a); have := ge_rot2 t (P c) (P a); omega) (ge_X1 hX) with k | k | k | k
    · have := tt_E h w2 (tp_16 hp vb) vv (ge_sub tc (Int.le_of_lt ta) (Int.le_of_lt tb) fo3 (ge_T1 k)); omega
    · rcases ge_exit (x := P c) (y := t) (z := P b) (by have := ge_rot t (P b) (P c); have := ge_rot2 t (P b) (P c); omega) (ge_X1 k) with j | j | j | j
      · have := tt_E h w1 (tp_16 hp va) vv (ge_sub tb (Int.le_of_lt tc) (Int.le_of_lt ta) fo2 (ge_T1 j)); omega
      · exfalso
        have x1 := hX.2.1
        have x2 := k.2.1
        have x3 := j.2.1
        have y1 := ge_sw t (P a) (P v)
        have y2 := ge_sw t (P b) (P v)
        have y3 := ge_sw t (P c) (P v)
        have k1 := sg_pp tb (show 0 < - ge_o t (P a) (P v) by omega)
        have k2 := sg_pp tc (show 0 < - ge_o t (P b) (P v) by omega)
        have k3 := sg_pp ta (show 0 < - ge_o t (P c) (P v) by omega)
        rw [Int.mul_neg] at k1 k2 k3
        omega
      · exact absurd j (tt_N h g2 euv)
      · exact absurd j (tt_F h euv vb)
    · exact absurd k (tt_N h g3 euv)
    · exact absurd k (tt_F h euv vc)
  have ne := tt_ne h euv
  rcases hu with rfl | rfl | rfl
  · exact nua rfl
  · rcases hv with rfl | rfl | rfl
    · exact nva rfl
    · exact ne rfl
    · have := hX.2.2.2
      have := ge_sw (P u) (P v) t
      omega
  · rcases hv with rfl | rfl | rfl
    · exact nva rfl
    · have := hX.1
      have := ge_sw2 t (P a) (P u)
      omega
    · exact ne rfl
/-- a corner of a face about t lies in every face strictly about t -/
theorem pf_c (hp : tr_pt m V P) (h : tr_T V P S L) {a b c : Nat} (e : L a b = c) (hc : c < 16) {t : Int × Int} (ta : 0 < (ge_o (P a) (P b) t)) (tb : 0 < (ge_o (P b) (P c) t)) (tc : 0 < (ge_o (P c) (P a) t))
    {u v w : Nat} (e' : L u v = w) (hw : w < 16) (tu : 0 < (ge_o (P u) (P v) t)) (tv : 0 < (ge_o (P v) (P w) t)) (tw : 0 < (ge_o (P w) (P u) t)) : a = u ∨ a = v ∨ a = w := by
  obtain ⟨va, vb, vc, w1, w2, fo, g1, g2, g3, g4, g5, g6⟩ := tt_face hp h e hc
  have gen : ∀ x y z, L x y = z → z < 16 → 0 < (ge_o (P x) (P y) t) → 0 < (ge_o (P y) (P z) t) → 0 < (ge_o (P z) (P x) t) → 0 < (ge_o t (P x) (P a)) → (ge_o t (P y) (P a)) ≤ 0 → a = x ∨ a = y ∨ a = z := by
    intro x y z exy z16 tx ty tz k1 k2
    obtain ⟨vx, vy, vz, _, _, fx, x1, _, _, x4, _, _⟩ := tt_face hp h exy z16
    have sy := ge_sw t (P y) (P a)
    rcases Int.lt_or_le ((ge_o t (P y) (P a))) 0 with c1 | c1
    · rcases Int.lt_or_le ((ge_o (P x) (P y) (P a))) 0 with c2 | c2
      · exfalso
        refine pf_3 hp h e hc ta tb tc x4 ⟨?_, ?_, ?_, ?_⟩
        · have := ge_sw2 t (P y) (P a); omega
        · have := ge_rot2 t (P x) (P a); have := ge_rot t (P x) (P a); have := ge_sw2 t (P x) (P a); have := ge_sw t (P a) (P x); omega
        · have := ge_sw (P x) (P y) (P a); omega
        · exact tx
      · exact tt_E h exy z16 va (ge_sub tx (Int.le_of_lt ty) (Int.le_of_lt tz) fx ⟨Int.le_of_lt k1, c2, by omega⟩)
    · have z0 : (ge_o t (P y) (P a)) = 0 := by omega
      have s3 : 0 < (ge_o t (P x) (P y)) := by have := ge_rot2 (P x) (P y) t; omega
      have I0 : ∀ p q : Int × Int, ge_o t (P x) (P a) * ge_o p q (P y) = (ge_o t (P x) (P a) - ge_o t (P x) (P y)) * ge_o p q t + ge_o t (P x) (P y) * ge_o p q (P a) := by
        intro p q
        have z' := z0
        unfold ge_o at z' ⊢; grind
      have J0 : ∀ p q : Int × Int, ge_o t (P x) (P y) * ge_o p q (P a) = (ge_o t (P x) (P y) - ge_o t (P x) (P a)) * ge_o p q t + ge_o t (P x) (P a) * ge_o p q (P y) := by
        intro p q
        have z' := z0
        unfold ge_o at z' ⊢; grind
      rcases Int.lt_or_le ((ge_o t (P x) (P y))) ((ge_o t (P x) (P a))) with c2 | c2
      · exfalso
        -- y strictly inside a b c
        have i1 : 0 < (ge_o (P b) (P c) (P y)) := sg_p (I0 _ _) k1 (by omega) tb (by omega) (by have := ge_rot (P a) (P b) (P c); omega)
        have i2 : 0 < (ge_o (P a) (P b) (P y)) := sg_p (I0 _ _) k1 (by omega) ta (by omega) (by rw [ge_psp]; omega)
        have i3 : 0 < (ge_o (P c) (P a) (P y)) := sg_p (I0 _ _) k1 (by omega) tc (by omega) (by rw [ge_spp]; omega)
        rcases tt_E h e hc vy ⟨Int.le_of_lt i2, Int.le_of_lt i1, Int.le_of_lt i3⟩ with j | j | j
        · rw [j, ge_psp] at i2; omega
        · rw [j, ge_spp] at i2; omega
        · rw [j, ge_spp] at i1; omega
      · refine tt_E h exy z16 va ⟨sg_w (J0 _ _) s3 (by omega) (Int.le_of_lt tx) (Int.le_of_lt k1) (by rw [ge_spp]; omega), sg_w (J0 _ _) s3 (by omega) (Int.le_of_lt ty) (Int.le_of_lt k1) (by rw [ge_psp]; omega), sg_w (J0 _ _) s3 (by omega) (Int.le_of_lt tz) (Int.le_of_lt k1) (by have := ge_rot2 (P x) (P y) (P z); omega)⟩
  obtain ⟨vu, vv, vw, x1, x2, fu, _, _, _, _, _, _⟩ := tt_face hp h e' hw
  have hne : t ≠ P a := by intro k; rw [k, ge_psp] at ta; omega
  rcases ge_sec tu tv tw hne with k | k | k
  · exact gen u v w e' hw tu tv tw k.1 k.2
  · have := gen v w u x1 (tp_16 hp vu) tv tw tu k.1 k.2; omega
  · have := gen w u v x2 (tp_16 hp vv) tw tu tv k.1 k.2; omega
/-- one face strictly about a place -/
theorem pf_2 (hp : tr_pt m V P) (h : tr_T V P S L) {a b c : Nat} (e : L a b = c) (hc : c < 16) {t : Int × Int} (ta : 0 < (ge_o (P a) (P b) t)) (tb : 0 < (ge_o (P b) (P c) t)) (tc : 0 < (ge_o (P c) (P a) t))
    {u v w : Nat} (e' : L u v = w) (hw : w < 16) (tu : 0 < (ge_o (P u) (P v) t)) (tv : 0 < (ge_o (P v) (P w) t)) (tw : 0 < (ge_o (P w) (P u) t)) :
    (u = a ∧ v = b ∧ w = c) ∨ (u = b ∧ v = c ∧ w = a) ∨ (u = c ∧ v = a ∧ w = b) := by
  obtain ⟨va, vb, vc, w1, w2, fo, g1, g2, g3, g4, g5, g6⟩ := tt_face hp h e hc
  have k1 := pf_c hp h e hc ta tb tc e' hw tu tv tw
  have k2 := pf_c hp h w1 (tp_16 hp va) tb tc ta e' hw tu tv tw
  have k3 := pf_c hp h w2 (tp_16 hp vb) tc ta tb e' hw tu tv tw
  have n1 := tt_ne h g1
  have n2 := tt_ne h g2
  have n3 := tt_ne h g3
  have y1 := ge_sw (P a) (P b) t
  have y2 := ge_sw (P b) (P c) t
  have y3 := ge_sw (P c) (P a) t
  rcases k1 with rfl | rfl | rfl <;> rcases k2 with rfl | rfl | rfl <;> rcases k3 with rfl | rfl | rfl <;> first | omega | exact absurd rfl n1 | exact absurd rfl n2 | exact absurd rfl n3
/-- two edges with a common inner place are one -/
theorem pe_1 (hp : tr_pt m V P) (h : tr_T V P S L) {a b u v : Nat} (e : L a b ≤ 16) (e' : L u v ≤ 16) {t : Int × Int} (h1 : ge_B t (P a) (P b)) (h2 : ge_B t (P u) (P v)) :
    (u = a ∧ v = b) ∨ (u = b ∧ v = a) := by
  have va := tt_va h e
  have vb := tt_vb h e
  have vu := tt_va h e'
  have vv := tt_vb h e'
  obtain ⟨l, n, l0, n0, hl⟩ := ge_Bo h1
  obtain ⟨l', n', l0', n0', hl'⟩ := ge_Bo h2
  have z1 := h1.1
  have z2 := h2.1
  have k1 := hl' (P a) (P b)
  have k2 := hl (P u) (P v)
  rw [z1] at k1
  rw [z2] at k2
  rw [Int.mul_zero] at k1 k2
  have sab := ge_sw (P a) (P b)
  have suv := ge_sw (P u) (P v)
  -- signs of u, v about ab, and a, b about uv
  have J : (l + n) * ge_o t (P u) (P v) = l * (ge_o (P a) (P u) (P v)) + n * (ge_o (P b) (P u) (P v)) := by
    have := hl (P u) (P v)
    have := ge_rot2 (P u) (P v) t
    have := ge_rot2 (P u) (P v) (P a)
    have := ge_rot2 (P u) (P v) (P b)
    grind
  rcases Int.lt_trichotomy ((ge_o (P a) (P b) (P u))) 0 with c | c | c
  · -- v left, u right
    have c2 : 0 < (ge_o (P a) (P b) (P v)) := by
      have := sg_pp l0' (show 0 < - (ge_o (P a) (P b) (P u)) by omega)
      rw [Int.mul_neg] at this
      exact sg_inv n0' (by omega)
    exfalso
    have I : (l + n) * (n' * (ge_o (P u) (P v) (P a))) = (l' + n') * (n * - (ge_o (P a) (P b) (P u))) := by
      obtain ⟨_, _, _, _, _⟩ := ge_Bw h1
      have q1 := hl' (P a) (P u)
      have q2 := hl (P a) (P u)
      rw [ge_spp] at q1
      rw [ge_psp] at q2
      have r1 := ge_rot2 (P a) (P u) (P v)
      have r1' := ge_rot (P a) (P u) (P v)
      have r2 := ge_sw2 (P a) (P b) (P u)
      rw [r1'] 
      rw [← r2]
      grind
    have I2 : (l + n) * (n' * - (ge_o (P u) (P v) (P b))) = (l' + n') * (l * - (ge_o (P a) (P b) (P u))) := by
      have q1 := hl' (P b) (P u)
      have q2 := hl (P b) (P u)
      rw [ge_spp] at q1
      rw [ge_psp] at q2
      have r1' := ge_rot (P b) (P u) (P v)
      have r2 := ge_rot (P a) (P b) (P u)
      rw [r1', ← r2]
      have r3 := ge_sw2 (P b) (P u) (P a)
      grind
    have p1 := sg_inv n0' (sg_inv (A := l + n) (by omega) (by rw [I]; exact sg_pp (by omega) (sg_pp n0 (by omega))))
    have p2 := sg_inv n0' (sg_inv (A := l + n) (by omega) (by rw [I2]; exact sg_pp (by omega) (sg_pp l0 (by omega))))
    have := sab (P u)
    have := suv (P a)
    have := suv (P b)
    exact tt_N h e (tt_sy h e') ⟨c2, by omega, by omega, by omega⟩
  · have c2 : (ge_o (P a) (P b) (P v)) = 0 := by
      rw [c] at k1
      exact sg_eq0 n0' (by omega)
    -- all on one line
    have hab := (ge_Bne h1).2.2
    have hd : ∃ s : Int × Int, ge_o (P a) s (P a) < ge_o (P a) s (P b) := by
      refine ⟨((P a).1 + ((P b).2 - (P a).2), (P a).2 - ((P b).1 - (P a).1)), ?_⟩
      have := ge_ne hab
      unfold ge_o; simp only; grind
    obtain ⟨s, hs⟩ := hd
    rw [ge_psp] at hs
    have t1 := hl (P a) s
    have t2 := hl' (P a) s
    rw [ge_psp] at t1
    have tp : 0 < ge_o (P a) s t := sg_inv (A := l + n) (by omega) (by have := sg_pp n0 hs; omega)
    have tq : 0 < ge_o (P a) s (P b) - ge_o (P a) s t := by
      refine sg_inv (A := l + n) (by omega) ?_
      have := sg_pp l0 hs
      grind
    have fa : ¬ (ge_B (P u) (P a) (P b)) := tt_F h e vu
    have fb : ¬ (ge_B (P v) (P a) (P b)) := tt_F h e vv
    have hu : ¬ (ge_o (P a) s (P a) < ge_o (P a) s (P u) ∧ ge_o (P a) s (P u) < ge_o (P a) s (P b)) := fun k => fa (ge_Bi c k.1 k.2)
    have hv : ¬ (ge_o (P a) s (P a) < ge_o (P a) s (P v) ∧ ge_o (P a) s (P v) < ge_o (P a) s (P b)) := fun k => fb (ge_Bi c2 k.1 k.2)
    rw [ge_psp] at hu hv
    have lnu : ∀ z : Nat, V z → (ge_o (P a) (P b) (P z)) = 0 → ge_o (P a) s (P z) = 0 → z = a := by
      intro z vz z1 z2
      refine tp_inj hp vz va ?_
      have e1 : ge_o (P a) s (P b) * ((P z).1 - (P a).1) = 0 := by unfold ge_o at z1 z2 ⊢; grind
      have e2 : ge_o (P a) s (P b) * ((P z).2 - (P a).2) = 0 := by unfold ge_o at z1 z2 ⊢; grind
      have f1 := sg_eq0 hs e1
      have f2 := sg_eq0 hs e2
      exact Prod.ext (by omega) (by omega)
    have lnv : ∀ z : Nat, V z → (ge_o (P a) (P b) (P z)) = 0 → ge_o (P a) s (P z) = ge_o (P a) s (P b) → z = b := by
      intro z vz z1 z2
      refine tp_inj hp vz vb ?_
      have e1 : ge_o (P a) s (P b) * ((P z).1 - (P b).1) = 0 := by unfold ge_o at z1 z2 ⊢; grind
      have e2 : ge_o (P a) s (P b) * ((P z).2 - (P b).2) = 0 := by unfold ge_o at z1 z2 ⊢; grind
      have f1 := sg_eq0 hs e1
      have f2 := sg_eq0 hs e2
      exact Prod.ext (by omega) (by omega)
    have cuv : ∀ z : Nat, (ge_o (P a) (P b) (P z)) = 0 → (ge_o (P u) (P v) (P z)) = 0 := by
      intro z z1
      have I : ge_o (P a) s (P b) * (ge_o (P u) (P v) (P z)) = 0 := by
        unfold ge_o at c c2 z1 ⊢; grind
      exact sg_eq0 hs I
    have fua : ¬ (ge_B (P a) (P u) (P v)) := tt_F h e' va
    have fub : ¬ (ge_B (P b) (P u) (P v)) := tt_F h e' vb
    have za := cuv a (by rw [ge_psp])
    have zb := cuv b (by rw [ge_spp])
    rcases Int.lt_or_le (ge_o (P a) s t) (ge_o (P a) s (P u)) with d | d
    · -- u beyond t: u at or beyond b, v at or before a
      have d2 : ge_o (P a) s (P v) < ge_o (P a) s t := by
        have := sg_pp l0' (show 0 < ge_o (P a) s (P u) - ge_o (P a) s t by omega)
        have := sg_inv (A := n') (B := ge_o (P a) s t - ge_o (P a) s (P v)) n0' (by grind)
        omega
      right
      have hub : ge_o (P a) s (P b) ≤ ge_o (P a) s (P u) := by omega
      have hva : ge_o (P a) s (P v) ≤ 0 := by omega
      constructor
      · refine lnv u vu c ?_
        rcases Int.lt_or_le (ge_o (P a) s (P b)) (ge_o (P a) s (P u)) with g | g
        · exact absurd (ge_B1 (ge_Bi (z := P b) (f := P v) (e := P u) (u := P a) (v := s) (by have := ge_sw (P u) (P v) (P b); omega) (by omega) g)) fub
        · omega
      · refine lnu v vv c2 ?_
        rcases Int.lt_or_le (ge_o (P a) s (P v)) 0 with g | g
        · exact absurd (ge_B1 (ge_Bi (z := P a) (f := P v) (e := P u) (u := P a) (v := s) (by have := ge_sw (P u) (P v) (P a); omega) (by rw [ge_psp]; omega) (by rw [ge_psp]; omega))) fua
        · omega
    · have hne := (ge_Bne h2).1
      have d' : ge_o (P a) s (P u) < ge_o (P a) s t := by
        rcases Int.lt_or_le (ge_o (P a) s (P u)) (ge_o (P a) s t) with g | g
        · exact g
        · exfalso
          have eq : ge_o (P a) s (P u) = ge_o (P a) s t := by omega
          have zt := z1
          have e1 : ge_o (P a) s (P b) * ((P u).1 - t.1) = 0 := by unfold ge_o at c zt eq ⊢; grind
          have e2 : ge_o (P a) s (P b) * ((P u).2 - t.2) = 0 := by unfold ge_o at c zt eq ⊢; grind
          have f1 := sg_eq0 hs e1
          have f2 := sg_eq0 hs e2
          exact hne (Prod.ext (by omega) (by omega))
      have d2 : ge_o (P a) s t < ge_o (P a) s (P v) := by
        have := sg_pp l0' (show 0 < ge_o (P a) s t - ge_o (P a) s (P u) by omega)
        have := sg_inv (A := n') (B := ge_o (P a) s (P v) - ge_o (P a) s t) n0' (by grind)
        omega
      left
      have hub : ge_o (P a) s (P b) ≤ ge_o (P a) s (P v) := by omega
      have hva : ge_o (P a) s (P u) ≤ 0 := by omega
      constructor
      · refine lnu u vu c ?_
        rcases Int.lt_or_le (ge_o (P a) s (P u)) 0 with g | g
        · exact absurd (ge_Bi (z := P a) (f := P u) (e := P v) (u := P a) (v := s) za (by rw [ge_psp]; omega) (by rw [ge_psp]; omega)) fua
        · omega
      · refine lnv v vv c2 ?_
        rcases Int.lt_or_le (ge_o (P a) s (P b)) (ge_o (P a) s (P v)) with g | g
        · exact absurd (ge_Bi (z := P b) (f := P u) (e := P v) (u := P a) (v := s) zb (by omega) g) fub
        · omega
  · have c2 : (ge_o (P a) (P b) (P v)) < 0 := by
      have := sg_pp l0' c
      have := sg_inv (B := - (ge_o (P a) (P b) (P v))) n0' (by rw [Int.mul_neg]; omega)
      omega
    exfalso
    have I : (l + n) * (n' * - (ge_o (P u) (P v) (P a))) = (l' + n') * (n * (ge_o (P a) (P b) (P u))) := by
      have q1 := hl' (P a) (P u)
      have q2 := hl (P a) (P u)
      rw [ge_spp] at q1
      rw [ge_psp] at q2
      have r1' := ge_rot (P a) (P u) (P v)
      have r2 := ge_sw2 (P a) (P u) (P b)
      rw [r1', r2]
      grind
    have I2 : (l + n) * (n' * (ge_o (P u) (P v) (P b))) = (l' + n') * (l * (ge_o (P a) (P b) (P u))) := by
      have q1 := hl' (P b) (P u)
      have q2 := hl (P b) (P u)
      rw [ge_spp] at q1
      rw [ge_psp] at q2
      have r1' := ge_rot (P b) (P u) (P v)
      have r2 := ge_rot (P a) (P b) (P u)
      rw [r1', ← r2]
      have r3 := ge_sw2 (P b) (P u) (P a)
      grind
    have p1 := sg_inv n0' (sg_inv (A := l + n) (by omega) (by rw [I]; exact sg_pp (by omega) (sg_pp n0 (by omega))))
    have p2 := sg_inv n0' (sg_inv (A := l + n) (by omega) (by rw [I2]; exact sg_pp (by omega) (sg_pp l0 (by omega))))
    have := sab (P v)
    have := suv (P a)
    have := suv (P b)
    exact tt_N h e e' ⟨c, by omega, by omega, by omega⟩
end
end
section
section
variable {m : Int} {V : Nat → Prop} {P : Nat → Int × Int} {S : List (Nat × Nat)} {L : Nat → Nat → Nat} {H : Nat → Int}
/-- a face that holds an inner place of an edge has that edge as a side -/
theorem pe_2 (hp : tr_pt m V P) (h : tr_T V P S L) {a b : Nat} (e : L a b ≤ 16) {t : Int × Int} (hB : ge_B t (P a) (P b)) {u v w : Nat} (e' : L u v = w) (hw : w < 16)
    (hT : ge_T (P u) (P v) (P w) t) : (a = u ∨ a = v ∨ a = w) ∧ (b = u ∨ b = v ∨ b = w) := by
  obtain ⟨vu, vv, vw, x1, x2, fu, g1, g2, g3, g4, g5, g6⟩ := tt_face hp h e' hw
  have side : ∀ x y z, L x y = z → L x y ≤ 16 → z < 16 → V y → V x → 0 < (ge_o (P x) (P y) (P z)) → (ge_o (P x) (P y) t) = 0 → 0 ≤ (ge_o (P y) (P z) t) → 0 ≤ (ge_o (P z) (P x) t) → (x = a ∧ y = b) ∨ (x = b ∧ y = a) := by
    intro x y z exy e2 z16 vy vx fo z0 k1 k2
    have A := ge_aff (P x) (P y) (P z) t
    have r1 := ge_rot2 (P x) (P y) t
    have r2 := ge_rot2 (P y) (P z) t
    have r3 := ge_rot2 (P z) (P x) t
    have at_ : ∀ k : Nat, V k → t ≠ P k := fun k vk ek => tt_F h e vk (by rw [← ek]; exact hB)
    have loc : ∀ k : Nat, V k → ((ge_o (P x) (P y) t) = (ge_o (P x) (P y) (P k)) → (ge_o (P y) (P z) t) = (ge_o (P y) (P z) (P k)) → False) := by
      intro k vk q1 q2
      have e1 : (ge_o (P x) (P y) (P z)) * (t.1 - (P k).1) = 0 := by unfold ge_o at q1 q2 ⊢; grind
      have e2 : (ge_o (P x) (P y) (P z)) * (t.2 - (P k).2) = 0 := by unfold ge_o at q1 q2 ⊢; grind
      have f1 := sg_eq0 fo e1
      have f2 := sg_eq0 fo e2
      exact at_ k vk (Prod.ext (by omega) (by omega))
    have rxyz := ge_rot (P x) (P y) (P z)
    have n1 : (ge_o (P y) (P z) t) ≠ 0 := fun q => loc y vy (by rw [ge_spp]; exact z0) (by rw [ge_psp]; exact q)
    have n2 : (ge_o (P z) (P x) t) ≠ 0 := fun q => loc x vx (by rw [ge_psp]; exact z0) (by omega)
    have : ge_B t (P y) (P x) := ge_Bi (u := P y) (v := P z) (by have := ge_sw (P x) (P y) t; omega) (by rw [ge_psp]; omega) (by omega)
    exact pe_1 hp h e e2 hB (ge_B1 this)
  rcases Int.lt_or_le 0 ((ge_o (P u) (P v) t)) with c1 | c1
  · rcases Int.lt_or_le 0 ((ge_o (P v) (P w) t)) with c2 | c2
    · rcases Int.lt_or_le 0 ((ge_o (P w) (P u) t)) with c3 | c3
      · exact absurd hB (pf_1 hp h e' hw c1 c2 c3 e)
      · have := side w u v x2 g3 (tp_16 hp vv) vu vw (by have := ge_rot2 (P u) (P v) (P w); omega) (by have := hT.2.2; omega) hT.1 hT.2.1
        omega
    · have := side v w u x1 g2 (tp_16 hp vu) vw vv (by have := ge_rot (P u) (P v) (P w); omega) (by have := hT.2.1; omega) hT.2.2 hT.1
      omega
  · have := side u v w e' g1 hw vv vu fu (by have := hT.1; omega) hT.2.1 hT.2.2
    omega
/-! scaling -/
def sc_P (W : Int) (P : Nat → Int × Int) : Nat → Int × Int := fun k => (W * (P k).1, W * (P k).2)
theorem sc_o (W : Int) (a b c : Nat) : ge_o (sc_P W P a) (sc_P W P b) (sc_P W P c) = W * W * (ge_o (P a) (P b) (P c)) := by
  unfold ge_o sc_P; simp only; grind
theorem sc_d (W : Int) (a b c : Nat) : ge_d (sc_P W P a) (sc_P W P b) (sc_P W P c) = W * W * ge_d (P a) (P b) (P c) := by
  unfold ge_d sc_P; simp only; grind
theorem sc_pos {W x : Int} (h : 0 < W) : 0 < W * W * x ↔ 0 < x := ⟨fun g => sg_inv (sg_pp h h) g, fun g => sg_pp (sg_pp h h) g⟩
theorem sc_nn {W x : Int} (h : 0 < W) : 0 ≤ W * W * x ↔ 0 ≤ x := ⟨fun g => sg_invw (sg_pp h h) g, fun g => sg_ww (Int.le_of_lt (sg_pp h h)) g⟩
theorem sc_ng {W x : Int} (h : 0 < W) : W * W * x < 0 ↔ x < 0 := by
  have := sc_nn (x := x) h; omega
theorem sc_np {W x : Int} (h : 0 < W) : W * W * x ≤ 0 ↔ x ≤ 0 := by
  have := sc_pos (x := x) h; omega
theorem sc_z {W x : Int} (h : 0 < W) : W * W * x = 0 ↔ x = 0 := by
  have := sc_np (x := x) h; have := sc_nn (x := x) h; omega
theorem sc_B {W : Int} (h : 0 < W) (k a b : Nat) : ge_B (sc_P W P k) (sc_P W P a) (sc_P W P b) ↔ (ge_B (P k) (P a) (P b)) := by
  unfold ge_B; rw [sc_o, sc_d, sc_z h, sc_ng h]
theorem sc_C {W : Int} (h : 0 < W) (k a b : Nat) : ge_C (sc_P W P k) (sc_P W P a) (sc_P W P b) ↔ (ge_C (P k) (P a) (P b)) := by
  unfold ge_C; rw [sc_o, sc_d, sc_z h, sc_np h]
theorem sc_X {W : Int} (h : 0 < W) (a b c d : Nat) : ge_X (sc_P W P a) (sc_P W P b) (sc_P W P c) (sc_P W P d) ↔ (ge_X (P a) (P b) (P c) (P d)) := by
  unfold ge_X; rw [sc_o, sc_o, sc_o, sc_o, sc_pos h, sc_pos h, sc_pos h, sc_pos h]
theorem sc_T {W : Int} (h : 0 < W) (a b c d : Nat) : ge_T (sc_P W P a) (sc_P W P b) (sc_P W P c) (sc_P W P d) ↔ (ge_T (P a) (P b) (P c) (P d)) := by
  unfold ge_T; rw [sc_o, sc_o, sc_o, sc_nn h, sc_nn h, sc_nn h]
theorem sc_inj {W : Int} (h : 0 < W) {x y : Int} (e : W * x = W * y) : x = y := by
  have : W * (x - y) = 0 := by rw [Int.mul_sub]; omega
  have := sg_eq0 h this
  omega
theorem sc_pt {W : Int} (h : 0 < W) (hp : tr_pt m V P) : tr_pt (W * m) V (sc_P W P) := by
  refine ⟨sg_pp h (tp_m hp), ?_, ?_, ?_, ?_, fun k hk => tp_c hp hk, fun k hk => tp_16 hp hk, fun k vk h4 => ?_, fun a b va vb e => ?_⟩
  · unfold sc_P; rw [tp_0 hp]; simp
  · unfold sc_P; rw [tp_1 hp]; simp
  · unfold sc_P; rw [tp_2 hp]
  · unfold sc_P; rw [tp_3 hp]; simp
  · obtain ⟨h1, h2, h3, h4⟩ := tp_in hp vk h4
    unfold sc_P; simp only
    exact ⟨sg_pp h h1, Int.mul_lt_mul_of_pos_left h2 h, sg_pp h h3, Int.mul_lt_mul_of_pos_left h4 h⟩
  · unfold sc_P at e
    have e1 := congrArg Prod.fst e
    have e2 := congrArg Prod.snd e
    exact tp_inj hp va vb (Prod.ext (sc_inj h e1) (sc_inj h e2))
theorem sc_tr {W : Int} (hW : 0 < W) (h : tr_T V P S L) : tr_T V (sc_P W P) S L := by
  refine ⟨h.1, fun a b c e hc => ⟨tt_f2 h e hc, tt_f3 h e hc, by rw [sc_o, sc_pos hW]; exact tt_fo h e hc⟩, h.2.2.1, fun a b k e v => by rw [sc_B hW]; exact tt_F h e v,
    fun a b c d e e' => by rw [sc_X hW]; exact tt_N h e e', fun a b c k e hc v t => by rw [sc_T hW] at t; exact tt_E h e hc v t, fun a v => tt_deg h v, ?_⟩
  intro s hs p q vp vq ne cp cq hb
  rw [sc_C hW] at cp cq
  exact tt_C h hs vp vq ne cp cq (fun k vk => by have := hb k vk; rw [sc_B hW] at this; exact this)
/-- the same for a weighted place of an edge -/
theorem px_1 (hp : tr_pt m V P) (h : tr_T V P S L) {a b : Nat} (e : L a b ≤ 16) {l n : Int} (hl : 0 < l) (hn : 0 < n) {u v w : Nat} (e' : L u v = w) (hw : w < 16)
    (h1 : 0 ≤ l * (ge_o (P u) (P v) (P a)) + n * (ge_o (P u) (P v) (P b))) (h2 : 0 ≤ l * (ge_o (P v) (P w) (P a)) + n * (ge_o (P v) (P w) (P b))) (h3 : 0 ≤ l * (ge_o (P w) (P u) (P a)) + n * (ge_o (P w) (P u) (P b))) :
    (a = u ∨ a = v ∨ a = w) ∧ (b = u ∨ b = v ∨ b = w) := by
  have W0 : 0 < l + n := by omega
  have hne : P a ≠ P b := fun k => tt_ne h e (tp_inj hp (tt_va h e) (tt_vb h e) k)
  have key : ∀ x y : Nat, ge_o (sc_P (l + n) P x) (sc_P (l + n) P y) (l * (P a).1 + n * (P b).1, l * (P a).2 + n * (P b).2) = (l + n) * (l * (ge_o (P x) (P y) (P a)) + n * (ge_o (P x) (P y) (P b))) := by
    intro x y; unfold ge_o sc_P; simp only; grind
  refine pe_2 (sc_pt W0 hp) (sc_tr W0 h) e (t := (l * (P a).1 + n * (P b).1, l * (P a).2 + n * (P b).2)) ⟨?_, ?_⟩ e' hw ⟨?_, ?_, ?_⟩
  · rw [key, ge_psp, ge_spp, Int.mul_zero, Int.mul_zero]; simp
  · have g := ge_ne hne
    have := sg_pp (sg_pp hl hn) g
    have e : ge_d (sc_P (l + n) P a) (sc_P (l + n) P b) (l * (P a).1 + n * (P b).1, l * (P a).2 + n * (P b).2) = - (l * n * (((P b).1 - (P a).1) * ((P b).1 - (P a).1) + ((P b).2 - (P a).2) * ((P b).2 - (P a).2))) := by
      unfold ge_d sc_P; simp only; grind
    omega
  · rw [key]; exact sg_ww (Int.le_of_lt W0) h1
  · rw [key]; exact sg_ww (Int.le_of_lt W0) h2
  · rw [key]; exact sg_ww (Int.le_of_lt W0) h3
/-! the flip -/
def fl_L (L : Nat → Nat → Nat) (a b c d : Nat) : Nat → Nat → Nat := fun x y =>
  if x = a ∧ y = b then 17 else if x = b ∧ y = a then 17 else
  if x = a ∧ y = d then c else if x = d ∧ y = c then a else if x = c ∧ y = a then d else
  if x = d ∧ y = b then c else if x = b ∧ y = c then d else if x = c ∧ y = d then b else L x y
/-- the facts about the four corners -/
theorem fl_q (hp : tr_pt m V P) (h : tr_T V P S L) {a b c d : Nat} (e : L a b = c) (hc : c < 16) (e' : L b a = d) (hd : d < 16) (q1 : 0 < (ge_o (P a) (P d) (P c))) (q2 : 0 < (ge_o (P d) (P b) (P c))) :
    ¬ L c d ≤ 16 ∧ ¬ L d c ≤ 16 := by
  have f1 := tt_fo h e hc
  have f2 := tt_fo h e' hd
  have r1 := ge_rot2 (P d) (P b) (P c)
  have r2 := ge_rot (P a) (P d) (P c)
  have hX : (ge_X (P c) (P d) (P b) (P a)) := ⟨by omega, by omega, f2, f1⟩
  constructor
  · intro k; exact tt_N h k (show L b a ≤ 16 by omega) hX
  · intro k; exact tt_N h (tt_sy h k) (show L b a ≤ 16 by omega) hX
theorem fl_in {a b c d k : Int × Int} (f1 : 0 < ge_o a b c) (f2 : 0 < ge_o b a d) (q1 : 0 < ge_o a d c) (q2 : 0 < ge_o d b c) (hk : ge_T a d c k) : ge_T a b c k ∨ ge_T b a d k := by
  obtain ⟨k1, k2, k3⟩ := hk
  have I1 : ge_o a d c * ge_o b c k = ge_o d c k * ge_o a b c + ge_o c a k * ge_o d b c := by unfold ge_o; grind
  have I2 : ge_o a d c * ge_o d b k = ge_o d c k * ge_o b a d + ge_o a d k * ge_o d b c := by unfold ge_o; grind
  have s := ge_sw a b k
  by_cases h : 0 ≤ ge_o a b k
  · exact Or.inl ⟨h, sg_w I1 q1 k2 (Int.le_of_lt f1) k3 (Int.le_of_lt q2), k3⟩
  · exact Or.inr ⟨by omega, k1, sg_w I2 q1 k2 (Int.le_of_lt f2) k1 (Int.le_of_lt q2)⟩
theorem fl_c (h : tr_T V P S L) {a b c d : Nat} (e : L a b = c) (hc : c < 16) (e' : L b a = d) (hd : d < 16) (q1 : 0 < (ge_o (P a) (P d) (P c))) (q2 : 0 < (ge_o (P d) (P b) (P c)))
    {k : Nat} (vk : V k) (hk : (ge_T (P a) (P d) (P c) (P k))) : k = a ∨ k = d ∨ k = c := by
  have f1 := tt_fo h e hc
  have f2 := tt_fo h e' hd
  have nb : k ≠ b := by
    rintro rfl
    have := hk.2.1
    have := ge_sw2 (P d) (P k) (P c)
    omega
  rcases fl_in f1 f2 q1 q2 hk with j | j
  · have := tt_E h e hc vk j; omega
  · have := tt_E h e' hd vk j; omega
theorem fl_n (h : tr_T V P S L) {a b c d : Nat} (e : L a b = c) (hc : c < 16) (e' : L b a = d) (hd : d < 16) (q1 : 0 < (ge_o (P a) (P d) (P c))) (q2 : 0 < (ge_o (P d) (P b) (P c)))
    (g1 : L d b ≤ 16) (g2 : L b c ≤ 16) (g3 : L c a ≤ 16) (g4 : L a d ≤ 16)
    {z w : Nat} (ez : L z w ≤ 16) (hX : (ge_X (P c) (P d) (P z) (P w))) : z = b ∧ w = a := by
  have f1 := tt_fo h e hc
  have f2 := tt_fo h e' hd
  have vz := tt_va h ez
  have vw := tt_vb h ez
  have va := tt_va h (show L a b ≤ 16 by omega)
  have vb := tt_vb h (show L a b ≤ 16 by omega)
  have ez' := tt_sy h ez
  have r1 := ge_rot2 (P d) (P b) (P c)
  have r2 := ge_rot (P a) (P d) (P c)
  constructor
  · rcases ge_exit (x := P c) (y := P d) (z := P b) (by omega) hX with k | k | k | k
    · have := fl_c h e' hd e hc (by have := ge_rot (P d) (P b) (P c); omega) (by have := ge_rot2 (P a) (P d) (P c); omega) vz (ge_T1 (ge_T1 k))
      rcases this with j | j | j
      · exact j
      · have := hX.1; rw [j, ge_psp] at this; omega
      · have := hX.1; rw [j, ge_spp] at this; omega
    · exact absurd k (tt_N h g1 ez')
    · exact absurd k (tt_N h g2 ez')
    · exact absurd k (tt_F h ez' vb)
  · rcases ge_exit (x := P d) (y := P c) (z := P a) (by omega) (ge_X1 hX) with k | k | k | k
    · have := fl_c h e hc e' hd q1 q2 vw (ge_T1 (ge_T1 k))
      rcases this with j | j | j
      · exact j
      · have := hX.2.1; rw [j, ge_psp] at this; omega
      · have := hX.2.1; rw [j, ge_spp] at this; omega
    · exact absurd k (tt_N h g3 ez)
    · exact absurd k (tt_N h g4 ez)
    · exact absurd k (tt_F h ez va)
theorem fl_T (hp : tr_pt m V P) (h : tr_T V P S L) {a b c d : Nat} (e : L a b = c) (hc : c < 16) (e' : L b a = d) (hd : d < 16) (q1 : 0 < (ge_o (P a) (P d) (P c))) (q2 : 0 < (ge_o (P d) (P b) (P c)))
    (hn : ¬ tr_cov P S a b) : tr_T V P S (fl_L L a b c d) := by
  obtain ⟨va, vb, vc, bc, ca, f1, x1, x2, x3, x4, x5, x6⟩ := tt_face hp h e hc
  obtain ⟨_, _, vd, ad, db, f2, y1, y2, y3, y4, y5, y6⟩ := tt_face hp h e' hd
  obtain ⟨ncd, ndc⟩ := fl_q hp h e hc e' hd q1 q2
  have a16 := tp_16 hp va
  have b16 := tp_16 hp vb
  have nab := tt_ne h x1
  have nbc := tt_ne h x2
  have nca := tt_ne h x3
  have nad := tt_ne h y2
  have ndb := tt_ne h y3
  have ncd' : c ≠ d := by rintro rfl; have := ge_sw (P a) (P b) (P c); omega
  -- which edges there are
  have hE : ∀ x y, fl_L L a b c d x y ≤ 16 → (L x y ≤ 16 ∧ ¬ (x = a ∧ y = b) ∧ ¬ (x = b ∧ y = a)) ∨ (x = c ∧ y = d) ∨ (x = d ∧ y = c) := by
    intro x y; unfold fl_L; grind
  have hE2 : ∀ x y, L x y ≤ 16 → ¬ (x = a ∧ y = b) → ¬ (x = b ∧ y = a) → fl_L L a b c d x y ≤ 16 := by
    intro x y; unfold fl_L; grind
  have hF : ∀ x y z, fl_L L a b c d x y = z → z < 16 → (L x y = z ∧ fl_L L a b c d y z = x ∧ fl_L L a b c d z x = y) ∨
      (x = a ∧ y = d ∧ z = c) ∨ (x = d ∧ y = c ∧ z = a) ∨ (x = c ∧ y = a ∧ z = d) ∨ (x = d ∧ y = b ∧ z = c) ∨ (x = b ∧ y = c ∧ z = d) ∨ (x = c ∧ y = d ∧ z = b) := by
    intro x y z k hz
    by_cases s : (x = a ∧ y = d) ∨ (x = d ∧ y = c) ∨ (x = c ∧ y = a) ∨ (x = d ∧ y = b) ∨ (x = b ∧ y = c) ∨ (x = c ∧ y = d) ∨ (x = a ∧ y = b) ∨ (x = b ∧ y = a)
    · right
      clear hE hE2
      unfold fl_L at k
      rcases s with ⟨rfl, rfl⟩ | ⟨rfl, rfl⟩ | ⟨rfl, rfl⟩ | ⟨rfl, rfl⟩ | ⟨rfl, rfl⟩ | ⟨rfl, rfl⟩ | ⟨rfl, rfl⟩ | ⟨rfl, rfl⟩ <;> grind
    · left
      have k' : L x y = z := by clear hE hE2; unfold fl_L at k; grind
      have x16 : x < 16 := tp_16 hp (tt_va h (a := x) (b := y) (by omega))
      have y16 : y < 16 := tp_16 hp (tt_vb h (a := x) (b := y) (by omega))
      have k2 := tt_f2 h k' hz
      have k3 := tt_f3 h k' hz
      refine ⟨k', ?_, ?_⟩
      · clear hE hE2 k; unfold fl_L; grind
      · clear hE hE2 k; unfold fl_L; grind
  have oF : ∀ x y z, fl_L L a b c d x y = z → z < 16 → 0 < (ge_o (P x) (P y) (P z)) := by
    intro x y z k hz
    have r1 := ge_rot (P a) (P d) (P c)
    have r2 := ge_rot2 (P a) (P d) (P c)
    have r3 := ge_rot (P d) (P b) (P c)
    have r4 := ge_rot2 (P d) (P b) (P c)
    rcases hF x y z k hz with j | ⟨rfl, rfl, rfl⟩ | ⟨rfl, rfl, rfl⟩ | ⟨rfl, rfl, rfl⟩ | ⟨rfl, rfl, rfl⟩ | ⟨rfl, rfl, rfl⟩ | ⟨rfl, rfl, rfl⟩
    · exact tt_fo h j.1 hz
    all_goals omega
  have lft : ∀ k, V k → ¬ (ge_B (P k) (P c) (P d)) := by
    intro k vk hB
    obtain ⟨l, n, l0, n0, hl⟩ := ge_Bo hB
    have k1 := hl (P a) (P d)
    have k2 := hl (P c) (P a)
    rw [ge_spp] at k1
    rw [ge_psp] at k2
    have r2 := ge_rot2 (P a) (P d) (P c)
    have t1 : 0 ≤ (ge_o (P a) (P d) (P k)) := sg_invw (A := l + n) (by omega) (by have := sg_pp l0 q1; omega)
    have t2 : 0 ≤ (ge_o (P c) (P a) (P k)) := sg_invw (A := l + n) (by omega) (by have := sg_pp n0 (show 0 < (ge_o (P c) (P a) (P d)) by omega); omega)
    have t3 : 0 ≤ (ge_o (P d) (P c) (P k)) := by have := hB.1; have := ge_sw (P c) (P d) (P k); omega
    rcases fl_c h e hc e' hd q1 q2 vk ⟨t1, t3, t2⟩ with j | j | j
    · subst j
      have := hB.1
      have := ge_sw (P c) (P d) (P k)
      have := ge_rot (P k) (P d) (P c)
      omega
    · subst j; exact (ge_Bne hB).2.1 rfl
    · subst j; exact (ge_Bne hB).1 rfl
  refine ⟨?_, ?_, ?_, ?_, ?_, ?_, ?_, ?_⟩
  · intro x y k
    rcases hE x y k with ⟨j, j1, j2⟩ | ⟨rfl, rfl⟩ | ⟨rfl, rfl⟩
    · exact ⟨tt_va h j, tt_vb h j, tt_ne h j, hE2 y x (tt_sy h j) (fun g => j2 ⟨g.2, g.1⟩) (fun g => j1 ⟨g.2, g.1⟩)⟩
    · refine ⟨vc, vd, ncd', ?_⟩; unfold fl_L; grind
    · refine ⟨vd, vc, fun g => ncd' g.symm, ?_⟩; unfold fl_L; grind
  · intro x y z k hz
    refine ⟨?_, ?_, oF x y z k hz⟩
    · rcases hF x y z k hz with j | ⟨rfl, rfl, rfl⟩ | ⟨rfl, rfl, rfl⟩ | ⟨rfl, rfl, rfl⟩ | ⟨rfl, rfl, rfl⟩ | ⟨rfl, rfl, rfl⟩ | ⟨rfl, rfl, rfl⟩
      · exact j.2.1
      all_goals (unfold fl_L; grind)
    · rcases hF x y z k hz with j | ⟨rfl, rfl, rfl⟩ | ⟨rfl, rfl, rfl⟩ | ⟨rfl, rfl, rfl⟩ | ⟨rfl, rfl, rfl⟩ | ⟨rfl, rfl, rfl⟩ | ⟨rfl, rfl, rfl⟩
      · exact j.2.2
      all_goals (unfold fl_L; grind)
  · intro x y
    rw [← tt_out h x y]
    unfold fl_L
    grind
  · intro x y k ke vk
    rcases hE x y ke with ⟨j, j1, j2⟩ | ⟨rfl, rfl⟩ | ⟨rfl, rfl⟩
    · exact tt_F h j vk
    · exact lft k vk
    · exact fun g => lft k vk (ge_B1 g)
  · intro x y z w k1 k2 hX
    have nx : ∀ z w, (L z w ≤ 16 ∧ ¬ (z = a ∧ w = b) ∧ ¬ (z = b ∧ w = a)) → ¬ (ge_X (P c) (P d) (P z) (P w)) := by
      intro z w k hX
      exact k.2.2 (fl_n h e hc e' hd q1 q2 y3 x2 x3 y2 k.1 hX)
    have sy : ∀ z w, (L z w ≤ 16 ∧ ¬ (z = a ∧ w = b) ∧ ¬ (z = b ∧ w = a)) → (L w z ≤ 16 ∧ ¬ (w = a ∧ z = b) ∧ ¬ (w = b ∧ z = a)) :=
      fun z w k => ⟨tt_sy h k.1, fun g => k.2.2 ⟨g.2, g.1⟩, fun g => k.2.1 ⟨g.2, g.1⟩⟩
    rcases hE x y k1 with j | ⟨rfl, rfl⟩ | ⟨rfl, rfl⟩
    · rcases hE z w k2 with j' | ⟨rfl, rfl⟩ | ⟨rfl, rfl⟩
      · exact tt_N h j.1 j'.1 hX
      · exact nx y x (sy _ _ j) (ge_X2 hX)
      · exact nx x y j (ge_X3 hX)
    · rcases hE z w k2 with j' | ⟨rfl, rfl⟩ | ⟨rfl, rfl⟩
      · exact nx z w j' hX
      · have := hX.1; rw [ge_psp] at this; omega
      · have := hX.1; rw [ge_spp] at this; omega
    · rcases hE z w k2 with j' | ⟨rfl, rfl⟩ | ⟨rfl, rfl⟩
      · exact nx w z (sy _ _ j') (ge_X1 hX)
      · have := hX.1; rw [ge_spp] at this; omega
      · have := hX.1; rw [ge_psp] at this; omega
  · intro x y z k ke hz vk hT
    have A : (ge_T (P a) (P d) (P c) (P k)) → k = a ∨ k = d ∨ k = c := fl_c h e hc e' hd q1 q2 vk
    have Bq : (ge_T (P b) (P c) (P d) (P k)) → k = b ∨ k = c ∨ k = d := fl_c h e' hd e hc (by have := ge_rot (P d) (P b) (P c); omega) (by have := ge_rot2 (P a) (P d) (P c); omega) vk
    rcases hF x y z ke hz with j | ⟨rfl, rfl, rfl⟩ | ⟨rfl, rfl, rfl⟩ | ⟨rfl, rfl, rfl⟩ | ⟨rfl, rfl, rfl⟩ | ⟨rfl, rfl, rfl⟩ | ⟨rfl, rfl, rfl⟩
    · exact tt_E h j.1 hz vk hT
    · exact A hT
    · have := A (ge_T1 (ge_T1 hT)); omega
    · have := A (ge_T1 hT); omega
    · have := Bq (ge_T1 hT); omega
    · exact Bq hT
    · have := Bq (ge_T1 (ge_T1 hT)); omega
  · intro x vx
    obtain ⟨y, hy⟩ := tt_deg h vx
    by_cases g1 : x = a
    · subst g1; exact ⟨d, hE2 x d y2 (by omega) (by omega)⟩
    · by_cases g2 : x = b
      · subst g2; exact ⟨c, hE2 x c x2 (by omega) (by omega)⟩
      · exact ⟨y, hE2 x y hy (by omega) (by omega)⟩
  · intro s hs p q vp vq ne cp cq hb
    refine hE2 p q (tt_C h hs vp vq ne cp cq hb) ?_ ?_
    · rintro ⟨rfl, rfl⟩; exact hn ⟨s, hs, cp, cq⟩
    · rintro ⟨rfl, rfl⟩; exact hn ⟨s, hs, cq, cp⟩
/-- a bad edge has a strictly convex quad -/
theorem fl_x (hp : tr_pt m V P) (h : tr_T V P S L) (hh : tr_hull H V P) {a b c d : Nat} (e : L a b = c) (hc : c < 16) (e' : L b a = d) (hd : d < 16) (hD : (ge_D H P a b c d) < 0) :
    0 < (ge_o (P a) (P d) (P c)) ∧ 0 < (ge_o (P d) (P b) (P c)) := by
  obtain ⟨va, vb, vc, bc, ca, f1, x1, x2, x3, x4, x5, x6⟩ := tt_face hp h e hc
  obtain ⟨_, _, vd, ad, db, f2, y1, y2, y3, y4, y5, y6⟩ := tt_face hp h e' hd
  have A : (ge_o (P a) (P b) (P c)) + (ge_o (P b) (P a) (P d)) = (ge_o (P a) (P d) (P c)) + (ge_o (P d) (P b) (P c)) := by unfold ge_o; grind
  constructor
  · rcases Int.lt_or_le 0 ((ge_o (P a) (P d) (P c))) with k | k
    · exact k
    · exfalso
      -- a in the closed triangle d b c
      have t : 0 < (ge_o (P d) (P b) (P c)) := by omega
      have := hh d b c a vd vb vc va t ⟨by have := ge_rot2 (P b) (P a) (P d); omega, by have := ge_rot (P a) (P b) (P c); omega, by have := ge_sw3 (P a) (P d) (P c); have := ge_rot2 (P a) (P d) (P c); have := ge_rot (P a) (P d) (P c); have := ge_sw (P c) (P d) (P a); have := ge_sw (P d) (P c) (P a); omega⟩
      have k1 : (ge_D H P d b c a) = - (ge_D H P a b c d) := by unfold ge_D ge_o; grind
      omega
  · rcases Int.lt_or_le 0 ((ge_o (P d) (P b) (P c))) with k | k
    · exact k
    · exfalso
      have t : 0 < (ge_o (P a) (P d) (P c)) := by omega
      have := hh a d c b va vd vc vb t ⟨by have := ge_rot (P b) (P a) (P d); omega, by have := ge_sw2 (P d) (P b) (P c); omega, by have := ge_rot2 (P a) (P b) (P c); omega⟩
      have k1 : (ge_D H P a d c b) = - (ge_D H P a b c d) := by unfold ge_D ge_o; grind
      omega
end
end
section
section
variable {m : Int} {V : Nat → Prop} {P : Nat → Int × Int} {S : List (Nat × Nat)} {L : Nat → Nat → Nat} {H : Nat → Int}
theorem tp_sub {V' : Nat → Prop} (hp : tr_pt m V' P) (h1 : ∀ x, V x → V' x) (h2 : ∀ k, k < 4 → V k) : tr_pt m V P :=
  ⟨hp.1, hp.2.1, hp.2.2.1, hp.2.2.2.1, hp.2.2.2.2.1, h2, fun k v => tp_16 hp (h1 k v), fun k v h => tp_in hp (h1 k v) h, fun a b va vb e => tp_inj hp (h1 a va) (h1 b vb) e⟩
/-- a place of a segment that is no live point lies strictly between two neighbours on it -/
theorem cs_1 {k u v : Nat} (hp : tr_pt m (fun x => V x ∨ x = k) P) (hk : ¬ V k) (vu : V u) (vv : V v) (hC : (ge_C (P k) (P u) (P v))) :
    ∃ p q, V p ∧ V q ∧ p ≠ q ∧ (ge_C (P p) (P u) (P v)) ∧ (ge_C (P q) (P u) (P v)) ∧ (ge_B (P k) (P p) (P q)) ∧ ∀ j, V j → ¬ (ge_B (P j) (P p) (P q)) := by
  have hB : (ge_B (P k) (P u) (P v)) := by
    rcases ge_Cd hC with g | g | g
    · exact absurd (tp_inj hp (Or.inr rfl) (Or.inl vu) g) (fun g => hk (by rw [g]; exact vu))
    · exact absurd (tp_inj hp (Or.inr rfl) (Or.inl vv) g) (fun g => hk (by rw [g]; exact vv))
    · exact g
  have hne := (ge_Bne hB).2.2
  have hd : ∃ s : Int × Int, 0 < ge_o (P u) s (P v) := by
    refine ⟨((P u).1 + ((P v).2 - (P u).2), (P u).2 - ((P v).1 - (P u).1)), ?_⟩
    have := ge_ne hne
    unfold ge_o; simp only; grind
  obtain ⟨s, hs⟩ := hd
  obtain ⟨l, n, l0, n0, hl⟩ := ge_Bo hB
  have k1 := hl (P u) s
  rw [ge_psp] at k1
  have pk : 0 < ge_o (P u) s (P k) := sg_inv (A := l + n) (by omega) (by have := sg_pp n0 hs; omega)
  have pk2 : ge_o (P u) s (P k) < ge_o (P u) s (P v) := by
    have := sg_inv (A := l + n) (B := ge_o (P u) s (P v) - ge_o (P u) s (P k)) (by omega) (by have := sg_pp l0 hs; grind)
    omega
  obtain ⟨p, p16, ⟨vp, cp, op⟩, mp⟩ := mx_1 (fun j => V j ∧ (ge_C (P j) (P u) (P v)) ∧ ge_o (P u) s (P j) < ge_o (P u) s (P k)) (fun j => ge_o (P u) s (P j)) (fun _ => 1) 16
    (fun _ _ _ => by omega) ⟨u, tp_16 hp (Or.inl vu), vu, ge_Ca _ _, by rw [ge_psp]; exact pk⟩
  obtain ⟨q, q16, ⟨vq, cq, oq⟩, mq⟩ := mx_1 (fun j => V j ∧ (ge_C (P j) (P u) (P v)) ∧ ge_o (P u) s (P k) < ge_o (P u) s (P j)) (fun j => - ge_o (P u) s (P j)) (fun _ => 1) 16
    (fun _ _ _ => by omega) ⟨v, tp_16 hp (Or.inl vv), vv, ge_Cb _ _, pk2⟩
  have col : ∀ x y z : Nat, (ge_C (P x) (P u) (P v)) → (ge_C (P y) (P u) (P v)) → (ge_C (P z) (P u) (P v)) → (ge_o (P x) (P y) (P z)) = 0 := by
    intro x y z cx cy cz
    obtain ⟨a, b, a1, a2, a3, a4, a5⟩ := ge_Cw cx
    obtain ⟨c, d, c1, c2, c3, c4, c5⟩ := ge_Cw cy
    have := ge_lin2 a4 a5 c4 c5 (P z)
    rw [cz.1, Int.mul_zero] at this
    exact sg_eq0 (sg_pp a3 c3) this
  refine ⟨p, q, vp, vq, fun g => by rw [g] at op; omega, cp, cq, ge_Bi (col _ _ _ cp cq hC) op oq, ?_⟩
  intro j vj hj
  have cj := ge_BCC hj cp cq
  obtain ⟨l', n', l0', n0', hl'⟩ := ge_Bo hj
  have j1 := hl' (P u) s
  have jp : ge_o (P u) s (P p) < ge_o (P u) s (P j) := by
    have := sg_inv (A := l' + n') (B := ge_o (P u) s (P j) - ge_o (P u) s (P p)) (by omega) (by have := sg_pp n0' (show 0 < ge_o (P u) s (P q) - ge_o (P u) s (P p) by omega); grind)
    omega
  have jq : ge_o (P u) s (P j) < ge_o (P u) s (P q) := by
    have := sg_inv (A := l' + n') (B := ge_o (P u) s (P q) - ge_o (P u) s (P j)) (by omega) (by have := sg_pp l0' (show 0 < ge_o (P u) s (P q) - ge_o (P u) s (P p) by omega); grind)
    omega
  rcases Int.lt_trichotomy (ge_o (P u) s (P j)) (ge_o (P u) s (P k)) with g | g | g
  · have := mp j (tp_16 hp (Or.inl vj)) ⟨vj, cj, g⟩; omega
  · have c1 := cj.1
    have c2 := hC.1
    have e1 : ge_o (P u) s (P v) * ((P j).1 - (P k).1) = 0 := by unfold ge_o at c1 c2 g ⊢; grind
    have e2 : ge_o (P u) s (P v) * ((P j).2 - (P k).2) = 0 := by unfold ge_o at c1 c2 g ⊢; grind
    have f1 := sg_eq0 hs e1
    have f2 := sg_eq0 hs e2
    have := tp_inj hp (Or.inl vj) (Or.inr rfl) (Prod.ext (show (P j).1 = (P k).1 by omega) (show (P j).2 = (P k).2 by omega))
    exact hk (by rw [← this]; exact vj)
  · have := mq j (tp_16 hp (Or.inl vj)) ⟨vj, cj, g⟩; omega
/-- a new point strictly inside a face -/
def sp_L (L : Nat → Nat → Nat) (a b c k : Nat) : Nat → Nat → Nat := fun x y =>
  if x = a ∧ y = b then k else if x = b ∧ y = k then a else if x = k ∧ y = a then b else
  if x = b ∧ y = c then k else if x = c ∧ y = k then b else if x = k ∧ y = b then c else
  if x = c ∧ y = a then k else if x = a ∧ y = k then c else if x = k ∧ y = c then a else L x y
theorem sp_e1 {L : Nat → Nat → Nat} {a b c k : Nat} (e : L a b = c) (hc : c < 16) (bc : L b c = a) (ca : L c a = b) (a16 : a < 16) (b16 : b < 16) (x y : Nat) :
    sp_L L a b c k x y ≤ 16 → L x y ≤ 16 ∨ (x = k ∧ (y = a ∨ y = b ∨ y = c)) ∨ (y = k ∧ (x = a ∨ x = b ∨ x = c)) := by
  unfold sp_L; grind
theorem sp_e2 {L : Nat → Nat → Nat} {a b c k : Nat} (hc : c < 16) (a16 : a < 16) (b16 : b < 16) (k16 : k < 16) (x y : Nat) :
    L x y ≤ 16 → sp_L L a b c k x y ≤ 16 := by
  unfold sp_L; grind
theorem sp_e3 {L : Nat → Nat → Nat} {a b c k : Nat} (hc : c < 16) (a16 : a < 16) (b16 : b < 16) (k16 : k < 16) (nab : a ≠ b) (nbc : b ≠ c) (nca : c ≠ a) (nak : a ≠ k) (nbk : b ≠ k) (nck : c ≠ k) (x y : Nat) :
    (x = k ∧ (y = a ∨ y = b ∨ y = c)) ∨ (y = k ∧ (x = a ∨ x = b ∨ x = c)) → sp_L L a b c k x y ≤ 16 := by
  rintro (⟨rfl, rfl | rfl | rfl⟩ | ⟨rfl, rfl | rfl | rfl⟩) <;> unfold sp_L <;> grind
theorem sp_f1 {L : Nat → Nat → Nat} {a b c k : Nat} (nab : a ≠ b) (nbc : b ≠ c) (nca : c ≠ a) (nak : a ≠ k) (nbk : b ≠ k) (nck : c ≠ k) (x y z : Nat)
    (s : (x = a ∧ y = b) ∨ (x = b ∧ y = k) ∨ (x = k ∧ y = a) ∨ (x = b ∧ y = c) ∨ (x = c ∧ y = k) ∨ (x = k ∧ y = b) ∨ (x = c ∧ y = a) ∨ (x = a ∧ y = k) ∨ (x = k ∧ y = c))
    (kk : sp_L L a b c k x y = z) :
      (x = a ∧ y = b ∧ z = k) ∨ (x = b ∧ y = k ∧ z = a) ∨ (x = k ∧ y = a ∧ z = b) ∨ (x = b ∧ y = c ∧ z = k) ∨ (x = c ∧ y = k ∧ z = b) ∨ (x = k ∧ y = b ∧ z = c) ∨
      (x = c ∧ y = a ∧ z = k) ∨ (x = a ∧ y = k ∧ z = c) ∨ (x = k ∧ y = c ∧ z = a) := by
  unfold sp_L at kk
  rcases s with ⟨rfl, rfl⟩ | ⟨rfl, rfl⟩ | ⟨rfl, rfl⟩ | ⟨rfl, rfl⟩ | ⟨rfl, rfl⟩ | ⟨rfl, rfl⟩ | ⟨rfl, rfl⟩ | ⟨rfl, rfl⟩ | ⟨rfl, rfl⟩ <;> grind
theorem sp_f2 {L : Nat → Nat → Nat} {a b c k x y : Nat}
    (s : ¬ ((x = a ∧ y = b) ∨ (x = b ∧ y = k) ∨ (x = k ∧ y = a) ∨ (x = b ∧ y = c) ∨ (x = c ∧ y = k) ∨ (x = k ∧ y = b) ∨ (x = c ∧ y = a) ∨ (x = a ∧ y = k) ∨ (x = k ∧ y = c))) :
    sp_L L a b c k x y = L x y := by
  unfold sp_L; grind
theorem sp_f3 {L : Nat → Nat → Nat} {a b c k : Nat} (nab : a ≠ b) (nbc : b ≠ c) (nca : c ≠ a) (nak : a ≠ k) (nbk : b ≠ k) (nck : c ≠ k) :
    sp_L L a b c k a b = k ∧ sp_L L a b c k b k = a ∧ sp_L L a b c k k a = b ∧ sp_L L a b c k b c = k ∧ sp_L L a b c k c k = b ∧ sp_L L a b c k k b = c ∧
    sp_L L a b c k c a = k ∧ sp_L L a b c k a k = c ∧ sp_L L a b c k k c = a := by
  unfold sp_L
  refine ⟨?_, ?_, ?_, ?_, ?_, ?_, ?_, ?_, ?_⟩ <;> grind
theorem sp_f4 {L : Nat → Nat → Nat} {a b c k x y z : Nat} (e : L a b = c) (bc : L b c = a) (ca : L c a = b) (s1 : ¬ (x = a ∧ y = b)) (s2 : ¬ (x = b ∧ y = c)) (s3 : ¬ (x = c ∧ y = a))
    (nyk : y ≠ k) (nzk : z ≠ k) (k2 : L y z = x) : sp_L L a b c k y z = x := by
  rw [← k2]
  refine sp_f2 ?_
  rintro (⟨rfl, rfl⟩ | ⟨rfl, rfl⟩ | ⟨rfl, rfl⟩ | ⟨rfl, rfl⟩ | ⟨rfl, rfl⟩ | ⟨rfl, rfl⟩ | ⟨rfl, rfl⟩ | ⟨rfl, rfl⟩ | ⟨rfl, rfl⟩)
  · exact s3 ⟨k2.symm.trans e, rfl⟩
  · exact nzk rfl
  · exact nyk rfl
  · exact s1 ⟨k2.symm.trans bc, rfl⟩
  · exact nzk rfl
  · exact nyk rfl
  · exact s2 ⟨k2.symm.trans ca, rfl⟩
  · exact nzk rfl
  · exact nyk rfl
theorem sp_f5 {L : Nat → Nat → Nat} {a b c k x y : Nat} (e : L a b = c) (bc : L b c = a) (ca : L c a = b) (hc : c < 16) (a16 : a < 16) (b16 : b < 16) (k16 : k < 16)
    (nab : a ≠ b) (nbc : b ≠ c) (nca : c ≠ a) (nak : a ≠ k) (nbk : b ≠ k) (nck : c ≠ k) (nk1 : ∀ x, ¬ L k x ≤ 16) (nk2 : ∀ x, ¬ L x k ≤ 16) :
    sp_L L a b c k x y = 16 ↔ L x y = 16 := by
  by_cases s : (x = a ∧ y = b) ∨ (x = b ∧ y = k) ∨ (x = k ∧ y = a) ∨ (x = b ∧ y = c) ∨ (x = c ∧ y = k) ∨ (x = k ∧ y = b) ∨ (x = c ∧ y = a) ∨ (x = a ∧ y = k) ∨ (x = k ∧ y = c)
  · constructor
    · intro g
      have := sp_f1 (L := L) nab nbc nca nak nbk nck x y 16 s g
      omega
    · intro g
      have u1 := nk1 y
      have u2 := nk2 x
      rcases s with ⟨rfl, rfl⟩ | ⟨rfl, rfl⟩ | ⟨rfl, rfl⟩ | ⟨rfl, rfl⟩ | ⟨rfl, rfl⟩ | ⟨rfl, rfl⟩ | ⟨rfl, rfl⟩ | ⟨rfl, rfl⟩ | ⟨rfl, rfl⟩ <;> omega
  · rw [sp_f2 s]
/-- in a closed face about no corner: strictly inside -/
theorem pf_cl {k : Nat} (hp : tr_pt m (fun x => V x ∨ x = k) P) (hk : ¬ V k) (hp0 : tr_pt m V P) (h : tr_T V P S L) (hF : ∀ x y, L x y ≤ 16 → ¬ (ge_B (P k) (P x) (P y)))
    {u v w : Nat} (e : L u v = w) (hw : w < 16) (hT : (ge_T (P u) (P v) (P w) (P k))) : 0 < (ge_o (P u) (P v) (P k)) ∧ 0 < (ge_o (P v) (P w) (P k)) ∧ 0 < (ge_o (P w) (P u) (P k)) := by
  obtain ⟨vu, vv, vw, x1, x2, fu, g1, g2, g3, g4, g5, g6⟩ := tt_face hp0 h e hw
  have side : ∀ x y z, L x y ≤ 16 → V y → V x → 0 < (ge_o (P x) (P y) (P z)) → (ge_o (P x) (P y) (P k)) = 0 → 0 ≤ (ge_o (P y) (P z) (P k)) → 0 ≤ (ge_o (P z) (P x) (P k)) → False := by
    intro x y z e2 vy vx fo z0 k1 k2
    have A := ge_aff (P x) (P y) (P z) (P k)
    have r1 := ge_rot2 (P x) (P y) (P k)
    have r2 := ge_rot2 (P y) (P z) (P k)
    have r3 := ge_rot2 (P z) (P x) (P k)
    have at_ : ∀ j : Nat, V j → P k ≠ P j := fun j vj ej => hk (by rw [tp_inj hp (Or.inr rfl) (Or.inl vj) ej]; exact vj)
    have loc : ∀ j : Nat, V j → ((ge_o (P x) (P y) (P k)) = (ge_o (P x) (P y) (P j)) → (ge_o (P y) (P z) (P k)) = (ge_o (P y) (P z) (P j)) → False) := by
      intro j vj q1 q2
      have e1 : (ge_o (P x) (P y) (P z)) * ((P k).1 - (P j).1) = 0 := by unfold ge_o at q1 q2 ⊢; grind
      have e2 : (ge_o (P x) (P y) (P z)) * ((P k).2 - (P j).2) = 0 := by unfold ge_o at q1 q2 ⊢; grind
      have f1 := sg_eq0 fo e1
      have f2 := sg_eq0 fo e2
      exact at_ j vj (Prod.ext (by omega) (by omega))
    have rxyz := ge_rot (P x) (P y) (P z)
    have n1 : (ge_o (P y) (P z) (P k)) ≠ 0 := fun q => loc y vy (by rw [ge_spp]; exact z0) (by rw [ge_psp]; exact q)
    have n2 : (ge_o (P z) (P x) (P k)) ≠ 0 := fun q => loc x vx (by rw [ge_psp]; exact z0) (by omega)
    have : (ge_B (P k) (P y) (P x)) := ge_Bi (u := P y) (v := P z) (by have := ge_sw (P x) (P y) (P k); omega) (by rw [ge_psp]; omega) (by omega)
    exact hF x y e2 (ge_B1 this)
  have r1 := ge_rot (P u) (P v) (P w)
  have r2 := ge_rot2 (P u) (P v) (P w)
  obtain ⟨t1, t2, t3⟩ := hT
  refine ⟨?_, ?_, ?_⟩
  · rcases Int.lt_or_le 0 ((ge_o (P u) (P v) (P k))) with g | g
    · exact g
    · exact (side u v w g1 vv vu fu (by omega) t2 t3).elim
  · rcases Int.lt_or_le 0 ((ge_o (P v) (P w) (P k))) with g | g
    · exact g
    · exact (side v w u g2 vw vv (by omega) (by omega) t3 t1).elim
  · rcases Int.lt_or_le 0 ((ge_o (P w) (P u) (P k))) with g | g
    · exact g
    · exact (side w u v g3 vu vw (by omega) (by omega) t1 t2).elim
theorem sp_T {k : Nat} (hp : tr_pt m (fun x => V x ∨ x = k) P) (hk : ¬ V k) (hp0 : tr_pt m V P) (hS : tr_sg V P S) (h : tr_T V P S L) {a b c : Nat} (e : L a b = c) (hc : c < 16)
    (ta : 0 < (ge_o (P a) (P b) (P k))) (tb : 0 < (ge_o (P b) (P c) (P k))) (tc : 0 < (ge_o (P c) (P a) (P k))) : tr_T (fun x => V x ∨ x = k) P S (sp_L L a b c k) := by
  obtain ⟨va, vb, vc, bc, ca, f1, x1, x2, x3, x4, x5, x6⟩ := tt_face hp0 h e hc
  have a16 := tp_16 hp0 va
  have b16 := tp_16 hp0 vb
  have k16 : k < 16 := tp_16 hp (Or.inr rfl)
  have nab := tt_ne h x1
  have nbc := tt_ne h x2
  have nca := tt_ne h x3
  have nak : a ≠ k := fun g => hk (by rw [← g]; exact va)
  have nbk : b ≠ k := fun g => hk (by rw [← g]; exact vb)
  have nck : c ≠ k := fun g => hk (by rw [← g]; exact vc)
  have nk1 : ∀ x, ¬ L k x ≤ 16 := fun x g => hk (tt_va h g)
  have nk2 : ∀ x, ¬ L x k ≤ 16 := fun x g => hk (tt_vb h g)
  have r1 := ge_rot (P a) (P b) (P k)
  have r2 := ge_rot2 (P a) (P b) (P k)
  have r3 := ge_rot (P b) (P c) (P k)
  have r4 := ge_rot2 (P b) (P c) (P k)
  have r5 := ge_rot (P c) (P a) (P k)
  have r6 := ge_rot2 (P c) (P a) (P k)
  have fb : 0 < (ge_o (P b) (P c) (P a)) := by have := ge_rot (P a) (P b) (P c); omega
  have fc : 0 < (ge_o (P c) (P a) (P b)) := by have := ge_rot2 (P a) (P b) (P c); omega
  have hE := sp_e1 (k := k) e hc bc ca a16 b16
  have hE2 := sp_e2 (L := L) hc a16 b16 k16
  have hE3 := sp_e3 (L := L) hc a16 b16 k16 nab nbc nca nak nbk nck
  obtain ⟨v1, v2, v3, v4, v5, v6, v7, v8, v9⟩ := sp_f3 (L := L) nab nbc nca nak nbk nck
  have hF : ∀ x y z, sp_L L a b c k x y = z → z < 16 → (L x y = z ∧ sp_L L a b c k y z = x ∧ sp_L L a b c k z x = y ∧ ¬ (x = a ∧ y = b) ∧ ¬ (x = b ∧ y = c) ∧ ¬ (x = c ∧ y = a)) ∨
      (x = a ∧ y = b ∧ z = k) ∨ (x = b ∧ y = k ∧ z = a) ∨ (x = k ∧ y = a ∧ z = b) ∨ (x = b ∧ y = c ∧ z = k) ∨ (x = c ∧ y = k ∧ z = b) ∨ (x = k ∧ y = b ∧ z = c) ∨
      (x = c ∧ y = a ∧ z = k) ∨ (x = a ∧ y = k ∧ z = c) ∨ (x = k ∧ y = c ∧ z = a) := by
    intro x y z kk hz
    by_cases s : (x = a ∧ y = b) ∨ (x = b ∧ y = k) ∨ (x = k ∧ y = a) ∨ (x = b ∧ y = c) ∨ (x = c ∧ y = k) ∨ (x = k ∧ y = b) ∨ (x = c ∧ y = a) ∨ (x = a ∧ y = k) ∨ (x = k ∧ y = c)
    · exact Or.inr (sp_f1 nab nbc nca nak nbk nck x y z s kk)
    · left
      have k' : L x y = z := by rw [← kk, sp_f2 s]
      have vx : V x := tt_va h (a := x) (b := y) (by omega)
      have vy : V y := tt_vb h (a := x) (b := y) (by omega)
      have k2 := tt_f2 h k' hz
      have k3 := tt_f3 h k' hz
      have nxk : x ≠ k := fun g => hk (by rw [← g]; exact vx)
      have nyk : y ≠ k := fun g => hk (by rw [← g]; exact vy)
      have nzk : z ≠ k := fun g => nk2 y (by rw [← g]; have := tp_16 hp0 vx; omega)
      have s1 : ¬ (x = a ∧ y = b) := fun g => s (Or.inl g)
      have s2 : ¬ (x = b ∧ y = c) := fun g => s (Or.inr (Or.inr (Or.inr (Or.inl g))))
      have s3 : ¬ (x = c ∧ y = a) := fun g => s (Or.inr (Or.inr (Or.inr (Or.inr (Or.inr (Or.inr (Or.inl g)))))))
      have e1 := sp_f4 (k := k) e bc ca s1 s2 s3 nyk nzk k2
      refine ⟨k', e1, ?_, s1, s2, s3⟩
      refine sp_f4 (x := y) (y := z) (z := x) e bc ca ?_ ?_ ?_ nzk nxk k3
      · rintro ⟨rfl, rfl⟩; exact s3 ⟨k2.symm.trans e, rfl⟩
      · rintro ⟨rfl, rfl⟩; exact s1 ⟨k2.symm.trans bc, rfl⟩
      · rintro ⟨rfl, rfl⟩; exact s2 ⟨k2.symm.trans ca, rfl⟩
  have Fold : ∀ x y, L x y ≤ 16 → ¬ (ge_B (P k) (P x) (P y)) := fun x y g => pf_1 hp0 h e hc ta tb tc g
  -- live points in the new closed faces
  have cl : ∀ a b c, L a b = c → c < 16 → 0 < (ge_o (P a) (P b) (P k)) → 0 < (ge_o (P b) (P c) (P k)) → 0 < (ge_o (P c) (P a) (P k)) → ∀ j, V j ∨ j = k → (ge_T (P a) (P b) (P k) (P j)) → j = a ∨ j = b ∨ j = k := by
    intro a b c e hc ta tb tc j vj hT
    rcases vj with vj | vj
    · have fo := tt_fo h e hc
      have : (ge_T (P a) (P b) (P c) (P j)) := ge_sub ta (Int.le_of_lt tb) (Int.le_of_lt tc) fo (ge_T1 (ge_T1 hT))
      rcases tt_E h e hc vj this with g | g | g
      · exact Or.inl g
      · exact Or.inr (Or.inl g)
      · exfalso
        rw [g] at hT
        have := hT.2.1
        have := ge_sw2 (P b) (P c) (P k)
        omega
    · exact Or.inr (Or.inr vj)
  -- nothing strictly between a corner and k
  have lft : ∀ a b c, L a b = c → c < 16 → 0 < (ge_o (P a) (P b) (P k)) → 0 < (ge_o (P b) (P c) (P k)) → 0 < (ge_o (P c) (P a) (P k)) → ∀ j, V j ∨ j = k → ¬ (ge_B (P j) (P a) (P k)) := by
    intro a b c e hc ta tb tc j vj hB
    obtain ⟨l, n, l0, n0, hl⟩ := ge_Bo hB
    have k1 := hl (P a) (P b)
    have k2 := hl (P b) (P k)
    rw [ge_psp] at k1
    rw [ge_spp] at k2
    have g1 := ge_rot (P a) (P b) (P k)
    have t1 : 0 ≤ (ge_o (P a) (P b) (P j)) := sg_invw (A := l + n) (by omega) (by have := sg_pp n0 ta; omega)
    have t2 : 0 ≤ (ge_o (P b) (P k) (P j)) := sg_invw (A := l + n) (by omega) (by have := sg_pp l0 (show 0 < (ge_o (P b) (P k) (P a)) by omega); omega)
    have t3 : (ge_o (P k) (P a) (P j)) = 0 := by have := hB.1; have := ge_sw (P a) (P k) (P j); omega
    rcases cl a b c e hc ta tb tc j vj ⟨t1, t2, by omega⟩ with g | g | g
    · subst g; exact (ge_Bne hB).1 rfl
    · subst g
      have := ge_sw3 (P k) (P a) (P j)
      have := ge_rot2 (P a) (P j) (P k)
      have := ge_rot (P a) (P j) (P k)
      omega
    · subst g; exact (ge_Bne hB).2.1 rfl
  refine ⟨?_, ?_, ?_, ?_, ?_, ?_, ?_, ?_⟩
  · intro x y g
    rcases hE x y g with j | j | j
    · exact ⟨Or.inl (tt_va h j), Or.inl (tt_vb h j), tt_ne h j, hE2 y x (tt_sy h j)⟩
    · refine ⟨Or.inr j.1, Or.inl ?_, ?_, hE3 y x (Or.inr j)⟩
      · rcases j.2 with g | g | g <;> rw [g] <;> assumption
      · rcases j.2 with g | g | g <;> rw [g, j.1]
        · exact fun g => nak g.symm
        · exact fun g => nbk g.symm
        · exact fun g => nck g.symm
    · refine ⟨Or.inl ?_, Or.inr j.1, ?_, hE3 y x (Or.inl j)⟩
      · rcases j.2 with g | g | g <;> rw [g] <;> assumption
      · rcases j.2 with g | g | g <;> rw [g, j.1] <;> assumption
  · intro x y z g hz
    rcases hF x y z g hz with j | ⟨rfl, rfl, rfl⟩ | ⟨rfl, rfl, rfl⟩ | ⟨rfl, rfl, rfl⟩ | ⟨rfl, rfl, rfl⟩ | ⟨rfl, rfl, rfl⟩ | ⟨rfl, rfl, rfl⟩ | ⟨rfl, rfl, rfl⟩ | ⟨rfl, rfl, rfl⟩ | ⟨rfl, rfl, rfl⟩
    · exact ⟨j.2.1, j.2.2.1, tt_fo h j.1 hz⟩
    all_goals (refine ⟨?_, ?_, by omega⟩ <;> assumption)
  · intro x y
    rw [← tt_out h x y]
    exact sp_f5 e bc ca hc a16 b16 k16 nab nbc nca nak nbk nck nk1 nk2
  · intro x y j g vj
    rcases hE x y g with i | ⟨rfl, i⟩ | ⟨rfl, i⟩
    · rcases vj with vj | rfl
      · exact tt_F h i vj
      · exact Fold x y i
    · clear g
      rcases i with rfl | rfl | rfl
      · exact fun w => lft y b c e hc ta tb tc j vj (ge_B1 w)
      · exact fun w => lft y c a bc a16 tb tc ta j vj (ge_B1 w)
      · exact fun w => lft y a b ca b16 tc ta tb j vj (ge_B1 w)
    · clear g
      rcases i with rfl | rfl | rfl
      · exact lft x b c e hc ta tb tc j vj
      · exact lft x c a bc a16 tb tc ta j vj
      · exact lft x a b ca b16 tc ta tb j vj
  · intro x y z w g1 g2 hX
    have nx : ∀ y, (y = a ∨ y = b ∨ y = c) → ∀ z w, L z w ≤ 16 → ¬ (ge_X (P k) (P y) (P z) (P w)) := by
      intro y hy z w g
      rcases hy with rfl | rfl | rfl
      · exact pf_3 hp0 h e hc ta tb tc g
      · exact pf_3 hp0 h bc a16 tb tc ta g
      · exact pf_3 hp0 h ca b16 tc ta tb g
    have sh : ∀ y z w, ¬ (ge_X (P k) (P y) (P k) (P w)) ∧ ¬ (ge_X (P k) (P y) (P z) (P k)) := by
      intro y z w
      constructor
      · intro g; have := g.1; rw [ge_psp] at this; omega
      · intro g; have := g.2.1; rw [ge_spp] at this; omega
    rcases hE x y g1 with j | ⟨rfl, j⟩ | ⟨rfl, j⟩
    · rcases hE z w g2 with i | ⟨rfl, i⟩ | ⟨rfl, i⟩
      · exact tt_N h j i hX
      · exact nx w i y x (tt_sy h j) (ge_X2 hX)
      · exact nx z i x y j (ge_X3 hX)
    · rcases hE z w g2 with i | ⟨rfl, i⟩ | ⟨rfl, i⟩
      · exact nx y j z w i hX
      · exact (sh y z w).1 hX
      · exact (sh y z w).2 hX
    · rcases hE z w g2 with i | ⟨rfl, i⟩ | ⟨rfl, i⟩
      · exact nx x j w z (tt_sy h i) (ge_X1 hX)
      · exact (sh x w z).2 (ge_X1 hX)
      · exact (sh x w z).1 (ge_X1 hX)
  · intro x y z j g hz vj hT
    have Aq := cl a b c e hc ta tb tc j vj
    have Bq := cl b c a bc a16 tb tc ta j vj
    have Cq := cl c a b ca b16 tc ta tb j vj
    rcases hF x y z g hz with i | ⟨rfl, rfl, rfl⟩ | ⟨rfl, rfl, rfl⟩ | ⟨rfl, rfl, rfl⟩ | ⟨rfl, rfl, rfl⟩ | ⟨rfl, rfl, rfl⟩ | ⟨rfl, rfl, rfl⟩ | ⟨rfl, rfl, rfl⟩ | ⟨rfl, rfl, rfl⟩ | ⟨rfl, rfl, rfl⟩
    · rcases vj with vj | rfl
      · exact tt_E h i.1 hz vj hT
      · exfalso
        obtain ⟨s1, s2, s3⟩ := pf_cl hp hk hp0 h Fold i.1 hz hT
        have := pf_2 hp0 h e hc ta tb tc i.1 hz s1 s2 s3
        have := i.2.2.2
        omega
    · exact Aq hT
    · have := Aq (ge_T1 (ge_T1 hT)); omega
    · have := Aq (ge_T1 hT); omega
    · exact Bq hT
    · have := Bq (ge_T1 (ge_T1 hT)); omega
    · have := Bq (ge_T1 hT); omega
    · exact Cq hT
    · have := Cq (ge_T1 (ge_T1 hT)); omega
    · have := Cq (ge_T1 hT); omega
  · intro x vx
    rcases vx with vx | rfl
    · obtain ⟨y, hy⟩ := tt_deg h vx
      exact ⟨y, hE2 x y hy⟩
    · exact ⟨a, hE3 x a (Or.inl ⟨rfl, Or.inl rfl⟩)⟩
  · intro s hs p q vp vq ne cp cq hb
    have onk : (ge_C (P k) (P (s.1)) (P (s.2))) → False := by
      intro ck
      obtain ⟨vu, vv, _⟩ := hS.1 s hs
      obtain ⟨p', q', vp', vq', ne', cp', cq', hB, hb'⟩ := cs_1 hp hk vu vv ck
      exact Fold p' q' (tt_C h hs vp' vq' ne' cp' cq' hb') hB
    rcases vp with vp | rfl
    · rcases vq with vq | rfl
      · exact hE2 p q (tt_C h hs vp vq ne cp cq (fun k vk => hb k (Or.inl vk)))
      · exact (onk cq).elim
    · exact (onk cp).elim
end
end
section
/-- a new point strictly inside an edge -/
def sd_L (L : Nat → Nat → Nat) (a b c d k : Nat) : Nat → Nat → Nat := fun x y =>
  if x = a ∧ y = b then 17 else if x = b ∧ y = a then 17 else
  if x = a ∧ y = k then c else if x = k ∧ y = c then a else if x = c ∧ y = a then k else
  if x = k ∧ y = b then c else if x = b ∧ y = c then k else if x = c ∧ y = k then b else
  if x = b ∧ y = k then d else if x = k ∧ y = d then b else if x = d ∧ y = b then k else
  if x = k ∧ y = a then d else if x = a ∧ y = d then k else if x = d ∧ y = k then a else L x y
/-- the rewritten directed edges -/
def sd_S (a b c d k x y : Nat) : Prop :=
  (x = a ∧ y = b) ∨ (x = b ∧ y = a) ∨ (x = c ∧ y = a) ∨ (x = b ∧ y = c) ∨ (x = d ∧ y = b) ∨ (x = a ∧ y = d) ∨ (x = k ∧ (y = a ∨ y = b ∨ y = c ∨ y = d)) ∨ (y = k ∧ (x = a ∨ x = b ∨ x = c ∨ x = d))
/-- the new faces -/
def sd_F (a b c d k x y z : Nat) : Prop :=
  (x = a ∧ y = k ∧ z = c) ∨ (x = k ∧ y = c ∧ z = a) ∨ (x = c ∧ y = a ∧ z = k) ∨ (x = k ∧ y = b ∧ z = c) ∨ (x = b ∧ y = c ∧ z = k) ∨ (x = c ∧ y = k ∧ z = b) ∨
  (x = b ∧ y = k ∧ z = d) ∨ (x = k ∧ y = d ∧ z = b) ∨ (x = d ∧ y = b ∧ z = k) ∨ (x = k ∧ y = a ∧ z = d) ∨ (x = a ∧ y = d ∧ z = k) ∨ (x = d ∧ y = k ∧ z = a)
theorem sd_v {L : Nat → Nat → Nat} {a b c d k : Nat} (nab : a ≠ b) (nbc : b ≠ c) (nca : c ≠ a) (nad : a ≠ d) (ndb : d ≠ b) (ncd : c ≠ d) (nak : a ≠ k) (nbk : b ≠ k) (nck : c ≠ k) (ndk : d ≠ k) :
    sd_L L a b c d k a b = 17 ∧ sd_L L a b c d k b a = 17 ∧
    (sd_L L a b c d k a k = c ∧ sd_L L a b c d k k c = a ∧ sd_L L a b c d k c a = k) ∧ (sd_L L a b c d k k b = c ∧ sd_L L a b c d k b c = k ∧ sd_L L a b c d k c k = b) ∧
    (sd_L L a b c d k b k = d ∧ sd_L L a b c d k k d = b ∧ sd_L L a b c d k d b = k) ∧ (sd_L L a b c d k k a = d ∧ sd_L L a b c d k a d = k ∧ sd_L L a b c d k d k = a) := by
  unfold sd_L
  refine ⟨?_, ?_, ⟨?_, ?_, ?_⟩, ⟨?_, ?_, ?_⟩, ⟨?_, ?_, ?_⟩, ⟨?_, ?_, ?_⟩⟩ <;> grind
theorem sd_o {L : Nat → Nat → Nat} {a b c d k x y : Nat} (s : ¬ sd_S a b c d k x y) : sd_L L a b c d k x y = L x y := by
  unfold sd_S at s
  have s1 : ¬ (x = a ∧ y = b) := fun g => s (Or.inl g)
  have s2 : ¬ (x = b ∧ y = a) := fun g => s (Or.inr (Or.inl g))
  have s3 : ¬ (x = c ∧ y = a) := fun g => s (Or.inr (Or.inr (Or.inl g)))
  have s4 : ¬ (x = b ∧ y = c) := fun g => s (Or.inr (Or.inr (Or.inr (Or.inl g))))
  have s5 : ¬ (x = d ∧ y = b) := fun g => s (Or.inr (Or.inr (Or.inr (Or.inr (Or.inl g)))))
  have s6 : ¬ (x = a ∧ y = d) := fun g => s (Or.inr (Or.inr (Or.inr (Or.inr (Or.inr (Or.inl g))))))
  have s7 : ¬ (x = k ∧ (y = a ∨ y = b ∨ y = c ∨ y = d)) := fun g => s (Or.inr (Or.inr (Or.inr (Or.inr (Or.inr (Or.inr (Or.inl g)))))))
  have s8 : ¬ (y = k ∧ (x = a ∨ x = b ∨ x = c ∨ x = d)) := fun g => s (Or.inr (Or.inr (Or.inr (Or.inr (Or.inr (Or.inr (Or.inr g)))))))
  unfold sd_L
  rw [if_neg s1, if_neg s2, if_neg (fun g => s8 ⟨g.2, Or.inl g.1⟩), if_neg (fun g => s7 ⟨g.1, Or.inr (Or.inr (Or.inl g.2))⟩), if_neg s3,
    if_neg (fun g => s7 ⟨g.1, Or.inr (Or.inl g.2)⟩), if_neg s4, if_neg (fun g => s8 ⟨g.2, Or.inr (Or.inr (Or.inl g.1))⟩),
    if_neg (fun g => s8 ⟨g.2, Or.inr (Or.inl g.1)⟩), if_neg (fun g => s7 ⟨g.1, Or.inr (Or.inr (Or.inr g.2))⟩), if_neg s5,
    if_neg (fun g => s7 ⟨g.1, Or.inl g.2⟩), if_neg s6, if_neg (fun g => s8 ⟨g.2, Or.inr (Or.inr (Or.inr g.1))⟩)]
theorem sd_s {L : Nat → Nat → Nat} {a b c d k x y z : Nat} (nab : a ≠ b) (nbc : b ≠ c) (nca : c ≠ a) (nad : a ≠ d) (ndb : d ≠ b) (ncd : c ≠ d) (nak : a ≠ k) (nbk : b ≠ k) (nck : c ≠ k) (ndk : d ≠ k)
    (s : sd_S a b c d k x y) (e : sd_L L a b c d k x y = z) (hz : z ≤ 16) : sd_F a b c d k x y z := by
  obtain ⟨v1, v2, ⟨v3, v4, v5⟩, ⟨v6, v7, v8⟩, ⟨v9, w1, w2⟩, ⟨w3, w4, w5⟩⟩ := sd_v (L := L) nab nbc nca nad ndb ncd nak nbk nck ndk
  unfold sd_F
  rcases s with ⟨rfl, rfl⟩ | ⟨rfl, rfl⟩ | ⟨rfl, rfl⟩ | ⟨rfl, rfl⟩ | ⟨rfl, rfl⟩ | ⟨rfl, rfl⟩ | ⟨rfl, rfl | rfl | rfl | rfl⟩ | ⟨rfl, rfl | rfl | rfl | rfl⟩
  · omega
  · omega
  · rw [v5] at e; subst e; simp
  · rw [v7] at e; subst e; simp
  · rw [w2] at e; subst e; simp
  · rw [w4] at e; subst e; simp
  · rw [w3] at e; subst e; simp
  · rw [v6] at e; subst e; simp
  · rw [v4] at e; subst e; simp
  · rw [w1] at e; subst e; simp
  · rw [v3] at e; subst e; simp
  · rw [v9] at e; subst e; simp
  · rw [v8] at e; subst e; simp
  · rw [w5] at e; subst e; simp
section
variable {m : Int} {V : Nat → Prop} {P : Nat → Int × Int} {S : List (Nat × Nat)} {L : Nat → Nat → Nat} {H : Nat → Int}
/-- one half: the faces and edges on the left of ab -/
theorem sd_cl (h : tr_T V P S L) {a b c k : Nat} (e : L a b = c) (hc : c < 16) (hB : (ge_B (P k) (P a) (P b))) {j : Nat} (vj : V j ∨ j = k) (hT : (ge_T (P a) (P k) (P c) (P j))) : j = a ∨ j = k ∨ j = c := by
  rcases vj with vj | vj
  · obtain ⟨l, n, l0, n0, hl⟩ := ge_Bo hB
    have fo := tt_fo h e hc
    have k0 := hB.1
    have a1 := hl (P c) (P a)
    have a2 := hl (P b) (P c)
    rw [ge_spp] at a1
    rw [ge_psp] at a2
    have r1 := ge_rot2 (P a) (P b) (P c)
    have r2 := ge_rot (P a) (P b) (P c)
    have t1 : 0 < (ge_o (P c) (P a) (P k)) := sg_inv (A := l + n) (by omega) (by have := sg_pp n0 (show 0 < (ge_o (P c) (P a) (P b)) by omega); omega)
    have t2 : 0 < (ge_o (P b) (P c) (P k)) := sg_inv (A := l + n) (by omega) (by have := sg_pp l0 (show 0 < (ge_o (P b) (P c) (P a)) by omega); omega)
    have hT' : (ge_T (P a) (P b) (P c) (P j)) := by
      obtain ⟨h1, h2, h3⟩ := hT
      have I1 : (ge_o (P c) (P a) (P k)) * (ge_o (P a) (P b) (P j)) = (ge_o (P a) (P b) (P c)) * (ge_o (P a) (P k) (P j)) + (ge_o (P a) (P b) (P k)) * (ge_o (P c) (P a) (P j)) := by unfold ge_o; grind
      have I2 : (ge_o (P c) (P a) (P k)) * (ge_o (P b) (P c) (P j)) = (ge_o (P a) (P b) (P c)) * (ge_o (P k) (P c) (P j)) + (ge_o (P b) (P c) (P k)) * (ge_o (P c) (P a) (P j)) := by unfold ge_o; grind
      exact ⟨sg_w I1 t1 (Int.le_of_lt fo) h1 (by omega) h3, sg_w I2 t1 (Int.le_of_lt fo) h2 (Int.le_of_lt t2) h3, h3⟩
    rcases tt_E h e hc vj hT' with g | g | g
    · exact Or.inl g
    · exfalso
      rw [g] at hT
      have := hT.2.1
      have := ge_sw3 (P b) (P c) (P k)
      have := ge_rot (P k) (P c) (P b)
      have := ge_rot2 (P k) (P c) (P b)
      have := ge_rot (P b) (P c) (P k)
      omega
    · exact Or.inr (Or.inr g)
  · exact Or.inr (Or.inl vj)
/-- nothing strictly between k and the apex -/
theorem sd_B (h : tr_T V P S L) {a b c k : Nat} (e : L a b = c) (hc : c < 16) (hB : (ge_B (P k) (P a) (P b))) (nk : ¬ V k) {j : Nat} (vj : V j ∨ j = k) : ¬ (ge_B (P j) (P k) (P c)) := by
  intro hj
  obtain ⟨l, n, l0, n0, hl⟩ := ge_Bo hB
  have fo := tt_fo h e hc
  have a1 := hl (P c) (P a)
  rw [ge_spp] at a1
  have r1 := ge_rot2 (P a) (P b) (P c)
  have t1 : 0 < (ge_o (P c) (P a) (P k)) := sg_inv (A := l + n) (by omega) (by have := sg_pp n0 (show 0 < (ge_o (P c) (P a) (P b)) by omega); omega)
  obtain ⟨l', n', l0', n0', hl'⟩ := ge_Bo hj
  have k1 := hl' (P a) (P k)
  have k2 := hl' (P c) (P a)
  rw [ge_spp] at k1
  rw [ge_psp] at k2
  have r2 := ge_rot (P c) (P a) (P k)
  have s1 : 0 ≤ (ge_o (P a) (P k) (P j)) := sg_invw (A := l' + n') (by omega) (by have := sg_pp n0' (show 0 < (ge_o (P a) (P k) (P c)) by omega); omega)
  have s2 : 0 ≤ (ge_o (P c) (P a) (P j)) := sg_invw (A := l' + n') (by omega) (by have := sg_pp l0' t1; omega)
  have s3 := hj.1
  rcases sd_cl h e hc hB vj ⟨s1, by omega, s2⟩ with g | g | g
  · subst g
    have := ge_rot2 (P c) (P j) (P k)
    omega
  · subst g; exact (ge_Bne hj).1 rfl
  · subst g; exact (ge_Bne hj).2.1 rfl
/-- an old edge across k's way to the apex is ab itself -/
theorem sd_N (h : tr_T V P S L) {a b c k : Nat} (e : L a b = c) (hc : c < 16) (g2 : L b c ≤ 16) (g3 : L c a ≤ 16) (hB : (ge_B (P k) (P a) (P b))) {x y : Nat} (exy : L x y ≤ 16) (hX : (ge_X (P k) (P c) (P x) (P y))) : x = a ∧ y = b := by
  obtain ⟨l, n, l0, n0, hl⟩ := ge_Bo hB
  have fo := tt_fo h e hc
  have eab : L a b ≤ 16 := by omega
  have va := tt_va h eab
  have vb := tt_vb h eab
  have vx := tt_va h exy
  have vy := tt_vb h exy
  have eyx := tt_sy h exy
  have a1 := hl (P c) (P a)
  have a2 := hl (P b) (P c)
  rw [ge_spp] at a1
  rw [ge_psp] at a2
  have r1 := ge_rot2 (P a) (P b) (P c)
  have r2 := ge_rot (P a) (P b) (P c)
  have t1 : 0 < (ge_o (P c) (P a) (P k)) := sg_inv (A := l + n) (by omega) (by have := sg_pp n0 (show 0 < (ge_o (P c) (P a) (P b)) by omega); omega)
  have t2 : 0 < (ge_o (P b) (P c) (P k)) := sg_inv (A := l + n) (by omega) (by have := sg_pp l0 (show 0 < (ge_o (P b) (P c) (P a)) by omega); omega)
  have q1 := ge_rot2 (P c) (P a) (P k)
  have q2 := ge_rot (P b) (P c) (P k)
  have abn : ∀ p q : Nat, L p q ≤ 16 → ¬ (ge_X (P a) (P b) (P p) (P q)) ∧ ¬ (ge_X (P b) (P a) (P p) (P q)) := fun p q g => ⟨tt_N h eab g, tt_N h (tt_sy h eab) g⟩
  constructor
  · rcases ge_exit (x := P k) (y := P c) (z := P a) (by omega) hX with j | j | j | j
    · rcases sd_cl h e hc hB (Or.inl vx) (ge_T1 (ge_T1 j)) with g | g | g
      · exact g
      · have := hX.1; rw [g, ge_psp] at this; omega
      · have := hX.1; rw [g, ge_spp] at this; omega
    · exact absurd j (tt_N h g3 eyx)
    · rcases ge_Xcov (ge_Ca (P a) (P b)) (ge_BC hB) j with g | g
      · exact absurd g (abn _ _ eyx).1
      · exact absurd g (abn _ _ eyx).2
    · exact absurd j (tt_F h eyx va)
  · -- the other side: mirror image by the face seen from b
    rcases ge_exit (x := P c) (y := P k) (z := P b) (by omega) (ge_X1 hX) with j | j | j | j
    · obtain ⟨h1, h2, h3⟩ := j
      have hT' : (ge_T (P a) (P b) (P c) (P y)) := by
        have I1 : (ge_o (P b) (P c) (P k)) * (ge_o (P a) (P b) (P y)) = (ge_o (P a) (P b) (P c)) * (ge_o (P k) (P b) (P y)) + (ge_o (P a) (P b) (P k)) * (ge_o (P b) (P c) (P y)) := by unfold ge_o; grind
        have I2 : (ge_o (P b) (P c) (P k)) * (ge_o (P c) (P a) (P y)) = (ge_o (P a) (P b) (P c)) * (ge_o (P c) (P k) (P y)) + (ge_o (P c) (P a) (P k)) * (ge_o (P b) (P c) (P y)) := by unfold ge_o; grind
        have := hB.1
        exact ⟨sg_w I1 t2 (Int.le_of_lt fo) h2 (by omega) h3, h3, sg_w I2 t2 (Int.le_of_lt fo) h1 (Int.le_of_lt t1) h3⟩
      rcases tt_E h e hc vy hT' with g | g | g
      · exfalso
        rw [g] at h1
        have := ge_sw2 (P c) (P a) (P k)
        omega
      · exact g
      · have := hX.2.1; rw [g, ge_psp] at this; omega
    · rcases ge_Xcov (ge_BC hB) (ge_Cb (P a) (P b)) j with g | g
      · exact absurd g (abn _ _ exy).1
      · exact absurd g (abn _ _ exy).2
    · exact absurd j (tt_N h g2 exy)
    · exact absurd j (tt_F h exy vb)
theorem sd_T {k : Nat} (hp : tr_pt m (fun x => V x ∨ x = k) P) (hk : ¬ V k) (hp0 : tr_pt m V P) (hS : tr_sg V P S) (h : tr_T V P S L) {a b c d : Nat} (e : L a b = c) (hc : c < 16)
    (e' : L b a = d) (hd : d < 16) (hB : (ge_B (P k) (P a) (P b))) : tr_T (fun x => V x ∨ x = k) P S (sd_L L a b c d k) := by
  obtain ⟨va, vb, vc, bc, ca, f1, x1, x2, x3, x4, x5, x6⟩ := tt_face hp0 h e hc
  obtain ⟨_, _, vd, ad, db, f2, y1, y2, y3, y4, y5, y6⟩ := tt_face hp0 h e' hd
  have a16 := tp_16 hp0 va
  have b16 := tp_16 hp0 vb
  have k16 : k < 16 := tp_16 hp (Or.inr rfl)
  have nab := tt_ne h x1
  have nbc := tt_ne h x2
  have nca := tt_ne h x3
  have nad := tt_ne h y2
  have ndb := tt_ne h y3
  have ncd : c ≠ d := by rintro rfl; have := ge_sw (P a) (P b) (P c); omega
  have nak : a ≠ k := fun g => hk (by rw [← g]; exact va)
  have nbk : b ≠ k := fun g => hk (by rw [← g]; exact vb)
  have nck : c ≠ k := fun g => hk (by rw [← g]; exact vc)
  have ndk : d ≠ k := fun g => hk (by rw [← g]; exact vd)
  have nk1 : ∀ x, ¬ L k x ≤ 16 := fun x g => hk (tt_va h g)
  have nk2 : ∀ x, ¬ L x k ≤ 16 := fun x g => hk (tt_vb h g)
  obtain ⟨v1, v2, ⟨v3, v4, v5⟩, ⟨v6, v7, v8⟩, ⟨v9, w1, w2⟩, ⟨w3, w4, w5⟩⟩ := sd_v (L := L) nab nbc nca nad ndb ncd nak nbk nck ndk
  have hB' := ge_B1 hB
  -- turns of the new faces
  have turn : ∀ a b c, L a b = c → c < 16 → (ge_B (P k) (P a) (P b)) → 0 < (ge_o (P a) (P k) (P c)) ∧ 0 < (ge_o (P k) (P b) (P c)) := by
    intro a b c e hc hB
    obtain ⟨l, n, l0, n0, hl⟩ := ge_Bo hB
    have fo := tt_fo h e hc
    have a1 := hl (P c) (P a)
    have a2 := hl (P b) (P c)
    rw [ge_spp] at a1
    rw [ge_psp] at a2
    have r1 := ge_rot2 (P a) (P b) (P c)
    have r2 := ge_rot (P a) (P b) (P c)
    have t1 : 0 < (ge_o (P c) (P a) (P k)) := sg_inv (A := l + n) (by omega) (by have := sg_pp n0 (show 0 < (ge_o (P c) (P a) (P b)) by omega); omega)
    have t2 : 0 < (ge_o (P b) (P c) (P k)) := sg_inv (A := l + n) (by omega) (by have := sg_pp l0 (show 0 < (ge_o (P b) (P c) (P a)) by omega); omega)
    have q1 := ge_rot (P c) (P a) (P k)
    have q2 := ge_rot2 (P b) (P c) (P k)
    exact ⟨by omega, by omega⟩
  obtain ⟨o1, o2⟩ := turn a b c e hc hB
  obtain ⟨o3, o4⟩ := turn b a d e' hd hB'
  -- edges
  have hE : ∀ x y, sd_L L a b c d k x y ≤ 16 → (L x y ≤ 16 ∧ ¬ (x = a ∧ y = b) ∧ ¬ (x = b ∧ y = a)) ∨ (x = k ∧ (y = a ∨ y = b ∨ y = c ∨ y = d)) ∨ (y = k ∧ (x = a ∨ x = b ∨ x = c ∨ x = d)) := by
    intro x y g
    by_cases s : sd_S a b c d k x y
    · rcases s with ⟨rfl, rfl⟩ | ⟨rfl, rfl⟩ | ⟨rfl, rfl⟩ | ⟨rfl, rfl⟩ | ⟨rfl, rfl⟩ | ⟨rfl, rfl⟩ | s | s
      · omega
      · omega
      · exact Or.inl ⟨x3, by omega, by omega⟩
      · exact Or.inl ⟨x2, by omega, by omega⟩
      · exact Or.inl ⟨y3, by omega, by omega⟩
      · exact Or.inl ⟨y2, by omega, by omega⟩
      · exact Or.inr (Or.inl s)
      · exact Or.inr (Or.inr s)
    · rw [sd_o s] at g
      exact Or.inl ⟨g, fun w => s (Or.inl w), fun w => s (Or.inr (Or.inl w))⟩
  have hE2 : ∀ x y, L x y ≤ 16 → ¬ (x = a ∧ y = b) → ¬ (x = b ∧ y = a) → sd_L L a b c d k x y ≤ 16 := by
    intro x y g n1 n2
    by_cases s : sd_S a b c d k x y
    · rcases s with s | s | ⟨rfl, rfl⟩ | ⟨rfl, rfl⟩ | ⟨rfl, rfl⟩ | ⟨rfl, rfl⟩ | s | s
      · exact absurd s n1
      · exact absurd s n2
      · omega
      · omega
      · omega
      · omega
      · rw [s.1] at g; exact absurd g (nk1 y)
      · rw [s.1] at g; exact absurd g (nk2 x)
    · rw [sd_o s]; exact g
  have hE3 : ∀ x y, (x = k ∧ (y = a ∨ y = b ∨ y = c ∨ y = d)) ∨ (y = k ∧ (x = a ∨ x = b ∨ x = c ∨ x = d)) → sd_L L a b c d k x y ≤ 16 := by
    rintro x y (⟨rfl, rfl | rfl | rfl | rfl⟩ | ⟨rfl, rfl | rfl | rfl | rfl⟩) <;> omega
  have hF : ∀ x y z, sd_L L a b c d k x y = z → z < 16 → (L x y = z ∧ sd_L L a b c d k y z = x ∧ sd_L L a b c d k z x = y ∧ ¬ sd_S a b c d k x y) ∨ sd_F a b c d k x y z := by
    intro x y z g hz
    by_cases s : sd_S a b c d k x y
    · exact Or.inr (sd_s nab nbc nca nad ndb ncd nak nbk nck ndk s g (by omega))
    · left
      have k' : L x y = z := by rw [← g, sd_o s]
      have vx : V x := tt_va h (a := x) (b := y) (by omega)
      have vy : V y := tt_vb h (a := x) (b := y) (by omega)
      have k2 := tt_f2 h k' hz
      have k3 := tt_f3 h k' hz
      have nxk : x ≠ k := fun g => hk (by rw [← g]; exact vx)
      have nyk : y ≠ k := fun g => hk (by rw [← g]; exact vy)
      have nzk : z ≠ k := fun g => nk2 y (by rw [← g]; have := tp_16 hp0 vx; omega)
      have nx : ∀ x y z, L x y = z → L y z = x → L z x = y → y ≠ k → z ≠ k → ¬ sd_S a b c d k x y → ¬ sd_S a b c d k y z := by
        intro x y z k1 k2 k3 nyk nzk s t
        refine s ?_
        rcases t with ⟨rfl, rfl⟩ | ⟨rfl, rfl⟩ | ⟨rfl, rfl⟩ | ⟨rfl, rfl⟩ | ⟨rfl, rfl⟩ | ⟨rfl, rfl⟩ | t | t
        · exact Or.inr (Or.inr (Or.inl ⟨k2.symm.trans e, rfl⟩))
        · exact Or.inr (Or.inr (Or.inr (Or.inr (Or.inl ⟨k2.symm.trans e', rfl⟩))))
        · exact Or.inr (Or.inr (Or.inr (Or.inl ⟨k2.symm.trans ca, rfl⟩)))
        · exact Or.inl ⟨k2.symm.trans bc, rfl⟩
        · exact Or.inr (Or.inr (Or.inr (Or.inr (Or.inr (Or.inl ⟨k2.symm.trans db, rfl⟩)))))
        · exact Or.inr (Or.inl ⟨k2.symm.trans ad, rfl⟩)
        · exact absurd t.1 nyk
        · exact absurd t.1 nzk
      have n1 := nx x y z k' k2 k3 nyk nzk s
      have n2 := nx y z x k2 k3 k' nzk nxk n1
      exact ⟨k', by rw [sd_o n1]; exact k2, by rw [sd_o n2]; exact k3, s⟩
  have q1 := ge_rot (P a) (P k) (P c)
  have q2 := ge_rot2 (P a) (P k) (P c)
  have q3 := ge_rot (P k) (P b) (P c)
  have q4 := ge_rot2 (P k) (P b) (P c)
  have q5 := ge_rot (P b) (P k) (P d)
  have q6 := ge_rot2 (P b) (P k) (P d)
  have q7 := ge_rot (P k) (P a) (P d)
  have q8 := ge_rot2 (P k) (P a) (P d)
  refine ⟨?_, ?_, ?_, ?_, ?_, ?_, ?_, ?_⟩
  · intro x y g
    rcases hE x y g with j | j | j
    · exact ⟨Or.inl (tt_va h j.1), Or.inl (tt_vb h j.1), tt_ne h j.1, hE2 y x (tt_sy h j.1) (fun g => j.2.2 ⟨g.2, g.1⟩) (fun g => j.2.1 ⟨g.2, g.1⟩)⟩
    · refine ⟨Or.inr j.1, Or.inl ?_, ?_, hE3 y x (Or.inr j)⟩
      · rcases j.2 with g | g | g | g <;> rw [g] <;> assumption
      · rcases j.2 with g | g | g | g <;> rw [g, j.1] <;> omega
    · refine ⟨Or.inl ?_, Or.inr j.1, ?_, hE3 y x (Or.inl j)⟩
      · rcases j.2 with g | g | g | g <;> rw [g] <;> assumption
      · rcases j.2 with g | g | g | g <;> rw [g, j.1] <;> assumption
  · intro x y z g hz
    rcases hF x y z g hz with j | j
    · exact ⟨j.2.1, j.2.2.1, tt_fo h j.1 hz⟩
    · clear g
      unfold sd_F at j
      rcases j with ⟨rfl, rfl, rfl⟩ | ⟨rfl, rfl, rfl⟩ | ⟨rfl, rfl, rfl⟩ | ⟨rfl, rfl, rfl⟩ | ⟨rfl, rfl, rfl⟩ | ⟨rfl, rfl, rfl⟩ | ⟨rfl, rfl, rfl⟩ | ⟨rfl, rfl, rfl⟩ | ⟨rfl, rfl, rfl⟩ | ⟨rfl, rfl, rfl⟩ | ⟨rfl, rfl, rfl⟩ | ⟨rfl, rfl, rfl⟩
      all_goals (refine ⟨?_, ?_, by omega⟩ <;> assumption)
  · intro x y
    rw [← tt_out h x y]
    by_cases s : sd_S a b c d k x y
    · constructor
      · intro g
        have := sd_s nab nbc nca nad ndb ncd nak nbk nck ndk s g (by omega)
        unfold sd_F at this
        omega
      · intro g
        exfalso
        rcases s with ⟨rfl, rfl⟩ | ⟨rfl, rfl⟩ | ⟨rfl, rfl⟩ | ⟨rfl, rfl⟩ | ⟨rfl, rfl⟩ | ⟨rfl, rfl⟩ | s | s
        · omega
        · omega
        · omega
        · omega
        · omega
        · omega
        · rw [s.1] at g; exact nk1 y (by omega)
        · rw [s.1] at g; exact nk2 x (by omega)
    · rw [sd_o s]
  · have lft : ∀ y, (y = a ∨ y = b ∨ y = c ∨ y = d) → ∀ j, V j ∨ j = k → ¬ (ge_B (P j) (P k) (P y)) := by
      intro y hy j vj hj
      have onab : (∀ y, (ge_C (P y) (P a) (P b)) → (ge_B (P j) (P k) (P y)) → False) := by
        intro y cy hj
        rcases vj with vj | rfl
        · have cj := ge_BCC hj (ge_BC hB) cy
          rcases ge_Cd cj with g | g | g
          · have g := tp_inj hp0 vj va g
            subst g
            -- j = a strictly between k and y on ab: impossible
            obtain ⟨l, n, l0, n0, hl⟩ := ge_Bw hj
            obtain ⟨l2, n2, p1, p2, p3, p4, p5⟩ := ge_Cw cy
            obtain ⟨l3, n3, p6, p7, p8, p9⟩ := ge_Bw hB
            have hne : P j ≠ P b := fun g => nab (tp_inj hp0 va vb g)
            have hs : ∃ s : Int × Int, 0 < ge_o (P j) s (P b) := by
              refine ⟨((P j).1 + ((P b).2 - (P j).2), (P j).2 - ((P b).1 - (P j).1)), ?_⟩
              have := ge_ne hne
              unfold ge_o; simp only; grind
            obtain ⟨s, hs⟩ := hs
            have z1 := ge_lin hl.1 hl.2 (P j) s
            have z2 := ge_lin p4 p5 (P j) s
            have z3 := ge_lin p8 p9 (P j) s
            rw [ge_psp] at z1 z2 z3
            have u3 : 0 < ge_o (P j) s (P k) := sg_inv (A := l3 + n3) (by omega) (by have := sg_pp p7 hs; omega)
            have u2 : 0 ≤ ge_o (P j) s (P y) := sg_invw p3 (by have := sg_ww p2 (Int.le_of_lt hs); omega)
            have := sg_pp l0 u3
            have := sg_ww (Int.le_of_lt n0) u2
            omega
          · have g := tp_inj hp0 vj vb g
            subst g
            obtain ⟨l, n, l0, n0, hl⟩ := ge_Bw hj
            obtain ⟨l2, n2, p1, p2, p3, p4, p5⟩ := ge_Cw cy
            obtain ⟨l3, n3, p6, p7, p8, p9⟩ := ge_Bw hB
            have hne : P j ≠ P a := fun g => nab (tp_inj hp0 vb va g).symm
            have hs : ∃ s : Int × Int, 0 < ge_o (P j) s (P a) := by
              refine ⟨((P j).1 + ((P a).2 - (P j).2), (P j).2 - ((P a).1 - (P j).1)), ?_⟩
              have := ge_ne hne
              unfold ge_o; simp only; grind
            obtain ⟨s, hs⟩ := hs
            have z1 := ge_lin hl.1 hl.2 (P j) s
            have z2 := ge_lin p4 p5 (P j) s
            have z3 := ge_lin p8 p9 (P j) s
            rw [ge_psp] at z1 z2 z3
            have u3 : 0 < ge_o (P j) s (P k) := sg_inv (A := l3 + n3) (by omega) (by have := sg_pp p6 hs; omega)
            have u2 : 0 ≤ ge_o (P j) s (P y) := sg_invw p3 (by have := sg_ww p1 (Int.le_of_lt hs); omega)
            have := sg_pp l0 u3
            have := sg_ww (Int.le_of_lt n0) u2
            omega
          · exact tt_F h x1 vj g
        · exact (ge_Bne hj).1 rfl
      rcases hy with rfl | rfl | rfl | rfl
      · exact onab y (ge_Ca _ _) hj
      · exact onab y (ge_Cb _ _) hj
      · exact sd_B h e hc hB hk vj hj
      · exact sd_B h e' hd hB' hk vj hj
    have Fold : ∀ x y, L x y ≤ 16 → ¬ (x = a ∧ y = b) → ¬ (x = b ∧ y = a) → ¬ (ge_B (P k) (P x) (P y)) := by
      intro x y g n1 n2 hb
      rcases pe_1 hp0 h x1 g hB hb with w | w
      · exact n1 w
      · exact n2 w
    intro x y j g vj
    rcases hE x y g with i | ⟨rfl, i⟩ | ⟨rfl, i⟩
    · rcases vj with vj | rfl
      · exact tt_F h i.1 vj
      · exact Fold x y i.1 i.2.1 i.2.2
    · exact lft y i j vj
    · exact fun w => lft x i j vj (ge_B1 w)
  · intro x y z w g1 g2 hX
    have nx : ∀ y, (y = a ∨ y = b ∨ y = c ∨ y = d) → ∀ z w, (L z w ≤ 16 ∧ ¬ (z = a ∧ w = b) ∧ ¬ (z = b ∧ w = a)) → ¬ (ge_X (P k) (P y) (P z) (P w)) := by
      intro y hy z w g hX
      rcases hy with rfl | rfl | rfl | rfl
      · rcases ge_Xcov (ge_BC hB) (ge_Ca (P y) (P b)) hX with j | j
        · exact tt_N h x1 g.1 j
        · exact tt_N h y1 g.1 j
      · rcases ge_Xcov (ge_BC hB) (ge_Cb (P a) (P y)) hX with j | j
        · exact tt_N h x1 g.1 j
        · exact tt_N h y1 g.1 j
      · exact g.2.1 (sd_N h e hc x2 x3 hB g.1 hX)
      · exact g.2.2 (sd_N h e' hd y2 y3 hB' g.1 hX)
    have sy : ∀ z w, (L z w ≤ 16 ∧ ¬ (z = a ∧ w = b) ∧ ¬ (z = b ∧ w = a)) → (L w z ≤ 16 ∧ ¬ (w = a ∧ z = b) ∧ ¬ (w = b ∧ z = a)) :=
      fun z w k => ⟨tt_sy h k.1, fun g => k.2.2 ⟨g.2, g.1⟩, fun g => k.2.1 ⟨g.2, g.1⟩⟩
    have sh : ∀ y z w, ¬ (ge_X (P k) (P y) (P k) (P w)) ∧ ¬ (ge_X (P k) (P y) (P z) (P k)) := by
      intro y z w
      constructor
      · intro g; have := g.1; rw [ge_psp] at this; omega
      · intro g; have := g.2.1; rw [ge_spp] at this; omega
    rcases hE x y g1 with j | ⟨rfl, j⟩ | ⟨rfl, j⟩
    · rcases hE z w g2 with i | ⟨rfl, i⟩ | ⟨rfl, i⟩
      · exact tt_N h j.1 i.1 hX
      · exact nx w i y x (sy _ _ j) (ge_X2 hX)
      · exact nx z i x y j (ge_X3 hX)
    · rcases hE z w g2 with i | ⟨rfl, i⟩ | ⟨rfl, i⟩
      · exact nx y j z w i hX
      · exact (sh y z w).1 hX
      · exact (sh y z w).2 hX
    · rcases hE z w g2 with i | ⟨rfl, i⟩ | ⟨rfl, i⟩
      · exact nx x j w z (sy _ _ i) (ge_X1 hX)
      · exact (sh x w z).2 (ge_X1 hX)
      · exact (sh x w z).1 (ge_X1 hX)
  · intro x y z j g hz vj hT
    have Aq : (ge_T (P a) (P k) (P c) (P j)) → j = a ∨ j = k ∨ j = c := sd_cl h e hc hB vj
    have Cq : (ge_T (P b) (P k) (P d) (P j)) → j = b ∨ j = k ∨ j = d := sd_cl h e' hd hB' vj
    have half : ∀ a b c, L a b = c → c < 16 → (ge_B (P k) (P a) (P b)) → (ge_T (P k) (P b) (P c) (P j)) → j = k ∨ j = b ∨ j = c := by
      intro a b c e hc hB hT
      obtain ⟨h1, h2, h3⟩ := hT
      rcases vj with vj | vj
      · obtain ⟨t1, t2⟩ := turn a b c e hc hB
        have fo := tt_fo h e hc
        have r1 := ge_rot (P k) (P b) (P c)
        have r2 := ge_rot2 (P a) (P k) (P c)
        have hT' : (ge_T (P a) (P b) (P c) (P j)) := by
          have I1 : (ge_o (P b) (P c) (P k)) * (ge_o (P a) (P b) (P j)) = (ge_o (P a) (P b) (P c)) * (ge_o (P k) (P b) (P j)) + (ge_o (P a) (P b) (P k)) * (ge_o (P b) (P c) (P j)) := by unfold ge_o; grind
          have I2 : (ge_o (P b) (P c) (P k)) * (ge_o (P c) (P a) (P j)) = (ge_o (P a) (P b) (P c)) * (ge_o (P c) (P k) (P j)) + (ge_o (P c) (P a) (P k)) * (ge_o (P b) (P c) (P j)) := by unfold ge_o; grind
          have := hB.1
          exact ⟨sg_w I1 (by omega) (Int.le_of_lt fo) h1 (by omega) h2, h2, sg_w I2 (by omega) (Int.le_of_lt fo) h3 (by omega) h2⟩
        rcases tt_E h e hc vj hT' with g | g | g
        · exfalso
          rw [g] at h3
          have := ge_sw2 (P c) (P a) (P k)
          omega
        · exact Or.inr (Or.inl g)
        · exact Or.inr (Or.inr g)
      · exact Or.inl vj
    have Bq := half a b c e hc hB
    have Dq := half b a d e' hd hB'
    rcases hF x y z g hz with i | i
    · rcases vj with vj | rfl
      · exact tt_E h i.1 hz vj hT
      · exfalso
        obtain ⟨p1, p2⟩ := pe_2 hp0 h x1 hB i.1 hz hT
        have k2 := tt_f2 h i.1 hz
        have k3 := tt_f3 h i.1 hz
        have k1 := i.1
        have ns := i.2.2.2
        refine ns ?_
        rcases p1 with rfl | rfl | rfl
        · rcases p2 with rfl | rfl | rfl
          · exact absurd rfl nab
          · exact Or.inl ⟨rfl, rfl⟩
          · exact Or.inr (Or.inr (Or.inr (Or.inr (Or.inr (Or.inl ⟨rfl, k3.symm.trans e'⟩)))))
        · rcases p2 with rfl | rfl | rfl
          · exact Or.inr (Or.inl ⟨rfl, rfl⟩)
          · exact absurd rfl nab
          · exact Or.inr (Or.inr (Or.inl ⟨k2.symm.trans e, rfl⟩))
        · rcases p2 with rfl | rfl | rfl
          · exact Or.inr (Or.inr (Or.inr (Or.inl ⟨rfl, k3.symm.trans e⟩)))
          · exact Or.inr (Or.inr (Or.inr (Or.inr (Or.inl ⟨k2.symm.trans e', rfl⟩))))
          · exact absurd rfl nab
    · clear g hF hE hE2 hE3
      unfold sd_F at i
      rcases i with ⟨rfl, rfl, rfl⟩ | ⟨rfl, rfl, rfl⟩ | ⟨rfl, rfl, rfl⟩ | ⟨rfl, rfl, rfl⟩ | ⟨rfl, rfl, rfl⟩ | ⟨rfl, rfl, rfl⟩ | ⟨rfl, rfl, rfl⟩ | ⟨rfl, rfl, rfl⟩ | ⟨rfl, rfl, rfl⟩ | ⟨rfl, rfl, rfl⟩ | ⟨rfl, rfl, rfl⟩ | ⟨rfl, rfl, rfl⟩
      · exact Aq hT
      · have := Aq (ge_T1 (ge_T1 hT)); omega
      · have := Aq (ge_T1 hT); omega
      · exact Bq hT
      · have := Bq (ge_T1 (ge_T1 hT)); omega
      · have := Bq (ge_T1 hT); omega
      · exact Cq hT
      · have := Cq (ge_T1 (ge_T1 hT)); omega
      · have := Cq (ge_T1 hT); omega
      · exact Dq hT
      · have := Dq (ge_T1 (ge_T1 hT)); omega
      · have := Dq (ge_T1 hT); omega
  · intro x vx
    rcases vx with vx | rfl
    · obtain ⟨y, hy⟩ := tt_deg h vx
      by_cases g1 : x = a
      · subst g1; exact ⟨k, hE3 x k (Or.inr ⟨rfl, Or.inl rfl⟩)⟩
      · by_cases g2 : x = b
        · subst g2; exact ⟨k, hE3 x k (Or.inr ⟨rfl, Or.inr (Or.inl rfl)⟩)⟩
        · exact ⟨y, hE2 x y hy (fun w => g1 w.1) (fun w => g2 w.1)⟩
    · exact ⟨a, hE3 x a (Or.inl ⟨rfl, Or.inl rfl⟩)⟩
  · intro s hs p q vp vq ne cp cq hb
    obtain ⟨vu, vv, _⟩ := hS.1 s hs
    -- the neighbours of k on the segment are a and b
    have onk : (ge_C (P k) (P (s.1)) (P (s.2))) → (ge_C (P a) (P (s.1)) (P (s.2))) ∧ (ge_C (P b) (P (s.1)) (P (s.2))) := by
      intro ck
      obtain ⟨p', q', vp', vq', ne', cp', cq', hB2, hb'⟩ := cs_1 hp hk vu vv ck
      have := tt_C h hs vp' vq' ne' cp' cq' hb'
      rcases pe_1 hp0 h x1 this hB hB2 with w | w
      · rw [← w.1, ← w.2]; exact ⟨cp', cq'⟩
      · rw [← w.1, ← w.2]; exact ⟨cq', cp'⟩
    have nb : ∀ q, V q → (ge_C (P k) (P (s.1)) (P (s.2))) → (ge_C (P q) (P (s.1)) (P (s.2))) → (∀ j, V j ∨ j = k → ¬ (ge_B (P j) (P k) (P q))) → q = a ∨ q = b := by
      intro q vq ck cq hb
      obtain ⟨cA, cB⟩ := onk ck
      have hne : P a ≠ P b := fun g => nab (tp_inj hp0 va vb g)
      have hs' : ∃ s : Int × Int, 0 < ge_o (P a) s (P b) := by
        refine ⟨((P a).1 + ((P b).2 - (P a).2), (P a).2 - ((P b).1 - (P a).1)), ?_⟩
        have := ge_ne hne
        unfold ge_o; simp only; grind
      obtain ⟨t, ht⟩ := hs'
      have col : ∀ x y z : Nat, (ge_C (P x) (P (s.1)) (P (s.2))) → (ge_C (P y) (P (s.1)) (P (s.2))) → (ge_C (P z) (P (s.1)) (P (s.2))) → (ge_o (P x) (P y) (P z)) = 0 := by
        intro x y z cx cy cz
        obtain ⟨a, b, a1, a2, a3, a4, a5⟩ := ge_Cw cx
        obtain ⟨c, d, c1, c2, c3, c4, c5⟩ := ge_Cw cy
        have := ge_lin2 a4 a5 c4 c5 (P z)
        rw [cz.1, Int.mul_zero] at this
        exact sg_eq0 (sg_pp a3 c3) this
      obtain ⟨l, n, l0, n0, hl⟩ := ge_Bo hB
      have z1 := hl (P a) t
      rw [ge_psp] at z1
      have k1 : 0 < ge_o (P a) t (P k) := sg_inv (A := l + n) (by omega) (by have := sg_pp n0 ht; omega)
      have k2 : ge_o (P a) t (P k) < ge_o (P a) t (P b) := by
        have := sg_inv (A := l + n) (B := ge_o (P a) t (P b) - ge_o (P a) t (P k)) (by omega) (by have := sg_pp l0 ht; grind)
        omega
      have inj : ∀ x y : Nat, (V x ∨ x = k) → (V y ∨ y = k) → (ge_C (P x) (P (s.1)) (P (s.2))) → (ge_C (P y) (P (s.1)) (P (s.2))) → ge_o (P a) t (P x) = ge_o (P a) t (P y) → x = y := by
        intro x y vx vy cx cy g
        have c1 := col a b x cA cB cx
        have c2 := col a b y cA cB cy
        refine tp_inj hp vx vy ?_
        have e1 : ge_o (P a) t (P b) * ((P x).1 - (P y).1) = 0 := by unfold ge_o at c1 c2 g ⊢; grind
        have e2 : ge_o (P a) t (P b) * ((P x).2 - (P y).2) = 0 := by unfold ge_o at c1 c2 g ⊢; grind
        have f1 := sg_eq0 ht e1
        have f2 := sg_eq0 ht e2
        exact Prod.ext (by omega) (by omega)
      have nqk : ge_o (P a) t (P q) ≠ ge_o (P a) t (P k) := fun g => hk (by rw [← inj q k (Or.inl vq) (Or.inr rfl) cq ck g]; exact vq)
      rcases Int.lt_or_le (ge_o (P a) t (P q)) (ge_o (P a) t (P k)) with g | g
      · left
        rcases Int.lt_trichotomy (ge_o (P a) t (P q)) 0 with w | w | w
        · exact absurd (ge_B1 (ge_Bi (z := P a) (f := P q) (e := P k) (u := P a) (v := t) (col _ _ _ cq ck cA) (by rw [ge_psp]; exact w) (by rw [ge_psp]; exact k1))) (hb a (Or.inl va))
        · exact inj q a (Or.inl vq) (Or.inl va) cq cA (by rw [ge_psp]; exact w)
        · exact absurd (ge_Bi (z := P q) (f := P a) (e := P b) (u := P a) (v := t) (col _ _ _ cA cB cq) (by rw [ge_psp]; exact w) (by omega)) (tt_F h x1 vq)
      · right
        rcases Int.lt_trichotomy (ge_o (P a) t (P q)) (ge_o (P a) t (P b)) with w | w | w
        · exact absurd (ge_Bi (z := P q) (f := P a) (e := P b) (u := P a) (v := t) (col _ _ _ cA cB cq) (by rw [ge_psp]; omega) w) (tt_F h x1 vq)
        · exact inj q b (Or.inl vq) (Or.inl vb) cq cB w
        · exact absurd (ge_Bi (z := P b) (f := P k) (e := P q) (u := P a) (v := t) (col _ _ _ ck cq cB) k2 w) (hb b (Or.inl vb))
    rcases vp with vp | rfl
    · rcases vq with vq | rfl
      · refine hE2 p q (tt_C h hs vp vq ne cp cq (fun k vk => hb k (Or.inl vk))) ?_ ?_
        · rintro ⟨rfl, rfl⟩; exact hb k (Or.inr rfl) hB
        · rintro ⟨rfl, rfl⟩; exact hb k (Or.inr rfl) hB'
      · refine hE3 p q (Or.inr ⟨rfl, ?_⟩)
        have := nb p vp cq cp (fun j vj w => hb j vj (ge_B1 w))
        omega
    · rcases vq with vq | rfl
      · refine hE3 p q (Or.inl ⟨rfl, ?_⟩)
        have := nb q vq cp cq hb
        omega
      · exact absurd rfl ne
end
end
section
/-! counting -/
noncomputable def ct_n (Q : Nat → Prop) : Nat → Nat
  | 0 => 0
  | n + 1 => ct_n Q n + @ite Nat (Q n) (Classical.propDecidable _) 1 0
theorem ct_s1 {Q : Nat → Prop} {n : Nat} (h : Q n) : ct_n Q (n + 1) = ct_n Q n + 1 := by
  show ct_n Q n + _ = _
  rw [if_pos h]
theorem ct_s0 {Q : Nat → Prop} {n : Nat} (h : ¬ Q n) : ct_n Q (n + 1) = ct_n Q n := by
  show ct_n Q n + _ = _
  rw [if_neg h]; omega
theorem ct_le (Q : Nat → Prop) : ∀ n, ct_n Q n ≤ n := by
  intro n
  induction n with
  | zero => exact Nat.le_refl _
  | succ n ih =>
    by_cases h : Q n
    · rw [ct_s1 h]; omega
    · rw [ct_s0 h]; omega
theorem ct_mono {Q R : Nat → Prop} : ∀ n, (∀ i, i < n → Q i → R i) → ct_n Q n ≤ ct_n R n := by
  intro n
  induction n with
  | zero => intro _; exact Nat.le_refl _
  | succ n ih =>
    intro h
    have := ih (fun i hi => h i (by omega))
    by_cases hq : Q n
    · rw [ct_s1 hq, ct_s1 (h n (by omega) hq)]; omega
    · by_cases hr : R n
      · rw [ct_s0 hq, ct_s1 hr]; omega
      · rw [ct_s0 hq, ct_s0 hr]; omega
theorem ct_lt {Q R : Nat → Prop} {j : Nat} (hj : R j) (hn : ¬ Q j) : ∀ n, j < n → (∀ i, i < n → Q i → R i) → ct_n Q n + 1 ≤ ct_n R n := by
  intro n
  induction n with
  | zero => intro h; omega
  | succ n ih =>
    intro hjn h
    by_cases e : j = n
    · subst e
      have := ct_mono (Q := Q) (R := R) j (fun i hi => h i (by omega))
      rw [ct_s0 hn, ct_s1 hj]; omega
    · have := ih (by omega) (fun i hi => h i (by omega))
      by_cases hq : Q n
      · rw [ct_s1 hq, ct_s1 (h n (by omega) hq)]; omega
      · by_cases hr : R n
        · rw [ct_s0 hq, ct_s1 hr]; omega
        · rw [ct_s0 hq, ct_s0 hr]; omega
theorem ct_lt2 {Q R : Nat → Prop} {j k n : Nat} (hj : R j) (hnj : ¬ Q j) (hk : R k) (hnk : ¬ Q k) (hjk : j ≠ k) (hjn : j < n) (hkn : k < n) (h : ∀ i, i < n → Q i → R i) :
    ct_n Q n + 2 ≤ ct_n R n := by
  have h1 : ct_n Q n + 1 ≤ ct_n (fun i => Q i ∨ i = j) n := ct_lt (j := j) (Or.inr rfl) hnj n hjn (fun i _ q => Or.inl q)
  have h2 : ct_n (fun i => Q i ∨ i = j) n + 1 ≤ ct_n R n := ct_lt (j := k) hk (by rintro (g | g); exact hnk g; exact hjk g.symm) n hkn (by
    intro i hi q
    rcases q with q | rfl
    · exact h i hi q
    · exact hj)
  omega
section
variable {m : Int} {V : Nat → Prop} {P : Nat → Int × Int} {S : List (Nat × Nat)} {L : Nat → Nat → Nat} {H : Nat → Int}
/-- flipped pairs lie strictly above the mesh somewhere -/
def lf_F (H : Nat → Int) (P : Nat → Int × Int) (L : Nat → Nat → Nat) (F : Nat → Nat → Prop) : Prop :=
  ∀ a b, F a b → ∃ (l n : Int) (u v w : Nat), 0 < l ∧ 0 < n ∧ L u v = w ∧ w < 16 ∧ 0 ≤ l * (ge_o (P u) (P v) (P a)) + n * (ge_o (P u) (P v) (P b)) ∧ 0 ≤ l * (ge_o (P v) (P w) (P a)) + n * (ge_o (P v) (P w) (P b)) ∧
    0 ≤ l * (ge_o (P w) (P u) (P a)) + n * (ge_o (P w) (P u) (P b)) ∧ 0 < l * (ge_D H P u v w a) + n * (ge_D H P u v w b)
theorem lf_no (hp : tr_pt m V P) (h : tr_T V P S L) {F : Nat → Nat → Prop} (hF : lf_F H P L F) {a b : Nat} (f : F a b) : ¬ L a b ≤ 16 := by
  intro e
  obtain ⟨l, n, u, v, w, l0, n0, e', hw, h1, h2, h3, h4⟩ := hF a b f
  obtain ⟨p, q⟩ := px_1 hp h e l0 n0 e' hw h1 h2 h3
  have za : (ge_D H P u v w a) = 0 := by
    rcases p with rfl | rfl | rfl
    · exact ge_Dpa _ _ _ _ _
    · exact ge_Dpb _ _ _ _ _
    · exact ge_Dpp _ _ _ _ _
  have zb : (ge_D H P u v w b) = 0 := by
    rcases q with rfl | rfl | rfl
    · exact ge_Dpa _ _ _ _ _
    · exact ge_Dpb _ _ _ _ _
    · exact ge_Dpp _ _ _ _ _
  rw [za, zb] at h4
  simp at h4
theorem lf_i1 (H : Nat → Int) (P : Nat → Int × Int) (a b c d z : Nat) : (ge_o (P a) (P b) (P c)) * (ge_D H P a d c z) = (ge_o (P a) (P d) (P c)) * (ge_D H P a b c z) + (- (ge_D H P a b c d)) * (ge_o (P c) (P a) (P z)) := by
  unfold ge_D ge_o; grind
theorem lf_i2 (H : Nat → Int) (P : Nat → Int × Int) (a b c d z : Nat) : (ge_o (P a) (P b) (P c)) * (ge_D H P d b c z) = (ge_o (P d) (P b) (P c)) * (ge_D H P a b c z) + (- (ge_D H P a b c d)) * (ge_o (P b) (P c) (P z)) := by
  unfold ge_D ge_o; grind
/-- what lay above a removed face lies above a new one -/
theorem lf_half {a b c d : Nat} (f1 : 0 < (ge_o (P a) (P b) (P c))) (f2 : 0 < (ge_o (P b) (P a) (P d))) (q1 : 0 < (ge_o (P a) (P d) (P c))) (q2 : 0 < (ge_o (P d) (P b) (P c))) (hD : (ge_D H P a b c d) < 0) {l n : Int} {x y : Nat} (l0 : 0 < l) (n0 : 0 < n)
    (h1 : 0 ≤ l * (ge_o (P a) (P b) (P x)) + n * (ge_o (P a) (P b) (P y))) (h2 : 0 ≤ l * (ge_o (P b) (P c) (P x)) + n * (ge_o (P b) (P c) (P y))) (h3 : 0 ≤ l * (ge_o (P c) (P a) (P x)) + n * (ge_o (P c) (P a) (P y))) (h4 : 0 < l * (ge_D H P a b c x) + n * (ge_D H P a b c y)) :
    (0 ≤ l * (ge_o (P a) (P d) (P x)) + n * (ge_o (P a) (P d) (P y)) ∧ 0 ≤ l * (ge_o (P d) (P c) (P x)) + n * (ge_o (P d) (P c) (P y)) ∧ 0 ≤ l * (ge_o (P c) (P a) (P x)) + n * (ge_o (P c) (P a) (P y)) ∧ 0 < l * (ge_D H P a d c x) + n * (ge_D H P a d c y)) ∨
    (0 ≤ l * (ge_o (P d) (P b) (P x)) + n * (ge_o (P d) (P b) (P y)) ∧ 0 ≤ l * (ge_o (P b) (P c) (P x)) + n * (ge_o (P b) (P c) (P y)) ∧ 0 ≤ l * (ge_o (P c) (P d) (P x)) + n * (ge_o (P c) (P d) (P y)) ∧ 0 < l * (ge_D H P d b c x) + n * (ge_D H P d b c y)) := by
  by_cases hs : 0 ≤ l * (ge_o (P d) (P c) (P x)) + n * (ge_o (P d) (P c) (P y))
  · left
    have i1 := lf_i1 H P a b c d x
    have i2 := lf_i1 H P a b c d y
    have j1 : (ge_o (P a) (P b) (P c)) * (ge_o (P a) (P d) (P x)) = (ge_o (P b) (P a) (P d)) * (ge_o (P c) (P a) (P x)) + (ge_o (P a) (P d) (P c)) * (ge_o (P a) (P b) (P x)) := by unfold ge_o; grind
    have j2 : (ge_o (P a) (P b) (P c)) * (ge_o (P a) (P d) (P y)) = (ge_o (P b) (P a) (P d)) * (ge_o (P c) (P a) (P y)) + (ge_o (P a) (P d) (P c)) * (ge_o (P a) (P b) (P y)) := by unfold ge_o; grind
    have I : (ge_o (P a) (P b) (P c)) * (l * (ge_D H P a d c x) + n * (ge_D H P a d c y)) = (ge_o (P a) (P d) (P c)) * (l * (ge_D H P a b c x) + n * (ge_D H P a b c y)) + (- (ge_D H P a b c d)) * (l * (ge_o (P c) (P a) (P x)) + n * (ge_o (P c) (P a) (P y))) := by grind
    have J : (ge_o (P a) (P b) (P c)) * (l * (ge_o (P a) (P d) (P x)) + n * (ge_o (P a) (P d) (P y))) = (ge_o (P b) (P a) (P d)) * (l * (ge_o (P c) (P a) (P x)) + n * (ge_o (P c) (P a) (P y))) + (ge_o (P a) (P d) (P c)) * (l * (ge_o (P a) (P b) (P x)) + n * (ge_o (P a) (P b) (P y))) := by grind
    exact ⟨sg_w J f1 (Int.le_of_lt f2) h3 (Int.le_of_lt q1) h1, hs, h3, sg_p I f1 q1 h4 (by omega) h3⟩
  · right
    have i1 := lf_i2 H P a b c d x
    have i2 := lf_i2 H P a b c d y
    have j1 : (ge_o (P a) (P b) (P c)) * (ge_o (P d) (P b) (P x)) = (ge_o (P b) (P a) (P d)) * (ge_o (P b) (P c) (P x)) + (ge_o (P d) (P b) (P c)) * (ge_o (P a) (P b) (P x)) := by unfold ge_o; grind
    have j2 : (ge_o (P a) (P b) (P c)) * (ge_o (P d) (P b) (P y)) = (ge_o (P b) (P a) (P d)) * (ge_o (P b) (P c) (P y)) + (ge_o (P d) (P b) (P c)) * (ge_o (P a) (P b) (P y)) := by unfold ge_o; grind
    have I : (ge_o (P a) (P b) (P c)) * (l * (ge_D H P d b c x) + n * (ge_D H P d b c y)) = (ge_o (P d) (P b) (P c)) * (l * (ge_D H P a b c x) + n * (ge_D H P a b c y)) + (- (ge_D H P a b c d)) * (l * (ge_o (P b) (P c) (P x)) + n * (ge_o (P b) (P c) (P y))) := by grind
    have J : (ge_o (P a) (P b) (P c)) * (l * (ge_o (P d) (P b) (P x)) + n * (ge_o (P d) (P b) (P y))) = (ge_o (P b) (P a) (P d)) * (l * (ge_o (P b) (P c) (P x)) + n * (ge_o (P b) (P c) (P y))) + (ge_o (P d) (P b) (P c)) * (l * (ge_o (P a) (P b) (P x)) + n * (ge_o (P a) (P b) (P y))) := by grind
    have s1 := ge_sw (P d) (P c) (P x)
    have s2 := ge_sw (P d) (P c) (P y)
    refine ⟨sg_w J f1 (Int.le_of_lt f2) h2 (Int.le_of_lt q2) h1, h2, ?_, sg_p I f1 q2 h4 (by omega) h2⟩
    rw [s1, s2, Int.mul_neg, Int.mul_neg]; omega
theorem fl_v {L : Nat → Nat → Nat} {a b c d : Nat} (nab : a ≠ b) (nbc : b ≠ c) (nca : c ≠ a) (nad : a ≠ d) (ndb : d ≠ b) (ncd : c ≠ d) :
    fl_L L a b c d a d = c ∧ fl_L L a b c d d c = a ∧ fl_L L a b c d c a = d ∧ fl_L L a b c d d b = c ∧ fl_L L a b c d b c = d ∧ fl_L L a b c d c d = b := by
  unfold fl_L
  refine ⟨?_, ?_, ?_, ?_, ?_, ?_⟩ <;> grind
theorem fl_o {L : Nat → Nat → Nat} {a b c d x y : Nat} (s1 : ¬ (x = a ∧ y = b)) (s2 : ¬ (x = b ∧ y = a)) (s3 : ¬ (x = a ∧ y = d)) (s4 : ¬ (x = d ∧ y = c)) (s5 : ¬ (x = c ∧ y = a))
    (s6 : ¬ (x = d ∧ y = b)) (s7 : ¬ (x = b ∧ y = c)) (s8 : ¬ (x = c ∧ y = d)) : fl_L L a b c d x y = L x y := by
  unfold fl_L
  rw [if_neg s1, if_neg s2, if_neg s3, if_neg s4, if_neg s5, if_neg s6, if_neg s7, if_neg s8]
/-- a flip keeps the flipped pairs above, and adds its own -/
theorem lf_flip (hp : tr_pt m V P) (h : tr_T V P S L) {F : Nat → Nat → Prop} (hF : lf_F H P L F) {a b c d : Nat} (e : L a b = c) (hc : c < 16) (e' : L b a = d) (hd : d < 16)
    (q1 : 0 < (ge_o (P a) (P d) (P c))) (q2 : 0 < (ge_o (P d) (P b) (P c))) (hD : (ge_D H P a b c d) < 0) :
    lf_F H P (fl_L L a b c d) (fun x y => F x y ∨ (x = a ∧ y = b) ∨ (x = b ∧ y = a)) := by
  obtain ⟨va, vb, vc, bc, ca, f1, x1, x2, x3, x4, x5, x6⟩ := tt_face hp h e hc
  obtain ⟨_, _, vd, ad, db, f2, y1, y2, y3, y4, y5, y6⟩ := tt_face hp h e' hd
  obtain ⟨ncd, ndc⟩ := fl_q hp h e hc e' hd q1 q2
  have a16 := tp_16 hp va
  have b16 := tp_16 hp vb
  have nab := tt_ne h x1
  have nbc := tt_ne h x2
  have nca := tt_ne h x3
  have nad := tt_ne h y2
  have ndb := tt_ne h y3
  have ncd' : c ≠ d := by rintro rfl; have := ge_sw (P a) (P b) (P c); omega
  obtain ⟨v1, v2, v3, v4, v5, v6⟩ := fl_v (L := L) nab nbc nca nad ndb ncd'
  have dba : (ge_D H P b a d c) < 0 := by
    have k : (ge_D H P b a d c) = (ge_D H P a b c d) := by unfold ge_D ge_o; grind
    omega
  have own : ∀ x y, ((x = a ∧ y = b) ∨ (x = b ∧ y = a)) → ∃ (l n : Int) (u v w : Nat), 0 < l ∧ 0 < n ∧ fl_L L a b c d u v = w ∧ w < 16 ∧ 0 ≤ l * (ge_o (P u) (P v) (P x)) + n * (ge_o (P u) (P v) (P y)) ∧ 0 ≤ l * (ge_o (P v) (P w) (P x)) + n * (ge_o (P v) (P w) (P y)) ∧
      0 ≤ l * (ge_o (P w) (P u) (P x)) + n * (ge_o (P w) (P u) (P y)) ∧ 0 < l * (ge_D H P u v w x) + n * (ge_D H P u v w y) := by
    have k1 : (ge_D H P a d c b) = - (ge_D H P a b c d) := by unfold ge_D ge_o; grind
    have k2 : (ge_D H P a d c a) = 0 := ge_Dpa _ _ _ _ _
    have r1 := ge_rot (P b) (P a) (P d)
    have r2 := ge_rot (P a) (P d) (P c)
    have r3 := ge_sw2 (P d) (P b) (P c)
    have r4 := ge_rot2 (P a) (P b) (P c)
    have w1 := sg_pp q1 (show 0 < (ge_o (P a) (P d) (P b)) by omega)
    have w2 := sg_pp q1 (show 0 < (ge_o (P c) (P a) (P b)) by omega)
    have w3 := sg_pp q1 (show 0 < (ge_D H P a d c b) by omega)
    have w4 : (ge_o (P d) (P b) (P c)) * (ge_o (P d) (P c) (P a)) + (ge_o (P a) (P d) (P c)) * (ge_o (P d) (P c) (P b)) = 0 := by rw [r3, r2, Int.mul_neg, Int.mul_comm]; omega
    rintro x y (⟨rfl, rfl⟩ | ⟨rfl, rfl⟩)
    · refine ⟨(ge_o (P d) (P y) (P c)), (ge_o (P x) (P d) (P c)), x, d, c, q2, q1, v1, hc, ?_, ?_, ?_, ?_⟩
      · rw [ge_psp]; omega
      · omega
      · rw [ge_spp]; omega
      · rw [k2]; omega
    · refine ⟨(ge_o (P y) (P d) (P c)), (ge_o (P d) (P x) (P c)), y, d, c, q1, q2, v1, hc, ?_, ?_, ?_, ?_⟩
      · rw [ge_psp]; omega
      · omega
      · rw [ge_spp]; omega
      · rw [k2]; omega
  intro x y f
  rcases f with f | f
  · obtain ⟨l, n, u, v, w, l0, n0, euv, hw, h1, h2, h3, h4⟩ := hF x y f
    -- the two ways a removed face turns up
    have A : 0 ≤ l * (ge_o (P a) (P b) (P x)) + n * (ge_o (P a) (P b) (P y)) → 0 ≤ l * (ge_o (P b) (P c) (P x)) + n * (ge_o (P b) (P c) (P y)) → 0 ≤ l * (ge_o (P c) (P a) (P x)) + n * (ge_o (P c) (P a) (P y)) → 0 < l * (ge_D H P a b c x) + n * (ge_D H P a b c y) →
        ∃ (l n : Int) (u v w : Nat), 0 < l ∧ 0 < n ∧ fl_L L a b c d u v = w ∧ w < 16 ∧ 0 ≤ l * (ge_o (P u) (P v) (P x)) + n * (ge_o (P u) (P v) (P y)) ∧ 0 ≤ l * (ge_o (P v) (P w) (P x)) + n * (ge_o (P v) (P w) (P y)) ∧
      0 ≤ l * (ge_o (P w) (P u) (P x)) + n * (ge_o (P w) (P u) (P y)) ∧ 0 < l * (ge_D H P u v w x) + n * (ge_D H P u v w y) := by
      intro g1 g2 g3 g4
      rcases lf_half f1 f2 q1 q2 hD l0 n0 g1 g2 g3 g4 with k | k
      · exact ⟨l, n, a, d, c, l0, n0, v1, hc, k⟩
      · exact ⟨l, n, d, b, c, l0, n0, v4, hc, k⟩
    have B' : 0 ≤ l * (ge_o (P b) (P a) (P x)) + n * (ge_o (P b) (P a) (P y)) → 0 ≤ l * (ge_o (P a) (P d) (P x)) + n * (ge_o (P a) (P d) (P y)) → 0 ≤ l * (ge_o (P d) (P b) (P x)) + n * (ge_o (P d) (P b) (P y)) → 0 < l * (ge_D H P b a d x) + n * (ge_D H P b a d y) →
        ∃ (l n : Int) (u v w : Nat), 0 < l ∧ 0 < n ∧ fl_L L a b c d u v = w ∧ w < 16 ∧ 0 ≤ l * (ge_o (P u) (P v) (P x)) + n * (ge_o (P u) (P v) (P y)) ∧ 0 ≤ l * (ge_o (P v) (P w) (P x)) + n * (ge_o (P v) (P w) (P y)) ∧
      0 ≤ l * (ge_o (P w) (P u) (P x)) + n * (ge_o (P w) (P u) (P y)) ∧ 0 < l * (ge_D H P u v w x) + n * (ge_D H P u v w y) := by
      intro g1 g2 g3 g4
      rcases lf_half f2 f1 (by have := ge_rot (P d) (P b) (P c); omega) (by have := ge_rot2 (P a) (P d) (P c); omega) dba l0 n0 g1 g2 g3 g4 with k | k
      · exact ⟨l, n, b, c, d, l0, n0, v5, hd, k⟩
      · exact ⟨l, n, c, a, d, l0, n0, v3, hd, k⟩
    have d1 := ge_Drot H P a b c
    have d2 := ge_Drot H P c a b
    have d3 := ge_Drot H P b a d
    have d4 := ge_Drot H P d b a
    by_cases s1 : u = a ∧ v = b
    · obtain ⟨rfl, rfl⟩ := s1
      have : w = c := by omega
      subst this
      exact A h1 h2 h3 h4
    by_cases s2 : u = b ∧ v = c
    · obtain ⟨rfl, rfl⟩ := s2
      have : w = a := by omega
      subst this
      rw [d1, d1] at h4
      exact A h3 h1 h2 h4
    by_cases s3 : u = c ∧ v = a
    · obtain ⟨rfl, rfl⟩ := s3
      have : w = b := by omega
      subst this
      rw [← d2, ← d2] at h4
      exact A h2 h3 h1 h4
    by_cases s4 : u = b ∧ v = a
    · obtain ⟨rfl, rfl⟩ := s4
      have : w = d := by omega
      subst this
      exact B' h1 h2 h3 h4
    by_cases s5 : u = a ∧ v = d
    · obtain ⟨rfl, rfl⟩ := s5
      have : w = b := by omega
      subst this
      rw [d3, d3] at h4
      exact B' h3 h1 h2 h4
    by_cases s6 : u = d ∧ v = b
    · obtain ⟨rfl, rfl⟩ := s6
      have : w = a := by omega
      subst this
      rw [← d4, ← d4] at h4
      exact B' h2 h3 h1 h4
    refine ⟨l, n, u, v, w, l0, n0, ?_, hw, h1, h2, h3, h4⟩
    rw [fl_o s1 s4 s5 (fun g => ndc (by rw [← g.1, ← g.2]; omega)) s3 s6 s2 (fun g => ncd (by rw [← g.1, ← g.2]; omega))]
    exact euv
  · exact own x y f
/-- pairs never flipped -/
noncomputable def lf_c (F : Nat → Nat → Prop) : Nat := ct_n (fun i => ¬ F (i / 16) (i % 16)) 256
theorem lf_c256 (F : Nat → Nat → Prop) : lf_c F ≤ 256 := ct_le _ _
theorem lf_c2 {F : Nat → Nat → Prop} {a b : Nat} (ha : a < 16) (hb : b < 16) (ne : a ≠ b) (n1 : ¬ F a b) (n2 : ¬ F b a) :
    lf_c (fun x y => F x y ∨ (x = a ∧ y = b) ∨ (x = b ∧ y = a)) + 2 ≤ lf_c F := by
  have e1 : (a * 16 + b) / 16 = a := by omega
  have e2 : (a * 16 + b) % 16 = b := by omega
  have e3 : (b * 16 + a) / 16 = b := by omega
  have e4 : (b * 16 + a) % 16 = a := by omega
  refine ct_lt2 (j := a * 16 + b) (k := b * 16 + a) ?_ ?_ ?_ ?_ (by omega) (by omega) (by omega) ?_
  · show ¬ F ((a * 16 + b) / 16) ((a * 16 + b) % 16); rw [e1, e2]; exact n1
  · intro g; apply g; rw [e1, e2]; exact Or.inr (Or.inl ⟨rfl, rfl⟩)
  · show ¬ F ((b * 16 + a) / 16) ((b * 16 + a) % 16); rw [e3, e4]; exact n2
  · intro g; apply g; rw [e3, e4]; exact Or.inr (Or.inr ⟨rfl, rfl⟩)
  · intro i _ g f; exact g (Or.inl f)
/-- from any mesh to a locally Delaunay one -/
theorem lf_ex (hp : tr_pt m V P) (hh : tr_hull H V P) : ∀ (N : Nat) (L : Nat → Nat → Nat) (F : Nat → Nat → Prop), lf_c F ≤ N → tr_T V P S L → lf_F H P L F →
    ∃ L', tr_T V P S L' ∧ tr_LD H P S L' := by
  intro N
  induction N with
  | zero =>
    intro L F hN h hF
    refine ⟨L, h, ?_⟩
    intro a b c d e hc e' hd hn
    rcases Int.lt_or_le ((ge_D H P a b c d)) 0 with k | k
    · exfalso
      have := lf_c2 (F := F) (tp_16 hp (tt_va h (show L a b ≤ 16 by omega))) (tp_16 hp (tt_vb h (show L a b ≤ 16 by omega))) (tt_ne h (show L a b ≤ 16 by omega))
        (fun f => lf_no hp h hF f (by omega)) (fun f => lf_no hp h hF f (by omega))
      omega
    · exact k
  | succ N ih =>
    intro L F hN h hF
    by_cases hl : tr_LD H P S L
    · exact ⟨L, h, hl⟩
    · have : ∃ a b c d, L a b = c ∧ c < 16 ∧ L b a = d ∧ d < 16 ∧ ¬ tr_cov P S a b ∧ (ge_D H P a b c d) < 0 := by
        refine Classical.byContradiction fun hn => hl ?_
        intro a b c d e hc e' hd hn'
        rcases Int.lt_or_le ((ge_D H P a b c d)) 0 with k | k
        · exact absurd ⟨a, b, c, d, e, hc, e', hd, hn', k⟩ hn
        · exact k
      obtain ⟨a, b, c, d, e, hc, e', hd, hn, hD⟩ := this
      obtain ⟨q1, q2⟩ := fl_x hp h hh e hc e' hd hD
      have := lf_c2 (F := F) (tp_16 hp (tt_va h (show L a b ≤ 16 by omega))) (tp_16 hp (tt_vb h (show L a b ≤ 16 by omega))) (tt_ne h (show L a b ≤ 16 by omega))
        (fun f => lf_no hp h hF f (by omega)) (fun f => lf_no hp h hF f (by omega))
      exact ih _ _ (by omega) (fl_T hp h e hc e' hd q1 q2 hn) (lf_flip hp h hF e hc e' hd q1 q2 hD)
theorem lf_ld (hp : tr_pt m V P) (hh : tr_hull H V P) (h : tr_T V P S L) : ∃ L', tr_T V P S L' ∧ tr_LD H P S L' :=
  lf_ex hp hh 256 L (fun _ _ => False) (lf_c256 _) h (fun _ _ f => f.elim)
/-! heights that are convex -/
theorem hu_1 (hc : ∀ a b c d : Nat, 0 < (ge_o (P a) (P b) (P c)) → (ge_T (P a) (P b) (P c) (P d)) → (ge_o (P a) (P b) (P c)) * H d ≤ (ge_o (P b) (P c) (P d)) * H a + (ge_o (P c) (P a) (P d)) * H b + (ge_o (P a) (P b) (P d)) * H c) : tr_hull H V P := by
  intro a b c d _ _ _ _ o t
  have := hc a b c d o t
  have e : (ge_D H P a b c d) = (ge_o (P a) (P b) (P c)) * H d - ((ge_o (P b) (P c) (P d)) * H a + (ge_o (P c) (P a) (P d)) * H b + (ge_o (P a) (P b) (P d)) * H c) := by unfold ge_D ge_o; grind
  omega
theorem hu_abs (x : Int) : x ≤ (x.natAbs : Int) ∧ - x ≤ (x.natAbs : Int) := by omega
theorem hu_ridge (u v : Nat) : tr_hull (fun k => (((ge_o (P u) (P v) (P k))).natAbs : Int)) V P := by
  refine hu_1 (fun a b c d o t => ?_)
  obtain ⟨t1, t2, t3⟩ := t
  have I := ge_bary (P a) (P b) (P c) (P u) (P v) (P d)
  have a1 := hu_abs ((ge_o (P u) (P v) (P a)))
  have a2 := hu_abs ((ge_o (P u) (P v) (P b)))
  have a3 := hu_abs ((ge_o (P u) (P v) (P c)))
  show (ge_o (P a) (P b) (P c)) * (((ge_o (P u) (P v) (P d))).natAbs : Int) ≤ (ge_o (P b) (P c) (P d)) * (((ge_o (P u) (P v) (P a))).natAbs : Int) + (ge_o (P c) (P a) (P d)) * (((ge_o (P u) (P v) (P b))).natAbs : Int) + (ge_o (P a) (P b) (P d)) * (((ge_o (P u) (P v) (P c))).natAbs : Int)
  have up : ∀ {x y z : Int}, 0 ≤ x → y ≤ z → x * y ≤ x * z := fun hx hyz => Int.mul_le_mul_of_nonneg_left hyz hx
  have p1 := up t2 a1.1
  have p2 := up t3 a2.1
  have p3 := up t1 a3.1
  have n1 := up t2 a1.2
  have n2 := up t3 a2.2
  have n3 := up t1 a3.2
  rw [Int.mul_neg] at n1 n2 n3
  rcases Int.lt_or_le ((ge_o (P u) (P v) (P d))) 0 with k | k
  · have : (((ge_o (P u) (P v) (P d))).natAbs : Int) = - (ge_o (P u) (P v) (P d)) := by omega
    rw [this, Int.mul_neg]; omega
  · have : (((ge_o (P u) (P v) (P d))).natAbs : Int) = (ge_o (P u) (P v) (P d)) := by omega
    rw [this]; omega
/-- a new segment can be had -/
theorem is_1 (hp : tr_pt m V P) {a b : Nat} (hS : tr_sg V P ((a, b) :: S)) (h : tr_T V P S L) : ∃ L', tr_T V P ((a, b) :: S) L' := by
  obtain ⟨L', h', hl'⟩ := lf_ld (H := fun k => (((ge_o (P a) (P b) (P k))).natAbs : Int)) hp (hu_ridge a b) h
  refine ⟨L', h'.1, h'.2.1, h'.2.2.1, h'.2.2.2.1, h'.2.2.2.2.1, h'.2.2.2.2.2.1, h'.2.2.2.2.2.2.1, ?_⟩
  intro s hs p q vp vq ne cp cq hb
  rcases List.mem_cons.mp hs with rfl | hs'
  · refine Classical.byContradiction fun hn => ?_
    have col : ∀ z : Nat, (ge_C (P z) (P a) (P b)) → (ge_o (P p) (P q) (P z)) = 0 := by
      intro z cz
      obtain ⟨a, b, a1, a2, a3, a4, a5⟩ := ge_Cw cp
      obtain ⟨c, d, c1, c2, c3, c4, c5⟩ := ge_Cw cq
      have := ge_lin2 a4 a5 c4 c5 (P z)
      rw [cz.1, Int.mul_zero] at this
      exact sg_eq0 (sg_pp a3 c3) this
    have nox : ∀ r ∈ S, ∀ x y, ((x = r.1 ∧ y = r.2) ∨ (x = r.2 ∧ y = r.1)) → ¬ (ge_X (P p) (P q) (P x) (P y)) := by
      intro r hr x y hxy hX
      have hm : ∃ k, V k ∧ (ge_C (P k) (P a) (P b)) ∧ (ge_C (P k) (P (r.1)) (P (r.2))) := by
        have := hS.2 (a, b) (List.mem_cons_self ..) r (List.mem_cons_of_mem _ hr)
        refine this ?_
        rcases ge_Xcov cp cq hX with g | g
        · rcases hxy with ⟨rfl, rfl⟩ | ⟨rfl, rfl⟩
          · exact Or.inl g
          · exact Or.inr g
        · rcases hxy with ⟨rfl, rfl⟩ | ⟨rfl, rfl⟩
          · exact Or.inr (ge_X1 g)
          · exact Or.inl (ge_X1 g)
      obtain ⟨k, vk, ck, ck2⟩ := hm
      have z : (ge_o (P x) (P y) (P k)) = 0 := by
        rcases hxy with ⟨rfl, rfl⟩ | ⟨rfl, rfl⟩
        · exact ck2.1
        · have := ck2.1; have := ge_sw (P r.1) (P r.2) (P k); omega
      have o3 := hX.2.2.1
      have o4 := hX.2.2.2
      have s4 := ge_sw (P x) (P y) (P p)
      exact hb k vk (ge_Bi (u := P x) (v := P y) (col k ck) (by omega) (by omega))
    have see : tr_see V P S p q := ⟨vp, vq, ne, hb, fun r hr => ⟨nox r hr _ _ (Or.inl ⟨rfl, rfl⟩), nox r hr _ _ (Or.inr ⟨rfl, rfl⟩)⟩⟩
    obtain ⟨u, v, euv, hX⟩ := ms_1 hp h' see hn
    have k := cl_1 hp h' hl' see euv hX
    have zp : (ge_o (P a) (P b) (P p)) = 0 := cp.1
    have zq : (ge_o (P a) (P b) (P q)) = 0 := cq.1
    have o3 := hX.2.2.1
    have o4 := hX.2.2.2
    have hu : (ge_o (P a) (P b) (P u)) ≠ 0 := by
      intro z
      obtain ⟨c0, d0, a1, a2, a3, a4, a5⟩ := ge_Cw cp
      obtain ⟨c, d, c1, c2, c3, c4, c5⟩ := ge_Cw cq
      have e0 := ge_lin2 a4 a5 c4 c5 (P u)
      rw [show ge_o (P (a, b).1) (P (a, b).2) (P u) = 0 from z, Int.mul_zero] at e0
      have := sg_eq0 (sg_pp a3 c3) e0
      have := ge_sw (P p) (P q) (P u)
      omega
    have Hu : 0 < (((ge_o (P a) (P b) (P u))).natAbs : Int) := by omega
    have Hv : 0 ≤ (((ge_o (P a) (P b) (P v))).natAbs : Int) := by omega
    have eD : ge_D (fun k => (((ge_o (P a) (P b) (P k))).natAbs : Int)) P u v p q = (((ge_o (P a) (P b) (P q))).natAbs : Int) * (ge_o (P u) (P v) (P p)) - (((ge_o (P a) (P b) (P p))).natAbs : Int) * (ge_o (P u) (P v) (P q)) - ((((ge_o (P a) (P b) (P v))).natAbs : Int) * (ge_o (P q) (P p) (P u)) + (((ge_o (P a) (P b) (P u))).natAbs : Int) * (ge_o (P p) (P q) (P v))) := by
      unfold ge_D
      simp only
      rw [ge_rot (P v) (P p) (P q)] at *
      have r1 := ge_rot (P u) (P p) (P q)
      have r2 := ge_sw (P p) (P q) (P u)
      have r3 := ge_rot (P v) (P p) (P q)
      grind
    rw [eD, zp, zq] at k
    have w1 := sg_ww Hv (Int.le_of_lt o4)
    have w2 := sg_pp Hu o3
    simp only [Int.natAbs_zero] at k
    omega
  · exact tt_C h' hs' vp vq ne cp cq hb
end
end
section
/-! walking from a towards t -/
def wk_l (K : Int) (a t z : Int × Int) : Int := K * ge_o a z t - ((z.1 - a.1) * (t.1 - a.1) + (z.2 - a.2) * (t.2 - a.2))
theorem wk_k1 (K : Int) (a t x y z : Int × Int) : ge_o x y a * (wk_l K a t x - wk_l K a t z) - ge_o x z a * (wk_l K a t x - wk_l K a t y) = ge_o x y z * wk_l K a t x := by
  unfold wk_l ge_o; grind
theorem wk_k2 (K : Int) (a t x y z : Int × Int) : ge_o x y a * (wk_l K a t z - wk_l K a t y) - ge_o z y a * (wk_l K a t x - wk_l K a t y) = - (ge_o x y z * wk_l K a t y) := by
  unfold wk_l ge_o; grind
/-- a bound on the products -/
def wk_K (P : Nat → Int × Int) (a t : Int × Int) : Nat → Int
  | 0 => 1
  | n + 1 => wk_K P a t n + ((((P n).1 - a.1) * (t.1 - a.1) + ((P n).2 - a.2) * (t.2 - a.2)).natAbs : Int)
theorem wk_Kp (P : Nat → Int × Int) (a t : Int × Int) : ∀ n, 0 < wk_K P a t n := by
  intro n
  induction n with
  | zero => exact Int.one_pos
  | succ n ih => show 0 < wk_K P a t n + _; omega
theorem wk_Kb (P : Nat → Int × Int) (a t : Int × Int) : ∀ n k, k < n → ((P k).1 - a.1) * (t.1 - a.1) + ((P k).2 - a.2) * (t.2 - a.2) < wk_K P a t n ∧ - (((P k).1 - a.1) * (t.1 - a.1) + ((P k).2 - a.2) * (t.2 - a.2)) < wk_K P a t n := by
  intro n
  induction n with
  | zero => intro k hk; omega
  | succ n ih =>
    intro k hk
    have e : wk_K P a t (n + 1) = wk_K P a t n + ((((P n).1 - a.1) * (t.1 - a.1) + ((P n).2 - a.2) * (t.2 - a.2)).natAbs : Int) := rfl
    have hp := wk_Kp P a t n
    rcases Nat.lt_or_ge k n with g | g
    · have := ih k g
      constructor <;> omega
    · have : k = n := by omega
      subst this
      generalize ((P k).1 - a.1) * (t.1 - a.1) + ((P k).2 - a.2) * (t.2 - a.2) = w at *
      constructor <;> omega
section
variable {m : Int} {V : Nat → Prop} {P : Nat → Int × Int} {S : List (Nat × Nat)} {L : Nat → Nat → Nat} {H : Nat → Int}
/-- the walk stands in the face left of q -> p and leaves it over q -> p -/
def wk_I (P : Nat → Int × Int) (L : Nat → Nat → Nat) (a : Nat) (t : Int × Int) (q p : Nat) : Prop :=
  L q p < 16 ∧ 0 < (ge_o (P a) (P q) t) ∧ (ge_o (P a) (P p) t) ≤ 0 ∧ 0 < (ge_o (P q) (P p) (P a)) ∧
  (L q p = a ∨ ((ge_o (P a) (P (L q p)) t) ≤ 0 ∧ 0 < (ge_o (P (L q p)) (P q) t)) ∨ (0 < (ge_o (P a) (P (L q p)) t) ∧ 0 < (ge_o (P p) (P (L q p)) t)))
theorem wk_0 (hp : tr_pt m V P) (h : tr_T V P S L) {a q p : Nat} {t : Int × Int} (e : L a q = p) (hc : p < 16) (o1 : 0 < (ge_o (P a) (P q) t)) (o2 : (ge_o (P a) (P p) t) ≤ 0) : wk_I P L a t q p := by
  obtain ⟨va, vq, vp, w1, w2, fo, _, _, _, _, _, _⟩ := tt_face hp h e hc
  refine ⟨by rw [w1]; exact tp_16 hp va, o1, o2, ?_, Or.inl w1⟩
  have := ge_rot (P a) (P q) (P p); omega
theorem wk_r (hp : tr_pt m V P) (h : tr_T V P S L) {a q p : Nat} {t : Int × Int} (ht : 0 ≤ t.1 ∧ t.1 ≤ m ∧ 0 ≤ t.2 ∧ t.2 ≤ m) (I : wk_I P L a t q p) (o : (ge_o (P q) (P p) t) < 0) : L p q < 16 := by
  refine tt_num hp h (tt_sy h (show L q p ≤ 16 by have := I.1; omega)) ht ?_
  have := ge_sw (P q) (P p) t; omega
theorem wk_s1 (hp : tr_pt m V P) (h : tr_T V P S L) {a q p r : Nat} {t : Int × Int} (I : wk_I P L a t q p) (o : (ge_o (P q) (P p) t) < 0) (e : L p q = r) (hr : r < 16) (or : (ge_o (P a) (P r) t) ≤ 0) :
    wk_I P L a t q r ∧ L q r = p ∧ 0 < (ge_o (P p) (P q) (P r)) := by
  obtain ⟨vp, vq, vr, w1, w2, fo, _, _, _, _, _, _⟩ := tt_face hp h e hr
  obtain ⟨i1, i2, i3, i4, i5⟩ := I
  refine ⟨⟨by rw [w1]; exact tp_16 hp vp, i2, or, ?_, ?_⟩, w1, fo⟩
  · rcases Int.lt_or_le 0 ((ge_o (P q) (P r) (P a))) with k | k
    · exact k
    · exfalso
      have G := ge_gp (P a) (P q) (P p) (P r) t
      have r1 := ge_rot2 (P q) (P p) (P a)
      have r2 := ge_rot2 (P q) (P r) (P a)
      have A := ge_aff (P q) (P p) (P r) (P a)
      have s1 := ge_sw2 (P a) (P q) (P r)
      have s2 := ge_sw (P p) (P q) (P r)
      have I' : (ge_o (P a) (P q) t) * (ge_o (P a) (P p) (P r)) = (ge_o (P a) (P q) (P p)) * (- (ge_o (P a) (P r) t)) + (- (ge_o (P a) (P q) (P r))) * (- (ge_o (P a) (P p) t)) := by grind
      have := sg_w I' i2 (by omega) (by omega) (by omega) (by omega)
      omega
  · right; left
    rw [w1]
    have := ge_sw (P q) (P p) t
    exact ⟨i3, by omega⟩
theorem wk_s2 (hp : tr_pt m V P) (h : tr_T V P S L) {a q p r : Nat} {t : Int × Int} (I : wk_I P L a t q p) (o : (ge_o (P q) (P p) t) < 0) (e : L p q = r) (hr : r < 16) (or : 0 < (ge_o (P a) (P r) t)) :
    wk_I P L a t r p ∧ L r p = q ∧ 0 < (ge_o (P p) (P q) (P r)) := by
  obtain ⟨vp, vq, vr, w1, w2, fo, _, _, _, _, _, _⟩ := tt_face hp h e hr
  obtain ⟨i1, i2, i3, i4, i5⟩ := I
  refine ⟨⟨by rw [w2]; exact tp_16 hp vq, or, i3, ?_, ?_⟩, w2, fo⟩
  · rcases Int.lt_or_le 0 ((ge_o (P r) (P p) (P a))) with k | k
    · exact k
    · exfalso
      have G := ge_gp (P a) (P q) (P p) (P r) t
      have r1 := ge_rot2 (P q) (P p) (P a)
      have r2 := ge_rot2 (P r) (P p) (P a)
      have A := ge_aff (P q) (P p) (P r) (P a)
      have s1 := ge_sw2 (P a) (P q) (P r)
      have s2 := ge_sw (P p) (P q) (P r)
      have s3 := ge_sw2 (P a) (P r) (P p)
      have p1 := sg_pp (show 0 < (ge_o (P a) (P q) (P p)) by omega) or
      have p2 := sg_ww (Int.le_of_lt i2) (show 0 ≤ (ge_o (P a) (P p) (P r)) by omega)
      have : 0 < (- (ge_o (P a) (P p) t)) * (- (ge_o (P a) (P q) (P r))) := by
        rw [Int.neg_mul_neg, Int.mul_comm]; omega
      rcases Int.lt_or_le ((ge_o (P a) (P q) (P r))) 0 with g | g
      · omega
      · have := sg_ww (show 0 ≤ - (ge_o (P a) (P p) t) by omega) g
        rw [Int.mul_neg] at *
        omega
  · right; right
    rw [w2]
    have := ge_sw (P q) (P p) t
    exact ⟨i2, by omega⟩
theorem wk_e {a q p : Nat} {t : Int × Int} (I : wk_I P L a t q p) (o : 0 ≤ (ge_o (P q) (P p) t)) : ge_T (P q) (P p) (P (L q p)) t := by
  obtain ⟨i1, i2, i3, i4, i5⟩ := I
  generalize L q p = N at *
  refine ⟨o, ?_, ?_⟩
  · rcases i5 with k | ⟨k1, k2⟩ | ⟨k1, k2⟩
    · rw [k]
      have := ge_sw (P p) (P a) t; omega
    · rcases Int.lt_or_le ((ge_o (P p) (P N) t)) 0 with g | g
      · exfalso
        have G := ge_gp t (P N) (P p) (P q) (P a)
        have r1 := ge_rot2 (P N) (P p) t
        have r2 := ge_rot2 (P q) (P a) t
        have r3 := ge_rot2 (P N) (P q) t
        have r4 := ge_rot2 (P p) (P a) t
        have r5 := ge_rot2 (P N) (P a) t
        have r6 := ge_rot2 (P p) (P q) t
        have s1 := ge_sw (P p) (P N) t
        have s2 := ge_sw (P q) (P a) t
        have s3 := ge_sw (P p) (P a) t
        have s4 := ge_sw (P N) (P a) t
        have s5 := ge_sw (P p) (P q) t
        have p1 := sg_pp (show 0 < ge_o t (P N) (P p) by omega) (show 0 < - ge_o t (P q) (P a) by omega)
        have p2 := sg_ww (show 0 ≤ ge_o t (P N) (P q) by omega) (show 0 ≤ ge_o t (P p) (P a) by omega)
        have p3 := sg_ww (show 0 ≤ ge_o t (P N) (P a) by omega) (show 0 ≤ - ge_o t (P p) (P q) by omega)
        rw [Int.mul_neg] at p1 p3
        omega
      · exact g
    · exact Int.le_of_lt k2
  · rcases i5 with k | ⟨k1, k2⟩ | ⟨k1, k2⟩
    · rw [k]; exact Int.le_of_lt i2
    · exact Int.le_of_lt k2
    · rcases Int.lt_or_le ((ge_o (P N) (P q) t)) 0 with g | g
      · exfalso
        have G := ge_gp t (P q) (P N) (P p) (P a)
        have r1 := ge_rot2 (P q) (P N) t
        have r2 := ge_rot2 (P p) (P a) t
        have r3 := ge_rot2 (P q) (P p) t
        have r4 := ge_rot2 (P N) (P a) t
        have r5 := ge_rot2 (P q) (P a) t
        have r6 := ge_rot2 (P N) (P p) t
        have s1 := ge_sw (P q) (P N) t
        have s2 := ge_sw (P p) (P a) t
        have s3 := ge_sw (P N) (P a) t
        have s4 := ge_sw (P q) (P a) t
        have s5 := ge_sw (P p) (P N) t
        have p1 := sg_ww (show 0 ≤ ge_o t (P q) (P N) by omega) (show 0 ≤ ge_o t (P p) (P a) by omega)
        have p2 := sg_ww (show 0 ≤ ge_o t (P q) (P p) by omega) (show 0 ≤ - ge_o t (P N) (P a) by omega)
        have p3 := sg_pp (show 0 < - ge_o t (P q) (P a) by omega) (show 0 < - ge_o t (P N) (P p) by omega)
        rw [Int.mul_neg] at p2
        rw [Int.neg_mul_neg] at p3
        omega
      · exact g
/-- right of the way, left of it -/
theorem wk_lq {a q : Nat} {t : Int × Int} (hq : q < 16) (o : 0 < (ge_o (P a) (P q) t)) : 0 < wk_l (wk_K P (P a) t 16) (P a) t (P q) := by
  unfold wk_l
  have := (wk_Kb P (P a) t 16 q hq).1
  have k := Int.mul_le_mul_of_nonneg_left (show (1 : Int) ≤ (ge_o (P a) (P q) t) by omega) (Int.le_of_lt (wk_Kp P (P a) t 16))
  rw [Int.mul_one] at k
  omega
theorem wk_lp {a q p : Nat} {t : Int × Int} (hp : p < 16) (o : (ge_o (P a) (P p) t) ≤ 0) (oq : 0 < (ge_o (P a) (P q) t)) (oa : 0 < (ge_o (P q) (P p) (P a))) : wk_l (wk_K P (P a) t 16) (P a) t (P p) < 0 := by
  unfold wk_l
  rcases Int.lt_or_le ((ge_o (P a) (P p) t)) 0 with g | g
  · have := (wk_Kb P (P a) t 16 p hp).2
    have k := Int.mul_le_mul_of_nonneg_left (show (1 : Int) ≤ - (ge_o (P a) (P p) t) by omega) (Int.le_of_lt (wk_Kp P (P a) t 16))
    rw [Int.mul_one, Int.mul_neg] at k
    omega
  · have z : (ge_o (P a) (P p) t) = 0 := by omega
    have hne : P a ≠ t := by
      intro e
      rw [← e, ge_psp] at oq; omega
    have hB := ge_ne hne
    have I : ((t.1 - (P a).1) * (t.1 - (P a).1) + (t.2 - (P a).2) * (t.2 - (P a).2)) * (ge_o (P q) (P p) (P a)) =
        (ge_o (P a) (P q) t) * (((P p).1 - (P a).1) * (t.1 - (P a).1) + ((P p).2 - (P a).2) * (t.2 - (P a).2)) -
        (((P q).1 - (P a).1) * (t.1 - (P a).1) + ((P q).2 - (P a).2) * (t.2 - (P a).2)) * (ge_o (P a) (P p) t) := by
      unfold ge_o; grind
    rw [z, Int.mul_zero] at I
    have := sg_pp hB oa
    have := sg_inv oq (show 0 < (ge_o (P a) (P q) t) * (((P p).1 - (P a).1) * (t.1 - (P a).1) + ((P p).2 - (P a).2) * (t.2 - (P a).2)) by omega)
    rw [z, Int.mul_zero]
    omega
/-- how far the walk has come, as a fraction -/
def wk_n (P : Nat → Int × Int) (a : Nat) (q p : Nat) : Int := (ge_o (P q) (P p) (P a))
def wk_d (P : Nat → Int × Int) (a : Nat) (t : Int × Int) (q p : Nat) : Int := wk_l (wk_K P (P a) t 16) (P a) t (P q) - wk_l (wk_K P (P a) t 16) (P a) t (P p)
/-- farther along -/
def wk_lt (P : Nat → Int × Int) (a : Nat) (t : Int × Int) (q p q' p' : Nat) : Prop := wk_n P a q p * wk_d P a t q' p' < wk_n P a q' p' * wk_d P a t q p
theorem wk_d0 {a q p : Nat} {t : Int × Int} (hq : q < 16) (hp : p < 16) (o : (ge_o (P a) (P p) t) ≤ 0) (oq : 0 < (ge_o (P a) (P q) t)) (oa : 0 < (ge_o (P q) (P p) (P a))) : 0 < wk_d P a t q p := by
  have := wk_lq (P := P) hq oq
  have := wk_lp hp o oq oa
  unfold wk_d; omega
theorem wk_g1 {a q p r : Nat} {t : Int × Int} (hq : q < 16) (oq : 0 < (ge_o (P a) (P q) t)) (f : 0 < (ge_o (P p) (P q) (P r))) : wk_lt P a t q p q r := by
  have k := wk_k1 (wk_K P (P a) t 16) (P a) t (P q) (P p) (P r)
  have := sg_pp f (wk_lq (P := P) hq oq)
  rw [ge_sw (P q) (P p) (P r), Int.neg_mul] at this
  unfold wk_lt wk_n wk_d; omega
theorem wk_g2 {a q p r : Nat} {t : Int × Int} (hp : p < 16) (o : (ge_o (P a) (P p) t) ≤ 0) (oq : 0 < (ge_o (P a) (P q) t)) (oa : 0 < (ge_o (P q) (P p) (P a))) (f : 0 < (ge_o (P p) (P q) (P r))) : wk_lt P a t q p r p := by
  have k := wk_k2 (wk_K P (P a) t 16) (P a) t (P q) (P p) (P r)
  have := sg_pp f (show 0 < - wk_l (wk_K P (P a) t 16) (P a) t (P p) by have := wk_lp hp o oq oa; omega)
  rw [ge_sw (P q) (P p) (P r), Int.neg_mul_neg] at this
  unfold wk_lt wk_n wk_d; omega
/-- the walk ends: some face holds t -/
theorem wk_ex (hp : tr_pt m V P) (h : tr_T V P S L) {a : Nat} {t : Int × Int} (ht : 0 ≤ t.1 ∧ t.1 ≤ m ∧ 0 ≤ t.2 ∧ t.2 ≤ m) (h0 : ∃ q p, wk_I P L a t q p) :
    ∃ q p, wk_I P L a t q p ∧ 0 ≤ (ge_o (P q) (P p) t) := by
  have b16 : ∀ q p, wk_I P L a t q p → q < 16 ∧ p < 16 := fun q p I =>
    ⟨tp_16 hp (tt_va h (show L q p ≤ 16 by have := I.1; omega)), tp_16 hp (tt_vb h (show L q p ≤ 16 by have := I.1; omega))⟩
  obtain ⟨q0, p0, I0⟩ := h0
  obtain ⟨q, p, hq, hp', I, hm⟩ := mx_2 (fun q p => wk_I P L a t q p) (wk_n P a) (wk_d P a t) (fun q p hq hp' I => wk_d0 hq hp' I.2.2.1 I.2.1 I.2.2.2.1)
    ⟨q0, p0, (b16 _ _ I0).1, (b16 _ _ I0).2, I0⟩
  refine ⟨q, p, I, ?_⟩
  rcases Int.lt_or_le ((ge_o (P q) (P p) t)) 0 with g | g
  · exfalso
    have hr := wk_r hp h ht I g
    rcases Int.lt_or_le 0 ((ge_o (P a) (P (L p q)) t)) with k | k
    · obtain ⟨I', _, f⟩ := wk_s2 hp h I g rfl hr k
      have := hm _ _ (b16 _ _ I').1 (b16 _ _ I').2 I'
      have := wk_g2 hp' I.2.2.1 I.2.1 I.2.2.2.1 f
      unfold wk_lt at this; omega
    · obtain ⟨I', _, f⟩ := wk_s1 hp h I g rfl hr k
      have := hm _ _ (b16 _ _ I').1 (b16 _ _ I').2 I'
      have := wk_g1 (p := p) hq I.2.1 f
      unfold wk_lt at this; omega
  · exact g
/-- where the component's walks begin: corner 0, or corner 1 for the lower side -/
theorem wk_st (hp : tr_pt m V P) (h : tr_T V P S L) {t : Int × Int} (ht : 0 ≤ t.1 ∧ t.1 ≤ m ∧ 0 ≤ t.2 ∧ t.2 ≤ m) {a : Nat} (ha : (a = 0 ∧ 0 < t.2) ∨ (a = 1 ∧ t.2 = 0 ∧ t.1 < m)) :
    ∃ q p, L a q = p ∧ p < 16 ∧ 0 < (ge_o (P a) (P q) t) ∧ (ge_o (P a) (P p) t) ≤ 0 := by
  have hm := tp_m hp
  have e0 := tp_0 hp
  have e1 := tp_1 hp
  have e2 := tp_2 hp
  have k01 : L 0 1 ≤ 16 := tt_sy h (by rw [(tt_out h 1 0).mpr (by unfold tr_O; omega)]; omega)
  have k12 : L 1 2 ≤ 16 := tt_sy h (by rw [(tt_out h 2 1).mpr (by unfold tr_O; omega)]; omega)
  refine en_1 (en_N hp h a) (en_fan hp h a) ?_ (fun q hq => ?_)
  · rcases ha with ⟨rfl, g⟩ | ⟨rfl, g, g2⟩
    · refine ⟨1, k01, ?_⟩
      rw [e0, e1]; unfold ge_o; simp only
      have := sg_pp hm g
      grind
    · refine ⟨2, k12, ?_⟩
      rw [e1, e2]; unfold ge_o; simp only
      have := sg_pp hm (show 0 < m - t.1 by omega)
      grind
  · have := tt_hull hp ((tt_out h a q).mp hq) ht
    have := ge_sw (P a) (P q) t
    omega
/-- beyond an outer edge: strict -/
theorem tt_hulls (hp : tr_pt m V P) {a b : Nat} (h : tr_O a b) {t : Int × Int} (ht : 0 < t.1 ∧ t.1 < m ∧ 0 < t.2 ∧ t.2 < m) : 0 < (ge_o (P b) (P a) t) := by
  have hm := tp_m hp
  have e0 := tp_0 hp
  have e1 := tp_1 hp
  have e2 := tp_2 hp
  have e3 := tp_3 hp
  unfold tr_O at h
  rcases h with ⟨rfl, rfl⟩ | ⟨rfl, rfl⟩ | ⟨rfl, rfl⟩ | ⟨rfl, rfl⟩
  · rw [e0, e1]; unfold ge_o; simp only
    have := sg_pp hm ht.2.2.1
    grind
  · rw [e1, e2]; unfold ge_o; simp only
    have := sg_pp hm (show 0 < m - t.1 by omega)
    grind
  · rw [e2, e3]; unfold ge_o; simp only
    have := sg_pp hm (show 0 < m - t.2 by omega)
    grind
  · rw [e3, e0]; unfold ge_o; simp only
    have := sg_pp hm ht.1
    grind
/-- an edge with an inner place of the box on it has faces at both sides -/
theorem tt_nm2 (hp : tr_pt m V P) (h : tr_T V P S L) {a b : Nat} (e : L a b ≤ 16) {t : Int × Int} (ht : 0 < t.1 ∧ t.1 < m ∧ 0 < t.2 ∧ t.2 < m) (o : (ge_o (P a) (P b) t) = 0) : L a b < 16 ∧ L b a < 16 := by
  have e' := tt_sy h e
  have s := ge_sw (P a) (P b) t
  constructor
  · rcases Nat.lt_or_ge (L a b) 16 with g | g
    · exact g
    · have := tt_hulls hp ((tt_out h a b).mp (by omega)) ht; omega
  · rcases Nat.lt_or_ge (L b a) 16 with g | g
    · exact g
    · have := tt_hulls hp ((tt_out h b a).mp (by omega)) ht; omega
/-- a point can be put in -/
theorem ip_1 {k : Nat} (hp : tr_pt m (fun x => V x ∨ x = k) P) (hk : ¬ V k) (h4 : 4 ≤ k) (hp0 : tr_pt m V P) (hS : tr_sg V P S) (h : tr_T V P S L) :
    ∃ L', tr_T (fun x => V x ∨ x = k) P S L' := by
  have hin := tp_in hp (k := k) (Or.inr rfl) h4
  have ht : 0 ≤ (P k).1 ∧ (P k).1 ≤ m ∧ 0 ≤ (P k).2 ∧ (P k).2 ≤ m := by omega
  by_cases hF : ∀ x y, L x y ≤ 16 → ¬ (ge_B (P k) (P x) (P y))
  · obtain ⟨q0, p0, e1, e2, e3, e4⟩ := wk_st hp0 h ht (a := 0) (Or.inl ⟨rfl, hin.2.2.1⟩)
    obtain ⟨q, p, I, o⟩ := wk_ex hp0 h ht ⟨q0, p0, wk_0 hp0 h e1 e2 e3 e4⟩
    obtain ⟨s1, s2, s3⟩ := pf_cl hp hk hp0 h hF rfl I.1 (wk_e I o)
    exact ⟨_, sp_T hp hk hp0 hS h rfl I.1 s1 s2 s3⟩
  · have : ∃ x y, L x y ≤ 16 ∧ (ge_B (P k) (P x) (P y)) := by
      refine Classical.byContradiction fun hn => hF ?_
      intro x y e b
      exact hn ⟨x, y, e, b⟩
    obtain ⟨x, y, e, b⟩ := this
    obtain ⟨n1, n2⟩ := tt_nm2 hp0 h e hin b.1
    exact ⟨_, sd_T hp hk hp0 hS h rfl n1 rfl n2 b⟩
/-- only the live points' places matter -/
theorem tc_1 {P' : Nat → Int × Int} (h16 : ∀ k, V k → k < 16) (hS : ∀ s ∈ S, V s.1 ∧ V s.2) (hP : ∀ k, V k → P' k = P k) (h : tr_T V P S L) : tr_T V P' S L := by
  have fv : ∀ a b c, L a b = c → c < 16 → V a ∧ V b ∧ V c := by
    intro a b c e hc
    have va := tt_va h (show L a b ≤ 16 by omega)
    have e1 := tt_f2 h e hc
    exact ⟨va, tt_vb h (show L a b ≤ 16 by omega), tt_vb h (show L b c ≤ 16 by have := h16 a va; omega)⟩
  refine ⟨h.1, ?_, h.2.2.1, ?_, ?_, ?_, h.2.2.2.2.2.2.1, ?_⟩
  · intro a b c e hc
    obtain ⟨va, vb, vc⟩ := fv a b c e hc
    refine ⟨tt_f2 h e hc, tt_f3 h e hc, ?_⟩
    rw [hP a va, hP b vb, hP c vc]; exact tt_fo h e hc
  · intro a b k e vk
    rw [hP a (tt_va h e), hP b (tt_vb h e), hP k vk]; exact tt_F h e vk
  · intro a b c d e e'
    rw [hP a (tt_va h e), hP b (tt_vb h e), hP c (tt_va h e'), hP d (tt_vb h e')]; exact tt_N h e e'
  · intro a b c k e hc vk t
    obtain ⟨va, vb, vc⟩ := fv a b c e hc
    rw [hP a va, hP b vb, hP c vc, hP k vk] at t
    exact tt_E h e hc vk t
  · intro s hs p q vp vq ne cp cq hb
    obtain ⟨v1, v2⟩ := hS s hs
    rw [hP p vp, hP _ v1, hP _ v2] at cp
    rw [hP q vq, hP _ v1, hP _ v2] at cq
    refine tt_C h hs vp vq ne cp cq (fun k vk => ?_)
    have := hb k vk
    rw [hP k vk, hP p vp, hP q vq] at this
    exact this
end
/-! the empty box -/
def ba_Q : Nat → Int × Int := fun k => if k = 1 then (1, 0) else if k = 2 then (1, 1) else if k = 3 then (0, 1) else (0, 0)
def ba_tab : List Nat := [17, 2, 3, 16, 16, 17, 0, 17, 1, 16, 17, 0, 2, 17, 16, 17]
def ba_L : Nat → Nat → Nat := fun a b => if a < 4 ∧ b < 4 then ba_tab.getD (a * 4 + b) 17 else 17
theorem ba_lt {a b : Nat} (h : ba_L a b ≤ 16) : a < 4 ∧ b < 4 := by
  by_cases g : a < 4 ∧ b < 4
  · exact g
  · unfold ba_L at h; rw [if_neg g] at h; omega
theorem ba_1 : ∀ a, a < 4 → ∀ b, b < 4 → ba_L a b ≤ 16 → a ≠ b ∧ ba_L b a ≤ 16 := by decide
theorem ba_2 : ∀ a, a < 4 → ∀ b, b < 4 → ∀ c, c < 4 → ba_L a b = c → ba_L b c = a ∧ ba_L c a = b ∧ 0 < ge_o (ba_Q a) (ba_Q b) (ba_Q c) := by decide
theorem ba_3 : ∀ a, a < 4 → ∀ b, b < 4 → ∀ k, k < 4 → ba_L a b ≤ 16 → ¬ (ge_o (ba_Q a) (ba_Q b) (ba_Q k) = 0 ∧ ge_d (ba_Q a) (ba_Q b) (ba_Q k) < 0) := by decide
theorem ba_4f : ∀ a b c d : Fin 4, ba_L a b ≤ 16 → ba_L c d ≤ 16 →
    ¬ (0 < ge_o (ba_Q a) (ba_Q b) (ba_Q c) ∧ 0 < ge_o (ba_Q b) (ba_Q a) (ba_Q d) ∧ 0 < ge_o (ba_Q c) (ba_Q d) (ba_Q b) ∧ 0 < ge_o (ba_Q d) (ba_Q c) (ba_Q a)) := by
  decide +kernel
theorem ba_5f : ∀ a b c k : Fin 4, ba_L a b = c →
    (0 ≤ ge_o (ba_Q a) (ba_Q b) (ba_Q k) ∧ 0 ≤ ge_o (ba_Q b) (ba_Q c) (ba_Q k) ∧ 0 ≤ ge_o (ba_Q c) (ba_Q a) (ba_Q k)) → k = a ∨ k = b ∨ k = c := by decide +kernel
theorem ba_5 (a : Nat) (ha : a < 4) (b : Nat) (hb : b < 4) (c : Nat) (hc : c < 4) (k : Nat) (hk : k < 4) (e : ba_L a b = c)
    (t : ge_T (ba_Q a) (ba_Q b) (ba_Q c) (ba_Q k)) : k = a ∨ k = b ∨ k = c := by
  have := ba_5f ⟨a, ha⟩ ⟨b, hb⟩ ⟨c, hc⟩ ⟨k, hk⟩ e t
  simpa [Fin.ext_iff] using this
theorem ba_6 : ∀ a, a < 4 → ∃ b, b < 4 ∧ ba_L a b ≤ 16 := by decide
theorem ba_cf : ∀ a b : Fin 4, ba_L a b < 16 → ba_L a b < 4 := by decide
theorem ba_c {a b c : Nat} (h : ba_L a b = c) (hc : c < 16) : c < 4 := by
  obtain ⟨ha, hb⟩ := ba_lt (show ba_L a b ≤ 16 by omega)
  have := ba_cf ⟨a, ha⟩ ⟨b, hb⟩
  simp only at this
  omega
theorem ba_of : ∀ a b : Fin 4, ba_L a b = 16 ↔ ((a.val = 1 ∧ b.val = 0) ∨ (a.val = 2 ∧ b.val = 1) ∨ (a.val = 3 ∧ b.val = 2) ∨ (a.val = 0 ∧ b.val = 3)) := by decide
theorem ba_o (a b : Nat) : ba_L a b = 16 ↔ tr_O a b := by
  unfold tr_O
  constructor
  · intro h
    obtain ⟨ha, hb⟩ := ba_lt (show ba_L a b ≤ 16 by omega)
    exact (ba_of ⟨a, ha⟩ ⟨b, hb⟩).mp h
  · intro h
    exact (ba_of ⟨a, by omega⟩ ⟨b, by omega⟩).mpr h
theorem ba_T : tr_T (fun k => k < 4) ba_Q [] ba_L := by
  refine ⟨?_, ?_, ?_, ?_, ?_, ?_, ?_, ?_⟩
  · intro a b h
    obtain ⟨ha, hb⟩ := ba_lt h
    have := ba_1 a ha b hb h
    exact ⟨ha, hb, this.1, this.2⟩
  · intro a b c h hc
    obtain ⟨ha, hb⟩ := ba_lt (show ba_L a b ≤ 16 by omega)
    exact ba_2 a ha b hb c (ba_c h hc) h
  · exact ba_o
  · intro a b k h vk
    obtain ⟨ha, hb⟩ := ba_lt h
    exact ba_3 a ha b hb k vk h
  · intro a b c d h h'
    obtain ⟨ha, hb⟩ := ba_lt h
    obtain ⟨hc, hd⟩ := ba_lt h'
    exact ba_4f ⟨a, ha⟩ ⟨b, hb⟩ ⟨c, hc⟩ ⟨d, hd⟩ h h'
  · intro a b c k h hc vk t
    obtain ⟨ha, hb⟩ := ba_lt (show ba_L a b ≤ 16 by omega)
    exact ba_5 a ha b hb c (ba_c h hc) k vk h t
  · intro a va
    obtain ⟨b, _, h⟩ := ba_6 a va
    exact ⟨b, h⟩
  · intro s hs
    exact absurd hs List.not_mem_nil
section
variable {m : Int} {V : Nat → Prop} {P : Nat → Int × Int} {S : List (Nat × Nat)} {L : Nat → Nat → Nat} {H : Nat → Int}
theorem ba_P (hp : tr_pt m V P) : tr_T (fun k => k < 4) P [] ba_L := by
  refine tc_1 (fun k hk => by have : k < 4 := hk; omega) (fun s hs => absurd hs List.not_mem_nil) ?_ (sc_tr (tp_m hp) ba_T)
  intro k hk
  have hk : k < 4 := hk
  have : k = 0 ∨ k = 1 ∨ k = 2 ∨ k = 3 := by omega
  rcases this with rfl | rfl | rfl | rfl
  · rw [tp_0 hp]; unfold sc_P ba_Q; simp
  · rw [tp_1 hp]; unfold sc_P ba_Q; simp
  · rw [tp_2 hp]; unfold sc_P ba_Q; simp
  · rw [tp_3 hp]; unfold sc_P ba_Q; simp
theorem ex_p (hp : tr_pt m V P) : ∀ n, 4 ≤ n → ∃ L, tr_T (fun k => V k ∧ k < n) P [] L := by
  intro n hn
  induction n with
  | zero => omega
  | succ n ih =>
    by_cases h4 : n = 3
    · subst h4
      have : (fun k => V k ∧ k < 3 + 1) = (fun k => k < 4) := by
        funext k
        exact propext ⟨fun g => g.2, fun g => ⟨tp_c hp g, g⟩⟩
      rw [this]
      exact ⟨_, ba_P hp⟩
    · obtain ⟨L, h⟩ := ih (by omega)
      by_cases vn : V n
      · have e : (fun k => V k ∧ k < n + 1) = (fun k => (V k ∧ k < n) ∨ k = n) := by
          funext k
          refine propext ⟨fun g => ?_, fun g => ?_⟩
          · by_cases e : k = n
            · exact Or.inr e
            · exact Or.inl ⟨g.1, by omega⟩
          · rcases g with g | rfl
            · exact ⟨g.1, by omega⟩
            · exact ⟨vn, by omega⟩
        have p1 : tr_pt m (fun k => (V k ∧ k < n) ∨ k = n) P := by
          refine tp_sub hp (fun x g => ?_) (fun k hk => Or.inl ⟨tp_c hp hk, by omega⟩)
          rcases g with g | rfl
          · exact g.1
          · exact vn
        have p0 : tr_pt m (fun k => V k ∧ k < n) P := tp_sub hp (fun x g => g.1) (fun k hk => ⟨tp_c hp hk, by omega⟩)
        have := ip_1 (V := fun k => V k ∧ k < n) p1 (fun g => by have := g.2; omega) (by omega) p0 ⟨fun s hs => absurd hs List.not_mem_nil, fun s hs => absurd hs List.not_mem_nil⟩ h
        rw [e]; exact this
      · have e : (fun k => V k ∧ k < n + 1) = (fun k => V k ∧ k < n) := by
          funext k
          refine propext ⟨fun g => ?_, fun g => ⟨g.1, by omega⟩⟩
          by_cases e : k = n
          · exact absurd g.1 (by rw [e]; exact vn)
          · exact ⟨g.1, by omega⟩
        rw [e]; exact ⟨L, h⟩
theorem ex_s (hp : tr_pt m V P) : ∀ S : List (Nat × Nat), tr_sg V P S → ∃ L, tr_T V P S L := by
  intro S
  induction S with
  | nil =>
    intro _
    obtain ⟨L, h⟩ := ex_p hp 16 (by omega)
    have e : (fun k => V k ∧ k < 16) = V := by
      funext k
      exact propext ⟨fun g => g.1, fun g => ⟨g, tp_16 hp g⟩⟩
    rw [e] at h
    exact ⟨L, h⟩
  | cons s S ih =>
    intro hS
    obtain ⟨L, h⟩ := ih ⟨fun r hr => hS.1 r (List.mem_cons_of_mem _ hr), fun r hr q hq => hS.2 r (List.mem_cons_of_mem _ hr) q (List.mem_cons_of_mem _ hq)⟩
    exact is_1 (a := s.1) (b := s.2) hp hS h
/-- every configuration has its mesh -/
theorem ex_1 (hp : tr_pt m V P) (hS : tr_sg V P S) (hh : tr_hull H V P) : ∃ L, tr_T V P S L ∧ tr_LD H P S L := by
  obtain ⟨L, h⟩ := ex_s hp S hS
  exact lf_ld hp hh h
end
end
section
/-- two places on one ray -/
theorem ge_ray {p x y q : Int × Int} (ox : 0 < ge_o p x q) (fo : 0 < ge_o p x y) (z : ge_o p y q = 0) : ge_B y p q ∨ y = q ∨ ge_B q p y := by
  have s := ge_sw2 p y q
  rcases Int.lt_trichotomy (ge_o p x y) (ge_o p x q) with c | c | c
  · exact Or.inl (ge_Bi (u := p) (v := x) (by omega) (by rw [ge_psp]; omega) c)
  · right; left
    have e1 : ge_o p x q * (y.1 - q.1) = 0 := by
      have z' := z
      unfold ge_o at c z' ⊢; grind
    have e2 : ge_o p x q * (y.2 - q.2) = 0 := by
      have z' := z
      unfold ge_o at c z' ⊢; grind
    have f1 := sg_eq0 ox e1
    have f2 := sg_eq0 ox e2
    exact Prod.ext (by omega) (by omega)
  · exact Or.inr (Or.inr (ge_Bi (u := p) (v := x) z (by rw [ge_psp]; omega) c))
section
variable {m : Int} {V : Nat → Prop} {P : Nat → Int × Int} {S : List (Nat × Nat)} {L : Nat → Nat → Nat} {H : Nat → Int}
/-- fewer segments -/
theorem tr_tail {s : Nat × Nat} (h : tr_T V P (s :: S) L) : tr_T V P S L :=
  ⟨h.1, h.2.1, h.2.2.1, h.2.2.2.1, h.2.2.2.2.1, h.2.2.2.2.2.1, h.2.2.2.2.2.2.1, fun r hr => h.2.2.2.2.2.2.2 r (List.mem_cons_of_mem _ hr)⟩
/-- a seen pair makes a good new segment -/
theorem sg_see {a b : Nat} (hS : tr_sg V P S) (hs : tr_see V P S a b) : tr_sg V P ((a, b) :: S) := by
  constructor
  · intro s hm
    rcases List.mem_cons.mp hm with rfl | hm
    · exact ⟨hs.1, hs.2.1, hs.2.2.1⟩
    · exact hS.1 s hm
  · intro s hm r hr hX
    rcases List.mem_cons.mp hm with rfl | hm
    · rcases List.mem_cons.mp hr with rfl | hr
      · exfalso
        rcases hX with g | g
        · have := g.1; rw [ge_psp] at this; omega
        · have := g.1; rw [ge_spp] at this; omega
      · exfalso
        rcases hX with g | g
        · exact (se_X hs hr).1 g
        · exact (se_X hs hr).2 g
    · rcases List.mem_cons.mp hr with rfl | hr
      · exfalso
        rcases hX with g | g
        · exact (se_X hs hm).2 (ge_X2 g)
        · exact (se_X hs hm).1 (ge_X1 (ge_X2 g))
      · exact hS.2 s hm r hr hX
/-- a seen pair that no witness denies is an edge -/
theorem rf_1 (hp : tr_pt m V P) (hS : tr_sg V P S) (h : tr_T V P S L) (hl : tr_LD H P S L) (hg : tr_gen H V P) (hh : tr_hull H V P) {a b : Nat} (hs : tr_see V P S a b)
    (hw : ∀ c d, tr_see V P S a c → tr_see V P S b c → 0 < (ge_o (P a) (P b) (P c)) → tr_see V P S a d → tr_see V P S b d → 0 < (ge_o (P b) (P a) (P d)) → 0 ≤ (ge_D H P a b c d)) : L a b ≤ 16 := by
  have hS' := sg_see hS hs
  obtain ⟨L', h', hl'⟩ := ex_1 hp hS' hh
  have h2 := tr_tail h'
  have e : L' a b ≤ 16 := tt_C h' (List.mem_cons_self ..) hs.1 hs.2.1 hs.2.2.1 (ge_Ca _ _) (ge_Cb _ _) hs.2.2.2.1
  have hl2 : tr_LD H P S L' := by
    intro x y c d exy hc eyx hd hn
    by_cases hcv : tr_cov P ((a, b) :: S) x y
    · obtain ⟨s, hm, cx, cy⟩ := hcv
      rcases List.mem_cons.mp hm with rfl | hm
      · have vx := tt_va h2 (show L' x y ≤ 16 by omega)
        have vy := tt_vb h2 (show L' x y ≤ 16 by omega)
        have nxy := tt_ne h2 (show L' x y ≤ 16 by omega)
        have ends : ∀ z, V z → (ge_C (P z) (P a) (P b)) → z = a ∨ z = b := by
          intro z vz cz
          rcases ge_Cd cz with g | g | g
          · exact Or.inl (tp_inj hp vz hs.1 g)
          · exact Or.inr (tp_inj hp vz hs.2.1 g)
          · exact absurd g (se_B hs vz)
        have key : ∀ c d, L' a b = c → c < 16 → L' b a = d → d < 16 → 0 ≤ (ge_D H P a b c d) := by
          intro c d e1 hc e2 hd
          obtain ⟨_, _, _, _, _, f1, _, g2, g3, _, g5, g6⟩ := tt_face hp h2 e1 hc
          obtain ⟨_, _, _, _, _, f2, _, k2, k3, _, k5, k6⟩ := tt_face hp h2 e2 hd
          exact hw c d (se_E hp hS h2 g6) (se_E hp hS h2 g2) f1 (se_E hp hS h2 k2) (se_E hp hS h2 k6) f2
        rcases ends x vx cx with rfl | rfl
        · rcases ends y vy cy with rfl | rfl
          · exact absurd rfl nxy
          · exact key c d exy hc eyx hd
        · rcases ends y vy cy with rfl | rfl
          · have := key d c eyx hd exy hc
            have k : (ge_D H P x y c d) = (ge_D H P y x d c) := by unfold ge_D ge_o; grind
            omega
          · exact absurd rfl nxy
      · exact absurd ⟨s, hm, cx, cy⟩ hn
    · exact hl' x y c d exy hc eyx hd hcv
  exact uq_1 hp hS h2 hl2 h hl hg e
/-- forcing a new segment: edges that it doesn't cross stay -/
theorem fo_1 (hp : tr_pt m V P) (hS : tr_sg V P S) {s : Nat × Nat} (hS' : tr_sg V P (s :: S)) (h : tr_T V P S L) (hl : tr_LD H P S L) {L' : Nat → Nat → Nat} (h' : tr_T V P (s :: S) L') (hl' : tr_LD H P (s :: S) L')
    (hg : tr_gen H V P) {a b : Nat} (e : L a b ≤ 16) (n1 : ¬ (ge_X (P a) (P b) (P (s.1)) (P (s.2)))) (n2 : ¬ (ge_X (P a) (P b) (P (s.2)) (P (s.1)))) : L' a b ≤ 16 := by
  refine Classical.byContradiction fun hn => ?_
  have hs := se_E hp hS h e
  have hs' : tr_see V P (s :: S) a b := by
    refine ⟨hs.1, hs.2.1, hs.2.2.1, hs.2.2.2.1, fun r hr => ?_⟩
    rcases List.mem_cons.mp hr with rfl | hr
    · exact ⟨n1, n2⟩
    · exact se_X hs hr
  obtain ⟨u, v, euv, hX⟩ := ms_1 hp h' hs' hn
  have k1 := cl_1 hp h' hl' hs' euv hX
  have su := se_E hp hS' h' euv
  have su' : tr_see V P S u v := ⟨su.1, su.2.1, su.2.2.1, su.2.2.2.1, fun r hr => se_X su (List.mem_cons_of_mem _ hr)⟩
  have k2 := cl_2 hp h hl su' e hX
  have nb : b ≠ u ∧ b ≠ v ∧ b ≠ a := by
    obtain ⟨x1, x2, x3, x4⟩ := hX
    refine ⟨?_, ?_, ?_⟩
    · rintro rfl; rw [ge_spp] at x2; omega
    · rintro rfl; rw [ge_psp] at x2; omega
    · exact hs.2.2.1.symm
  exact hg u v a b (tt_va h' euv) (tt_vb h' euv) hs.1 hs.2.1 nb.1 nb.2.1 nb.2.2 hX.1 (by omega)
/-- two lines through v -/
theorem ge_2l {u v z k : Int × Int} (h : ge_o u v z ≠ 0) (h1 : ge_o u v k = 0) (h2 : ge_o z v k = 0) : k = v := by
  have e1 : ge_o u v z * (k.1 - v.1) = 0 := by unfold ge_o at h1 h2 ⊢; grind
  have e2 : ge_o u v z * (k.2 - v.2) = 0 := by unfold ge_o at h1 h2 ⊢; grind
  have f1 := (Int.mul_eq_zero.mp e1).resolve_left h
  have f2 := (Int.mul_eq_zero.mp e2).resolve_left h
  exact Prod.ext (by omega) (by omega)
/-- the last case of dropping k: k strictly inside the crossing edge uv, whose faces are u v a and v u b -/
theorem dr_f {k : Nat} (hp : tr_pt m V P) (h : tr_T V P S L) (hl : tr_LD H P S L) (hh : tr_hull H V P) {a b u v : Nat} (e : L a b ≤ 16) (hn : ¬ tr_cov P S a b)
    (hX : (ge_X (P u) (P v) (P a) (P b))) (hD : 0 < (ge_D H P u v a b)) (hB : (ge_B (P k) (P u) (P v))) (s1 : tr_see V P S a k) (s2 : tr_see V P S b k) (s3 : tr_see V P S a u) (s4 : tr_see V P S b u) (vv : V v) (ok : 0 < (ge_o (P a) (P b) (P k))) : False := by
  have k1 := nw_1 hp h hl hh e hn s1 s2 ok s3 s4 hX.2.2.2
  obtain ⟨l, n, l0, n0, hl'⟩ := ge_Bo hB
  have a1 := hl' (P v) (P a)
  have a2 := hl' (P a) (P u)
  rw [ge_psp] at a1
  rw [ge_spp] at a2
  have r1 := ge_rot (P u) (P v) (P a)
  have r2 := ge_rot2 (P u) (P v) (P a)
  have t1 : 0 < (ge_o (P v) (P a) (P k)) := sg_inv (A := l + n) (by omega) (by have := sg_pp l0 (show 0 < (ge_o (P v) (P a) (P u)) by have := hX.1; omega); omega)
  have t2 : 0 < (ge_o (P a) (P u) (P k)) := sg_inv (A := l + n) (by omega) (by have := sg_pp n0 (show 0 < (ge_o (P a) (P u) (P v)) by have := hX.1; omega); omega)
  have hu := hh u v a k s3.2.1 vv s1.1 s1.2.1 hX.1 ⟨by have := hB.1; omega, Int.le_of_lt t1, Int.le_of_lt t2⟩
  have G := ge_Dgp H P a u b v k
  have d1 : (ge_D H P a u b v) = - (ge_D H P u v a b) := by unfold ge_D ge_o; grind
  have d2 : (ge_D H P a u b k) = (ge_D H P a b k u) := by unfold ge_D ge_o; grind
  have d3 : (ge_D H P a u v k) = (ge_D H P u v a k) := by unfold ge_D ge_o; grind
  have o1 : 0 < (ge_o (P a) (P u) (P b)) := by have := ge_rot2 (P a) (P u) (P b); have := ge_rot (P b) (P a) (P u); have := hX.2.2.2; omega
  have o2 : 0 < (ge_o (P a) (P u) (P v)) := by have := hX.1; omega
  have p1 := sg_pp hD t2
  have p2 := sg_ww k1 (Int.le_of_lt o2)
  have p3 := sg_ww (show 0 ≤ - (ge_D H P u v a k) by omega) (Int.le_of_lt o1)
  rw [d1, d2, d3] at G
  rw [Int.neg_mul] at G p3
  omega
/-- from an apex of the crossing edge one sees k -/
theorem dr_s {k : Nat} (hp : tr_pt m V P) (vk : V k) (hS : tr_sg V P S) {L' : Nat → Nat → Nat} (hp' : tr_pt m (fun x => V x ∧ x ≠ k) P) (hS' : tr_sg (fun x => V x ∧ x ≠ k) P S) (h' : tr_T (fun x => V x ∧ x ≠ k) P S L')
    {a u v : Nat} (e : L' u v = a) (ha : a < 16) (hB : (ge_B (P k) (P u) (P v))) : tr_see V P S a k := by
  obtain ⟨vu, vv, va, w1, w2, fo, g1, g2, g3, g4, g5, g6⟩ := tt_face hp' h' e ha
  obtain ⟨l, n, l0, n0, hl'⟩ := ge_Bo hB
  have a1 := hl' (P v) (P a)
  have a2 := hl' (P a) (P u)
  rw [ge_psp] at a1
  rw [ge_spp] at a2
  have r1 := ge_rot (P u) (P v) (P a)
  have r2 := ge_rot2 (P u) (P v) (P a)
  have t1 : 0 < (ge_o (P v) (P a) (P k)) := sg_inv (A := l + n) (by omega) (by have := sg_pp l0 (show 0 < (ge_o (P v) (P a) (P u)) by omega); omega)
  have t2 : 0 < (ge_o (P a) (P u) (P k)) := sg_inv (A := l + n) (by omega) (by have := sg_pp n0 (show 0 < (ge_o (P a) (P u) (P v)) by omega); omega)
  have q1 := ge_rot2 (P a) (P u) (P k)
  have q2 := ge_rot (P v) (P a) (P k)
  have q3 := ge_rot2 (P v) (P a) (P k)
  have q4 := ge_rot (P a) (P u) (P k)
  have nak : a ≠ k := va.2
  -- a live point of the smaller set in one of the halves is a corner
  have inT : ∀ j, V j → j ≠ k → ge_T (P u) (P v) (P a) (P j) → j = u ∨ j = v ∨ j = a := fun j vj nj hT => tt_E h' e ha ⟨vj, nj⟩ hT
  have zk := hB.1
  have half1 : ∀ j, (ge_T (P k) (P a) (P u) (P j)) → (ge_T (P u) (P v) (P a) (P j)) := by
    intro j hT
    obtain ⟨c1, c2, c3⟩ := hT
    have I1 : (ge_o (P a) (P u) (P k)) * (ge_o (P u) (P v) (P j)) = (ge_o (P u) (P v) (P a)) * (ge_o (P u) (P k) (P j)) + (ge_o (P u) (P v) (P k)) * (ge_o (P a) (P u) (P j)) := by unfold ge_o; grind
    have I2 : (ge_o (P a) (P u) (P k)) * (ge_o (P v) (P a) (P j)) = (ge_o (P v) (P a) (P k)) * (ge_o (P a) (P u) (P j)) + (ge_o (P u) (P v) (P a)) * (ge_o (P k) (P a) (P j)) := by unfold ge_o; grind
    exact ⟨sg_w I1 t2 (Int.le_of_lt fo) c3 (by omega) c2, sg_w I2 t2 (Int.le_of_lt t1) c2 (Int.le_of_lt fo) c1, c2⟩
  have half2 : ∀ j, (ge_T (P a) (P k) (P v) (P j)) → (ge_T (P u) (P v) (P a) (P j)) := by
    intro j hT
    obtain ⟨c1, c2, c3⟩ := hT
    have I1 : (ge_o (P v) (P a) (P k)) * (ge_o (P u) (P v) (P j)) = (ge_o (P u) (P v) (P a)) * (ge_o (P k) (P v) (P j)) + (ge_o (P u) (P v) (P k)) * (ge_o (P v) (P a) (P j)) := by unfold ge_o; grind
    have I2 : (ge_o (P v) (P a) (P k)) * (ge_o (P a) (P u) (P j)) = (ge_o (P a) (P u) (P k)) * (ge_o (P v) (P a) (P j)) + (ge_o (P u) (P v) (P a)) * (ge_o (P a) (P k) (P j)) := by unfold ge_o; grind
    exact ⟨sg_w I1 t1 (Int.le_of_lt fo) c2 (by omega) c3, c3, sg_w I2 t1 (Int.le_of_lt t2) c3 (Int.le_of_lt fo) c1⟩
  refine ⟨va.1, vk, nak, ?_, ?_⟩
  · intro j vj hj
    obtain ⟨l2, n2, p0, p1, p2⟩ := ge_Bo hj
    have b1 := p2 (P a) (P u)
    have b2 := p2 (P u) (P k)
    rw [ge_psp] at b1
    rw [ge_spp] at b2
    have c1 : 0 ≤ (ge_o (P a) (P u) (P j)) := sg_invw (A := l2 + n2) (by omega) (by have := sg_pp p1 t2; omega)
    have c2 : 0 ≤ (ge_o (P u) (P k) (P j)) := sg_invw (A := l2 + n2) (by omega) (by have := sg_pp p0 (show 0 < (ge_o (P u) (P k) (P a)) by omega); omega)
    have c3 : (ge_o (P k) (P a) (P j)) = 0 := by have := hj.1; have := ge_sw (P a) (P k) (P j); omega
    have njk : j ≠ k := fun g => (ge_Bne hj).2.1 (by rw [g])
    rcases inT j vj njk (half1 j ⟨by omega, c1, c2⟩) with g | g | g
    · subst g
      have := ge_sw (P a) (P k) (P j); have := ge_rot2 (P a) (P j) (P k); have := ge_sw2 (P k) (P a) (P j); omega
    · subst g
      have := ge_rot2 (P j) (P a) (P k); have := ge_sw2 (P k) (P j) (P a); omega
    · subst g; exact (ge_Bne hj).1 rfl
  · -- no segment crosses ak
    have key : ∀ p q, V p → V q → p ≠ k → q ≠ k → (¬ (ge_X (P v) (P a) (P p) (P q)) ∧ ¬ (ge_X (P v) (P a) (P q) (P p))) → (¬ (ge_X (P a) (P u) (P p) (P q)) ∧ ¬ (ge_X (P a) (P u) (P q) (P p))) → (¬ (ge_X (P u) (P v) (P p) (P q)) ∧ ¬ (ge_X (P u) (P v) (P q) (P p))) → ¬ (ge_X (P a) (P k) (P p) (P q)) := by
      intro p q vp vq npk nqk x1 x2 x3 hX
      have uv : ∀ {x y : Nat}, ge_X (P u) (P k) (P x) (P y) ∨ ge_X (P k) (P v) (P x) (P y) → ((ge_X (P u) (P v) (P x) (P y)) ∨ (ge_X (P v) (P u) (P x) (P y))) := by
        intro x y g
        rcases g with g | g
        · exact ge_Xcov (ge_Ca _ _) (ge_BC hB) g
        · exact ge_Xcov (ge_BC hB) (ge_Cb _ _) g
      -- u's side: q is right of a -> k
      have zu : (ge_o (P p) (P q) (P u)) = 0 := by
        rcases ge_exit (x := P k) (y := P a) (z := P u) (by omega) (ge_X1 hX) with g | g | g | g
        · rcases inT q vq nqk (half1 q g) with w | w | w
          · rw [w, ge_spp]
          · exfalso; subst w
            have := hX.2.1; have := ge_sw2 (P k) (P a) (P q); have := ge_rot2 (P q) (P a) (P k); omega
          · exfalso; subst w; have := hX.2.1; rw [ge_spp] at this; omega
        · exact absurd g x2.1
        · rcases uv (Or.inl g) with w | w
          · exact absurd w x3.1
          · exact absurd (ge_X1 w) x3.2
        · have := g.1; exact this
      have zv : (ge_o (P p) (P q) (P v)) = 0 := by
        rcases ge_exit (x := P a) (y := P k) (z := P v) (by omega) hX with g | g | g | g
        · rcases inT p vp npk (half2 p g) with w | w | w
          · exfalso; subst w
            have := hX.1; have := ge_rot2 (P a) (P p) (P k); have := ge_sw2 (P a) (P p) (P k); omega
          · rw [w, ge_psp]
          · exfalso; subst w; have := hX.1; rw [ge_psp] at this; omega
        · rcases uv (Or.inr g) with w | w
          · exact absurd w x3.2
          · exact absurd (ge_X1 w) x3.1
        · exact absurd g x1.2
        · have := g.1; have := ge_sw (P p) (P q) (P v); omega
      have zk2 := hl' (P p) (P q)
      rw [zu, zv, Int.mul_zero, Int.mul_zero] at zk2
      have := sg_eq0 (show 0 < l + n by omega) (show (l + n) * (ge_o (P p) (P q) (P k)) = 0 by omega)
      have := hX.2.2.1
      omega
    intro s hs
    obtain ⟨⟨vp, np⟩, ⟨vq, nq⟩, _⟩ := hS'.1 s hs
    have y1 := se_X (se_E hp' hS' h' g2) hs
    have y2 := se_X (se_E hp' hS' h' g3) hs
    have y3 := se_X (se_E hp' hS' h' g1) hs
    exact ⟨key s.1 s.2 vp vq np nq y1 y2 y3, key s.2 s.1 vq vp nq np ⟨y1.2, y1.1⟩ ⟨y2.2, y2.1⟩ ⟨y3.2, y3.1⟩⟩
/-- dropping k: the edges not at k stay -/
theorem dr_1 {k : Nat} (hp : tr_pt m V P) (vk : V k) (hS : tr_sg V P S) {L' : Nat → Nat → Nat} (hp' : tr_pt m (fun x => V x ∧ x ≠ k) P) (hS' : tr_sg (fun x => V x ∧ x ≠ k) P S)
    (h : tr_T V P S L) (hl : tr_LD H P S L) (h' : tr_T (fun x => V x ∧ x ≠ k) P S L') (hl' : tr_LD H P S L') (hg : tr_gen H V P) (hh : tr_hull H V P)
    {a b : Nat} (e : L a b ≤ 16) (na : a ≠ k) (nb : b ≠ k) : L' a b ≤ 16 := by
  refine Classical.byContradiction fun hn => ?_
  have hs := se_E hp hS h e
  have hs' : tr_see (fun x => V x ∧ x ≠ k) P S a b := ⟨⟨hs.1, na⟩, ⟨hs.2.1, nb⟩, hs.2.2.1, fun j vj => hs.2.2.2.1 j vj.1, hs.2.2.2.2⟩
  have pos : ∀ u v, L' u v ≤ 16 → (ge_X (P u) (P v) (P a) (P b)) → 0 < (ge_D H P u v a b) := by
    intro u v euv hX
    have k1 := cl_1 hp' h' hl' hs' euv hX
    have nbu : b ≠ u ∧ b ≠ v := by
      obtain ⟨x1, x2, x3, x4⟩ := hX
      constructor
      · rintro rfl; rw [ge_spp] at x2; omega
      · rintro rfl; rw [ge_psp] at x2; omega
    have := hg u v a b (tt_va h' euv).1 (tt_vb h' euv).1 hs.1 hs.2.1 nbu.1 nbu.2 hs.2.2.1.symm hX.1
    omega
  have up : ∀ x y, tr_see (fun x => V x ∧ x ≠ k) P S x y → ¬ (ge_B (P k) (P x) (P y)) → tr_see V P S x y := by
    intro x y g nB
    refine ⟨g.1.1, g.2.1.1, g.2.2.1, fun j vj => ?_, g.2.2.2.2⟩
    by_cases jk : j = k
    · rw [jk]; exact nB
    · exact g.2.2.2.1 j ⟨vj, jk⟩
  -- every crossing edge has k strictly inside
  have inn : ∀ u v, L' u v ≤ 16 → (ge_X (P u) (P v) (P a) (P b)) → (ge_B (P k) (P u) (P v)) := by
    intro u v euv hX
    refine Classical.byContradiction fun nB => ?_
    have k2 := cl_2 hp h hl (up u v (se_E hp' hS' h' euv) nB) e hX
    have := pos u v euv hX
    omega
  obtain ⟨u, v, euv, hX⟩ := ms_1 hp' h' hs' hn
  have hB := inn u v euv hX
  have kne := ge_Bne hB
  have z16 := tt_numV hp' h' euv (k := a) ⟨hs.1, na⟩ hX.1
  have w16 := tt_numV hp' h' (tt_sy h' euv) (k := b) ⟨hs.2.1, nb⟩ hX.2.1
  obtain ⟨vu, vv, vz, _, _, fz, _, z2, z3, _, z5, z6⟩ := tt_face hp' h' (a := u) (b := v) rfl z16
  obtain ⟨_, _, vw, _, _, fw, _, w2, w3, _, w5, w6⟩ := tt_face hp' h' (a := v) (b := u) rfl w16
  have zk := hB.1
  have zk' := ge_sw (P u) (P v) (P k)
  have ez : L' u v = a := by
    rcases ge_exit fz hX with g | g | g | g
    · rcases tt_E h' (a := u) (b := v) rfl z16 (k := a) ⟨hs.1, na⟩ g with w | w | w
      · exfalso; have := hX.1; rw [w, ge_psp] at this; omega
      · exfalso; have := hX.1; rw [w, ge_spp] at this; omega
      · exact w.symm
    · have := inn _ _ z5 (ge_X1 g)
      exact absurd (ge_2l (by omega) zk this.1) kne.2.1
    · have := inn _ _ z6 (ge_X1 g)
      have q1 := ge_sw (P u) (P (L' u v)) (P k)
      have q2 := ge_sw (P u) (P v) (P (L' u v))
      exact absurd (ge_2l (u := P v) (v := P u) (z := P (L' u v)) (k := P k) (by omega) (by omega) (by have := this.1; omega)) kne.1
    · exact absurd (ge_B1 g) (se_B hs vz.1)
  have ew : L' v u = b := by
    rcases ge_exit fw (ge_X1 hX) with g | g | g | g
    · rcases tt_E h' (a := v) (b := u) rfl w16 (k := b) ⟨hs.2.1, nb⟩ g with w | w | w
      · exfalso; have := hX.2.1; rw [w, ge_psp] at this; omega
      · exfalso; have := hX.2.1; rw [w, ge_spp] at this; omega
      · exact w.symm
    · have := inn _ _ w2 g
      have q1 := ge_sw (P u) (P (L' v u)) (P k)
      exact absurd (ge_2l (u := P v) (v := P u) (z := P (L' v u)) (k := P k) (by omega) (by omega) (by have := this.1; omega)) kne.1
    · have := inn _ _ w3 g
      have q2 := ge_sw (P u) (P v) (P (L' v u))
      exact absurd (ge_2l (u := P u) (v := P v) (z := P (L' v u)) (k := P k) (by omega) zk this.1) kne.2.1
    · exact absurd g (se_B hs vw.1)
  rw [ez] at z2 z3 z5 z6 fz
  rw [ew] at w2 w3 w5 w6 fw
  have fa := ge_sw (P u) (P v) (P a)
  have fb := ge_sw (P u) (P v) (P b)
  have s1 : tr_see V P S a k := dr_s hp vk hS hp' hS' h' ez (tp_16 hp hs.1) hB
  have s2 : tr_see V P S b k := dr_s hp vk hS hp' hS' h' ew (tp_16 hp hs.2.1) (ge_B1 hB)
  have s3 : tr_see V P S a u := up _ _ (se_E hp' hS' h' z3) (fun g => kne.1 (ge_2l (u := P v) (v := P u) (z := P a) (by omega) (by omega) g.1))
  have s4 : tr_see V P S b u := up _ _ (se_E hp' hS' h' (tt_sy h' w2)) (fun g => kne.1 (ge_2l (u := P v) (v := P u) (z := P b) (by omega) (by omega) g.1))
  have s5 : tr_see V P S a v := up _ _ (se_E hp' hS' h' (tt_sy h' z2)) (fun g => kne.2.1 (ge_2l (u := P u) (v := P v) (z := P a) (by omega) zk g.1))
  have s6 : tr_see V P S b v := up _ _ (se_E hp' hS' h' w3) (fun g => kne.2.1 (ge_2l (u := P u) (v := P v) (z := P b) (by omega) zk g.1))
  have nc : ¬ tr_cov P S a b := fun c => se_cov (se_sy (se_E hp' hS' h' euv)) c (ge_X2 hX)
  have hD := pos u v euv hX
  rcases Int.lt_trichotomy ((ge_o (P a) (P b) (P k))) 0 with g | g | g
  · have dd : (ge_D H P v u b a) = (ge_D H P u v a b) := by unfold ge_D ge_o; grind
    exact dr_f (k := k) hp h hl hh (a := b) (b := a) (u := v) (v := u) (tt_sy h e) (fun c => nc (co_sy c)) (ge_X1 hX) (by omega) (ge_B1 hB) s2 s1 s6 s5 vu.1 (by have := ge_sw (P a) (P b) (P k); omega)
  · exact tt_F h e vk (ge_Bi (u := P v) (v := P u) g (by have := hX.1; omega) (by have := hX.2.1; omega))
  · exact dr_f (k := k) hp h hl hh e nc hX hD hB s1 s2 s3 s4 vv.1 g
/-! a closed part of a mesh is all of it -/
theorem cn_1 (hp : tr_pt m V P) {a t : Nat} (ha : a < 4) (vt : V t) (n1 : t ≠ a) (n2 : t ≠ (a + 1) % 4) : 0 < (ge_o (P a) (P ((a + 1) % 4)) (P t)) := by
  have hm := tp_m hp
  have e0 := tp_0 hp
  have e1 := tp_1 hp
  have e2 := tp_2 hp
  have e3 := tp_3 hp
  have hx : 4 ≤ t ∨ t = 0 ∨ t = 1 ∨ t = 2 ∨ t = 3 := by omega
  have : a = 0 ∨ a = 1 ∨ a = 2 ∨ a = 3 := by omega
  rcases this with rfl | rfl | rfl | rfl
  · have : 0 < (P t).2 := by
      rcases hx with g | rfl | rfl | rfl | rfl
      · exact (tp_in hp vt g).2.2.1
      · omega
      · omega
      · rw [e2]; exact hm
      · rw [e3]; exact hm
    show 0 < (ge_o (P 0) (P 1) (P t))
    rw [e0, e1]; unfold ge_o; simp only
    have := sg_pp hm this
    grind
  · have : (P t).1 < m := by
      rcases hx with g | rfl | rfl | rfl | rfl
      · exact (tp_in hp vt g).2.1
      · rw [e0]; exact hm
      · omega
      · omega
      · rw [e3]; exact hm
    show 0 < (ge_o (P 1) (P 2) (P t))
    rw [e1, e2]; unfold ge_o; simp only
    have := sg_pp hm (show 0 < m - (P t).1 by omega)
    grind
  · have : (P t).2 < m := by
      rcases hx with g | rfl | rfl | rfl | rfl
      · exact (tp_in hp vt g).2.2.2
      · rw [e0]; exact hm
      · rw [e1]; exact hm
      · omega
      · omega
    show 0 < (ge_o (P 2) (P 3) (P t))
    rw [e2, e3]; unfold ge_o; simp only
    have := sg_pp hm (show 0 < m - (P t).2 by omega)
    grind
  · have : 0 < (P t).1 := by
      rcases hx with g | rfl | rfl | rfl | rfl
      · exact (tp_in hp vt g).1
      · omega
      · rw [e1]; exact hm
      · rw [e2]; exact hm
      · omega
    show 0 < (ge_o (P 3) (P 0) (P t))
    rw [e3, e0]; unfold ge_o; simp only
    have := sg_pp hm this
    grind
theorem cn_O {a : Nat} (ha : a < 4) : tr_O ((a + 1) % 4) a := by
  have : a = 0 ∨ a = 1 ∨ a = 2 ∨ a = 3 := by omega
  unfold tr_O
  rcases this with rfl | rfl | rfl | rfl <;> simp
/-- M is a part of L, whole faces, with the rim, closed under going over an edge -/
def cu_P (L M : Nat → Nat → Nat) : Prop :=
  (∀ x y, M x y ≤ 16 → M x y = L x y) ∧ (∀ x y z, M x y = z → z < 16 → M y z = x ∧ M z x = y) ∧ (∀ x y, tr_O x y → M x y = 16)
theorem cu_v (hp : tr_pt m V P) (h : tr_T V P S L) {M : Nat → Nat → Nat} (hM : cu_P L M) (hc : ∀ x y, M x y ≤ 16 → M y x ≤ 16) {x y : Nat} (hx : ∃ z, M x z ≤ 16) (e : L x y ≤ 16) : M x y ≤ 16 := by
  refine Classical.byContradiction fun hn => ?_
  obtain ⟨m1, m2, m3⟩ := hM
  have vx := tt_va h e
  have vy := tt_vb h e
  have nxy := tt_ne h e
  have mL : ∀ x y, M x y ≤ 16 → L x y ≤ 16 := fun x y g => by rw [← m1 x y g]; exact g
  have hN : ∀ q, M x q ≤ 16 → q < 16 := fun q g => tp_16 hp (tt_vb h (mL x q g))
  have hf : ∀ q, M x q < 16 → M x (M x q) ≤ 16 ∧ 0 < (ge_o (P x) (P q) (P (M x q))) := by
    intro q g
    have g' : M x q ≤ 16 := by omega
    obtain ⟨_, k2⟩ := m2 x q _ rfl g
    have q16 := hN q g'
    refine ⟨hc _ _ (by omega), ?_⟩
    have := m1 x q g'
    exact tt_fo h this.symm g
  have ho : ∀ q, M x q = 16 → (ge_o (P x) (P q) (P y)) ≤ 0 := by
    intro q g
    have := m1 x q (by omega)
    have := tt_hull hp ((tt_out h x q).mp (by omega)) (tp_box hp vy)
    have := ge_sw (P x) (P q) (P y)
    omega
  have h0 : ∃ q, M x q ≤ 16 ∧ 0 < (ge_o (P x) (P q) (P y)) := by
    by_cases h4 : 4 ≤ x
    · refine en_int hN hf (fun q g => ?_) hx (fun g => nxy (tp_inj hp vx vy g))
      have := m1 x q (by omega)
      have := (tt_out h x q).mp (by omega)
      unfold tr_O at this; omega
    · have nx : M x ((x + 1) % 4) ≤ 16 := hc _ _ (by rw [m3 _ _ (cn_O (by omega))]; omega)
      refine ⟨_, nx, cn_1 hp (by omega) vy (fun g => nxy g.symm) (fun g => hn (by rw [g]; exact nx))⟩
  obtain ⟨q, p, e1, e2, e3, e4⟩ := en_1 (t := P y) hN hf h0 ho
  have eL : L x q = p := by rw [← m1 x q (by omega)]; exact e1
  obtain ⟨_, vq, vp, w1, w2, fo, g1, g2, g3, g4, g5, g6⟩ := tt_face hp h eL e2
  have mxp : M x p ≤ 16 := by have := (hf q (by omega)).1; rw [e1] at this; exact this
  have nyp : y ≠ p := fun g => hn (by rw [g]; exact mxp)
  rcases Int.lt_or_le ((ge_o (P x) (P p) (P y))) 0 with c | c
  · have s1 := ge_sw2 (P x) (P p) (P y)
    have s2 := ge_sw2 (P x) (P q) (P y)
    rcases Int.lt_or_le ((ge_o (P q) (P p) (P y))) 0 with d | d
    · refine tt_N h g2 e ⟨?_, ?_, ?_, ?_⟩
      · have := ge_rot (P x) (P q) (P p); omega
      · have := ge_sw (P q) (P p) (P y); omega
      · omega
      · have := ge_sw (P x) (P y) (P q); omega
    · rcases tt_E h eL e2 vy ⟨Int.le_of_lt e3, d, by have := ge_sw (P x) (P p) (P y); omega⟩ with w | w | w
      · exact nxy w.symm
      · rw [w, ge_spp] at e3; omega
      · exact nyp w
  · rcases ge_ray e3 fo (by omega) with w | w | w
    · exact tt_F h e vp w
    · exact nyp (tp_inj hp vp vy w).symm
    · exact tt_F h g6 vy w
theorem cu_1 (hp : tr_pt m V P) (h : tr_T V P S L) {M : Nat → Nat → Nat} (hM : cu_P L M) (hc : ∀ x y, M x y ≤ 16 → M y x ≤ 16) {x y : Nat} (e : L x y ≤ 16) : M x y ≤ 16 := by
  refine cu_v hp h hM hc ?_ e
  refine Classical.byContradiction fun hn => ?_
  have cor : ∀ v, v < 4 → ∃ z, M v z ≤ 16 := fun v hv => ⟨_, hc _ _ (by rw [hM.2.2 _ _ (cn_O hv)]; omega)⟩
  obtain ⟨v, v16, ⟨vv, nv⟩, hm⟩ := mx_1 (fun v => V v ∧ ¬ ∃ z, M v z ≤ 16) (fun v => - ((P v).1 + (P v).2)) (fun _ => 1) 16 (fun _ _ _ => by omega) ⟨x, tp_16 hp (tt_va h e), tt_va h e, hn⟩
  have v4 : 4 ≤ v := by
    rcases Nat.lt_or_ge v 4 with g | g
    · exact absurd (cor v g) nv
    · exact g
  have hi : ∀ q, L v q ≠ 16 := fun q g => by
    have := (tt_out h v q).mp g
    unfold tr_O at this; omega
  have hne : P v ≠ ((P v).1 - 1, (P v).2 - 1) := fun g => by
    have := congrArg Prod.fst g
    simp only at this; omega
  obtain ⟨q, p, e1, e2, e3, e4⟩ := en_1 (t := ((P v).1 - 1, (P v).2 - 1)) (en_N hp h v) (en_fan hp h v)
    (en_int (en_N hp h v) (en_fan hp h v) hi (tt_deg h vv) hne) (fun q g => absurd g (hi q))
  obtain ⟨_, vq, vp, w1, w2, fo, g1, g2, g3, g4, g5, g6⟩ := tt_face hp h e1 e2
  have I : 2 * (ge_o (P v) (P q) (P p)) + ge_o (P v) (P q) ((P v).1 - 1, (P v).2 - 1) * (((P p).1 + (P p).2) - ((P v).1 + (P v).2)) + (- ge_o (P v) (P p) ((P v).1 - 1, (P v).2 - 1)) * (((P q).1 + (P q).2) - ((P v).1 + (P v).2)) = 0 := by
    unfold ge_o; simp only; grind
  have stp : ∀ z, V z → L z v ≤ 16 → (P z).1 + (P z).2 < (P v).1 + (P v).2 → False := by
    intro z vz ez lt
    have hz : ∃ w, M z w ≤ 16 := by
      refine Classical.byContradiction fun hz => ?_
      have := hm z (tp_16 hp vz) ⟨vz, hz⟩
      omega
    exact nv ⟨z, hc _ _ (cu_v hp h hM hc hz ez)⟩
  rcases Int.lt_or_le ((P p).1 + (P p).2) ((P v).1 + (P v).2) with c | c
  · exact stp p vp g3 c
  · rcases Int.lt_or_le ((P q).1 + (P q).2) ((P v).1 + (P v).2) with d | d
    · exact stp q vq g4 d
    · exact sg_z I (by omega) fo (Int.le_of_lt e3) (by omega) (by omega) (by omega)
end
end
section
/-! the real heights -/
def rh_M : Int := (2 : Int) ^ 300
def rh_e (k : Nat) : Int := (2 : Int) ^ (16 * (15 - k))
def rh_q (p : Int × Int) : Int := p.1 * p.1 + p.2 * p.2
def rh_H (P : Nat → Int × Int) (k : Nat) : Int := rh_M * rh_q (P k) - rh_e k
/-- the circle determinant as the component reckons it -/
def rh_c (a b c d : Int × Int) : Int :=
  ((a.1 - d.1) * (a.1 - d.1) + (a.2 - d.2) * (a.2 - d.2)) * ((b.1 - d.1) * (c.2 - d.2) - (b.2 - d.2) * (c.1 - d.1)) +
  ((b.1 - d.1) * (b.1 - d.1) + (b.2 - d.2) * (b.2 - d.2)) * ((c.1 - d.1) * (a.2 - d.2) - (c.2 - d.2) * (a.1 - d.1)) +
  ((c.1 - d.1) * (c.1 - d.1) + (c.2 - d.2) * (c.2 - d.2)) * ((a.1 - d.1) * (b.2 - d.2) - (a.2 - d.2) * (b.1 - d.1))
theorem rh_D (P : Nat → Int × Int) (a b c d : Nat) : ge_D (rh_H P) P a b c d =
    - (rh_M * rh_c (P a) (P b) (P c) (P d)) + (rh_e a * (ge_o (P b) (P c) (P d)) + rh_e b * (ge_o (P c) (P a) (P d)) + rh_e c * (ge_o (P a) (P b) (P d)) - rh_e d * (ge_o (P a) (P b) (P c))) := by
  unfold ge_D rh_H rh_c rh_q ge_o
  generalize rh_M = M
  generalize rh_e a = ea
  generalize rh_e b = eb
  generalize rh_e c = ec
  generalize rh_e d = ed
  grind
theorem rh_c2 (a b c d : Int × Int) : rh_c a b c d = ge_o b c d * ((a.1 - d.1) * (a.1 - d.1) + (a.2 - d.2) * (a.2 - d.2)) + ge_o c a d * ((b.1 - d.1) * (b.1 - d.1) + (b.2 - d.2) * (b.2 - d.2)) + ge_o a b d * ((c.1 - d.1) * (c.1 - d.1) + (c.2 - d.2) * (c.2 - d.2)) := by
  unfold rh_c ge_o; grind
theorem rh_ep (k : Nat) : 0 < rh_e k := Int.pow_pos (by decide)
theorem rh_es {k : Nat} (h : k < 15) : rh_e k = 65536 * rh_e (k + 1) := by
  unfold rh_e
  have : 16 * (15 - k) = 16 * (15 - (k + 1)) + 16 := by omega
  rw [this, Int.pow_add, Int.mul_comm]
  congr 1
theorem rh_em {j k : Nat} (h : j ≤ k) : rh_e k ≤ rh_e j := by
  unfold rh_e
  have : 16 * (15 - j) = 16 * (15 - k) + (16 * (15 - j) - 16 * (15 - k)) := by omega
  rw [this, Int.pow_add]
  have p1 : 0 < (2 : Int) ^ (16 * (15 - k)) := Int.pow_pos (by decide)
  have p2 : 0 < (2 : Int) ^ (16 * (15 - j) - 16 * (15 - k)) := Int.pow_pos (by decide)
  have := Int.mul_le_mul_of_nonneg_left (show (1 : Int) ≤ (2 : Int) ^ (16 * (15 - j) - 16 * (15 - k)) by omega) (Int.le_of_lt p1)
  rw [Int.mul_one] at this
  exact this
theorem rh_eM (k : Nat) : 100000 * rh_e k < rh_M := by
  have h0 : rh_e k ≤ rh_e 0 := rh_em (Nat.zero_le k)
  have h1 : 100000 * rh_e 0 < rh_M := by unfold rh_e rh_M; decide +kernel
  omega
theorem rb_m {u v : Int} (h1 : -100 ≤ u) (h2 : u ≤ 100) (h3 : -100 ≤ v) (h4 : v ≤ 100) : -10000 ≤ u * v ∧ u * v ≤ 10000 := by
  have a1 := Int.mul_nonneg (show 0 ≤ 100 - u by omega) (show 0 ≤ 100 + v by omega)
  have a2 := Int.mul_nonneg (show 0 ≤ 100 + u by omega) (show 0 ≤ 100 - v by omega)
  have a3 := Int.mul_nonneg (show 0 ≤ 100 - u by omega) (show 0 ≤ 100 - v by omega)
  have a4 := Int.mul_nonneg (show 0 ≤ 100 + u by omega) (show 0 ≤ 100 + v by omega)
  constructor <;> grind
def rb_b (p : Int × Int) : Prop := 0 ≤ p.1 ∧ p.1 ≤ 100 ∧ 0 ≤ p.2 ∧ p.2 ≤ 100
theorem rb_o {a b c : Int × Int} (ha : rb_b a) (hb : rb_b b) (hc : rb_b c) : -20000 ≤ ge_o a b c ∧ ge_o a b c ≤ 20000 := by
  obtain ⟨a1, a2, a3, a4⟩ := ha
  obtain ⟨b1, b2, b3, b4⟩ := hb
  obtain ⟨c1, c2, c3, c4⟩ := hc
  have m1 := rb_m (u := b.1 - a.1) (v := c.2 - a.2) (by omega) (by omega) (by omega) (by omega)
  have m2 := rb_m (u := b.2 - a.2) (v := c.1 - a.1) (by omega) (by omega) (by omega) (by omega)
  unfold ge_o; omega
/-- bounds on a product -/
theorem rb_e {e E o B : Int} (he : 0 ≤ e) (hE : e ≤ E) (hB : 0 ≤ B) (h1 : -B ≤ o) (h2 : o ≤ B) : -(B * E) ≤ e * o ∧ e * o ≤ B * E := by
  have a1 := Int.mul_nonneg he (show 0 ≤ B - o by omega)
  have a2 := Int.mul_nonneg he (show 0 ≤ B + o by omega)
  have a3 := Int.mul_nonneg hB (show 0 ≤ E - e by omega)
  rw [Int.mul_sub] at a1 a3
  rw [Int.mul_add] at a2
  have := Int.mul_comm e B
  constructor <;> omega
/-- the leading term decides -/
theorem rh_dom {E e al r : Int} (h : E = 65536 * e) (he : 0 < e) (h1 : -(60000 * e) ≤ r) (h2 : r ≤ 60000 * e) : (0 < al → 0 < E * al + r) ∧ (al < 0 → E * al + r < 0) := by
  constructor
  · intro g
    have := Int.mul_le_mul_of_nonneg_left (show (1 : Int) ≤ al by omega) (show 0 ≤ E by omega)
    omega
  · intro g
    have := Int.mul_le_mul_of_nonneg_left (show (1 : Int) ≤ - al by omega) (show 0 ≤ E by omega)
    rw [Int.mul_neg] at this
    omega
/-- four on a circle, the first of them with the least number -/
theorem rh_tie {ei e2 e3 e4 e al o2 o3 o4 : Int} (h : ei = 65536 * e) (he : 0 < e) (p2 : 0 ≤ e2) (l2 : e2 ≤ e) (p3 : 0 ≤ e3) (l3 : e3 ≤ e) (p4 : 0 ≤ e4) (l4 : e4 ≤ e)
    (b2 : -20000 ≤ o2 ∧ o2 ≤ 20000) (b3 : -20000 ≤ o3 ∧ o3 ≤ 20000) (b4 : -20000 ≤ o4 ∧ o4 ≤ 20000) :
    (0 < al → 0 < ei * al + (e2 * o2 + e3 * o3 + e4 * o4)) ∧ (al < 0 → ei * al + (e2 * o2 + e3 * o3 + e4 * o4) < 0) := by
  have m2 := rb_e p2 l2 (by decide) b2.1 b2.2
  have m3 := rb_e p3 l3 (by decide) b3.1 b3.2
  have m4 := rb_e p4 l4 (by decide) b4.1 b4.2
  exact rh_dom h he (by omega) (by omega)
/-- the circle rule -/
def wi_ap (p q u v : Int × Int) : Prop := (0 < ge_o p q u ∧ ge_o p q v < 0) ∨ (ge_o p q u < 0 ∧ 0 < ge_o p q v)
def wi_t (P : Nat → Int × Int) (a b c d : Nat) : Prop :=
  (d < a ∧ d < b ∧ d < c) ∨ (¬ (d < a ∧ d < b ∧ d < c) ∧ (((a < b ∧ a < c) ∧ wi_ap (P b) (P c) (P a) (P d)) ∨
    (¬ (a < b ∧ a < c) ∧ ((b < c ∧ wi_ap (P a) (P c) (P b) (P d)) ∨ (¬ b < c ∧ wi_ap (P a) (P b) (P c) (P d))))))
def wi_P (P : Nat → Int × Int) (a b c d : Nat) : Prop :=
  (rh_c (P a) (P b) (P c) (P d) = 0 ∧ wi_t P a b c d) ∨ (rh_c (P a) (P b) (P c) (P d) ≠ 0 ∧ (0 < rh_c (P a) (P b) (P c) (P d) ↔ 0 < (ge_o (P a) (P b) (P c))))
theorem rh_cc (a b c d : Int × Int) : rh_c a b c d = - (ge_o a b c * ge_d a b d) + ge_o a b d * ((c.1 - d.1) * (c.1 - d.1) + (c.2 - d.2) * (c.2 - d.2) - (c.1 - d.1) * (a.1 - d.1) - (c.2 - d.2) * (a.2 - d.2) - (c.1 - d.1) * (b.1 - d.1) - (c.2 - d.2) * (b.2 - d.2) + ge_d a b d) := by
  unfold rh_c ge_o ge_d; grind
theorem rh_nz {a b c d : Int × Int} (h : rh_c a b c d = 0) (o : ge_o a b c ≠ 0) (n1 : d ≠ a) (n2 : d ≠ b) : ge_o a b d ≠ 0 := by
  intro z
  have k := rh_cc a b c d
  rw [h, z, Int.zero_mul] at k
  have : ge_d a b d = 0 := (Int.mul_eq_zero.mp (show ge_o a b c * ge_d a b d = 0 by omega)).resolve_left o
  rcases ge_Cd (k := d) (a := a) (b := b) ⟨z, by omega⟩ with g | g | g
  · exact n1 g
  · exact n2 g
  · have := g.2; omega
theorem rh_cr (a b c d : Int × Int) : rh_c b c a d = rh_c a b c d := by unfold rh_c; grind
theorem rt_g {i j k l : Nat} {al o2 o3 o4 : Int} (hi : i < 15) (hj : i < j) (hk : i < k) (hl : i < l)
    (b2 : -20000 ≤ o2 ∧ o2 ≤ 20000) (b3 : -20000 ≤ o3 ∧ o3 ≤ 20000) (b4 : -20000 ≤ o4 ∧ o4 ≤ 20000) :
    (0 < al → 0 < rh_e i * al + (rh_e j * o2 + rh_e k * o3 + rh_e l * o4)) ∧ (al < 0 → rh_e i * al + (rh_e j * o2 + rh_e k * o3 + rh_e l * o4) < 0) :=
  rh_tie (rh_es hi) (rh_ep _) (Int.le_of_lt (rh_ep j)) (rh_em hj) (Int.le_of_lt (rh_ep k)) (rh_em hk) (Int.le_of_lt (rh_ep l)) (rh_em hl) b2 b3 b4
/-- signs: W decides al against o -/
def rt_W (W : Prop) (o al : Int) : Prop := (0 < o → ((W → al < 0) ∧ (¬ W → 0 < al))) ∧ (o < 0 → ((W → 0 < al) ∧ (¬ W → al < 0)))
theorem rt_f {W : Prop} {o al T : Int} (h : rt_W W o al) (hT : (0 < al → 0 < T) ∧ (al < 0 → T < 0)) : rt_W W o T :=
  ⟨fun g => ⟨fun k => hT.2 ((h.1 g).1 k), fun k => hT.1 ((h.1 g).2 k)⟩, fun g => ⟨fun k => hT.1 ((h.2 g).1 k), fun k => hT.2 ((h.2 g).2 k)⟩⟩
theorem rt_e {W W' : Prop} {o al : Int} (h : rt_W W o al) (e : W' ↔ W) : rt_W W' o al := by
  unfold rt_W at *; rw [e]; exact h
theorem rt_ap {p q u v : Int × Int} (hv : ge_o p q v ≠ 0) : rt_W (wi_ap p q u v) (ge_o p q u) (ge_o p q v) := by
  unfold rt_W wi_ap
  refine ⟨fun g => ⟨fun k => ?_, fun k => ?_⟩, fun g => ⟨fun k => ?_, fun k => ?_⟩⟩ <;> omega
theorem rt_ng {W : Prop} {o al : Int} (h : rt_W W o al) : rt_W W (-o) (-al) := by
  refine ⟨fun g => ⟨fun k => ?_, fun k => ?_⟩, fun g => ⟨fun k => ?_, fun k => ?_⟩⟩
  · have := (h.2 (by omega)).1 k; omega
  · have := (h.2 (by omega)).2 k; omega
  · have := (h.1 (by omega)).1 k; omega
  · have := (h.1 (by omega)).2 k; omega
theorem wt_d {P : Nat → Int × Int} {a b c d : Nat} (c1 : d < a ∧ d < b ∧ d < c) : wi_t P a b c d := Or.inl c1
theorem wt_a {P : Nat → Int × Int} {a b c d : Nat} (c1 : ¬ (d < a ∧ d < b ∧ d < c)) (c2 : a < b ∧ a < c) : wi_t P a b c d ↔ wi_ap (P b) (P c) (P a) (P d) :=
  ⟨fun g => g.elim (fun g => absurd g c1) (fun g => g.2.elim (fun g => g.2) (fun g => absurd c2 g.1)), fun g => Or.inr ⟨c1, Or.inl ⟨c2, g⟩⟩⟩
theorem wt_b {P : Nat → Int × Int} {a b c d : Nat} (c1 : ¬ (d < a ∧ d < b ∧ d < c)) (c2 : ¬ (a < b ∧ a < c)) (c3 : b < c) : wi_t P a b c d ↔ wi_ap (P a) (P c) (P b) (P d) :=
  ⟨fun g => g.elim (fun g => absurd g c1) (fun g => g.2.elim (fun g => absurd g.1 c2) (fun g => g.2.elim (fun g => g.2) (fun g => absurd c3 g.1))), fun g => Or.inr ⟨c1, Or.inr ⟨c2, Or.inl ⟨c3, g⟩⟩⟩⟩
theorem wt_c {P : Nat → Int × Int} {a b c d : Nat} (c1 : ¬ (d < a ∧ d < b ∧ d < c)) (c2 : ¬ (a < b ∧ a < c)) (c3 : ¬ b < c) : wi_t P a b c d ↔ wi_ap (P a) (P b) (P c) (P d) :=
  ⟨fun g => g.elim (fun g => absurd g c1) (fun g => g.2.elim (fun g => absurd g.1 c2) (fun g => g.2.elim (fun g => absurd g.1 c3) (fun g => g.2))), fun g => Or.inr ⟨c1, Or.inr ⟨c2, Or.inr ⟨c3, g⟩⟩⟩⟩
/-- the least of four numbers -/
theorem wt_n {a b c d : Nat} (a16 : a < 16) (b16 : b < 16) (c16 : c < 16) (d16 : d < 16) (iab : a ≠ b) (ibc : b ≠ c) (iac : a ≠ c) (ida : d ≠ a) (idb : d ≠ b) (idc : d ≠ c) :
    ((d < a ∧ d < b ∧ d < c) → d < 15) ∧ (¬ (d < a ∧ d < b ∧ d < c) → ((a < b ∧ a < c) → a < 15 ∧ a < d) ∧ (¬ (a < b ∧ a < c) → (b < c → b < 15 ∧ b < a ∧ b < d) ∧ (¬ b < c → c < 15 ∧ c < a ∧ c < b ∧ c < d))) := by
  omega
theorem wi_tie {P : Nat → Int × Int} {a b c d : Nat} (B1 : -20000 ≤ (ge_o (P b) (P c) (P d)) ∧ (ge_o (P b) (P c) (P d)) ≤ 20000) (B2 : -20000 ≤ (ge_o (P c) (P a) (P d)) ∧ (ge_o (P c) (P a) (P d)) ≤ 20000) (B3 : -20000 ≤ (ge_o (P a) (P b) (P d)) ∧ (ge_o (P a) (P b) (P d)) ≤ 20000) (B4 : -20000 ≤ - (ge_o (P a) (P b) (P c)) ∧ - (ge_o (P a) (P b) (P c)) ≤ 20000)
    (a16 : a < 16) (b16 : b < 16) (c16 : c < 16) (d16 : d < 16) (iab : a ≠ b) (ibc : b ≠ c) (iac : a ≠ c) (ida : d ≠ a) (idb : d ≠ b) (idc : d ≠ c)
    (z1 : (ge_o (P a) (P b) (P d)) ≠ 0) (z2 : (ge_o (P b) (P c) (P d)) ≠ 0) (z3 : (ge_o (P c) (P a) (P d)) ≠ 0) :
    rt_W (wi_t P a b c d) ((ge_o (P a) (P b) (P c))) (rh_e a * (ge_o (P b) (P c) (P d)) + rh_e b * (ge_o (P c) (P a) (P d)) + rh_e c * (ge_o (P a) (P b) (P d)) - rh_e d * (ge_o (P a) (P b) (P c))) := by
  have N := wt_n a16 b16 c16 d16 iab ibc iac ida idb idc
  by_cases c1 : d < a ∧ d < b ∧ d < c
  · have T := rt_g (i := d) (j := a) (k := b) (l := c) (al := - (ge_o (P a) (P b) (P c))) (N.1 c1) c1.1 c1.2.1 c1.2.2 B1 B2 B3
    have e : rh_e d * - (ge_o (P a) (P b) (P c)) + (rh_e a * (ge_o (P b) (P c) (P d)) + rh_e b * (ge_o (P c) (P a) (P d)) + rh_e c * (ge_o (P a) (P b) (P d))) = rh_e a * (ge_o (P b) (P c) (P d)) + rh_e b * (ge_o (P c) (P a) (P d)) + rh_e c * (ge_o (P a) (P b) (P d)) - rh_e d * (ge_o (P a) (P b) (P c)) := by
      rw [Int.mul_neg]; clear N T; omega
    rw [e] at T
    refine rt_f (al := - (ge_o (P a) (P b) (P c))) ?_ T
    have w := wt_d (P := P) c1
    exact ⟨fun g => ⟨fun _ => by clear N T; omega, fun k => absurd w k⟩, fun g => ⟨fun _ => by clear N T; omega, fun k => absurd w k⟩⟩
  · have N2 := N.2 c1
    by_cases c2 : a < b ∧ a < c
    · have T := rt_g (i := a) (j := b) (k := c) (l := d) (al := (ge_o (P b) (P c) (P d))) (N2.1 c2).1 c2.1 c2.2 (N2.1 c2).2 B2 B3 B4
      have e : rh_e a * (ge_o (P b) (P c) (P d)) + (rh_e b * (ge_o (P c) (P a) (P d)) + rh_e c * (ge_o (P a) (P b) (P d)) + rh_e d * - (ge_o (P a) (P b) (P c))) = rh_e a * (ge_o (P b) (P c) (P d)) + rh_e b * (ge_o (P c) (P a) (P d)) + rh_e c * (ge_o (P a) (P b) (P d)) - rh_e d * (ge_o (P a) (P b) (P c)) := by
        rw [Int.mul_neg]; clear N N2 T c1; omega
      rw [e] at T
      refine rt_f (al := (ge_o (P b) (P c) (P d))) (rt_e ?_ (wt_a c1 c2)) T
      have := rt_ap (p := P b) (q := P c) (u := P a) z2
      rw [ge_rot (P a) (P b) (P c)] at this
      exact this
    · have N3 := N2.2 c2
      by_cases c3 : b < c
      · have T := rt_g (i := b) (j := a) (k := c) (l := d) (al := (ge_o (P c) (P a) (P d))) (N3.1 c3).1 (N3.1 c3).2.1 c3 (N3.1 c3).2.2 B1 B3 B4
        have e : rh_e b * (ge_o (P c) (P a) (P d)) + (rh_e a * (ge_o (P b) (P c) (P d)) + rh_e c * (ge_o (P a) (P b) (P d)) + rh_e d * - (ge_o (P a) (P b) (P c))) = rh_e a * (ge_o (P b) (P c) (P d)) + rh_e b * (ge_o (P c) (P a) (P d)) + rh_e c * (ge_o (P a) (P b) (P d)) - rh_e d * (ge_o (P a) (P b) (P c)) := by
          rw [Int.mul_neg]; clear N N2 N3 T c1 c2; omega
        rw [e] at T
        refine rt_f (al := (ge_o (P c) (P a) (P d))) (rt_e ?_ (wt_b c1 c2 c3)) T
        have := rt_ng (rt_ap (p := P a) (q := P c) (u := P b) (v := P d) (by rw [ge_sw (P c) (P a) (P d)]; clear N N2 N3 T c1 c2; omega))
        rw [ge_sw2 (P a) (P b) (P c), ge_sw (P c) (P a) (P d), Int.neg_neg, Int.neg_neg] at this
        exact this
      · have T := rt_g (i := c) (j := a) (k := b) (l := d) (al := (ge_o (P a) (P b) (P d))) (N3.2 c3).1 (N3.2 c3).2.1 (N3.2 c3).2.2.1 (N3.2 c3).2.2.2 B1 B2 B4
        have e : rh_e c * (ge_o (P a) (P b) (P d)) + (rh_e a * (ge_o (P b) (P c) (P d)) + rh_e b * (ge_o (P c) (P a) (P d)) + rh_e d * - (ge_o (P a) (P b) (P c))) = rh_e a * (ge_o (P b) (P c) (P d)) + rh_e b * (ge_o (P c) (P a) (P d)) + rh_e c * (ge_o (P a) (P b) (P d)) - rh_e d * (ge_o (P a) (P b) (P c)) := by
          rw [Int.mul_neg]; clear N N2 N3 T c1 c2; omega
        rw [e] at T
        exact rt_f (al := (ge_o (P a) (P b) (P d))) (rt_e (rt_ap z1) (wt_c c1 c2 c3)) T
/-- the rule is the sign of the lifted turn -/
theorem wi_1 {P : Nat → Int × Int} {a b c d : Nat} (ha : rb_b (P a)) (hb : rb_b (P b)) (hc : rb_b (P c)) (hd : rb_b (P d)) (a16 : a < 16) (b16 : b < 16) (c16 : c < 16) (d16 : d < 16)
    (o : (ge_o (P a) (P b) (P c)) ≠ 0) (na : P d ≠ P a) (nb : P d ≠ P b) (nc : P d ≠ P c) :
    rt_W (wi_P P a b c d) ((ge_o (P a) (P b) (P c))) (ge_D (rh_H P) P a b c d) := by
  have iab : a ≠ b := fun g => o (by rw [g, ge_pps])
  have ibc : b ≠ c := fun g => o (by rw [g, ge_spp])
  have iac : a ≠ c := fun g => o (by rw [g, ge_psp])
  have ida : d ≠ a := fun g => na (by rw [g])
  have idb : d ≠ b := fun g => nb (by rw [g])
  have idc : d ≠ c := fun g => nc (by rw [g])
  have B1 := rb_o hb hc hd
  have B2 := rb_o hc ha hd
  have B3 := rb_o ha hb hd
  have B4 := rb_o ha hb hc
  have hD := rh_D P a b c d
  by_cases hz : rh_c (P a) (P b) (P c) (P d) = 0
  · -- on one circle
    have z1 : (ge_o (P a) (P b) (P d)) ≠ 0 := rh_nz hz o na nb
    have z2 : (ge_o (P b) (P c) (P d)) ≠ 0 := rh_nz (by rw [rh_cr]; exact hz) (by rw [ge_rot]; exact o) nb nc
    have z3 : (ge_o (P c) (P a) (P d)) ≠ 0 := rh_nz (by rw [← rh_cr]; exact hz) (by rw [ge_rot2]; exact o) nc na
    rw [hz, Int.mul_zero, Int.neg_zero, Int.zero_add] at hD
    have wt : wi_P P a b c d ↔ wi_t P a b c d := by
      unfold wi_P
      exact ⟨fun g => g.elim (fun g => g.2) (fun g => absurd hz g.1), fun g => Or.inl ⟨hz, g⟩⟩
    rw [hD]
    exact rt_e (wi_tie B1 B2 B3 (by omega) a16 b16 c16 d16 iab ibc iac ida idb idc z1 z2 z3) wt
  · -- a strict side
    have wt : wi_P P a b c d ↔ (0 < rh_c (P a) (P b) (P c) (P d) ↔ 0 < (ge_o (P a) (P b) (P c))) := by
      unfold wi_P
      exact ⟨fun g => g.elim (fun g => absurd g.1 hz) (fun g => g.2), fun g => Or.inr ⟨hz, g⟩⟩
    have M0 := rh_eM 0
    have e0 := rh_ep 0
    have m1 := rb_e (Int.le_of_lt (rh_ep a)) (rh_em (Nat.zero_le a)) (by decide) B1.1 B1.2
    have m2 := rb_e (Int.le_of_lt (rh_ep b)) (rh_em (Nat.zero_le b)) (by decide) B2.1 B2.2
    have m3 := rb_e (Int.le_of_lt (rh_ep c)) (rh_em (Nat.zero_le c)) (by decide) B3.1 B3.2
    have m4 := rb_e (Int.le_of_lt (rh_ep d)) (rh_em (Nat.zero_le d)) (by decide) B4.1 B4.2
    have pos : 0 < rh_c (P a) (P b) (P c) (P d) → ge_D (rh_H P) P a b c d < 0 := by
      intro g
      have := Int.mul_le_mul_of_nonneg_left (show (1 : Int) ≤ rh_c (P a) (P b) (P c) (P d) by omega) (show 0 ≤ rh_M by omega)
      clear wt
      omega
    have neg : rh_c (P a) (P b) (P c) (P d) < 0 → 0 < ge_D (rh_H P) P a b c d := by
      intro g
      have := Int.mul_le_mul_of_nonneg_left (show (1 : Int) ≤ - rh_c (P a) (P b) (P c) (P d) by omega) (show 0 ≤ rh_M by omega)
      rw [Int.mul_neg] at this
      clear wt
      omega
    clear m1 m2 m3 m4 M0 e0 hD B1 B2 B3 B4
    refine rt_e ?_ wt
    refine ⟨fun g => ⟨fun k => pos (k.mpr g), fun k => neg ?_⟩, fun g => ⟨fun k => neg ?_, fun k => pos ?_⟩⟩
    · rcases Int.lt_or_le 0 (rh_c (P a) (P b) (P c) (P d)) with w | w
      · exact absurd ⟨fun _ => g, fun _ => w⟩ k
      · omega
    · rcases Int.lt_or_le 0 (rh_c (P a) (P b) (P c) (P d)) with w | w
      · have := k.mp w; omega
      · omega
    · rcases Int.lt_or_le 0 (rh_c (P a) (P b) (P c) (P d)) with w | w
      · exact w
      · exact absurd ⟨fun q => by omega, fun q => by omega⟩ k
section
variable {m : Int} {V : Nat → Prop} {P : Nat → Int × Int} {S : List (Nat × Nat)} {L : Nat → Nat → Nat}
theorem rb_v (hp : tr_pt m V P) (hm : m ≤ 100) {k : Nat} (v : V k) : rb_b (P k) := by
  have := tp_box hp v
  unfold rb_b; omega
theorem rh_gen (hp : tr_pt m V P) (hm : m ≤ 100) : tr_gen (rh_H P) V P := by
  intro a b c d va vb vc vd n1 n2 n3 o
  have w := wi_1 (rb_v hp hm va) (rb_v hp hm vb) (rb_v hp hm vc) (rb_v hp hm vd) (tp_16 hp va) (tp_16 hp vb) (tp_16 hp vc) (tp_16 hp vd) (by omega)
    (fun g => n1 (tp_inj hp vd va g)) (fun g => n2 (tp_inj hp vd vb g)) (fun g => n3 (tp_inj hp vd vc g))
  by_cases k : wi_P P a b c d
  · have := (w.1 o).1 k; omega
  · have := (w.1 o).2 k; omega
theorem rh_hull (hp : tr_pt m V P) (hm : m ≤ 100) : tr_hull (rh_H P) V P := by
  intro a b c d va vb vc vd o t
  by_cases n1 : d = a
  · rw [n1, ge_Dpa]; omega
  by_cases n2 : d = b
  · rw [n2, ge_Dpb]; omega
  by_cases n3 : d = c
  · rw [n3, ge_Dpp]; omega
  have na : P d ≠ P a := fun g => n1 (tp_inj hp vd va g)
  have nb : P d ≠ P b := fun g => n2 (tp_inj hp vd vb g)
  have nc : P d ≠ P c := fun g => n3 (tp_inj hp vd vc g)
  have w := wi_1 (rb_v hp hm va) (rb_v hp hm vb) (rb_v hp hm vc) (rb_v hp hm vd) (tp_16 hp va) (tp_16 hp vb) (tp_16 hp vc) (tp_16 hp vd) (by omega) na nb nc
  refine Int.le_of_lt ((w.1 o).1 ?_)
  obtain ⟨t1, t2, t3⟩ := t
  have A := ge_aff (P a) (P b) (P c) (P d)
  have r1 := ge_rot2 (P a) (P b) (P d)
  have r2 := ge_rot2 (P b) (P c) (P d)
  have r3 := ge_rot2 (P c) (P a) (P d)
  have qa := ge_ne na
  have qb := ge_ne nb
  have qc := ge_ne nc
  have k := rh_c2 (P a) (P b) (P c) (P d)
  have p1 := sg_ww t2 (Int.le_of_lt qa)
  have p2 := sg_ww t3 (Int.le_of_lt qb)
  have p3 := sg_ww t1 (Int.le_of_lt qc)
  have pos : 0 < rh_c (P a) (P b) (P c) (P d) := by
    by_cases g1 : 0 < (ge_o (P b) (P c) (P d))
    · have := sg_pp g1 qa; omega
    · by_cases g2 : 0 < (ge_o (P c) (P a) (P d))
      · have := sg_pp g2 qb; omega
      · have := sg_pp (show 0 < (ge_o (P a) (P b) (P d)) by omega) qc; omega
  exact Or.inr ⟨by omega, ⟨fun _ => o, fun _ => pos⟩⟩
end
end
section
section
variable {m : Int} {V : Nat → Prop} {P : Nat → Int × Int} {S : List (Nat × Nat)} {L : Nat → Nat → Nat} {H : Nat → Int}
/-- locally Delaunay but for the pairs of K -/
def ld_K (H : Nat → Int) (P : Nat → Int × Int) (S : List (Nat × Nat)) (L : Nat → Nat → Nat) (K : Nat → Nat → Prop) : Prop :=
  ∀ a b c d, L a b = c → c < 16 → L b a = d → d < 16 → ¬ tr_cov P S a b → ¬ K a b → ¬ K b a → 0 ≤ (ge_D H P a b c d)
theorem ld_0 {K : Nat → Nat → Prop} (h : ld_K H P S L K) (hK : ∀ x y, ¬ K x y) : tr_LD H P S L :=
  fun a b c d e hc e' hd hn => h a b c d e hc e' hd hn (hK a b) (hK b a)
theorem ld_1 (h : tr_LD H P S L) (K : Nat → Nat → Prop) : ld_K H P S L K := fun a b c d e hc e' hd hn _ _ => h a b c d e hc e' hd hn
theorem ld_pop {K K' : Nat → Nat → Prop} (h : ld_K H P S L K) {a b : Nat} (hK : ∀ x y, K x y → K' x y ∨ (x = a ∧ y = b))
    (hg : ∀ c d, L a b = c → c < 16 → L b a = d → d < 16 → ¬ tr_cov P S a b → 0 ≤ (ge_D H P a b c d)) : ld_K H P S L K' := by
  intro x y c d e hc e' hd hn k1 k2
  by_cases s1 : x = a ∧ y = b
  · obtain ⟨rfl, rfl⟩ := s1
    exact hg c d e hc e' hd hn
  · by_cases s2 : y = a ∧ x = b
    · obtain ⟨rfl, rfl⟩ := s2
      have := hg d c e' hd e hc (fun g => hn (co_sy g))
      have q : (ge_D H P x y c d) = (ge_D H P y x d c) := by unfold ge_D ge_o; grind
      omega
    · refine h x y c d e hc e' hd hn (fun g => ?_) (fun g => ?_)
      · rcases hK _ _ g with g | g
        · exact k1 g
        · exact s1 g
      · rcases hK _ _ g with g | g
        · exact k2 g
        · exact s2 g
theorem fl_17 {L : Nat → Nat → Nat} {a b c d : Nat} : fl_L L a b c d a b = 17 ∧ fl_L L a b c d b a = 17 := by
  unfold fl_L
  constructor
  · rw [if_pos ⟨rfl, rfl⟩]
  · by_cases g : b = a ∧ a = b
    · rw [if_pos g]
    · rw [if_neg g, if_pos ⟨rfl, rfl⟩]
theorem ld_flip (hp : tr_pt m V P) (h : tr_T V P S L) {K K' : Nat → Nat → Prop} (hk : ld_K H P S L K) {a b c d : Nat} (e : L a b = c) (hc : c < 16) (e' : L b a = d) (hd : d < 16) (hD : (ge_D H P a b c d) < 0)
    (hK : ∀ x y, K x y → K' x y ∨ (x = a ∧ y = b)) (k1 : K' b c) (k2 : K' c a) (k3 : K' a d) (k4 : K' d b) : ld_K H P S (fl_L L a b c d) K' := by
  obtain ⟨va, vb, vc, bc, ca, f1, x1, x2, x3, x4, x5, x6⟩ := tt_face hp h e hc
  obtain ⟨_, _, vd, ad, db, f2, y1, y2, y3, y4, y5, y6⟩ := tt_face hp h e' hd
  have nab := tt_ne h x1
  have nbc := tt_ne h x2
  have nca := tt_ne h x3
  have nad := tt_ne h y2
  have ndb := tt_ne h y3
  have ncd : c ≠ d := by rintro rfl; have := ge_sw (P a) (P b) (P c); omega
  obtain ⟨v1, v2, v3, v4, v5, v6⟩ := fl_v (L := L) nab nbc nca nad ndb ncd
  obtain ⟨u1, u2⟩ := fl_17 (L := L) (a := a) (b := b) (c := c) (d := d)
  intro x y z w ez hz ew hw hn n1 n2
  have o1 : ∀ p q, K' p q → ¬ (x = p ∧ y = q) := by rintro p q g ⟨rfl, rfl⟩; exact n1 g
  have o2 : ∀ p q, K' p q → ¬ (y = p ∧ x = q) := by rintro p q g ⟨rfl, rfl⟩; exact n2 g
  have s1 : ¬ (x = a ∧ y = b) := by rintro ⟨rfl, rfl⟩; omega
  have s2 : ¬ (x = b ∧ y = a) := by rintro ⟨rfl, rfl⟩; omega
  by_cases s3 : x = c ∧ y = d
  · obtain ⟨rfl, rfl⟩ := s3
    have q : (ge_D H P x y b a) = - (ge_D H P a b x y) := by unfold ge_D ge_o; grind
    rw [v6] at ez; rw [v2] at ew; subst ez; subst ew; omega
  · by_cases s4 : x = d ∧ y = c
    · obtain ⟨rfl, rfl⟩ := s4
      have q : (ge_D H P x y a b) = - (ge_D H P a b y x) := by unfold ge_D ge_o; grind
      rw [v2] at ez; rw [v6] at ew; subst ez; subst ew; omega
    · have t1 := o1 _ _ k1
      have t2 := o1 _ _ k2
      have t3 := o1 _ _ k3
      have t4 := o1 _ _ k4
      have r1 := o2 _ _ k1
      have r2 := o2 _ _ k2
      have r3 := o2 _ _ k3
      have r4 := o2 _ _ k4
      rw [fl_o s1 s2 t3 s4 t2 t4 t1 s3] at ez
      rw [fl_o (fun g => s2 ⟨g.2, g.1⟩) (fun g => s1 ⟨g.2, g.1⟩) r3 (fun g => s3 ⟨g.2, g.1⟩) r2 r4 r1 (fun g => s4 ⟨g.2, g.1⟩)] at ew
      refine hk x y z w ez hz ew hw hn (fun g => ?_) (fun g => ?_)
      · rcases hK _ _ g with g | g
        · exact n1 g
        · exact s1 g
      · rcases hK _ _ g with g | g
        · exact n2 g
        · exact s2 ⟨g.2, g.1⟩
theorem sp_f2n {L : Nat → Nat → Nat} {a b c k x y : Nat} (s1 : ¬ (x = a ∧ y = b)) (s2 : ¬ (x = b ∧ y = k)) (s3 : ¬ (x = k ∧ y = a)) (s4 : ¬ (x = b ∧ y = c)) (s5 : ¬ (x = c ∧ y = k))
    (s6 : ¬ (x = k ∧ y = b)) (s7 : ¬ (x = c ∧ y = a)) (s8 : ¬ (x = a ∧ y = k)) (s9 : ¬ (x = k ∧ y = c)) : sp_L L a b c k x y = L x y := by
  unfold sp_L
  rw [if_neg s1, if_neg s2, if_neg s3, if_neg s4, if_neg s5, if_neg s6, if_neg s7, if_neg s8, if_neg s9]
/-- after a split of a face -/
theorem ld_sp {k : Nat} (hp0 : tr_pt m V P) (hk : ¬ V k) (h : tr_T V P S L) (hl : tr_LD H P S L) (hh : tr_hull H (fun x => V x ∨ x = k) P) {K' : Nat → Nat → Prop} {a b c : Nat} (e : L a b = c) (hc : c < 16)
    (ta : 0 < (ge_o (P a) (P b) (P k))) (tb : 0 < (ge_o (P b) (P c) (P k))) (tc : 0 < (ge_o (P c) (P a) (P k))) (k1 : K' a b) (k2 : K' b c) (k3 : K' c a) : ld_K H P S (sp_L L a b c k) K' := by
  obtain ⟨va, vb, vc, bc, ca, f1, x1, x2, x3, x4, x5, x6⟩ := tt_face hp0 h e hc
  have nab := tt_ne h x1
  have nbc := tt_ne h x2
  have nca := tt_ne h x3
  have nak : a ≠ k := fun g => hk (by rw [← g]; exact va)
  have nbk : b ≠ k := fun g => hk (by rw [← g]; exact vb)
  have nck : c ≠ k := fun g => hk (by rw [← g]; exact vc)
  obtain ⟨v1, v2, v3, v4, v5, v6, v7, v8, v9⟩ := sp_f3 (L := L) nab nbc nca nak nbk nck
  have hu := hh a b c k (Or.inl va) (Or.inl vb) (Or.inl vc) (Or.inr rfl) f1 ⟨Int.le_of_lt ta, Int.le_of_lt tb, Int.le_of_lt tc⟩
  intro x y z w ez hz ew hw hn n1 n2
  have o1 : ∀ p q, K' p q → ¬ (x = p ∧ y = q) := by rintro p q g ⟨rfl, rfl⟩; exact n1 g
  have o2 : ∀ p q, K' p q → ¬ (y = p ∧ x = q) := by rintro p q g ⟨rfl, rfl⟩; exact n2 g
  have d1 : (ge_D H P k a b c) = - (ge_D H P a b c k) := by unfold ge_D ge_o; grind
  have d2 : (ge_D H P k b c a) = - (ge_D H P a b c k) := by unfold ge_D ge_o; grind
  have d3 : (ge_D H P k c a b) = - (ge_D H P a b c k) := by unfold ge_D ge_o; grind
  have d4 : (ge_D H P a k c b) = - (ge_D H P a b c k) := by unfold ge_D ge_o; grind
  have d5 : (ge_D H P b k a c) = - (ge_D H P a b c k) := by unfold ge_D ge_o; grind
  have d6 : (ge_D H P c k b a) = - (ge_D H P a b c k) := by unfold ge_D ge_o; grind
  by_cases s : (x = b ∧ y = k) ∨ (x = k ∧ y = a) ∨ (x = c ∧ y = k) ∨ (x = k ∧ y = b) ∨ (x = a ∧ y = k) ∨ (x = k ∧ y = c)
  · rcases s with ⟨rfl, rfl⟩ | ⟨rfl, rfl⟩ | ⟨rfl, rfl⟩ | ⟨rfl, rfl⟩ | ⟨rfl, rfl⟩ | ⟨rfl, rfl⟩
    · rw [v2] at ez; rw [v6] at ew; subst ez; subst ew; omega
    · rw [v3] at ez; rw [v8] at ew; subst ez; subst ew; omega
    · rw [v5] at ez; rw [v9] at ew; subst ez; subst ew; omega
    · rw [v6] at ez; rw [v2] at ew; subst ez; subst ew; omega
    · rw [v8] at ez; rw [v3] at ew; subst ez; subst ew; omega
    · rw [v9] at ez; rw [v5] at ew; subst ez; subst ew; omega
  · have t1 := o1 _ _ k1
    have t2 := o1 _ _ k2
    have t3 := o1 _ _ k3
    have r1 := o2 _ _ k1
    have r2 := o2 _ _ k2
    have r3 := o2 _ _ k3
    have q1 : ¬ (x = b ∧ y = k) := fun g => s (Or.inl g)
    have q2 : ¬ (x = k ∧ y = a) := fun g => s (Or.inr (Or.inl g))
    have q3 : ¬ (x = c ∧ y = k) := fun g => s (Or.inr (Or.inr (Or.inl g)))
    have q4 : ¬ (x = k ∧ y = b) := fun g => s (Or.inr (Or.inr (Or.inr (Or.inl g))))
    have q5 : ¬ (x = a ∧ y = k) := fun g => s (Or.inr (Or.inr (Or.inr (Or.inr (Or.inl g)))))
    have q6 : ¬ (x = k ∧ y = c) := fun g => s (Or.inr (Or.inr (Or.inr (Or.inr (Or.inr g)))))
    clear s
    rw [sp_f2n t1 q1 q2 t2 q3 q4 t3 q5 q6] at ez
    rw [sp_f2n r1 (fun g => q4 ⟨g.2, g.1⟩) (fun g => q5 ⟨g.2, g.1⟩) r2 (fun g => q6 ⟨g.2, g.1⟩) (fun g => q1 ⟨g.2, g.1⟩) r3 (fun g => q2 ⟨g.2, g.1⟩) (fun g => q3 ⟨g.2, g.1⟩)] at ew
    exact hl x y z w ez hz ew hw hn
/-- half of a split edge is locally Delaunay if the edge was -/
theorem ld_hf {k : Nat} (h : tr_T V P S L) (hh : tr_hull H (fun x => V x ∨ x = k) P) {a b c d : Nat} (va : V a) (vb : V b) (vc : V c) (vd : V d) (e : L a b = c) (hc : c < 16) (e' : L b a = d) (hd : d < 16)
    (hB : (ge_B (P k) (P a) (P b))) (hD : 0 ≤ (ge_D H P a b c d)) : 0 ≤ (ge_D H P a k c d) := by
  obtain ⟨l, n, l0, n0, hl⟩ := ge_Bo hB
  have f1 := tt_fo h e hc
  have f2 := tt_fo h e' hd
  have z := hB.1
  have a1 := hl (P c) (P a)
  have a2 := hl (P b) (P c)
  have a3 := hl (P a) (P d)
  rw [ge_spp] at a1
  rw [ge_psp] at a2 a3
  have r1 := ge_rot2 (P a) (P b) (P c)
  have r2 := ge_rot (P a) (P b) (P c)
  have r3 := ge_rot (P b) (P a) (P d)
  have t1 : 0 < (ge_o (P c) (P a) (P k)) := sg_inv (A := l + n) (by omega) (by have := sg_pp n0 (show 0 < (ge_o (P c) (P a) (P b)) by omega); omega)
  have t2 : 0 < (ge_o (P b) (P c) (P k)) := sg_inv (A := l + n) (by omega) (by have := sg_pp l0 (show 0 < (ge_o (P b) (P c) (P a)) by omega); omega)
  have t3 : 0 < (ge_o (P a) (P d) (P k)) := sg_inv (A := l + n) (by omega) (by have := sg_pp n0 (show 0 < (ge_o (P a) (P d) (P b)) by omega); omega)
  have hu := hh a b c k (Or.inl va) (Or.inl vb) (Or.inl vc) (Or.inr rfl) f1 ⟨by omega, Int.le_of_lt t2, Int.le_of_lt t1⟩
  by_cases g : 0 ≤ (ge_o (P a) (P d) (P c))
  · have I : (ge_o (P a) (P b) (P c)) * (ge_D H P a k c d) = (- (ge_D H P a b c k)) * (ge_o (P a) (P d) (P c)) + (ge_D H P a b c d) * (ge_o (P c) (P a) (P k)) := by unfold ge_D ge_o; grind
    exact sg_w I f1 (by omega) g hD (Int.le_of_lt t1)
  · have A := ge_aff (P d) (P k) (P c) (P a)
    have s1 := ge_rot (P c) (P a) (P k)
    have s2 := ge_sw2 (P a) (P d) (P c)
    have s3 := ge_rot (P a) (P d) (P k)
    have s4 := ge_rot2 (P c) (P a) (P k)
    have s5 := ge_rot2 (P a) (P d) (P c)
    have s6 := ge_rot (P a) (P c) (P d)
    have := hh d k c a (Or.inl vd) (Or.inr rfl) (Or.inl vc) (Or.inl va) (by omega) ⟨by omega, by omega, by omega⟩
    have q : (ge_D H P d k c a) = - (ge_D H P a k c d) := by unfold ge_D ge_o; grind
    omega
/-- after a split of an edge -/
theorem ld_sd {k : Nat} (hp0 : tr_pt m V P) (hk : ¬ V k) (h : tr_T V P S L) (hl : tr_LD H P S L) (hh : tr_hull H (fun x => V x ∨ x = k) P) {K' : Nat → Nat → Prop} {a b c d : Nat} (e : L a b = c) (hc : c < 16)
    (e' : L b a = d) (hd : d < 16) (hB : (ge_B (P k) (P a) (P b))) (k1 : K' b c) (k2 : K' c a) (k3 : K' a d) (k4 : K' d b) : ld_K H P S (sd_L L a b c d k) K' := by
  obtain ⟨va, vb, vc, bc, ca, f1, x1, x2, x3, x4, x5, x6⟩ := tt_face hp0 h e hc
  obtain ⟨_, _, vd, ad, db, f2, y1, y2, y3, y4, y5, y6⟩ := tt_face hp0 h e' hd
  have nab := tt_ne h x1
  have nbc := tt_ne h x2
  have nca := tt_ne h x3
  have nad := tt_ne h y2
  have ndb := tt_ne h y3
  have ncd : c ≠ d := by rintro rfl; have := ge_sw (P a) (P b) (P c); omega
  have nak : a ≠ k := fun g => hk (by rw [← g]; exact va)
  have nbk : b ≠ k := fun g => hk (by rw [← g]; exact vb)
  have nck : c ≠ k := fun g => hk (by rw [← g]; exact vc)
  have ndk : d ≠ k := fun g => hk (by rw [← g]; exact vd)
  obtain ⟨v1, v2, ⟨v3, v4, v5⟩, ⟨v6, v7, v8⟩, ⟨v9, w1, w2⟩, ⟨w3, w4, w5⟩⟩ := sd_v (L := L) nab nbc nca nad ndb ncd nak nbk nck ndk
  have hB' := ge_B1 hB
  have inT : ∀ a b c, 0 < (ge_o (P a) (P b) (P c)) → (ge_B (P k) (P a) (P b)) → (ge_T (P a) (P b) (P c) (P k)) := by
    intro a b c f hB
    obtain ⟨l, n, l0, n0, hl⟩ := ge_Bo hB
    have a1 := hl (P c) (P a)
    have a2 := hl (P b) (P c)
    rw [ge_spp] at a1
    rw [ge_psp] at a2
    have r1 := ge_rot2 (P a) (P b) (P c)
    have r2 := ge_rot (P a) (P b) (P c)
    have z := hB.1
    exact ⟨by omega, sg_invw (A := l + n) (by omega) (by have := sg_pp l0 (show 0 < (ge_o (P b) (P c) (P a)) by omega); omega), sg_invw (A := l + n) (by omega) (by have := sg_pp n0 (show 0 < (ge_o (P c) (P a) (P b)) by omega); omega)⟩
  have hu1 := hh a b c k (Or.inl va) (Or.inl vb) (Or.inl vc) (Or.inr rfl) f1 (inT a b c f1 hB)
  have hu2 := hh b a d k (Or.inl vb) (Or.inl va) (Or.inl vd) (Or.inr rfl) f2 (inT b a d f2 hB')
  have cvk : tr_cov P S a b → tr_cov P S a k ∧ tr_cov P S b k := by
    rintro ⟨s, hs, c1, c2⟩
    have := ge_BCC hB c1 c2
    exact ⟨⟨s, hs, c1, this⟩, ⟨s, hs, c2, this⟩⟩
  have gA : ¬ tr_cov P S a k → 0 ≤ (ge_D H P a k c d) := fun g => ld_hf h hh va vb vc vd e hc e' hd hB (hl a b c d e hc e' hd (fun w => g (cvk w).1))
  have gB : ¬ tr_cov P S b k → 0 ≤ (ge_D H P b k d c) := fun g => ld_hf h hh vb va vd vc e' hd e hc hB' (hl b a d c e' hd e hc (fun w => g (cvk (co_sy w)).2))
  intro x y z w ez hz ew hw hn n1 n2
  have o1 : ∀ p q, K' p q → ¬ (x = p ∧ y = q) := by rintro p q g ⟨rfl, rfl⟩; exact n1 g
  have o2 : ∀ p q, K' p q → ¬ (y = p ∧ x = q) := by rintro p q g ⟨rfl, rfl⟩; exact n2 g
  have d1 : (ge_D H P k c a b) = - (ge_D H P a b c k) := by unfold ge_D ge_o; grind
  have d2 : (ge_D H P c k b a) = - (ge_D H P a b c k) := by unfold ge_D ge_o; grind
  have d3 : (ge_D H P k d b a) = - (ge_D H P b a d k) := by unfold ge_D ge_o; grind
  have d4 : (ge_D H P d k a b) = - (ge_D H P b a d k) := by unfold ge_D ge_o; grind
  have d5 : (ge_D H P k a d c) = (ge_D H P a k c d) := by unfold ge_D ge_o; grind
  have d6 : (ge_D H P k b c d) = (ge_D H P b k d c) := by unfold ge_D ge_o; grind
  by_cases s : sd_S a b c d k x y
  · rcases s with ⟨rfl, rfl⟩ | ⟨rfl, rfl⟩ | g | g | g | g | ⟨rfl, rfl | rfl | rfl | rfl⟩ | ⟨rfl, rfl | rfl | rfl | rfl⟩
    · omega
    · omega
    · exact absurd g (o1 _ _ k2)
    · exact absurd g (o1 _ _ k1)
    · exact absurd g (o1 _ _ k4)
    · exact absurd g (o1 _ _ k3)
    · rw [w3] at ez; rw [v3] at ew; subst ez; subst ew
      have := gA (fun g => hn (co_sy g)); omega
    · rw [v6] at ez; rw [v9] at ew; subst ez; subst ew
      have := gB (fun g => hn (co_sy g)); omega
    · rw [v4] at ez; rw [v8] at ew; subst ez; subst ew; omega
    · rw [w1] at ez; rw [w5] at ew; subst ez; subst ew; omega
    · rw [v3] at ez; rw [w3] at ew; subst ez; subst ew
      exact gA hn
    · rw [v9] at ez; rw [v6] at ew; subst ez; subst ew
      exact gB hn
    · rw [v8] at ez; rw [v4] at ew; subst ez; subst ew; omega
    · rw [w5] at ez; rw [w1] at ew; subst ez; subst ew; omega
  · have s' : ¬ sd_S a b c d k y x := by
      intro t
      rcases t with g | g | g | g | g | g | g | g
      · exact s (Or.inr (Or.inl ⟨g.2, g.1⟩))
      · exact s (Or.inl ⟨g.2, g.1⟩)
      · exact o2 _ _ k2 g
      · exact o2 _ _ k1 g
      · exact o2 _ _ k4 g
      · exact o2 _ _ k3 g
      · exact s (Or.inr (Or.inr (Or.inr (Or.inr (Or.inr (Or.inr (Or.inr g)))))))
      · exact s (Or.inr (Or.inr (Or.inr (Or.inr (Or.inr (Or.inr (Or.inl g)))))))
    rw [sd_o s] at ez
    rw [sd_o s'] at ew
    exact hl x y z w ez hz ew hw hn
/-- only the live points' heights and places matter -/
theorem lc_1 {P' : Nat → Int × Int} {H' : Nat → Int} (h16 : ∀ k, V k → k < 16) (hS : ∀ s ∈ S, V s.1 ∧ V s.2) (hP : ∀ k, V k → P' k = P k) (hH : ∀ k, V k → H' k = H k) (h : tr_T V P S L) (hl : tr_LD H P S L) : tr_LD H' P' S L := by
  intro a b c d e hc e' hd hn
  have va := tt_va h (show L a b ≤ 16 by omega)
  have vb := tt_vb h (show L a b ≤ 16 by omega)
  have e1 := tt_f2 h e hc
  have e2 := tt_f2 h e' hd
  have vc := tt_vb h (show L b c ≤ 16 by have := h16 a va; omega)
  have vd := tt_vb h (show L a d ≤ 16 by have := h16 b vb; omega)
  have := hl a b c d e hc e' hd (fun g => hn (by
    obtain ⟨s, hs, c1, c2⟩ := g
    obtain ⟨v1, v2⟩ := hS s hs
    refine ⟨s, hs, ?_, ?_⟩
    · rw [hP a va, hP _ v1, hP _ v2]; exact c1
    · rw [hP b vb, hP _ v1, hP _ v2]; exact c2))
  unfold ge_D at *
  rw [hP a va, hP b vb, hP c vc, hP d vd, hH a va, hH b vb, hH c vc, hH d vd]
  exact this
end
end
section
/-! numbers of the machine -/
theorem nu_bm {v : Int} (h1 : -2147483648 ≤ v) (h2 : v ≤ 2147483647) : v.bmod (2 ^ 32) = v := Int.bmod_eq_of_le (by omega) (by omega)
theorem nu_add {x y : Int32} (h1 : -2147483648 ≤ x.toInt + y.toInt) (h2 : x.toInt + y.toInt ≤ 2147483647) : (x + y).toInt = x.toInt + y.toInt := by
  rw [Int32.toInt_add]; exact nu_bm h1 h2
theorem nu_sub {x y : Int32} (h1 : -2147483648 ≤ x.toInt - y.toInt) (h2 : x.toInt - y.toInt ≤ 2147483647) : (x - y).toInt = x.toInt - y.toInt := by
  rw [Int32.toInt_sub]; exact nu_bm h1 h2
theorem nu_mul {x y : Int32} (h1 : -2147483648 ≤ x.toInt * y.toInt) (h2 : x.toInt * y.toInt ≤ 2147483647) : (x * y).toInt = x.toInt * y.toInt := by
  rw [Int32.toInt_mul]; exact nu_bm h1 h2
theorem nu_bmL {v : Int} (h1 : -9223372036854775808 ≤ v) (h2 : v ≤ 9223372036854775807) : v.bmod (2 ^ 64) = v := Int.bmod_eq_of_le (by omega) (by omega)
theorem nu_addL {x y : Int64} (h1 : -9223372036854775808 ≤ x.toInt + y.toInt) (h2 : x.toInt + y.toInt ≤ 9223372036854775807) : (x + y).toInt = x.toInt + y.toInt := by
  rw [Int64.toInt_add]; exact nu_bmL h1 h2
theorem nu_subL {x y : Int64} (h1 : -9223372036854775808 ≤ x.toInt - y.toInt) (h2 : x.toInt - y.toInt ≤ 9223372036854775807) : (x - y).toInt = x.toInt - y.toInt := by
  rw [Int64.toInt_sub]; exact nu_bmL h1 h2
theorem nu_mulL {x y : Int64} (h1 : -9223372036854775808 ≤ x.toInt * y.toInt) (h2 : x.toInt * y.toInt ≤ 9223372036854775807) : (x * y).toInt = x.toInt * y.toInt := by
  rw [Int64.toInt_mul]; exact nu_bmL h1 h2
/-- a product of bounded numbers -/
theorem nu_b {u v A B : Int} (h1 : -A ≤ u) (h2 : u ≤ A) (h3 : -B ≤ v) (h4 : v ≤ B) : -(A * B) ≤ u * v ∧ u * v ≤ A * B := by
  have a1 := Int.mul_nonneg (show 0 ≤ A - u by omega) (show 0 ≤ B + v by omega)
  have a2 := Int.mul_nonneg (show 0 ≤ A + u by omega) (show 0 ≤ B - v by omega)
  have a3 := Int.mul_nonneg (show 0 ≤ A - u by omega) (show 0 ≤ B - v by omega)
  have a4 := Int.mul_nonneg (show 0 ≤ A + u by omega) (show 0 ≤ B + v by omega)
  constructor <;> grind
/-- the value of 'lean' -/
theorem nu_lean {x1 y1 x2 y2 x y : Int32} (h1 : rb_b (x1.toInt, y1.toInt)) (h2 : rb_b (x2.toInt, y2.toInt)) (h : rb_b (x.toInt, y.toInt)) :
    (((x2 - x1) * (y - y1)) - ((y2 - y1) * (x - x1))).toInt = ge_o (x1.toInt, y1.toInt) (x2.toInt, y2.toInt) (x.toInt, y.toInt) := by
  unfold rb_b at *
  simp only at *
  have s1 : (x2 - x1).toInt = x2.toInt - x1.toInt := nu_sub (by omega) (by omega)
  have s2 : (y - y1).toInt = y.toInt - y1.toInt := nu_sub (by omega) (by omega)
  have s3 : (y2 - y1).toInt = y2.toInt - y1.toInt := nu_sub (by omega) (by omega)
  have s4 : (x - x1).toInt = x.toInt - x1.toInt := nu_sub (by omega) (by omega)
  have m1 := rb_m (u := x2.toInt - x1.toInt) (v := y.toInt - y1.toInt) (by omega) (by omega) (by omega) (by omega)
  have m2 := rb_m (u := y2.toInt - y1.toInt) (v := x.toInt - x1.toInt) (by omega) (by omega) (by omega) (by omega)
  have p1 : ((x2 - x1) * (y - y1)).toInt = (x2.toInt - x1.toInt) * (y.toInt - y1.toInt) := by
    rw [nu_mul, s1, s2]
    · rw [s1, s2]; omega
    · rw [s1, s2]; omega
  have p2 : ((y2 - y1) * (x - x1)).toInt = (y2.toInt - y1.toInt) * (x.toInt - x1.toInt) := by
    rw [nu_mul, s3, s4]
    · rw [s3, s4]; omega
    · rw [s3, s4]; omega
  rw [nu_sub (by omega) (by omega), p1, p2]
  rfl
/-- the value of 'dot' -/
theorem nu_dot {x1 y1 x2 y2 x y : Int32} (h1 : rb_b (x1.toInt, y1.toInt)) (h2 : rb_b (x2.toInt, y2.toInt)) (h : rb_b (x.toInt, y.toInt)) :
    (((x1 - x) * (x2 - x)) + ((y1 - y) * (y2 - y))).toInt = ge_d (x1.toInt, y1.toInt) (x2.toInt, y2.toInt) (x.toInt, y.toInt) := by
  unfold rb_b at *
  simp only at *
  have s1 : (x1 - x).toInt = x1.toInt - x.toInt := nu_sub (by omega) (by omega)
  have s2 : (x2 - x).toInt = x2.toInt - x.toInt := nu_sub (by omega) (by omega)
  have s3 : (y1 - y).toInt = y1.toInt - y.toInt := nu_sub (by omega) (by omega)
  have s4 : (y2 - y).toInt = y2.toInt - y.toInt := nu_sub (by omega) (by omega)
  have m1 := rb_m (u := x1.toInt - x.toInt) (v := x2.toInt - x.toInt) (by omega) (by omega) (by omega) (by omega)
  have m2 := rb_m (u := y1.toInt - y.toInt) (v := y2.toInt - y.toInt) (by omega) (by omega) (by omega) (by omega)
  have p1 : ((x1 - x) * (x2 - x)).toInt = (x1.toInt - x.toInt) * (x2.toInt - x.toInt) := by
    rw [nu_mul, s1, s2]
    · rw [s1, s2]; omega
    · rw [s1, s2]; omega
  have p2 : ((y1 - y) * (y2 - y)).toInt = (y1.toInt - y.toInt) * (y2.toInt - y.toInt) := by
    rw [nu_mul, s3, s4]
    · rw [s3, s4]; omega
    · rw [s3, s4]; omega
  rw [nu_add (by omega) (by omega), p1, p2]
  rfl
theorem nu_0le {x : Int32} {v : Int} (h : x.toInt = v) : (0 ≤ x ↔ 0 ≤ v) := by rw [Int32.le_iff_toInt_le, h]; rfl
theorem nu_le0 {x : Int32} {v : Int} (h : x.toInt = v) : (x ≤ 0 ↔ v ≤ 0) := by rw [Int32.le_iff_toInt_le, h]; rfl
theorem nu_lt0 {x : Int32} {v : Int} (h : x.toInt = v) : (x < 0 ↔ v < 0) := by rw [Int32.lt_iff_toInt_lt, h]; rfl
theorem nu_0lt {x : Int32} {v : Int} (h : x.toInt = v) : (0 < x ↔ 0 < v) := by rw [Int32.lt_iff_toInt_lt, h]; rfl
theorem nu_eq0 {x : Int32} {v : Int} (h : x.toInt = v) : (x = 0 ↔ v = 0) := by rw [← Int32.toInt_inj, h]; rfl
theorem nu_le {x y : Int32} {u v : Int} (h : x.toInt = u) (h' : y.toInt = v) : (x ≤ y ↔ u ≤ v) := by rw [Int32.le_iff_toInt_le, h, h']
theorem nu_lt {x y : Int32} {u v : Int} (h : x.toInt = u) (h' : y.toInt = v) : (x < y ↔ u < v) := by rw [Int32.lt_iff_toInt_lt, h, h']
/-- a row of the edge table -/
theorem nu_ix (a b : Nat) : nI a * 16 + nI b = nI (a * 16 + b) := by
  have e : nI a * 16 = nI (a * 16) := by
    show Int32.ofNat a * Int32.ofNat 16 = Int32.ofNat (a * 16)
    rw [← Int32.ofNat_mul]
  rw [e, nI_add]
theorem nu_cl {n : Nat} (h : n < 256) : (nI n).toNatClampNeg = n := nI_clamp (by omega)
theorem nu_in {n N : Nat} (h : n < N) (hN : N < 2000) : vp_in (nI n) N := vp_in_nI h (by omega)
theorem nu_j {x : Int32} (h0 : ¬ x < 0) (h : ¬ 16 ≤ x) : ∃ j : Nat, j < 16 ∧ x = nI j := by
  have h0' : ¬ x.toInt < 0 := fun g => h0 ((nu_lt0 rfl).mpr g)
  have h' : ¬ (16 : Int) ≤ x.toInt := fun g => h (by rw [Int32.le_iff_toInt_le]; exact g)
  obtain ⟨j, hj, e⟩ := nI_of h0
  refine ⟨j, ?_, e⟩
  rw [e, nI_toInt hj] at h'
  omega
theorem nu_16 {i : Nat} (h : i < 16) : ¬ (16 : Int32) ≤ nI i := nI_ge (b := 16) h (by decide)
theorem nu_16' : (16 : Int32) ≤ nI 16 := nI_le (a := 16) (b := 16) (by omega) (by decide)
theorem nu_8 {i : Nat} (h : i < 8) : ¬ (8 : Int32) ≤ nI i := nI_ge (b := 8) h (by decide)
theorem nu_8' : (8 : Int32) ≤ nI 8 := nI_le (a := 8) (b := 8) (by omega) (by decide)
theorem nu_1n : ¬ (1 : Int32) = 0 := by decide
theorem nu_ni {a b : Nat} (ha : a < 2000) (hb : b < 2000) : nI a = nI b ↔ a = b := nI_eq (by omega) (by omega)
/-! loops -/
/-- a search: at the first i with Q i, or at the end -/
theorem lo_s {W : Nat → Nat → Prop} {Q : Nat → Prop} {N : Nat} {A : Nat → Prop} {E : Prop} {i0 : Nat} (h0 : i0 ≤ N)
    (hx : ∀ f, E → W (f + 1) N) (hs : ∀ f i, i0 ≤ i → i < N → (Q i → A i) → (¬ Q i → W f (i + 1)) → W (f + 1) i)
    (hA : ∀ i, i0 ≤ i → i < N → Q i → (∀ j, i0 ≤ j → j < i → ¬ Q j) → A i) (hE : (∀ j, i0 ≤ j → j < N → ¬ Q j) → E) : ∃ f, W f i0 := by
  have key : ∀ d i, i0 ≤ i → i + d = N → (∀ j, i0 ≤ j → j < i → ¬ Q j) → W (d + 1) i := by
    intro d
    induction d with
    | zero =>
      intro i hi e hn
      have : i = N := by omega
      subst this
      exact hx 0 (hE hn)
    | succ d ih =>
      intro i hi e hn
      refine hs (d + 1) i hi (by omega) (fun q => hA i hi (by omega) q hn) (fun q => ?_)
      refine ih (i + 1) (by omega) (by omega) (fun j hj hj' => ?_)
      rcases Nat.lt_or_ge j i with g | g
      · exact hn j hj g
      · have : j = i := by omega
        subst this; exact q
  exact ⟨N - i0 + 1, key (N - i0) i0 (Nat.le_refl _) (by omega) (fun j h1 h2 => by omega)⟩
/-- a count -/
theorem lo_c {W : Nat → Nat → Nat → Prop} {Q : Nat → Prop} {N : Nat} {E : Nat → Prop}
    (hx : ∀ f c, E c → W (f + 1) c N) (hs : ∀ f c i, i < N → c ≤ i → (Q i → W f (c + 1) (i + 1)) → (¬ Q i → W f c (i + 1)) → W (f + 1) c i)
    (hE : E (ct_n Q N)) : ∃ f, W f 0 0 := by
  have key : ∀ d i, i + d = N → W (d + 1) (ct_n Q i) i := by
    intro d
    induction d with
    | zero =>
      intro i e
      have : i = N := by omega
      subst this
      exact hx 0 _ hE
    | succ d ih =>
      intro i e
      refine hs (d + 1) _ i (by omega) (ct_le Q i) (fun q => ?_) (fun q => ?_)
      · have := ih (i + 1) (by omega)
        rw [ct_s1 q] at this
        exact this
      · have := ih (i + 1) (by omega)
        rw [ct_s0 q] at this
        exact this
  exact ⟨N + 1, key N 0 (by omega)⟩
/-- a loop with a state -/
theorem lo_i {σ : Type} {W : Nat → Nat → σ → Prop} {I : Nat → σ → Prop} {N : Nat} {s0 : σ} (h0 : I 0 s0)
    (hx : ∀ f s, I N s → W (f + 1) N s) (hs : ∀ f i s, i < N → I i s → (∀ s', I (i + 1) s' → W f (i + 1) s') → W (f + 1) i s) : ∃ f, W f 0 s0 := by
  have key : ∀ d i s, i + d = N → I i s → W (d + 1) i s := by
    intro d
    induction d with
    | zero =>
      intro i s e h
      have : i = N := by omega
      subst this
      exact hx 0 s h
    | succ d ih =>
      intro i s e h
      exact hs (d + 1) i s (by omega) h (fun s' h' => ih (i + 1) s' (by omega) h')
  exact ⟨N + 1, key N 0 s0 (by omega) h0⟩
/-! crossings as the component asks them -/
def cx_P (a b p q : Int × Int) : Prop := ge_X a b p q ∨ ge_X a b q p
theorem cx_1 {a b p q : Int × Int} : (wi_ap a b p q ∧ wi_ap p q a b) ↔ cx_P a b p q := by
  have A : ge_o a b p - ge_o a b q = ge_o p q b - ge_o p q a := by unfold ge_o; grind
  have s1 := ge_sw a b p
  have s2 := ge_sw a b q
  have s3 := ge_sw p q a
  have s4 := ge_sw p q b
  unfold wi_ap cx_P ge_X
  constructor
  · rintro ⟨g | g, k⟩
    · left; refine ⟨g.1, by omega, ?_, ?_⟩ <;> omega
    · right; refine ⟨g.2, by omega, ?_, ?_⟩ <;> omega
  · rintro (⟨g1, g2, g3, g4⟩ | ⟨g1, g2, g3, g4⟩)
    · exact ⟨Or.inl ⟨g1, by omega⟩, Or.inr ⟨by omega, by omega⟩⟩
    · exact ⟨Or.inr ⟨by omega, by omega⟩, Or.inl ⟨by omega, by omega⟩⟩
theorem cx_sy {a b p q : Int × Int} (h : cx_P a b p q) : cx_P p q a b := by
  rcases h with g | g
  · exact Or.inr (ge_X2 g)
  · exact Or.inl (ge_X1 (ge_X2 g))
/-- 'on' as the component asks it -/
def on_P (k a b : Int × Int) : Prop := ge_o a b k = 0 ∧ ((a.1 ≤ k.1 ∧ k.1 ≤ b.1) ∨ (b.1 ≤ k.1 ∧ k.1 ≤ a.1)) ∧ ((a.2 ≤ k.2 ∧ k.2 ≤ b.2) ∨ (b.2 ≤ k.2 ∧ k.2 ≤ a.2))
theorem on_b {x y z : Int} : ((x ≤ z ∧ z ≤ y) ∨ (y ≤ z ∧ z ≤ x)) ↔ (x - z) * (y - z) ≤ 0 := by
  constructor
  · rintro (⟨g, k⟩ | ⟨g, k⟩)
    · have := sg_ww (show 0 ≤ z - x by omega) (show 0 ≤ y - z by omega); grind
    · have := sg_ww (show 0 ≤ x - z by omega) (show 0 ≤ z - y by omega); grind
  · intro h
    rcases Int.lt_trichotomy x z with g | g | g
    · left
      rcases Int.lt_or_le y z with k | k
      · have := sg_pp (show 0 < z - x by omega) (show 0 < z - y by omega)
        have e : (x - z) * (y - z) = (z - x) * (z - y) := by grind
        omega
      · omega
    · omega
    · right
      rcases Int.lt_or_le z y with k | k
      · have := sg_pp (show 0 < x - z by omega) (show 0 < y - z by omega); omega
      · omega
theorem on_1 {k a b : Int × Int} : on_P k a b ↔ ge_C k a b := by
  unfold on_P
  rw [on_b, on_b]
  constructor
  · rintro ⟨z, g1, g2⟩
    exact ⟨z, by unfold ge_d; omega⟩
  · intro h
    refine ⟨h.1, ?_⟩
    obtain ⟨l, n, l0, n0, s0, e1, e2⟩ := ge_Cw h
    have q : ∀ x y z : Int, (l + n) * z = l * x + n * y → (x - z) * (y - z) ≤ 0 := by
      intro x y z e
      have e3 : (l + n) * (x - z) = n * (x - y) := by grind
      have e4 : (l + n) * (y - z) = - (l * (x - y)) := by grind
      have e5 : (l + n) * ((l + n) * - ((x - z) * (y - z))) = (l * n) * ((x - y) * (x - y)) := by
        have : (l + n) * ((l + n) * - ((x - z) * (y - z))) = - (((l + n) * (x - z)) * ((l + n) * (y - z))) := by grind
        rw [this, e3, e4]; grind
      have := sg_invw s0 (sg_invw s0 (by rw [e5]; exact sg_ww (sg_ww l0 n0) (ge_sq _)))
      omega
    exact ⟨q _ _ _ e1, q _ _ _ e2⟩
end
section
/-! what the component's reading methods answer -/
def xs_G (a_px a_py : Nat → Int32) (P : Nat → Int × Int) : Prop := ∀ k, k < 16 → P k = ((a_px k).toInt, (a_py k).toInt) ∧ rb_b (P k)
def xs_V (a_live : Nat → Int32) (V : Nat → Prop) : Prop := ∀ k, V k ↔ (k < 16 ∧ a_live k ≠ 0)
def xs_S (n : Nat) (a_segA a_segB : Nat → Int32) (sA sB : Nat → Nat) : Prop := n ≤ 8 ∧ ∀ i, i < n → a_segA i = nI (sA i) ∧ sA i < 16 ∧ a_segB i = nI (sB i) ∧ sB i < 16
/-- the circle determinant in longs -/
theorem nu_64 (x : Int32) : x.toInt64.toInt = x.toInt := Int32.toInt_toInt64 x
theorem nu_circ {ax ay bx by_ cx cy : Int64} {ax' ay' bx' by' cx' cy' : Int} (e1 : ax.toInt = ax') (e2 : ay.toInt = ay') (e3 : bx.toInt = bx') (e4 : by_.toInt = by') (e5 : cx.toInt = cx') (e6 : cy.toInt = cy')
    (b1 : -100 ≤ ax' ∧ ax' ≤ 100) (b2 : -100 ≤ ay' ∧ ay' ≤ 100) (b3 : -100 ≤ bx' ∧ bx' ≤ 100) (b4 : -100 ≤ by' ∧ by' ≤ 100) (b5 : -100 ≤ cx' ∧ cx' ≤ 100) (b6 : -100 ≤ cy' ∧ cy' ≤ 100) :
    ((((ax * ax + ay * ay) * ((bx * cy) - (by_ * cx))) + ((bx * bx + by_ * by_) * ((cx * ay) - (cy * ax)))) + ((cx * cx + cy * cy) * ((ax * by_) - (ay * bx)))).toInt =
    (ax' * ax' + ay' * ay') * (bx' * cy' - by' * cx') + (bx' * bx' + by' * by') * (cx' * ay' - cy' * ax') + (cx' * cx' + cy' * cy') * (ax' * by' - ay' * bx') := by
  have m : ∀ {x y : Int64} {u v : Int}, x.toInt = u → y.toInt = v → -100 ≤ u ∧ u ≤ 100 → -100 ≤ v ∧ v ≤ 100 → (x * y).toInt = u * v ∧ -10000 ≤ u * v ∧ u * v ≤ 10000 := by
    intro x y u v h1 h2 b1 b2
    have := rb_m b1.1 b1.2 b2.1 b2.2
    refine ⟨?_, this⟩
    rw [nu_mulL, h1, h2] <;> rw [h1, h2] <;> omega
  have pl : ∀ {x y : Int64} {u v : Int}, x.toInt = u ∧ -10000 ≤ u ∧ u ≤ 10000 → y.toInt = v ∧ -10000 ≤ v ∧ v ≤ 10000 → (x + y).toInt = u + v ∧ -20000 ≤ u + v ∧ u + v ≤ 20000 := by
    intro x y u v h1 h2
    refine ⟨?_, by omega, by omega⟩
    rw [nu_addL, h1.1, h2.1] <;> rw [h1.1, h2.1] <;> omega
  have mi : ∀ {x y : Int64} {u v : Int}, x.toInt = u ∧ -10000 ≤ u ∧ u ≤ 10000 → y.toInt = v ∧ -10000 ≤ v ∧ v ≤ 10000 → (x - y).toInt = u - v ∧ -20000 ≤ u - v ∧ u - v ≤ 20000 := by
    intro x y u v h1 h2
    refine ⟨?_, by omega, by omega⟩
    rw [nu_subL, h1.1, h2.1] <;> rw [h1.1, h2.1] <;> omega
  have m2 : ∀ {x y : Int64} {u v : Int}, x.toInt = u ∧ -20000 ≤ u ∧ u ≤ 20000 → y.toInt = v ∧ -20000 ≤ v ∧ v ≤ 20000 → (x * y).toInt = u * v ∧ -400000000 ≤ u * v ∧ u * v ≤ 400000000 := by
    intro x y u v h1 h2
    have := nu_b (A := 20000) (B := 20000) h1.2.1 h1.2.2 h2.2.1 h2.2.2
    refine ⟨?_, by omega, by omega⟩
    rw [nu_mulL, h1.1, h2.1] <;> rw [h1.1, h2.1] <;> omega
  have A := m2 (pl (m e1 e1 b1 b1) (m e2 e2 b2 b2)) (mi (m e3 e6 b3 b6) (m e4 e5 b4 b5))
  have B := m2 (pl (m e3 e3 b3 b3) (m e4 e4 b4 b4)) (mi (m e5 e2 b5 b2) (m e6 e1 b6 b1))
  have C := m2 (pl (m e5 e5 b5 b5) (m e6 e6 b6 b6)) (mi (m e1 e4 b1 b4) (m e2 e3 b2 b3))
  have AB : (((ax * ax + ay * ay) * ((bx * cy) - (by_ * cx))) + ((bx * bx + by_ * by_) * ((cx * ay) - (cy * ax)))).toInt = (ax' * ax' + ay' * ay') * (bx' * cy' - by' * cx') + (bx' * bx' + by' * by') * (cx' * ay' - cy' * ax') := by
    rw [nu_addL, A.1, B.1] <;> rw [A.1, B.1] <;> omega
  rw [nu_addL, AB, C.1] <;> rw [AB, C.1] <;> omega
section
variable {f_side f_last f_limit f_segCount f_top f_walkQ f_walkP f_walkN : Int32} {a_px a_py a_live a_segA a_segB a_left a_stack : Nat → Int32}
variable {P : Nat → Int × Int} {V : Nat → Prop} {sA sB : Nat → Nat} {n : Nat}
theorem xw_lean {post : Int32 → Prop} (g : xs_G a_px a_py P) {a b : Nat} (ha : a < 16) (hb : b < 16) {x y : Int32} (hxy : rb_b (x.toInt, y.toInt))
    (h : ∀ r : Int32, r.toInt = ge_o (P a) (P b) (x.toInt, y.toInt) → post r) : wpX_lean post (f_side, f_last, f_limit, f_segCount, f_top, f_walkQ, f_walkP, f_walkN, a_px, a_py, a_live, a_segA, a_segB, a_left, a_stack) (nI a) (nI b) x y := by
  have va : vp_in (nI a) 16 := nu_in ha (by decide)
  have vb : vp_in (nI b) 16 := nu_in hb (by decide)
  refine And.intro vb (And.intro va (And.intro va (And.intro vb (And.intro va (And.intro va (h _ ?_))))))
  rw [nI_clamp (n := a) (by omega), nI_clamp (n := b) (by omega), (g a ha).1, (g b hb).1]
  refine nu_lean ?_ ?_ hxy
  · rw [← (g a ha).1]; exact (g a ha).2
  · rw [← (g b hb).1]; exact (g b hb).2
theorem xw_turn {post : Int32 → Prop} (g : xs_G a_px a_py P) {a b c : Nat} (ha : a < 16) (hb : b < 16) (hc : c < 16)
    (h : ∀ r : Int32, r.toInt = (ge_o (P a) (P b) (P c)) → post r) : wpX_turn post (f_side, f_last, f_limit, f_segCount, f_top, f_walkQ, f_walkP, f_walkN, a_px, a_py, a_live, a_segA, a_segB, a_left, a_stack) (nI a) (nI b) (nI c) := by
  have vc : vp_in (nI c) 16 := nu_in hc (by decide)
  refine And.intro vc (And.intro vc ?_)
  refine xw_lean g ha hb ?_ (fun r hr => h r ?_)
  · rw [nI_clamp (n := c) (by omega), ← (g c hc).1]; exact (g c hc).2
  · rw [nI_clamp (n := c) (by omega), ← (g c hc).1] at hr; exact hr
theorem xw_apart {post : Int32 → Prop} (g : xs_G a_px a_py P) {a b c d : Nat} (ha : a < 16) (hb : b < 16) (hc : c < 16) (hd : d < 16)
    (h1 : wi_ap (P a) (P b) (P c) (P d) → post 1) (h0 : ¬ wi_ap (P a) (P b) (P c) (P d) → post 0) : wpX_apart post (f_side, f_last, f_limit, f_segCount, f_top, f_walkQ, f_walkP, f_walkN, a_px, a_py, a_live, a_segA, a_segB, a_left, a_stack) (nI a) (nI b) (nI c) (nI d) := by
  unfold wpX_apart
  refine xw_turn g ha hb hc (fun r hr => ?_)
  refine xw_turn g ha hb hd (fun s hs => ?_)
  unfold wi_ap at h1 h0
  have j : (¬ (0 < (ge_o (P a) (P b) (P c)) ∧ (ge_o (P a) (P b) (P d)) < 0)) → wX_apart_29 post r s f_side f_last f_limit f_segCount f_top f_walkQ f_walkP f_walkN a_px a_py a_live a_segA a_segB a_left a_stack := by
    intro hn
    unfold wX_apart_29
    refine br_c (fun k => h0 ?_) (fun k => br_c (fun l => h0 ?_) (fun l => h1 ?_))
    · rw [nu_0le hr] at k; omega
    · rw [nu_0le hr] at k; rw [nu_le0 hs] at l; omega
    · rw [nu_0le hr] at k; rw [nu_le0 hs] at l; omega
  refine br_c (fun k => j ?_) (fun k => br_c (fun l => h1 ?_) (fun l => j ?_))
  · rw [nu_le0 hr] at k; omega
  · rw [nu_le0 hr] at k; rw [nu_lt0 hs] at l; omega
  · rw [nu_le0 hr] at k; rw [nu_lt0 hs] at l; omega
theorem xw_cross {post : Int32 → Prop} (g : xs_G a_px a_py P) {a b c d : Nat} (ha : a < 16) (hb : b < 16) (hc : c < 16) (hd : d < 16)
    (h1 : cx_P (P a) (P b) (P c) (P d) → post 1) (h0 : ¬ cx_P (P a) (P b) (P c) (P d) → post 0) : wpX_cross post (f_side, f_last, f_limit, f_segCount, f_top, f_walkQ, f_walkP, f_walkN, a_px, a_py, a_live, a_segA, a_segB, a_left, a_stack) (nI a) (nI b) (nI c) (nI d) := by
  unfold wpX_cross
  refine xw_apart g ha hb hc hd (fun k => br_f nu_1n ?_) (fun k => br_t rfl (h0 (fun w => k (cx_1.mpr w).1)))
  exact xw_apart g hc hd ha hb (fun l => br_f nu_1n (h1 (cx_1.mp ⟨k, l⟩))) (fun l => br_t rfl (h0 (fun w => l (cx_1.mpr w).2)))
theorem xw_on {post : Int32 → Prop} (g : xs_G a_px a_py P) {k a b : Nat} (hk : k < 16) (ha : a < 16) (hb : b < 16)
    (h1 : (ge_C (P k) (P a) (P b)) → post 1) (h0 : ¬ (ge_C (P k) (P a) (P b)) → post 0) : wpX_on post (f_side, f_last, f_limit, f_segCount, f_top, f_walkQ, f_walkP, f_walkN, a_px, a_py, a_live, a_segA, a_segB, a_left, a_stack) (nI k) (nI a) (nI b) := by
  rw [← on_1] at h1 h0
  have va : vp_in (nI a) 16 := nu_in ha (by decide)
  have vb : vp_in (nI b) 16 := nu_in hb (by decide)
  have vk : vp_in (nI k) 16 := nu_in hk (by decide)
  have ck : (nI k).toNatClampNeg = k := nI_clamp (by omega)
  have ca : (nI a).toNatClampNeg = a := nI_clamp (by omega)
  have cb : (nI b).toNatClampNeg = b := nI_clamp (by omega)
  have xk : (a_px k).toInt = (P k).1 := by rw [(g k hk).1]
  have yk : (a_py k).toInt = (P k).2 := by rw [(g k hk).1]
  have xa : (a_px a).toInt = (P a).1 := by rw [(g a ha).1]
  have ya : (a_py a).toInt = (P a).2 := by rw [(g a ha).1]
  have xb : (a_px b).toInt = (P b).1 := by rw [(g b hb).1]
  have yb : (a_py b).toInt = (P b).2 := by rw [(g b hb).1]
  unfold wpX_on
  refine xw_turn g ha hb hk (fun r hr => ?_)
  refine br_c (fun z => ?_) (fun z => h0 (fun w => z ((nu_eq0 hr).mpr w.1)))
  have z' : (ge_o (P a) (P b) (P k)) = 0 := (nu_eq0 hr).mp z
  unfold on_P at h1 h0
  -- the second half
  have Y : ∀ q : Int32, (q = 0 ∨ q = 1) → ((q = 1 ∧ (((P a).1 ≤ (P k).1 ∧ (P k).1 ≤ (P b).1) ∨ ((P b).1 ≤ (P k).1 ∧ (P k).1 ≤ (P a).1))) ∨ (q = 0 ∧ ¬ (((P a).1 ≤ (P k).1 ∧ (P k).1 ≤ (P b).1) ∨ ((P b).1 ≤ (P k).1 ∧ (P k).1 ≤ (P a).1)))) →
      wX_on_77 post (nI k) (nI a) (nI b) q f_side f_last f_limit f_segCount f_top f_walkQ f_walkP f_walkN a_px a_py a_live a_segA a_segB a_left a_stack := by
    intro q _ hq
    have fin : ∀ s : Int32, ((s = 1 ∧ (((P a).2 ≤ (P k).2 ∧ (P k).2 ≤ (P b).2) ∨ ((P b).2 ≤ (P k).2 ∧ (P k).2 ≤ (P a).2))) ∨ (s = 0 ∧ ¬ (((P a).2 ≤ (P k).2 ∧ (P k).2 ≤ (P b).2) ∨ ((P b).2 ≤ (P k).2 ∧ (P k).2 ≤ (P a).2)))) →
        wX_on_144 post q s f_side f_last f_limit f_segCount f_top f_walkQ f_walkP f_walkN a_px a_py a_live a_segA a_segB a_left a_stack := by
      intro s hs
      unfold wX_on_144
      rcases hq with ⟨rfl, p⟩ | ⟨rfl, p⟩
      · refine br_f nu_1n ?_
        rcases hs with ⟨rfl, w⟩ | ⟨rfl, w⟩
        · exact br_f nu_1n (h1 ⟨z', p, w⟩)
        · exact br_t rfl (h0 (fun e => w e.2.2))
      · exact br_t rfl (h0 (fun e => p e.2.1))
    have f1 : ((((P a).2 ≤ (P k).2 ∧ (P k).2 ≤ (P b).2) ∨ ((P b).2 ≤ (P k).2 ∧ (P k).2 ≤ (P a).2))) → wX_on_139 post q f_side f_last f_limit f_segCount f_top f_walkQ f_walkP f_walkN a_px a_py a_live a_segA a_segB a_left a_stack := fun w => fin 1 (Or.inl ⟨rfl, w⟩)
    have f0 : (¬ (((P a).2 ≤ (P k).2 ∧ (P k).2 ≤ (P b).2) ∨ ((P b).2 ≤ (P k).2 ∧ (P k).2 ≤ (P a).2))) → wX_on_143 post q f_side f_last f_limit f_segCount f_top f_walkQ f_walkP f_walkN a_px a_py a_live a_segA a_segB a_left a_stack := fun w => fin 0 (Or.inr ⟨rfl, w⟩)
    have snd : ¬ ((P a).2 ≤ (P k).2 ∧ (P k).2 ≤ (P b).2) → wX_on_109 post (nI k) (nI a) (nI b) q f_side f_last f_limit f_segCount f_top f_walkQ f_walkP f_walkN a_px a_py a_live a_segA a_segB a_left a_stack := by
      intro hn
      unfold wX_on_109
      refine And.intro vb (And.intro vk ?_)
      rw [ck, cb, ca, nu_lt yk yb, nu_lt ya yk]
      exact br_c (fun e => f0 (by omega)) (fun e => And.intro vk (And.intro va (br_c (fun e2 => f0 (by omega)) (fun e2 => f1 (by omega)))))
    unfold wX_on_77
    refine And.intro va (And.intro vk ?_)
    rw [ck, cb, ca, nu_lt yk ya, nu_le yk yb]
    exact br_c (fun e => snd (by omega)) (fun e => And.intro vk (And.intro vb (br_c (fun e2 => f1 (by omega)) (fun e2 => snd (by omega)))))
  have g1 : ((((P a).1 ≤ (P k).1 ∧ (P k).1 ≤ (P b).1) ∨ ((P b).1 ≤ (P k).1 ∧ (P k).1 ≤ (P a).1))) → wX_on_72 post (nI k) (nI a) (nI b) f_side f_last f_limit f_segCount f_top f_walkQ f_walkP f_walkN a_px a_py a_live a_segA a_segB a_left a_stack := fun w => Y 1 (Or.inr rfl) (Or.inl ⟨rfl, w⟩)
  have g0 : (¬ (((P a).1 ≤ (P k).1 ∧ (P k).1 ≤ (P b).1) ∨ ((P b).1 ≤ (P k).1 ∧ (P k).1 ≤ (P a).1))) → wX_on_76 post (nI k) (nI a) (nI b) f_side f_last f_limit f_segCount f_top f_walkQ f_walkP f_walkN a_px a_py a_live a_segA a_segB a_left a_stack := fun w => Y 0 (Or.inl rfl) (Or.inr ⟨rfl, w⟩)
  have snd : ¬ ((P a).1 ≤ (P k).1 ∧ (P k).1 ≤ (P b).1) → wX_on_42 post (nI k) (nI a) (nI b) f_side f_last f_limit f_segCount f_top f_walkQ f_walkP f_walkN a_px a_py a_live a_segA a_segB a_left a_stack := by
    intro hn
    unfold wX_on_42
    refine And.intro vb (And.intro vk ?_)
    rw [ck, cb, ca, nu_lt xk xb, nu_lt xa xk]
    exact br_c (fun e => g0 (by omega)) (fun e => And.intro vk (And.intro va (br_c (fun e2 => g0 (by omega)) (fun e2 => g1 (by omega)))))
  refine And.intro va (And.intro vk ?_)
  rw [ck, cb, ca, nu_lt xk xa, nu_le xk xb]
  exact br_c (fun e => snd (by omega)) (fun e => And.intro vk (And.intro vb (br_c (fun e2 => g1 (by omega)) (fun e2 => snd (by omega)))))
theorem xw_circ {post : Int64 → Prop} (g : xs_G a_px a_py P) {a b c d : Nat} (ha : a < 16) (hb : b < 16) (hc : c < 16) (hd : d < 16)
    (h : ∀ r : Int64, r.toInt = rh_c (P a) (P b) (P c) (P d) → post r) : wpX_circle post (f_side, f_last, f_limit, f_segCount, f_top, f_walkQ, f_walkP, f_walkN, a_px, a_py, a_live, a_segA, a_segB, a_left, a_stack) (nI a) (nI b) (nI c) (nI d) := by
  have va : vp_in (nI a) 16 := nu_in ha (by decide)
  have vb : vp_in (nI b) 16 := nu_in hb (by decide)
  have vc : vp_in (nI c) 16 := nu_in hc (by decide)
  have vd : vp_in (nI d) 16 := nu_in hd (by decide)
  have ca : (nI a).toNatClampNeg = a := nI_clamp (by omega)
  have cb : (nI b).toNatClampNeg = b := nI_clamp (by omega)
  have cc : (nI c).toNatClampNeg = c := nI_clamp (by omega)
  have cd : (nI d).toNatClampNeg = d := nI_clamp (by omega)
  have Ba := (g a ha).2
  have Bb := (g b hb).2
  have Bc := (g c hc).2
  have Bd := (g d hd).2
  unfold rb_b at Ba Bb Bc Bd
  have xd : ∀ k, k < 16 → ((a_px k) - (a_px d)).toInt64.toInt = (P k).1 - (P d).1 ∧ -100 ≤ (P k).1 - (P d).1 ∧ (P k).1 - (P d).1 ≤ 100 := by
    intro k hk
    have B := (g k hk).2
    unfold rb_b at B
    have e1 : (a_px k).toInt = (P k).1 := by rw [(g k hk).1]
    have e2 : (a_px d).toInt = (P d).1 := by rw [(g d hd).1]
    refine ⟨?_, by omega, by omega⟩
    rw [nu_64, nu_sub, e1, e2] <;> rw [e1, e2] <;> omega
  have yd : ∀ k, k < 16 → ((a_py k) - (a_py d)).toInt64.toInt = (P k).2 - (P d).2 ∧ -100 ≤ (P k).2 - (P d).2 ∧ (P k).2 - (P d).2 ≤ 100 := by
    intro k hk
    have B := (g k hk).2
    unfold rb_b at B
    have e1 : (a_py k).toInt = (P k).2 := by rw [(g k hk).1]
    have e2 : (a_py d).toInt = (P d).2 := by rw [(g d hd).1]
    refine ⟨?_, by omega, by omega⟩
    rw [nu_64, nu_sub, e1, e2] <;> rw [e1, e2] <;> omega
  unfold wpX_circle
  dsimp only
  rw [ca, cb, cc, cd]
  refine And.intro va (And.intro vd (nm_e ?_))
  refine And.intro va (And.intro vd (nm_e ?_))
  refine And.intro vb (And.intro vd (nm_e ?_))
  refine And.intro vb (And.intro vd (nm_e ?_))
  refine And.intro vc (And.intro vd (nm_e ?_))
  refine And.intro vc (And.intro vd (nm_e ?_))
  refine nm_e (nm_e (nm_e (h _ ?_)))
  exact nu_circ (xd a ha).1 (yd a ha).1 (xd b hb).1 (yd b hb).1 (xd c hc).1 (yd c hc).1 (xd a ha).2 (yd a ha).2 (xd b hb).2 (yd b hb).2 (xd c hc).2 (yd c hc).2
theorem xw_tie {post : Int32 → Prop} (g : xs_G a_px a_py P) {a b c d : Nat} (ha : a < 16) (hb : b < 16) (hc : c < 16) (hd : d < 16)
    (h1 : wi_t P a b c d → post 1) (h0 : ¬ wi_t P a b c d → post 0) : wpX_tie post (f_side, f_last, f_limit, f_segCount, f_top, f_walkQ, f_walkP, f_walkN, a_px, a_py, a_live, a_segA, a_segB, a_left, a_stack) (nI a) (nI b) (nI c) (nI d) := by
  have le : ∀ {x y : Nat}, x < 16 → y < 16 → (nI x ≤ nI y ↔ x ≤ y) := fun hx hy => nI_leI (by omega) (by omega)
  have c3 : ¬ (d < a ∧ d < b ∧ d < c) → ¬ (a < b ∧ a < c) → wX_tie_40 post (nI a) (nI b) (nI c) (nI d) f_side f_last f_limit f_segCount f_top f_walkQ f_walkP f_walkN a_px a_py a_live a_segA a_segB a_left a_stack := by
    intro n1 n2
    unfold wX_tie_40
    rw [le hc hb]
    refine br_c (fun k => ?_) (fun k => ?_)
    · have e := wt_c (P := P) n1 n2 (show ¬ b < c by omega)
      exact xw_apart g ha hb hc hd (fun w => ⟨narrow_b1, h1 (e.mpr w)⟩) (fun w => ⟨narrow_b0, h0 (fun q => w (e.mp q))⟩)
    · have e := wt_b (P := P) n1 n2 (show b < c by omega)
      exact xw_apart g ha hc hb hd (fun w => ⟨narrow_b1, h1 (e.mpr w)⟩) (fun w => ⟨narrow_b0, h0 (fun q => w (e.mp q))⟩)
  have c2 : ¬ (d < a ∧ d < b ∧ d < c) → wX_tie_20 post (nI a) (nI b) (nI c) (nI d) f_side f_last f_limit f_segCount f_top f_walkQ f_walkP f_walkN a_px a_py a_live a_segA a_segB a_left a_stack := by
    intro n1
    unfold wX_tie_20
    rw [le hb ha, le hc ha]
    refine br_c (fun k => c3 n1 (by omega)) (fun k => br_c (fun l => c3 n1 (by omega)) (fun l => ?_))
    have e := wt_a (P := P) n1 (show a < b ∧ a < c by omega)
    exact xw_apart g hb hc ha hd (fun w => ⟨narrow_b1, h1 (e.mpr w)⟩) (fun w => ⟨narrow_b0, h0 (fun q => w (e.mp q))⟩)
  unfold wpX_tie
  dsimp only
  rw [le ha hd, le hb hd, le hc hd]
  exact br_c (fun k => c2 (by omega)) (fun k => br_c (fun l => c2 (by omega)) (fun l => br_c (fun o => c2 (by omega)) (fun o => h1 (wt_d (by omega)))))
theorem xw_within {post : Int32 → Prop} (g : xs_G a_px a_py P) {a b c d : Nat} (ha : a < 16) (hb : b < 16) (hc : c < 16) (hd : d < 16)
    (h1 : wi_P P a b c d → post 1) (h0 : ¬ wi_P P a b c d → post 0) : wpX_within post (f_side, f_last, f_limit, f_segCount, f_top, f_walkQ, f_walkP, f_walkN, a_px, a_py, a_live, a_segA, a_segB, a_left, a_stack) (nI a) (nI b) (nI c) (nI d) := by
  unfold wpX_within
  refine xw_circ g ha hb hc hd (fun r hr => ?_)
  have ez : r = 0 ↔ rh_c (P a) (P b) (P c) (P d) = 0 := by rw [← Int64.toInt_inj, hr]; rfl
  have el : r ≤ 0 ↔ rh_c (P a) (P b) (P c) (P d) ≤ 0 := by rw [Int64.le_iff_toInt_le, hr]; rfl
  refine br_c (fun k => ?_) (fun k => ?_)
  · have z := ez.mp k
    have e : wi_P P a b c d ↔ wi_t P a b c d := ⟨fun q => q.elim (fun q => q.2) (fun q => absurd z q.1), fun q => Or.inl ⟨z, q⟩⟩
    exact xw_tie g ha hb hc hd (fun w => ⟨narrow_b1, h1 (e.mpr w)⟩) (fun w => ⟨narrow_b0, h0 (fun q => w (e.mp q))⟩)
  · have z : rh_c (P a) (P b) (P c) (P d) ≠ 0 := fun q => k (ez.mpr q)
    have e : wi_P P a b c d ↔ (0 < rh_c (P a) (P b) (P c) (P d) ↔ 0 < (ge_o (P a) (P b) (P c))) := ⟨fun q => q.elim (fun q => absurd q.1 z) (fun q => q.2), fun q => Or.inr ⟨z, q⟩⟩
    refine br_c (fun l => ?_) (fun l => ?_)
    · have l' := el.mp l
      unfold wX_within_40
      refine xw_turn g ha hb hc (fun s hs => ?_)
      refine br_c (fun o => ?_) (fun o => ?_)
      · rw [nu_le0 hs] at o
        exact br_t rfl (h1 (e.mpr ⟨fun q => by omega, fun q => by omega⟩))
      · rw [nu_le0 hs] at o
        exact br_f (by decide) (h0 (fun q => by have := (e.mp q).mpr (by omega); omega))
    · have l' : ¬ rh_c (P a) (P b) (P c) (P d) ≤ 0 := fun q => l (el.mpr q)
      unfold wX_within_40
      refine xw_turn g ha hb hc (fun s hs => ?_)
      refine br_c (fun o => ?_) (fun o => ?_)
      · rw [nu_le0 hs] at o
        exact br_f (by decide) (h0 (fun q => by have := (e.mp q).mp (by omega); omega))
      · rw [nu_le0 hs] at o
        exact br_t rfl (h1 (e.mpr ⟨fun q => by omega, fun q => by omega⟩))
end
end
section
/-- nothing blocks the view, as the component asks it -/
def cl_Q (P : Nat → Int × Int) (V : Nat → Prop) (n : Nat) (sA sB : Nat → Nat) (a b : Nat) : Prop :=
  (∀ k, V k → k ≠ a → k ≠ b → ¬ (ge_C (P k) (P a) (P b))) ∧ (∀ i, i < n → ¬ cx_P (P a) (P b) (P (sA i)) (P (sB i)))
def xs_en (n : Nat) : Int32 := if n ≤ 16 then nI n else -1
def xs_M (a_left : Nat → Int32) (L : Nat → Nat → Nat) : Prop := ∀ a b, a < 16 → b < 16 → a_left (a * 16 + b) = xs_en (L a b)
theorem en_lt {n : Nat} : xs_en n < 0 ↔ ¬ n ≤ 16 := by
  unfold xs_en
  by_cases h : n ≤ 16
  · rw [if_pos h]; exact ⟨fun g => absurd g (nI_pos (by omega)), fun g => absurd h g⟩
  · rw [if_neg h]; exact ⟨fun _ => h, fun _ => by decide⟩
theorem en_le {n : Nat} : 0 ≤ xs_en n ↔ n ≤ 16 := by
  rw [← Int32.not_lt, en_lt]; exact Classical.not_not
section
variable {f_side f_last f_limit f_segCount f_top f_walkQ f_walkP f_walkN : Int32} {a_px a_py a_live a_segA a_segB a_left a_stack : Nat → Int32}
variable {P : Nat → Int × Int} {V : Nat → Prop} {sA sB : Nat → Nat} {n : Nat} {L : Nat → Nat → Nat}
theorem xw_num {post : Int32 → Prop} {k : Nat} (h1 : k < 16 → post 1) (h0 : ¬ k < 16 → post 0) : wpX_isNumber post (f_side, f_last, f_limit, f_segCount, f_top, f_walkQ, f_walkP, f_walkN, a_px, a_py, a_live, a_segA, a_segB, a_left, a_stack) (xs_en k) := by
  unfold wpX_isNumber
  refine br_c (fun g => h0 ?_) (fun g => br_c (fun l => h0 ?_) (fun l => h1 ?_))
  · rw [en_lt] at g; omega
  · rw [en_lt] at g
    have g' : k ≤ 16 := by omega
    unfold xs_en at l
    rw [if_pos g'] at l
    intro hk
    exact nu_16 hk l
  · rw [en_lt] at g
    have g' : k ≤ 16 := by omega
    unfold xs_en at l
    rw [if_pos g'] at l
    rcases Nat.lt_or_ge k 16 with w | w
    · exact w
    · have : k = 16 := by omega
      subst this
      exact absurd nu_16' l
theorem xw_live {post : Int32 → Prop} (hV : xs_V a_live V) {x : Int32} (h1 : ∀ k, V k → x = nI k → post 1) (h0 : (∀ k, V k → x ≠ nI k) → post 0) : wpX_isLive post (f_side, f_last, f_limit, f_segCount, f_top, f_walkQ, f_walkP, f_walkN, a_px, a_py, a_live, a_segA, a_segB, a_left, a_stack) x := by
  unfold wpX_isLive
  refine br_c (fun g => h0 (fun k vk e => ?_)) (fun g => br_c (fun l => h0 (fun k vk e => ?_)) (fun l => ?_))
  · rw [e] at g; exact nI_pos (by have := ((hV k).mp vk).1; omega) g
  · rw [e] at l; exact nu_16 ((hV k).mp vk).1 l
  · obtain ⟨j, hj, e⟩ := nu_j g l
    subst e
    refine And.intro (nu_in hj (by decide)) ?_
    rw [nI_clamp (n := j) (by omega)]
    refine br_c (fun o => h0 (fun k vk e => ?_)) (fun o => h1 j ((hV j).mpr ⟨hj, o⟩) rfl)
    have hk := (hV k).mp vk
    have : j = k := (nu_ni (by omega) (by omega)).mp e
    subst this
    exact hk.2 o
theorem xw_pointAt {post : Int32 → Prop} (g : xs_G a_px a_py P) (hV : xs_V a_live V) {x y : Int32}
    (h1 : ∀ k, V k → P k = (x.toInt, y.toInt) → post (nI k)) (h0 : (∀ k, V k → P k ≠ (x.toInt, y.toInt)) → post (-1)) : wpX_pointAt post (f_side, f_last, f_limit, f_segCount, f_top, f_walkQ, f_walkP, f_walkN, a_px, a_py, a_live, a_segA, a_segB, a_left, a_stack) x y := by
  unfold wpX_pointAt
  have hs : ∃ f, (fun f i => wX_pointAt_2 post x y f_side f_last f_limit f_segCount f_top f_walkQ f_walkP f_walkN a_px a_py a_live a_segA a_segB a_left a_stack f (nI i)) f 0 := by
    refine lo_s (W := fun f i => wX_pointAt_2 post x y f_side f_last f_limit f_segCount f_top f_walkQ f_walkP f_walkN a_px a_py a_live a_segA a_segB a_left a_stack f (nI i)) (Q := fun k => V k ∧ P k = (x.toInt, y.toInt)) (N := 16) (A := fun k => post (nI k)) (E := post (-1)) (by omega)
      (fun f e => br_t nu_16' e) (fun f i _ hi hA hW => br_f (nu_16 hi) (And.intro (nu_in hi (by decide)) ?_)) (fun i _ _ q _ => h1 i q.1 q.2) (fun hn => h0 (fun k vk e => hn k (by omega) ((hV k).mp vk).1 ⟨vk, e⟩))
    rw [nI_clamp (n := i) (by omega)]
    have ex : ∀ (q : ¬ (V i ∧ P i = (x.toInt, y.toInt))), ∀ z, z = nI i + 1 → wX_pointAt_2 post x y f_side f_last f_limit f_segCount f_top f_walkQ f_walkP f_walkN a_px a_py a_live a_segA a_segB a_left a_stack f z := fun q => nm_r (nI_1 i) (hW q)
    have hP := (g i hi).1
    refine br_c (fun o => ex (fun q => ((hV i).mp q.1).2 o)) (fun o => And.intro (nu_in hi (by decide)) (br_c (fun o2 => And.intro (nu_in hi (by decide)) (br_c (fun o3 => hA ⟨(hV i).mpr ⟨hi, o⟩, ?_⟩) (fun o3 => ex (fun q => o3 ?_)))) (fun o2 => ex (fun q => o2 ?_))))
    · rw [hP, o2, o3]
    · have := q.2; rw [hP] at this; exact Int32.toInt_inj.mp (congrArg Prod.snd this)
    · have := q.2; rw [hP] at this; exact Int32.toInt_inj.mp (congrArg Prod.fst this)
  exact hs
theorem xw_clear {post : Int32 → Prop} (g : xs_G a_px a_py P) (hV : xs_V a_live V) (hS : xs_S n a_segA a_segB sA sB) {a b : Nat} (ha : a < 16) (hb : b < 16)
    (h1 : cl_Q P V n sA sB a b → post 1) (h0 : ¬ cl_Q P V n sA sB a b → post 0) : wpX_clear post (f_side, f_last, f_limit, nI n, f_top, f_walkQ, f_walkP, f_walkN, a_px, a_py, a_live, a_segA, a_segB, a_left, a_stack) (nI a) (nI b) := by
  have second : (∀ k, V k → k ≠ a → k ≠ b → ¬ (ge_C (P k) (P a) (P b))) → ∃ f, wX_clear_47 post (nI a) (nI b) f_side f_last f_limit (nI n) f_top f_walkQ f_walkP f_walkN a_px a_py a_live a_segA a_segB a_left a_stack f 0 := by
    intro hp
    have hs : ∃ f, (fun f i => wX_clear_47 post (nI a) (nI b) f_side f_last f_limit (nI n) f_top f_walkQ f_walkP f_walkN a_px a_py a_live a_segA a_segB a_left a_stack f (nI i)) f 0 := by
      refine lo_s (W := fun f i => wX_clear_47 post (nI a) (nI b) f_side f_last f_limit (nI n) f_top f_walkQ f_walkP f_walkN a_px a_py a_live a_segA a_segB a_left a_stack f (nI i)) (Q := fun i => cx_P (P a) (P b) (P (sA i)) (P (sB i))) (N := n) (A := fun _ => post 0) (E := post 1) (by omega)
        (fun f e => br_t (nI_le (Nat.le_refl n) (by have := hS.1; omega)) e) (fun f i _ hi hA hW => br_f (nI_ge hi (by have := hS.1; omega)) (And.intro (nu_in (by have := hS.1; omega) (by decide)) (And.intro (nu_in (by have := hS.1; omega) (by decide)) ?_)))
        (fun i _ hi q _ => h0 (fun w => w.2 i hi q)) (fun hn => h1 ⟨hp, fun i hi => hn i (by omega) hi⟩)
      obtain ⟨e1, l1, e2, l2⟩ := hS.2 i hi
      rw [nI_clamp (n := i) (by have := hS.1; omega), e1, e2]
      exact xw_cross g ha hb l1 l2 (fun q => br_f nu_1n (hA q)) (fun q => br_t rfl (nm_r (nI_1 i) (hW q)))
    exact hs
  unfold wpX_clear
  have hs : ∃ f, (fun f i => wX_clear_2 post (nI a) (nI b) f_side f_last f_limit (nI n) f_top f_walkQ f_walkP f_walkN a_px a_py a_live a_segA a_segB a_left a_stack f (nI i)) f 0 := by
    refine lo_s (W := fun f i => wX_clear_2 post (nI a) (nI b) f_side f_last f_limit (nI n) f_top f_walkQ f_walkP f_walkN a_px a_py a_live a_segA a_segB a_left a_stack f (nI i)) (Q := fun k => V k ∧ k ≠ a ∧ k ≠ b ∧ (ge_C (P k) (P a) (P b))) (N := 16) (A := fun _ => post 0)
      (E := ∃ f, wX_clear_47 post (nI a) (nI b) f_side f_last f_limit (nI n) f_top f_walkQ f_walkP f_walkN a_px a_py a_live a_segA a_segB a_left a_stack f 0) (by omega)
      (fun f e => br_t nu_16' e) (fun f i _ hi hA hW => br_f (nu_16 hi) (And.intro (nu_in hi (by decide)) ?_))
      (fun i _ hi q _ => h0 (fun w => w.1 i q.1 q.2.1 q.2.2.1 q.2.2.2)) (fun hn => second (fun k vk n1 n2 c => hn k (by omega) ((hV k).mp vk).1 ⟨vk, n1, n2, c⟩))
    rw [nI_clamp (n := i) (by omega), nu_ni (a := i) (b := a) (by omega) (by omega), nu_ni (a := i) (b := b) (by omega) (by omega)]
    have ex : ∀ (q : ¬ (V i ∧ i ≠ a ∧ i ≠ b ∧ (ge_C (P i) (P a) (P b)))), ∀ z, z = nI i + 1 → wX_clear_2 post (nI a) (nI b) f_side f_last f_limit (nI n) f_top f_walkQ f_walkP f_walkN a_px a_py a_live a_segA a_segB a_left a_stack f z := fun q => nm_r (nI_1 i) (hW q)
    refine br_c (fun o => ex (fun q => ((hV i).mp q.1).2 o)) (fun o => br_c (fun o2 => ex (fun q => q.2.1 o2)) (fun o2 => br_c (fun o3 => ex (fun q => q.2.2.1 o3)) (fun o3 => ?_)))
    exact xw_on g hi ha hb (fun c => br_f nu_1n (hA ⟨(hV i).mpr ⟨hi, o⟩, o2, o3, c⟩)) (fun c => br_t rfl (ex (fun q => c q.2.2.2)))
  exact hs
theorem xw_find {post : Int32 → Prop} (hn : n ≤ 8) {x y : Int32}
    (h1 : ∀ i, i < n → ((a_segA i = x ∧ a_segB i = y) ∨ (a_segA i = y ∧ a_segB i = x)) → post (nI i))
    (h0 : (∀ i, i < n → ¬ ((a_segA i = x ∧ a_segB i = y) ∨ (a_segA i = y ∧ a_segB i = x))) → post (-1)) : wpX_find post (f_side, f_last, f_limit, nI n, f_top, f_walkQ, f_walkP, f_walkN, a_px, a_py, a_live, a_segA, a_segB, a_left, a_stack) x y := by
  unfold wpX_find
  have hs : ∃ f, (fun f i => wX_find_2 post x y f_side f_last f_limit (nI n) f_top f_walkQ f_walkP f_walkN a_px a_py a_live a_segA a_segB a_left a_stack f (nI i)) f 0 := by
    refine lo_s (W := fun f i => wX_find_2 post x y f_side f_last f_limit (nI n) f_top f_walkQ f_walkP f_walkN a_px a_py a_live a_segA a_segB a_left a_stack f (nI i)) (Q := fun i => (a_segA i = x ∧ a_segB i = y) ∨ (a_segA i = y ∧ a_segB i = x)) (N := n) (A := fun i => post (nI i)) (E := post (-1)) (by omega)
      (fun f e => br_t (nI_le (Nat.le_refl n) (by omega)) e) (fun f i _ hi hA hW => br_f (nI_ge hi (by omega)) (And.intro (nu_in (by omega) (by decide)) ?_))
      (fun i _ hi q _ => h1 i hi q) (fun hn => h0 (fun i hi => hn i (by omega) hi))
    have vi : vp_in (nI i) 8 := nu_in (by omega) (by decide)
    have second : ¬ (a_segA i = x ∧ a_segB i = y) → wX_find_30 post (wX_find_2 post x y f_side f_last f_limit (nI n) f_top f_walkQ f_walkP f_walkN a_px a_py a_live a_segA a_segB a_left a_stack f) x y (nI i) f_side f_last f_limit (nI n) f_top f_walkQ f_walkP f_walkN a_px a_py a_live a_segA a_segB a_left a_stack := by
      intro hn1
      unfold wX_find_30
      rw [nI_clamp (n := i) (by omega)]
      exact And.intro vi (br_c (fun o => And.intro vi (br_c (fun o2 => hA (Or.inr ⟨o, o2⟩)) (fun o2 => nm_r (nI_1 i) (hW (fun q => q.elim hn1 (fun q => o2 q.2)))))) (fun o => nm_r (nI_1 i) (hW (fun q => q.elim hn1 (fun q => o q.1)))))
    rw [nI_clamp (n := i) (by omega)]
    exact br_c (fun o => And.intro vi (br_c (fun o2 => hA (Or.inl ⟨o, o2⟩)) (fun o2 => second (fun q => o2 q.2)))) (fun o => second (fun q => o q.1))
  exact hs
theorem xw_isEnd {post : Int32 → Prop} (hS : xs_S n a_segA a_segB sA sB) {k : Nat} (hk : k < 16)
    (h1 : (∃ i, i < n ∧ (sA i = k ∨ sB i = k)) → post 1) (h0 : (∀ i, i < n → sA i ≠ k ∧ sB i ≠ k) → post 0) : wpX_isEnd post (f_side, f_last, f_limit, nI n, f_top, f_walkQ, f_walkP, f_walkN, a_px, a_py, a_live, a_segA, a_segB, a_left, a_stack) (nI k) := by
  unfold wpX_isEnd
  have hn := hS.1
  have hs : ∃ f, (fun f i => wX_isEnd_2 post (nI k) f_side f_last f_limit (nI n) f_top f_walkQ f_walkP f_walkN a_px a_py a_live a_segA a_segB a_left a_stack f (nI i)) f 0 := by
    refine lo_s (W := fun f i => wX_isEnd_2 post (nI k) f_side f_last f_limit (nI n) f_top f_walkQ f_walkP f_walkN a_px a_py a_live a_segA a_segB a_left a_stack f (nI i)) (Q := fun i => sA i = k ∨ sB i = k) (N := n) (A := fun i => post 1) (E := post 0) (by omega)
      (fun f e => br_t (nI_le (Nat.le_refl n) (by omega)) e) (fun f i _ hi hA hW => br_f (nI_ge hi (by omega)) (And.intro (nu_in (by omega) (by decide)) ?_))
      (fun i _ hi q _ => h1 ⟨i, hi, q⟩) (fun hn => h0 (fun i hi => ⟨fun q => hn i (by omega) hi (Or.inl q), fun q => hn i (by omega) hi (Or.inr q)⟩))
    have vi : vp_in (nI i) 8 := nu_in (by omega) (by decide)
    obtain ⟨e1, l1, e2, l2⟩ := hS.2 i hi
    rw [nI_clamp (n := i) (by omega), e1, e2, nu_ni (a := sA i) (b := k) (by omega) (by omega), nu_ni (a := sB i) (b := k) (by omega) (by omega)]
    exact br_c (fun o => hA (Or.inl o)) (fun o => And.intro vi (br_c (fun o2 => hA (Or.inr o2)) (fun o2 => nm_r (nI_1 i) (hW (fun q => q.elim o o2)))))
  exact hs
theorem xw_isJunction {post : Int32 → Prop} (g : xs_G a_px a_py P) (hS : xs_S n a_segA a_segB sA sB) {k : Nat} (hk : k < 16)
    (h1 : ∀ i j, i < n → j < n → (ge_C (P k) (P (sA i)) (P (sB i))) → (ge_C (P k) (P (sA j)) (P (sB j))) → ((ge_o (P (sA i)) (P (sB i)) (P (sA j))) ≠ 0 ∨ (ge_o (P (sA i)) (P (sB i)) (P (sB j))) ≠ 0) → post 1)
    (h0 : (∀ f j, f < n → j < n → (ge_C (P k) (P (sA f)) (P (sB f))) → (∀ i, i < f → ¬ (ge_C (P k) (P (sA i)) (P (sB i)))) → (ge_C (P k) (P (sA j)) (P (sB j))) → (ge_o (P (sA f)) (P (sB f)) (P (sA j))) = 0 ∧ (ge_o (P (sA f)) (P (sB f)) (P (sB j))) = 0) → post 0) :
    wpX_isJunction post (f_side, f_last, f_limit, nI n, f_top, f_walkQ, f_walkP, f_walkN, a_px, a_py, a_live, a_segA, a_segB, a_left, a_stack) (nI k) := by
  unfold wpX_isJunction
  have hn := hS.1
  have hs : ∃ f, (fun f i (s : Int32) => wX_isJunction_4 post (nI k) f_side f_last f_limit (nI n) f_top f_walkQ f_walkP f_walkN a_px a_py a_live a_segA a_segB a_left a_stack f s (nI i)) f 0 (-1) := by
    refine lo_i (W := fun f i (s : Int32) => wX_isJunction_4 post (nI k) f_side f_last f_limit (nI n) f_top f_walkQ f_walkP f_walkN a_px a_py a_live a_segA a_segB a_left a_stack f s (nI i))
      (I := fun i s => (s = -1 ∧ ∀ j, j < i → ¬ (ge_C (P k) (P (sA j)) (P (sB j)))) ∨ (∃ p, s = nI p ∧ p < i ∧ (ge_C (P k) (P (sA p)) (P (sB p))) ∧ (∀ j, j < p → ¬ (ge_C (P k) (P (sA j)) (P (sB j)))) ∧ ∀ j, j < i → (ge_C (P k) (P (sA j)) (P (sB j))) → (ge_o (P (sA p)) (P (sB p)) (P (sA j))) = 0 ∧ (ge_o (P (sA p)) (P (sB p)) (P (sB j))) = 0)) (N := n)
      (Or.inl ⟨rfl, fun j hj => by omega⟩) (fun f s I => br_t (nI_le (Nat.le_refl n) (by omega)) (h0 ?_)) (fun f i s hi I hW => br_f (nI_ge hi (by omega)) (And.intro (nu_in (by omega) (by decide)) (And.intro (nu_in (by omega) (by decide)) ?_)))
    · intro p j hp hj cp hm cj
      rcases I with ⟨_, hno⟩ | ⟨p', _, hp', cp', hm', hz⟩
      · exact absurd cp (hno p hp)
      · have : p = p' := by
          rcases Nat.lt_trichotomy p p' with w | w | w
          · exact absurd cp (hm' p w)
          · exact w
          · exact absurd cp' (hm p' w)
        subst this
        exact hz j hj cj
    · obtain ⟨e1, l1, e2, l2⟩ := hS.2 i hi
      have vi : vp_in (nI i) 8 := nu_in (by omega) (by decide)
      rw [nI_clamp (n := i) (by omega), e1, e2]
      refine xw_on g hk l1 l2 (fun c => br_f nu_1n ?_) (fun c => br_t rfl (nm_r (nI_1 i) (hW s ?_)))
      · rcases I with ⟨rfl, hno⟩ | ⟨p, rfl, hp, cp, hm, hz⟩
        · refine br_f (by decide) (nm_r (nI_1 i) (hW _ (Or.inr ⟨i, rfl, by omega, c, hno, ?_⟩)))
          intro j hj cj
          have : j = i := by
            rcases Nat.lt_or_ge j i with w | w
            · exact absurd cj (hno j w)
            · omega
          subst this
          exact ⟨ge_psp _ _, ge_spp _ _⟩
        · obtain ⟨q1, m1, q2, m2⟩ := hS.2 p (by omega)
          have vp : vp_in (nI p) 8 := nu_in (by omega) (by decide)
          refine br_t (nI_pos' (by omega)) (And.intro vp (And.intro vp (And.intro vi ?_)))
          rw [nI_clamp (n := p) (by omega), q1, q2]
          refine xw_turn g m1 m2 l1 (fun r hr => br_c (fun z => And.intro vp (And.intro vp (And.intro vi (xw_turn g m1 m2 l2 (fun r' hr' => br_c (fun z' => nm_r (nI_1 i) (hW _ (Or.inr ⟨p, rfl, by omega, cp, hm, ?_⟩))) (fun z' => h1 p i (by omega) hi cp c (Or.inr (fun w => z' ((nu_eq0 hr').mpr w)))))))))
            (fun z => h1 p i (by omega) hi cp c (Or.inl (fun w => z ((nu_eq0 hr).mpr w)))))
          intro j hj cj
          rcases Nat.lt_or_ge j i with w | w
          · exact hz j w cj
          · have : j = i := by omega
            subst this
            exact ⟨(nu_eq0 hr).mp z, (nu_eq0 hr').mp z'⟩
      · rcases I with ⟨rfl, hno⟩ | ⟨p, rfl, hp, cp, hm, hz⟩
        · refine Or.inl ⟨rfl, fun j hj => ?_⟩
          rcases Nat.lt_or_ge j i with w | w
          · exact hno j w
          · have : j = i := by omega
            subst this; exact c
        · refine Or.inr ⟨p, rfl, by omega, cp, hm, fun j hj cj => ?_⟩
          rcases Nat.lt_or_ge j i with w | w
          · exact hz j w cj
          · have : j = i := by omega
            subst this; exact absurd cj c
  exact hs
theorem xw_meet {post : Int32 → Prop} (g : xs_G a_px a_py P) (hV : xs_V a_live V) (hS : xs_S n a_segA a_segB sA sB) {a b i : Nat} (ha : a < 16) (hb : b < 16) (hi : i < n)
    (h1 : (∃ k, V k ∧ (ge_C (P k) (P a) (P b)) ∧ (ge_C (P k) (P (sA i)) (P (sB i)))) → post 1) (h0 : (¬ ∃ k, V k ∧ (ge_C (P k) (P a) (P b)) ∧ (ge_C (P k) (P (sA i)) (P (sB i)))) → post 0) : wpX_meet post (f_side, f_last, f_limit, nI n, f_top, f_walkQ, f_walkP, f_walkN, a_px, a_py, a_live, a_segA, a_segB, a_left, a_stack) (nI a) (nI b) (nI i) := by
  unfold wpX_meet
  have hn := hS.1
  obtain ⟨e1, l1, e2, l2⟩ := hS.2 i hi
  have vi : vp_in (nI i) 8 := nu_in (by omega) (by decide)
  have hs : ∃ f, (fun f k => wX_meet_3 post (nI a) (nI b) (nI i) f_side f_last f_limit (nI n) f_top f_walkQ f_walkP f_walkN a_px a_py a_live a_segA a_segB a_left a_stack f (nI k)) f 0 := by
    refine lo_s (W := fun f k => wX_meet_3 post (nI a) (nI b) (nI i) f_side f_last f_limit (nI n) f_top f_walkQ f_walkP f_walkN a_px a_py a_live a_segA a_segB a_left a_stack f (nI k)) (Q := fun k => V k ∧ (ge_C (P k) (P a) (P b)) ∧ (ge_C (P k) (P (sA i)) (P (sB i)))) (N := 16) (A := fun _ => post 1) (E := post 0) (by omega)
      (fun f e => br_t nu_16' e) (fun f k _ hk hA hW => br_f (nu_16 hk) (And.intro (nu_in hk (by decide)) ?_))
      (fun k _ hk q _ => h1 ⟨k, q⟩) (fun hn => h0 (fun ⟨k, q⟩ => hn k (by omega) ((hV k).mp q.1).1 q))
    rw [nI_clamp (n := k) (by omega), nI_clamp (n := i) (by omega), e1, e2]
    have ex : ∀ (q : ¬ (V k ∧ (ge_C (P k) (P a) (P b)) ∧ (ge_C (P k) (P (sA i)) (P (sB i))))), ∀ z, z = nI k + 1 → wX_meet_3 post (nI a) (nI b) (nI i) f_side f_last f_limit (nI n) f_top f_walkQ f_walkP f_walkN a_px a_py a_live a_segA a_segB a_left a_stack f z := fun q => nm_r (nI_1 k) (hW q)
    refine br_c (fun o => ex (fun q => ((hV k).mp q.1).2 o)) (fun o => ?_)
    refine xw_on g hk ha hb (fun c => br_f nu_1n (And.intro vi (And.intro vi ?_))) (fun c => br_t rfl (ex (fun q => c q.2.1)))
    exact xw_on g hk l1 l2 (fun c' => br_f nu_1n (hA ⟨(hV k).mpr ⟨hk, o⟩, c, c'⟩)) (fun c' => br_t rfl (ex (fun q => c' q.2.2)))
  exact hs
theorem xw_collides {post : Int32 → Prop} (g : xs_G a_px a_py P) (hV : xs_V a_live V) (hS : xs_S n a_segA a_segB sA sB) {a b : Nat} (ha : a < 16) (hb : b < 16)
    (h1 : (∃ i, i < n ∧ cx_P (P a) (P b) (P (sA i)) (P (sB i)) ∧ ¬ ∃ k, V k ∧ (ge_C (P k) (P a) (P b)) ∧ (ge_C (P k) (P (sA i)) (P (sB i)))) → post 1)
    (h0 : (∀ i, i < n → cx_P (P a) (P b) (P (sA i)) (P (sB i)) → ∃ k, V k ∧ (ge_C (P k) (P a) (P b)) ∧ (ge_C (P k) (P (sA i)) (P (sB i)))) → post 0) : wpX_collides post (f_side, f_last, f_limit, nI n, f_top, f_walkQ, f_walkP, f_walkN, a_px, a_py, a_live, a_segA, a_segB, a_left, a_stack) (nI a) (nI b) := by
  unfold wpX_collides
  have hn := hS.1
  have hs : ∃ f, (fun f i => wX_collides_2 post (nI a) (nI b) f_side f_last f_limit (nI n) f_top f_walkQ f_walkP f_walkN a_px a_py a_live a_segA a_segB a_left a_stack f (nI i)) f 0 := by
    refine lo_s (W := fun f i => wX_collides_2 post (nI a) (nI b) f_side f_last f_limit (nI n) f_top f_walkQ f_walkP f_walkN a_px a_py a_live a_segA a_segB a_left a_stack f (nI i)) (Q := fun i => cx_P (P a) (P b) (P (sA i)) (P (sB i)) ∧ ¬ ∃ k, V k ∧ (ge_C (P k) (P a) (P b)) ∧ (ge_C (P k) (P (sA i)) (P (sB i)))) (N := n) (A := fun _ => post 1) (E := post 0) (by omega)
      (fun f e => br_t (nI_le (Nat.le_refl n) (by omega)) e) (fun f i _ hi hA hW => br_f (nI_ge hi (by omega)) (And.intro (nu_in (by omega) (by decide)) (And.intro (nu_in (by omega) (by decide)) ?_)))
      (fun i _ hi q _ => h1 ⟨i, hi, q⟩) (fun hn => h0 (fun i hi c => Classical.byContradiction fun w => hn i (by omega) hi ⟨c, w⟩))
    obtain ⟨e1, l1, e2, l2⟩ := hS.2 i hi
    rw [nI_clamp (n := i) (by omega), e1, e2]
    refine xw_cross g ha hb l1 l2 (fun c => br_f nu_1n ?_) (fun c => br_t rfl (nm_r (nI_1 i) (hW (fun q => c q.1))))
    exact xw_meet g hV hS ha hb hi (fun w => br_f nu_1n (nm_r (nI_1 i) (hW (fun q => q.2 w)))) (fun w => br_t rfl (hA ⟨c, w⟩))
  exact hs
theorem xw_covering {post : Int32 → Prop} (g : xs_G a_px a_py P) (hS : xs_S n a_segA a_segB sA sB) {a b : Nat} (ha : a < 16) (hb : b < 16)
    (h : post (nI (ct_n (fun i => (ge_C (P a) (P (sA i)) (P (sB i))) ∧ (ge_C (P b) (P (sA i)) (P (sB i)))) n))) : wpX_covering post (f_side, f_last, f_limit, nI n, f_top, f_walkQ, f_walkP, f_walkN, a_px, a_py, a_live, a_segA, a_segB, a_left, a_stack) (nI a) (nI b) := by
  unfold wpX_covering
  have hn := hS.1
  have hs : ∃ f, (fun f c i => wX_covering_5 post (nI a) (nI b) f_side f_last f_limit (nI n) f_top f_walkQ f_walkP f_walkN a_px a_py a_live a_segA a_segB a_left a_stack f (nI c) (nI i)) f 0 0 := by
    refine lo_c (W := fun f c i => wX_covering_5 post (nI a) (nI b) f_side f_last f_limit (nI n) f_top f_walkQ f_walkP f_walkN a_px a_py a_live a_segA a_segB a_left a_stack f (nI c) (nI i)) (Q := fun i => (ge_C (P a) (P (sA i)) (P (sB i))) ∧ (ge_C (P b) (P (sA i)) (P (sB i)))) (N := n) (E := fun c => post (nI c))
      (fun f c e => br_t (nI_le (Nat.le_refl n) (by omega)) e) (fun f c i hi _ hQ hW => br_f (nI_ge hi (by omega)) (And.intro (nu_in (by omega) (by decide)) (And.intro (nu_in (by omega) (by decide)) ?_))) h
    obtain ⟨e1, l1, e2, l2⟩ := hS.2 i hi
    have vi : vp_in (nI i) 8 := nu_in (by omega) (by decide)
    rw [nI_clamp (n := i) (by omega), e1, e2]
    refine xw_on g ha l1 l2 (fun k => br_f nu_1n (And.intro vi (And.intro vi ?_))) (fun k => br_t rfl (nm_r (nI_1 i) (hW (fun q => k q.1))))
    exact xw_on g hb l1 l2 (fun k' => br_f nu_1n (nm_r (nI_1 c) (nm_r (nI_1 i) (hQ ⟨k, k'⟩)))) (fun k' => br_t rfl (nm_r (nI_1 i) (hW (fun q => k' q.2))))
  exact hs
/-- the best apex, where there is a best one -/
theorem xw_best {post : Int32 → Prop} (g : xs_G a_px a_py P) (hV : xs_V a_live V) (hS : xs_S n a_segA a_segB sA sB) {a b t : Nat} (ha : a < 16) (hb : b < 16)
    (vt : V t) (ot : 0 < (ge_o (P a) (P b) (P t))) (c1 : cl_Q P V n sA sB a t) (c2 : cl_Q P V n sA sB b t)
    (hbest : ∀ c, V c → 0 < (ge_o (P a) (P b) (P c)) → cl_Q P V n sA sB a c → cl_Q P V n sA sB b c → c ≠ t → ¬ wi_P P a b t c ∧ wi_P P a b c t)
    (h : post (nI t)) : wpX_bestApex post (f_side, f_last, f_limit, nI n, f_top, f_walkQ, f_walkP, f_walkN, a_px, a_py, a_live, a_segA, a_segB, a_left, a_stack) (nI a) (nI b) := by
  unfold wpX_bestApex
  have t16 := ((hV t).mp vt).1
  have hs : ∃ f, (fun f i (s : Int32) => wX_bestApex_5 post (nI a) (nI b) f_side f_last f_limit (nI n) f_top f_walkQ f_walkP f_walkN a_px a_py a_live a_segA a_segB a_left a_stack f s (nI i)) f 0 (-1) := by
    refine lo_i (W := fun f i (s : Int32) => wX_bestApex_5 post (nI a) (nI b) f_side f_last f_limit (nI n) f_top f_walkQ f_walkP f_walkN a_px a_py a_live a_segA a_segB a_left a_stack f s (nI i))
      (I := fun i s => (t < i → s = nI t) ∧ (i ≤ t → s = -1 ∨ ∃ p, s = nI p ∧ p < i ∧ (V p ∧ 0 < (ge_o (P a) (P b) (P p)) ∧ cl_Q P V n sA sB a p ∧ cl_Q P V n sA sB b p))) (N := 16)
      ⟨fun w => by omega, fun _ => Or.inl rfl⟩ (fun f s I => br_t nu_16' (by rw [I.1 t16]; exact h)) (fun f i s hi I hW => br_f (nu_16 hi) (And.intro (nu_in hi (by decide)) ?_))
    rw [nI_clamp (n := i) (by omega)]
    -- a candidate that is none: the state stays
    have skip : ¬ (V i ∧ 0 < (ge_o (P a) (P b) (P i)) ∧ cl_Q P V n sA sB a i ∧ cl_Q P V n sA sB b i) → ∀ z, z = nI i + 1 → wX_bestApex_5 post (nI a) (nI b) f_side f_last f_limit (nI n) f_top f_walkQ f_walkP f_walkN a_px a_py a_live a_segA a_segB a_left a_stack f s z := by
      intro hn
      refine nm_r (nI_1 i) (hW s ⟨fun w => ?_, fun w => ?_⟩)
      · have : i ≠ t := fun q => hn (by rw [q]; exact ⟨vt, ot, c1, c2⟩)
        exact I.1 (by omega)
      · rcases I.2 (by omega) with q | ⟨p, q, hp, r⟩
        · exact Or.inl q
        · exact Or.inr ⟨p, q, by omega, r⟩
    refine br_c (fun o => skip (fun q => ((hV i).mp q.1).2 o)) (fun o => ?_)
    have vi : V i := (hV i).mpr ⟨hi, o⟩
    refine xw_turn g ha hb hi (fun r hr => br_c (fun k => skip (fun q => ?_)) (fun k => ?_))
    · rw [nu_le0 hr] at k; have := q.2.1; omega
    · rw [nu_le0 hr] at k
      refine xw_clear g hV hS ha hi (fun k1 => br_f nu_1n ?_) (fun k1 => br_t rfl (skip (fun q => k1 q.2.2.1)))
      refine xw_clear g hV hS hb hi (fun k2 => br_f nu_1n ?_) (fun k2 => br_t rfl (skip (fun q => k2 q.2.2.2)))
      have cand : V i ∧ 0 < (ge_o (P a) (P b) (P i)) ∧ cl_Q P V n sA sB a i ∧ cl_Q P V n sA sB b i := ⟨vi, by omega, k1, k2⟩
      rcases Nat.lt_trichotomy i t with w | w | w
      · -- before t
        have keep : ∀ z, z = nI i + 1 → wX_bestApex_5 post (nI a) (nI b) f_side f_last f_limit (nI n) f_top f_walkQ f_walkP f_walkN a_px a_py a_live a_segA a_segB a_left a_stack f (nI i) z :=
          nm_r (nI_1 i) (hW _ ⟨fun q => by omega, fun _ => Or.inr ⟨i, rfl, by omega, cand⟩⟩)
        rcases I.2 (by omega) with q | ⟨p, q, hp, r⟩
        · rw [q]; exact br_t (by decide) keep
        · subst q
          have stay : ∀ z, z = nI i + 1 → wX_bestApex_5 post (nI a) (nI b) f_side f_last f_limit (nI n) f_top f_walkQ f_walkP f_walkN a_px a_py a_live a_segA a_segB a_left a_stack f (nI p) z :=
            nm_r (nI_1 i) (hW _ ⟨fun q => by omega, fun _ => Or.inr ⟨p, rfl, by omega, r⟩⟩)
          exact br_f (nI_pos (by omega)) (xw_within g ha hb (by omega) hi (fun _ => br_f nu_1n keep) (fun _ => br_t rfl stay))
      · subst w
        have keep : ∀ z, z = nI i + 1 → wX_bestApex_5 post (nI a) (nI b) f_side f_last f_limit (nI n) f_top f_walkQ f_walkP f_walkN a_px a_py a_live a_segA a_segB a_left a_stack f (nI i) z :=
          nm_r (nI_1 i) (hW _ ⟨fun _ => rfl, fun q => by omega⟩)
        rcases I.2 (by omega) with q | ⟨p, q, hp, r⟩
        · rw [q]; exact br_t (by decide) keep
        · subst q
          exact br_f (nI_pos (by omega)) (xw_within g ha hb (by omega) hi (fun _ => br_f nu_1n keep) (fun q => absurd (hbest p r.1 r.2.1 r.2.2.1 r.2.2.2 (by omega)).2 q))
      · have e := I.1 w
        subst e
        have stay : ∀ z, z = nI i + 1 → wX_bestApex_5 post (nI a) (nI b) f_side f_last f_limit (nI n) f_top f_walkQ f_walkP f_walkN a_px a_py a_live a_segA a_segB a_left a_stack f (nI t) z :=
          nm_r (nI_1 i) (hW _ ⟨fun _ => rfl, fun q => by omega⟩)
        exact br_f (nI_pos (by omega)) (xw_within g ha hb t16 hi (fun q => absurd q (hbest i vi (by omega) k1 k2 (by omega)).1) (fun _ => br_t rfl stay))
  exact hs
theorem xw_edge {post : Int32 → Prop} (hV : xs_V a_live V) (hM : xs_M a_left L) (hT : ∀ a b, L a b ≤ 16 → V a ∧ V b ∧ a ≠ b) {x y : Int32}
    (h1 : ∀ a b, x = nI a → y = nI b → a < 16 → b < 16 → L a b ≤ 16 → post 1) (h0 : (∀ a b, x = nI a → y = nI b → ¬ L a b ≤ 16) → post 0) : wpX_edge post (f_side, f_last, f_limit, f_segCount, f_top, f_walkQ, f_walkP, f_walkN, a_px, a_py, a_live, a_segA, a_segB, a_left, a_stack) x y := by
  unfold wpX_edge
  refine xw_live hV (fun a va ea => br_f nu_1n ?_) (fun q => br_t rfl (h0 (fun a b ea eb l => q a (hT a b l).1 ea)))
  refine xw_live hV (fun b vb eb => br_f nu_1n ?_) (fun q => br_t rfl (h0 (fun a b ea eb l => q b (hT a b l).2.1 eb)))
  subst ea eb
  have a16 := ((hV a).mp va).1
  have b16 := ((hV b).mp vb).1
  have inj : ∀ c, nI a = nI c → V c → a = c := fun c e vc => (nu_ni (by omega) (by have := ((hV c).mp vc).1; omega)).mp e
  have inj' : ∀ c, nI b = nI c → V c → b = c := fun c e vc => (nu_ni (by omega) (by have := ((hV c).mp vc).1; omega)).mp e
  refine br_c (fun q => h0 (fun c d ec ed l => ?_)) (fun q => ?_)
  · obtain ⟨vc, vd, ne⟩ := hT c d l
    have e1 := inj c ec vc
    have e2 := inj' d ed vd
    subst e1 e2
    exact ne ((nu_ni (by omega) (by omega)).mp q)
  · rw [nu_ix, nI_clamp (n := a * 16 + b) (by omega), hM a b a16 b16, en_lt]
    refine And.intro (nu_in (by omega) (by decide)) (br_c (fun k => h0 (fun c d ec ed l => ?_)) (fun k => h1 a b rfl rfl a16 b16 (by omega)))
    obtain ⟨vc, vd, ne⟩ := hT c d l
    have e1 := inj c ec vc
    have e2 := inj' d ed vd
    subst e1 e2
    exact k l
end
end
section
/-! what the reference's reading methods answer -/
def ys_S (a_used a_sa a_sb : Nat → Int32) (tA tB : Nat → Nat) : Prop := ∀ j, j < 8 → a_used j ≠ 0 → a_sa j = nI (tA j) ∧ tA j < 16 ∧ a_sb j = nI (tB j) ∧ tB j < 16
/-- the list holds the used slots' segments -/
def ys_L (a_used : Nat → Int32) (tA tB : Nat → Nat) (S : List (Nat × Nat)) : Prop := ∀ s, s ∈ S ↔ ∃ j, j < 8 ∧ a_used j ≠ 0 ∧ s = (tA j, tB j)
/-- the centre form of the circle rule in longs -/
theorem nu_gap {t bx by_ cx cy dx dy : Int64} {t' bx' by' cx' cy' dx' dy' : Int} (e0 : t.toInt = t') (e1 : bx.toInt = bx') (e2 : by_.toInt = by') (e3 : cx.toInt = cx') (e4 : cy.toInt = cy') (e5 : dx.toInt = dx') (e6 : dy.toInt = dy')
    (b0 : -20000 ≤ t' ∧ t' ≤ 20000) (b1 : -100 ≤ bx' ∧ bx' ≤ 100) (b2 : -100 ≤ by' ∧ by' ≤ 100) (b3 : -100 ≤ cx' ∧ cx' ≤ 100) (b4 : -100 ≤ cy' ∧ cy' ≤ 100) (b5 : -100 ≤ dx' ∧ dx' ≤ 100) (b6 : -100 ≤ dy' ∧ dy' ≤ 100) :
    (t * ((t * ((dx * dx) + (dy * dy))) - ((dx * ((cy * ((bx * bx) + (by_ * by_))) - (by_ * ((cx * cx) + (cy * cy))))) + (dy * ((bx * ((cx * cx) + (cy * cy))) - (cx * ((bx * bx) + (by_ * by_)))))))).toInt =
    t' * ((t' * (dx' * dx' + dy' * dy')) - (dx' * (cy' * (bx' * bx' + by' * by') - by' * (cx' * cx' + cy' * cy')) + dy' * (bx' * (cx' * cx' + cy' * cy') - cx' * (bx' * bx' + by' * by')))) := by
  have m : ∀ {x y : Int64} {u v A B : Int}, 0 ≤ A → 0 ≤ B → A * B ≤ 1000000000000000 → x.toInt = u ∧ -A ≤ u ∧ u ≤ A → y.toInt = v ∧ -B ≤ v ∧ v ≤ B → (x * y).toInt = u * v ∧ -(A * B) ≤ u * v ∧ u * v ≤ A * B := by
    intro x y u v A B a0 b0 hb h1 h2
    have := nu_b h1.2.1 h1.2.2 h2.2.1 h2.2.2
    refine ⟨?_, this⟩
    rw [nu_mulL, h1.1, h2.1] <;> rw [h1.1, h2.1] <;> omega
  have pl : ∀ {x y : Int64} {u v A B : Int}, A + B ≤ 1000000000000000 → x.toInt = u ∧ -A ≤ u ∧ u ≤ A → y.toInt = v ∧ -B ≤ v ∧ v ≤ B → (x + y).toInt = u + v ∧ -(A + B) ≤ u + v ∧ u + v ≤ A + B := by
    intro x y u v A B hb h1 h2
    refine ⟨?_, by omega, by omega⟩
    rw [nu_addL, h1.1, h2.1] <;> rw [h1.1, h2.1] <;> omega
  have mi : ∀ {x y : Int64} {u v A B : Int}, A + B ≤ 1000000000000000 → x.toInt = u ∧ -A ≤ u ∧ u ≤ A → y.toInt = v ∧ -B ≤ v ∧ v ≤ B → (x - y).toInt = u - v ∧ -(A + B) ≤ u - v ∧ u - v ≤ A + B := by
    intro x y u v A B hb h1 h2
    refine ⟨?_, by omega, by omega⟩
    rw [nu_subL, h1.1, h2.1] <;> rw [h1.1, h2.1] <;> omega
  have T : t.toInt = t' ∧ -20000 ≤ t' ∧ t' ≤ 20000 := ⟨e0, b0⟩
  have BX : bx.toInt = bx' ∧ -100 ≤ bx' ∧ bx' ≤ 100 := ⟨e1, b1⟩
  have BY : by_.toInt = by' ∧ -100 ≤ by' ∧ by' ≤ 100 := ⟨e2, b2⟩
  have CX : cx.toInt = cx' ∧ -100 ≤ cx' ∧ cx' ≤ 100 := ⟨e3, b3⟩
  have CY : cy.toInt = cy' ∧ -100 ≤ cy' ∧ cy' ≤ 100 := ⟨e4, b4⟩
  have DX : dx.toInt = dx' ∧ -100 ≤ dx' ∧ dx' ≤ 100 := ⟨e5, b5⟩
  have DY : dy.toInt = dy' ∧ -100 ≤ dy' ∧ dy' ≤ 100 := ⟨e6, b6⟩
  have BB := pl (by decide) (m (by decide) (by decide) (by decide) BX BX) (m (by decide) (by decide) (by decide) BY BY)
  have CC := pl (by decide) (m (by decide) (by decide) (by decide) CX CX) (m (by decide) (by decide) (by decide) CY CY)
  have DD := pl (by decide) (m (by decide) (by decide) (by decide) DX DX) (m (by decide) (by decide) (by decide) DY DY)
  have UX := mi (by decide) (m (by decide) (by decide) (by decide) CY BB) (m (by decide) (by decide) (by decide) BY CC)
  have UY := mi (by decide) (m (by decide) (by decide) (by decide) BX CC) (m (by decide) (by decide) (by decide) CX BB)
  have DU := pl (by decide) (m (by decide) (by decide) (by decide) DX UX) (m (by decide) (by decide) (by decide) DY UY)
  have TD := m (by decide) (by decide) (by decide) T DD
  exact (m (by decide) (by decide) (by decide) T (mi (by decide) TD DU)).1
theorem rh_gap (a b c d : Int × Int) : ge_o a b c * ((ge_o a b c * ((d.1 - a.1) * (d.1 - a.1) + (d.2 - a.2) * (d.2 - a.2))) -
    ((d.1 - a.1) * ((c.2 - a.2) * ((b.1 - a.1) * (b.1 - a.1) + (b.2 - a.2) * (b.2 - a.2)) - (b.2 - a.2) * ((c.1 - a.1) * (c.1 - a.1) + (c.2 - a.2) * (c.2 - a.2))) +
     (d.2 - a.2) * ((b.1 - a.1) * ((c.1 - a.1) * (c.1 - a.1) + (c.2 - a.2) * (c.2 - a.2)) - (c.1 - a.1) * ((b.1 - a.1) * (b.1 - a.1) + (b.2 - a.2) * (b.2 - a.2))))) = - (ge_o a b c * rh_c a b c d) := by
  unfold ge_o rh_c; grind
section
variable {f_side f_last f_limit : Int32} {a_live a_px a_py a_used a_sa a_sb : Nat → Int32}
variable {P : Nat → Int × Int} {V : Nat → Prop} {tA tB : Nat → Nat} {S : List (Nat × Nat)}
theorem yw_at {post : Int32 → Prop} (g : xs_G a_px a_py P) {a b : Nat} (ha : a < 16) (hb : b < 16) {x y : Int32} (hxy : rb_b (x.toInt, y.toInt))
    (h : ∀ r : Int32, r.toInt = ge_o (P a) (P b) (x.toInt, y.toInt) → post r) : wpY_at post (f_side, f_last, f_limit, a_live, a_px, a_py, a_used, a_sa, a_sb) (nI a) (nI b) x y := by
  have va : vp_in (nI a) 16 := nu_in ha (by decide)
  have vb : vp_in (nI b) 16 := nu_in hb (by decide)
  refine And.intro vb (And.intro va (And.intro va (And.intro vb (And.intro va (And.intro va (h _ ?_))))))
  rw [nI_clamp (n := a) (by omega), nI_clamp (n := b) (by omega), (g a ha).1, (g b hb).1]
  refine nu_lean ?_ ?_ hxy
  · rw [← (g a ha).1]; exact (g a ha).2
  · rw [← (g b hb).1]; exact (g b hb).2
theorem yw_dot {post : Int32 → Prop} (g : xs_G a_px a_py P) {a b : Nat} (ha : a < 16) (hb : b < 16) {x y : Int32} (hxy : rb_b (x.toInt, y.toInt))
    (h : ∀ r : Int32, r.toInt = ge_d (P a) (P b) (x.toInt, y.toInt) → post r) : wpY_dot post (f_side, f_last, f_limit, a_live, a_px, a_py, a_used, a_sa, a_sb) (nI a) (nI b) x y := by
  have va : vp_in (nI a) 16 := nu_in ha (by decide)
  have vb : vp_in (nI b) 16 := nu_in hb (by decide)
  refine And.intro va (And.intro vb (And.intro va (And.intro vb (h _ ?_))))
  rw [nI_clamp (n := a) (by omega), nI_clamp (n := b) (by omega), (g a ha).1, (g b hb).1]
  refine nu_dot ?_ ?_ hxy
  · rw [← (g a ha).1]; exact (g a ha).2
  · rw [← (g b hb).1]; exact (g b hb).2
theorem yw_turn {post : Int32 → Prop} (g : xs_G a_px a_py P) {a b c : Nat} (ha : a < 16) (hb : b < 16) (hc : c < 16)
    (h : ∀ r : Int32, r.toInt = (ge_o (P a) (P b) (P c)) → post r) : wpY_turn post (f_side, f_last, f_limit, a_live, a_px, a_py, a_used, a_sa, a_sb) (nI a) (nI b) (nI c) := by
  have vc : vp_in (nI c) 16 := nu_in hc (by decide)
  refine And.intro vc (And.intro vc ?_)
  refine yw_at g ha hb ?_ (fun r hr => h r ?_)
  · rw [nI_clamp (n := c) (by omega), ← (g c hc).1]; exact (g c hc).2
  · rw [nI_clamp (n := c) (by omega), ← (g c hc).1] at hr; exact hr
theorem yw_between {post : Int32 → Prop} (g : xs_G a_px a_py P) {a b : Nat} (ha : a < 16) (hb : b < 16) {x y : Int32} (hxy : rb_b (x.toInt, y.toInt))
    (h1 : ge_B (x.toInt, y.toInt) (P a) (P b) → post 1) (h0 : ¬ ge_B (x.toInt, y.toInt) (P a) (P b) → post 0) : wpY_between post (f_side, f_last, f_limit, a_live, a_px, a_py, a_used, a_sa, a_sb) (nI a) (nI b) x y := by
  unfold wpY_between
  refine yw_at g ha hb hxy (fun r hr => br_c (fun z => ?_) (fun z => h0 (fun w => z ((nu_eq0 hr).mpr w.1))))
  refine yw_dot g ha hb hxy (fun s hs => br_c (fun k => h0 (fun w => ?_)) (fun k => h1 ⟨(nu_eq0 hr).mp z, ?_⟩))
  · rw [nu_0le hs] at k; have := w.2; omega
  · rw [nu_0le hs] at k; omega
theorem yw_on {post : Int32 → Prop} (g : xs_G a_px a_py P) {k a b : Nat} (hk : k < 16) (ha : a < 16) (hb : b < 16)
    (h1 : (ge_C (P k) (P a) (P b)) → post 1) (h0 : ¬ (ge_C (P k) (P a) (P b)) → post 0) : wpY_on post (f_side, f_last, f_limit, a_live, a_px, a_py, a_used, a_sa, a_sb) (nI a) (nI b) (nI k) := by
  have vk : vp_in (nI k) 16 := nu_in hk (by decide)
  unfold wpY_on
  refine yw_turn g ha hb hk (fun r hr => br_c (fun z => And.intro vk (And.intro vk ?_)) (fun z => h0 (fun w => z ((nu_eq0 hr).mpr w.1))))
  have hxy : rb_b ((a_px k).toInt, (a_py k).toInt) := by rw [← (g k hk).1]; exact (g k hk).2
  rw [nI_clamp (n := k) (by omega)]
  refine yw_dot g ha hb hxy (fun s hs => ?_)
  rw [← (g k hk).1] at hs
  refine br_c (fun l => h0 (fun w => ?_)) (fun l => h1 ⟨(nu_eq0 hr).mp z, ?_⟩)
  · rw [nu_0lt hs] at l; have := w.2; omega
  · rw [nu_0lt hs] at l; omega
theorem yw_apart {post : Int32 → Prop} (g : xs_G a_px a_py P) {a b c d : Nat} (ha : a < 16) (hb : b < 16) (hc : c < 16) (hd : d < 16)
    (h1 : wi_ap (P a) (P b) (P c) (P d) → post 1) (h0 : ¬ wi_ap (P a) (P b) (P c) (P d) → post 0) : wpY_apart post (f_side, f_last, f_limit, a_live, a_px, a_py, a_used, a_sa, a_sb) (nI a) (nI b) (nI c) (nI d) := by
  unfold wpY_apart
  refine yw_turn g ha hb hc (fun r hr => ?_)
  refine yw_turn g ha hb hd (fun s hs => ?_)
  unfold wi_ap at h1 h0
  have j : (¬ (0 < (ge_o (P a) (P b) (P c)) ∧ (ge_o (P a) (P b) (P d)) < 0)) → wY_apart_29 post r s f_side f_last f_limit a_live a_px a_py a_used a_sa a_sb := by
    intro hn
    unfold wY_apart_29
    refine br_c (fun k => h0 ?_) (fun k => br_c (fun l => h0 ?_) (fun l => h1 ?_))
    · rw [nu_0le hr] at k; omega
    · rw [nu_0le hr] at k; rw [nu_le0 hs] at l; omega
    · rw [nu_0le hr] at k; rw [nu_le0 hs] at l; omega
  refine br_c (fun k => j ?_) (fun k => br_c (fun l => h1 ?_) (fun l => j ?_))
  · rw [nu_le0 hr] at k; omega
  · rw [nu_le0 hr] at k; rw [nu_lt0 hs] at l; omega
  · rw [nu_le0 hr] at k; rw [nu_lt0 hs] at l; omega
theorem yw_crosses {post : Int32 → Prop} (g : xs_G a_px a_py P) {a b c d : Nat} (ha : a < 16) (hb : b < 16) (hc : c < 16) (hd : d < 16)
    (h1 : cx_P (P a) (P b) (P c) (P d) → post 1) (h0 : ¬ cx_P (P a) (P b) (P c) (P d) → post 0) : wpY_crosses post (f_side, f_last, f_limit, a_live, a_px, a_py, a_used, a_sa, a_sb) (nI a) (nI b) (nI c) (nI d) := by
  unfold wpY_crosses
  refine yw_apart g hc hd ha hb (fun k => br_f nu_1n ?_) (fun k => br_t rfl (h0 (fun w => k (cx_1.mpr w).2)))
  exact yw_apart g ha hb hc hd (fun l => br_f nu_1n (h1 (cx_1.mp ⟨l, k⟩))) (fun l => br_t rfl (h0 (fun w => l (cx_1.mpr w).1)))
theorem yw_live {post : Int32 → Prop} (hV : xs_V a_live V) {x : Int32} (h1 : ∀ k, V k → x = nI k → post 1) (h0 : (∀ k, V k → x ≠ nI k) → post 0) : wpY_isLive post (f_side, f_last, f_limit, a_live, a_px, a_py, a_used, a_sa, a_sb) x := by
  unfold wpY_isLive
  refine br_c (fun g => h0 (fun k vk e => ?_)) (fun g => br_c (fun l => h0 (fun k vk e => ?_)) (fun l => ?_))
  · rw [e] at g; exact nI_pos (by have := ((hV k).mp vk).1; omega) g
  · rw [e] at l; exact nu_16 ((hV k).mp vk).1 l
  · obtain ⟨j, hj, e⟩ := nu_j g l
    subst e
    refine And.intro (nu_in hj (by decide)) ?_
    rw [nI_clamp (n := j) (by omega)]
    refine br_c (fun o => h0 (fun k vk e => ?_)) (fun o => h1 j ((hV j).mpr ⟨hj, o⟩) rfl)
    have hk := (hV k).mp vk
    have : j = k := (nu_ni (by omega) (by omega)).mp e
    subst this
    exact hk.2 o
theorem yw_pointAt {post : Int32 → Prop} (g : xs_G a_px a_py P) (hV : xs_V a_live V) {x y : Int32}
    (h1 : ∀ k, V k → P k = (x.toInt, y.toInt) → post (nI k)) (h0 : (∀ k, V k → P k ≠ (x.toInt, y.toInt)) → post (-1)) : wpY_pointAt post (f_side, f_last, f_limit, a_live, a_px, a_py, a_used, a_sa, a_sb) x y := by
  unfold wpY_pointAt
  have hs : ∃ f, (fun f i => wY_pointAt_2 post x y f_side f_last f_limit a_live a_px a_py a_used a_sa a_sb f (nI i)) f 0 := by
    refine lo_s (W := fun f i => wY_pointAt_2 post x y f_side f_last f_limit a_live a_px a_py a_used a_sa a_sb f (nI i)) (Q := fun k => V k ∧ P k = (x.toInt, y.toInt)) (N := 16) (A := fun k => post (nI k)) (E := post (-1)) (by omega)
      (fun f e => br_t nu_16' e) (fun f i _ hi hA hW => br_f (nu_16 hi) (And.intro (nu_in hi (by decide)) ?_)) (fun i _ _ q _ => h1 i q.1 q.2) (fun hn => h0 (fun k vk e => hn k (by omega) ((hV k).mp vk).1 ⟨vk, e⟩))
    rw [nI_clamp (n := i) (by omega)]
    have ex : ∀ (q : ¬ (V i ∧ P i = (x.toInt, y.toInt))), ∀ z, z = nI i + 1 → wY_pointAt_2 post x y f_side f_last f_limit a_live a_px a_py a_used a_sa a_sb f z := fun q => nm_r (nI_1 i) (hW q)
    have hP := (g i hi).1
    refine br_c (fun o => ex (fun q => ((hV i).mp q.1).2 o)) (fun o => And.intro (nu_in hi (by decide)) (br_c (fun o2 => And.intro (nu_in hi (by decide)) (br_c (fun o3 => hA ⟨(hV i).mpr ⟨hi, o⟩, ?_⟩) (fun o3 => ex (fun q => o3 ?_)))) (fun o2 => ex (fun q => o2 ?_))))
    · rw [hP, o2, o3]
    · have := q.2; rw [hP] at this; exact Int32.toInt_inj.mp (congrArg Prod.snd this)
    · have := q.2; rw [hP] at this; exact Int32.toInt_inj.mp (congrArg Prod.fst this)
  exact hs
theorem yw_slot {post : Int32 → Prop} {x y : Int32}
    (h1 : ∀ i, i < 8 → a_used i ≠ 0 → ((a_sa i = x ∧ a_sb i = y) ∨ (a_sa i = y ∧ a_sb i = x)) → post (nI i))
    (h0 : (∀ i, i < 8 → a_used i ≠ 0 → ¬ ((a_sa i = x ∧ a_sb i = y) ∨ (a_sa i = y ∧ a_sb i = x))) → post (-1)) : wpY_slot post (f_side, f_last, f_limit, a_live, a_px, a_py, a_used, a_sa, a_sb) x y := by
  unfold wpY_slot
  have hs : ∃ f, (fun f i => wY_slot_2 post x y f_side f_last f_limit a_live a_px a_py a_used a_sa a_sb f (nI i)) f 0 := by
    refine lo_s (W := fun f i => wY_slot_2 post x y f_side f_last f_limit a_live a_px a_py a_used a_sa a_sb f (nI i)) (Q := fun i => a_used i ≠ 0 ∧ ((a_sa i = x ∧ a_sb i = y) ∨ (a_sa i = y ∧ a_sb i = x))) (N := 8) (A := fun i => post (nI i)) (E := post (-1)) (by omega)
      (fun f e => br_t nu_8' e) (fun f i _ hi hA hW => br_f (nu_8 hi) (And.intro (nu_in (by omega) (by decide)) ?_))
      (fun i _ hi q _ => h1 i hi q.1 q.2) (fun hn => h0 (fun i hi u q => hn i (by omega) hi ⟨u, q⟩))
    have vi : vp_in (nI i) 8 := nu_in (by omega) (by decide)
    have second : a_used i ≠ 0 → ¬ (a_sa i = x ∧ a_sb i = y) → wY_slot_37 post (wY_slot_2 post x y f_side f_last f_limit a_live a_px a_py a_used a_sa a_sb f) x y (nI i) f_side f_last f_limit a_live a_px a_py a_used a_sa a_sb := by
      intro u hn1
      unfold wY_slot_37
      rw [nI_clamp (n := i) (by omega)]
      exact And.intro vi (br_c (fun o => And.intro vi (br_c (fun o2 => hA ⟨u, Or.inr ⟨o, o2⟩⟩) (fun o2 => nm_r (nI_1 i) (hW (fun q => q.2.elim hn1 (fun q => o2 q.2)))))) (fun o => nm_r (nI_1 i) (hW (fun q => q.2.elim hn1 (fun q => o q.1)))))
    rw [nI_clamp (n := i) (by omega)]
    exact br_c (fun u => nm_r (nI_1 i) (hW (fun q => q.1 u))) (fun u => And.intro vi (br_c (fun o => And.intro vi (br_c (fun o2 => hA ⟨u, Or.inl ⟨o, o2⟩⟩) (fun o2 => second u (fun q => o2 q.2)))) (fun o => second u (fun q => o q.1))))
  exact hs
theorem yw_collide {post : Int32 → Prop} (g : xs_G a_px a_py P) (hV : xs_V a_live V) {a b c d : Nat} (ha : a < 16) (hb : b < 16) (hc : c < 16) (hd : d < 16)
    (h1 : cx_P (P a) (P b) (P c) (P d) → (¬ ∃ k, V k ∧ (ge_C (P k) (P a) (P b)) ∧ (ge_C (P k) (P c) (P d))) → post 1) (h0 : (cx_P (P a) (P b) (P c) (P d) → ∃ k, V k ∧ (ge_C (P k) (P a) (P b)) ∧ (ge_C (P k) (P c) (P d))) → post 0) :
    wpY_collide post (f_side, f_last, f_limit, a_live, a_px, a_py, a_used, a_sa, a_sb) (nI a) (nI b) (nI c) (nI d) := by
  unfold wpY_collide
  refine yw_crosses g ha hb hc hd (fun k => br_f nu_1n ?_) (fun k => br_t rfl (h0 (fun w => absurd w k)))
  have hs : ∃ f, (fun f i => wY_collide_17 post (nI a) (nI b) (nI c) (nI d) f_side f_last f_limit a_live a_px a_py a_used a_sa a_sb f (nI i)) f 0 := by
    refine lo_s (W := fun f i => wY_collide_17 post (nI a) (nI b) (nI c) (nI d) f_side f_last f_limit a_live a_px a_py a_used a_sa a_sb f (nI i)) (Q := fun k => V k ∧ (ge_C (P k) (P a) (P b)) ∧ (ge_C (P k) (P c) (P d))) (N := 16) (A := fun _ => post 0) (E := post 1) (by omega)
      (fun f e => br_t nu_16' e) (fun f i _ hi hA hW => br_f (nu_16 hi) (And.intro (nu_in hi (by decide)) ?_))
      (fun i _ hi q _ => h0 (fun _ => ⟨i, q⟩)) (fun hn => h1 k (fun ⟨k, q⟩ => hn k (by omega) ((hV k).mp q.1).1 q))
    rw [nI_clamp (n := i) (by omega)]
    have ex : ∀ (q : ¬ (V i ∧ (ge_C (P i) (P a) (P b)) ∧ (ge_C (P i) (P c) (P d)))), ∀ z, z = nI i + 1 → wY_collide_17 post (nI a) (nI b) (nI c) (nI d) f_side f_last f_limit a_live a_px a_py a_used a_sa a_sb f z := fun q => nm_r (nI_1 i) (hW q)
    refine br_c (fun o => ex (fun q => ((hV i).mp q.1).2 o)) (fun o => ?_)
    refine yw_on g hi ha hb (fun k1 => br_f nu_1n ?_) (fun k1 => br_t rfl (ex (fun q => k1 q.2.1)))
    exact yw_on g hi hc hd (fun k2 => br_f nu_1n (hA ⟨(hV i).mpr ⟨hi, o⟩, k1, k2⟩)) (fun k2 => br_t rfl (ex (fun q => k2 q.2.2)))
  exact hs
theorem see_cx {a b : Nat} : (∀ s ∈ S, ¬ (ge_X (P a) (P b) (P (s.1)) (P (s.2))) ∧ ¬ (ge_X (P a) (P b) (P (s.2)) (P (s.1)))) ↔ ∀ s ∈ S, ¬ cx_P (P a) (P b) (P s.1) (P s.2) := by
  constructor
  · intro h s hs g
    rcases g with g | g
    · exact (h s hs).1 g
    · exact (h s hs).2 g
  · intro h s hs
    exact ⟨fun g => h s hs (Or.inl g), fun g => h s hs (Or.inr g)⟩
theorem yw_sees {post : Int32 → Prop} (g : xs_G a_px a_py P) (hV : xs_V a_live V) (hU : ys_S a_used a_sa a_sb tA tB) (hL : ys_L a_used tA tB S) {x y : Int32}
    (h1 : ∀ a b, x = nI a → y = nI b → tr_see V P S a b → post 1) (h0 : (∀ a b, x = nI a → y = nI b → ¬ tr_see V P S a b) → post 0) : wpY_sees post (f_side, f_last, f_limit, a_live, a_px, a_py, a_used, a_sa, a_sb) x y := by
  unfold wpY_sees
  refine yw_live hV (fun a va ea => br_f nu_1n ?_) (fun q => br_t rfl (h0 (fun a b ea eb l => q a l.1 ea)))
  refine yw_live hV (fun b vb eb => br_f nu_1n ?_) (fun q => br_t rfl (h0 (fun a b ea eb l => q b l.2.1 eb)))
  subst ea eb
  have a16 := ((hV a).mp va).1
  have b16 := ((hV b).mp vb).1
  have inj : ∀ c, nI a = nI c → V c → a = c := fun c e vc => (nu_ni (by omega) (by have := ((hV c).mp vc).1; omega)).mp e
  have inj' : ∀ c, nI b = nI c → V c → b = c := fun c e vc => (nu_ni (by omega) (by have := ((hV c).mp vc).1; omega)).mp e
  have no : ¬ tr_see V P S a b → post 0 := by
    intro hn
    refine h0 (fun c d ec ed l => ?_)
    have e1 := inj c ec l.1
    have e2 := inj' d ed l.2.1
    subst e1 e2
    exact hn l
  refine br_c (fun q => no (fun l => l.2.2.1 ((nu_ni (by omega) (by omega)).mp q))) (fun q => ?_)
  have nab : a ≠ b := fun e => q (by rw [e])
  have second : (∀ k, V k → ¬ (ge_B (P k) (P a) (P b))) → ∃ f, wY_sees_71 post (nI a) (nI b) f_side f_last f_limit a_live a_px a_py a_used a_sa a_sb f 0 := by
    intro hb
    have hs : ∃ f, (fun f i => wY_sees_71 post (nI a) (nI b) f_side f_last f_limit a_live a_px a_py a_used a_sa a_sb f (nI i)) f 0 := by
      refine lo_s (W := fun f i => wY_sees_71 post (nI a) (nI b) f_side f_last f_limit a_live a_px a_py a_used a_sa a_sb f (nI i)) (Q := fun j => a_used j ≠ 0 ∧ cx_P (P a) (P b) (P (tA j)) (P (tB j))) (N := 8) (A := fun _ => post 0) (E := post 1) (by omega)
        (fun f e => br_t nu_8' e) (fun f i _ hi hA hW => br_f (nu_8 hi) (And.intro (nu_in (by omega) (by decide)) ?_))
        (fun i _ hi q _ => no (fun l => see_cx.mp l.2.2.2.2 (tA i, tB i) ((hL _).mpr ⟨i, hi, q.1, rfl⟩) q.2))
        (fun hn => h1 a b rfl rfl ⟨va, vb, nab, hb, see_cx.mpr (fun s hs c => ?_)⟩)
      · rw [nI_clamp (n := i) (by omega)]
        refine br_c (fun u => nm_r (nI_1 i) (hW (fun q => q.1 u))) (fun u => And.intro (nu_in (by omega) (by decide)) (And.intro (nu_in (by omega) (by decide)) ?_))
        obtain ⟨e1, l1, e2, l2⟩ := hU i hi u
        rw [e1, e2]
        exact yw_crosses g a16 b16 l1 l2 (fun k => br_f nu_1n (hA ⟨u, k⟩)) (fun k => br_t rfl (nm_r (nI_1 i) (hW (fun q => k q.2))))
      · obtain ⟨j, hj, u, rfl⟩ := (hL s).mp hs
        exact hn j (by omega) hj ⟨u, c⟩
    exact hs
  have hs : ∃ f, (fun f i => wY_sees_25 post (nI a) (nI b) f_side f_last f_limit a_live a_px a_py a_used a_sa a_sb f (nI i)) f 0 := by
    refine lo_s (W := fun f i => wY_sees_25 post (nI a) (nI b) f_side f_last f_limit a_live a_px a_py a_used a_sa a_sb f (nI i)) (Q := fun k => V k ∧ (ge_B (P k) (P a) (P b))) (N := 16) (A := fun _ => post 0)
      (E := ∃ f, wY_sees_71 post (nI a) (nI b) f_side f_last f_limit a_live a_px a_py a_used a_sa a_sb f 0) (by omega)
      (fun f e => br_t nu_16' e) (fun f i _ hi hA hW => br_f (nu_16 hi) (And.intro (nu_in hi (by decide)) ?_))
      (fun i _ hi q _ => no (fun l => l.2.2.2.1 i q.1 q.2)) (fun hn => second (fun k vk c => hn k (by omega) ((hV k).mp vk).1 ⟨vk, c⟩))
    rw [nI_clamp (n := i) (by omega)]
    have ex : ∀ (q : ¬ (V i ∧ (ge_B (P i) (P a) (P b)))), ∀ z, z = nI i + 1 → wY_sees_25 post (nI a) (nI b) f_side f_last f_limit a_live a_px a_py a_used a_sa a_sb f z := fun q => nm_r (nI_1 i) (hW q)
    refine br_c (fun o => ex (fun q => ((hV i).mp q.1).2 o)) (fun o => And.intro (nu_in hi (by decide)) (And.intro (nu_in hi (by decide)) ?_))
    have hxy : rb_b ((a_px i).toInt, (a_py i).toInt) := by rw [← (g i hi).1]; exact (g i hi).2
    have eP := (g i hi).1
    exact yw_between g a16 b16 hxy (fun k => br_f nu_1n (hA ⟨(hV i).mpr ⟨hi, o⟩, by rw [eP]; exact k⟩)) (fun k => br_t rfl (ex (fun q => k (by rw [← eP]; exact q.2))))
  exact hs
theorem yw_tie3 {post : Int32 → Prop} (g : xs_G a_px a_py P) {a b c d : Nat} (ha : a < 16) (hb : b < 16) (hc : c < 16) (hd : d < 16) (iab : a ≠ b) (n1 : ¬ (d < a ∧ d < b ∧ d < c))
    (h1 : wi_t P a b c d → post 1) (h0 : ¬ wi_t P a b c d → post 0) : wY_inside_310 post (nI a) (nI b) (nI c) (nI d) f_side f_last f_limit a_live a_px a_py a_used a_sa a_sb := by
  have le : ∀ {x y : Nat}, x < 16 → y < 16 → (nI x ≤ nI y ↔ x ≤ y) := fun hx hy => nI_leI (by omega) (by omega)
  have c4 : ¬ (a < b ∧ a < c) → ¬ b < c → wY_inside_350 post (nI a) (nI b) (nI c) (nI d) f_side f_last f_limit a_live a_px a_py a_used a_sa a_sb := by
    intro n2 n3
    have e := wt_c (P := P) n1 n2 n3
    exact yw_apart g ha hb hc hd (fun w => ⟨narrow_b1, h1 (e.mpr w)⟩) (fun w => ⟨narrow_b0, h0 (fun q => w (e.mp q))⟩)
  have c3 : ¬ (a < b ∧ a < c) → wY_inside_330 post (nI a) (nI b) (nI c) (nI d) f_side f_last f_limit a_live a_px a_py a_used a_sa a_sb := by
    intro n2
    unfold wY_inside_330
    rw [le ha hb, le hc hb]
    refine br_c (fun k => c4 n2 (by omega)) (fun k => br_c (fun l => c4 n2 (by omega)) (fun l => ?_))
    have e := wt_b (P := P) n1 n2 (show b < c by omega)
    exact yw_apart g ha hc hb hd (fun w => ⟨narrow_b1, h1 (e.mpr w)⟩) (fun w => ⟨narrow_b0, h0 (fun q => w (e.mp q))⟩)
  unfold wY_inside_310
  rw [le hb ha, le hc ha]
  refine br_c (fun k => c3 (by omega)) (fun k => br_c (fun l => c3 (by omega)) (fun l => ?_))
  have e := wt_a (P := P) n1 (show a < b ∧ a < c by omega)
  exact yw_apart g hb hc ha hd (fun w => ⟨narrow_b1, h1 (e.mpr w)⟩) (fun w => ⟨narrow_b0, h0 (fun q => w (e.mp q))⟩)
/-- the rule's answer for four different live points -/
theorem yw_inside {post : Int32 → Prop} (g : xs_G a_px a_py P) (hV : xs_V a_live V) {x y z w : Int32}
    (h1 : ∀ a b c d, x = nI a → y = nI b → z = nI c → w = nI d → V a → V b → V c → V d → (a ≠ b ∧ a ≠ c ∧ a ≠ d ∧ b ≠ c ∧ b ≠ d ∧ c ≠ d) → (ge_o (P a) (P b) (P c)) ≠ 0 → wi_P P a b c d → post 1)
    (h0 : (∀ a b c d, x = nI a → y = nI b → z = nI c → w = nI d → V a → V b → V c → V d → (a ≠ b ∧ a ≠ c ∧ a ≠ d ∧ b ≠ c ∧ b ≠ d ∧ c ≠ d) → (ge_o (P a) (P b) (P c)) ≠ 0 → ¬ wi_P P a b c d) → post 0) :
    wpY_inside post (f_side, f_last, f_limit, a_live, a_px, a_py, a_used, a_sa, a_sb) x y z w := by
  unfold wpY_inside
  refine yw_live hV (fun a va ea => br_f nu_1n ?_) (fun q => br_t rfl (h0 (fun a b c d ea eb ec ed va vb vc vd _ _ => absurd ea (q a va))))
  refine yw_live hV (fun b vb eb => br_f nu_1n ?_) (fun q => br_t rfl (h0 (fun a b c d ea eb ec ed va vb vc vd _ _ => absurd eb (q b vb))))
  refine yw_live hV (fun c vc ec => br_f nu_1n ?_) (fun q => br_t rfl (h0 (fun a b c d ea eb ec ed va vb vc vd _ _ => absurd ec (q c vc))))
  refine yw_live hV (fun d vd ed => br_f nu_1n ?_) (fun q => br_t rfl (h0 (fun a b c d ea eb ec ed va vb vc vd _ _ => absurd ed (q d vd))))
  subst ea eb ec ed
  have a16 := ((hV a).mp va).1
  have b16 := ((hV b).mp vb).1
  have c16 := ((hV c).mp vc).1
  have d16 := ((hV d).mp vd).1
  have inj : ∀ {p q : Nat}, p < 16 → V q → nI p = nI q → p = q := fun {p q} hp vq e => (nu_ni (by omega) (by have := ((hV q).mp vq).1; omega)).mp e
  have no : (¬ ((a ≠ b ∧ a ≠ c ∧ a ≠ d ∧ b ≠ c ∧ b ≠ d ∧ c ≠ d) ∧ (ge_o (P a) (P b) (P c)) ≠ 0 ∧ wi_P P a b c d)) → post 0 := by
    intro hn
    refine h0 (fun a' b' c' d' ea eb ec ed va' vb' vc' vd' hd ho hw => hn ?_)
    have q1 := inj a16 va' ea
    have q2 := inj b16 vb' eb
    have q3 := inj c16 vc' ec
    have q4 := inj d16 vd' ed
    subst q1 q2 q3 q4
    exact ⟨hd, ho, hw⟩
  rw [nu_ni (a := a) (b := b) (by omega) (by omega), nu_ni (a := a) (b := c) (by omega) (by omega), nu_ni (a := a) (b := d) (by omega) (by omega), nu_ni (a := b) (b := c) (by omega) (by omega), nu_ni (a := b) (b := d) (by omega) (by omega), nu_ni (a := c) (b := d) (by omega) (by omega)]
  refine br_c (fun k => no (fun q => q.1.1 k)) (fun n1 => br_c (fun k => no (fun q => q.1.2.1 k)) (fun n2 => br_c (fun k => no (fun q => q.1.2.2.1 k)) (fun n3 => br_c (fun k => no (fun q => q.1.2.2.2.1 k)) (fun n4 => br_c (fun k => no (fun q => q.1.2.2.2.2.1 k)) (fun n5 => br_c (fun k => no (fun q => q.1.2.2.2.2.2 k)) (fun n6 => ?_))))))
  have dist : a ≠ b ∧ a ≠ c ∧ a ≠ d ∧ b ≠ c ∧ b ≠ d ∧ c ≠ d := ⟨n1, n2, n3, n4, n5, n6⟩
  refine yw_turn g a16 b16 c16 (fun r hr => ?_)
  have h64 : r.toInt64.toInt = (ge_o (P a) (P b) (P c)) := by rw [nu_64]; exact hr
  have ez : r.toInt64 = 0 ↔ (ge_o (P a) (P b) (P c)) = 0 := by rw [← Int64.toInt_inj, h64]; rfl
  refine br_c (fun k => no (fun q => q.2.1 (ez.mp k))) (fun k => ?_)
  have ho : (ge_o (P a) (P b) (P c)) ≠ 0 := fun q => k (ez.mpr q)
  have va' : vp_in (nI a) 16 := nu_in a16 (by decide)
  have vb' : vp_in (nI b) 16 := nu_in b16 (by decide)
  have vc' : vp_in (nI c) 16 := nu_in c16 (by decide)
  have vd' : vp_in (nI d) 16 := nu_in d16 (by decide)
  have ca : (nI a).toNatClampNeg = a := nI_clamp (by omega)
  have cb : (nI b).toNatClampNeg = b := nI_clamp (by omega)
  have cc : (nI c).toNatClampNeg = c := nI_clamp (by omega)
  have cd : (nI d).toNatClampNeg = d := nI_clamp (by omega)
  have Ba := (g a a16).2
  unfold rb_b at Ba
  have xd : ∀ k, k < 16 → ((a_px k) - (a_px a)).toInt64.toInt = (P k).1 - (P a).1 ∧ -100 ≤ (P k).1 - (P a).1 ∧ (P k).1 - (P a).1 ≤ 100 := by
    intro k hk
    have B := (g k hk).2
    unfold rb_b at B
    have e1 : (a_px k).toInt = (P k).1 := by rw [(g k hk).1]
    have e2 : (a_px a).toInt = (P a).1 := by rw [(g a a16).1]
    refine ⟨?_, by omega, by omega⟩
    rw [nu_64, nu_sub, e1, e2] <;> rw [e1, e2] <;> omega
  have yd : ∀ k, k < 16 → ((a_py k) - (a_py a)).toInt64.toInt = (P k).2 - (P a).2 ∧ -100 ≤ (P k).2 - (P a).2 ∧ (P k).2 - (P a).2 ≤ 100 := by
    intro k hk
    have B := (g k hk).2
    unfold rb_b at B
    have e1 : (a_py k).toInt = (P k).2 := by rw [(g k hk).1]
    have e2 : (a_py a).toInt = (P a).2 := by rw [(g a a16).1]
    refine ⟨?_, by omega, by omega⟩
    rw [nu_64, nu_sub, e1, e2] <;> rw [e1, e2] <;> omega
  have bt := rb_o (g a a16).2 (g b b16).2 (g c c16).2
  have G := nu_gap h64 (xd b b16).1 (yd b b16).1 (xd c c16).1 (yd c c16).1 (xd d d16).1 (yd d d16).1 bt (xd b b16).2 (yd b b16).2 (xd c c16).2 (yd c c16).2 (xd d d16).2 (yd d d16).2
  rw [rh_gap] at G
  rw [ca, cb, cc, cd]
  refine And.intro vb' (And.intro va' (nm_e ?_))
  refine And.intro vb' (And.intro va' (nm_e ?_))
  refine And.intro vc' (And.intro va' (nm_e ?_))
  refine And.intro vc' (And.intro va' (nm_e ?_))
  refine And.intro vd' (And.intro va' (nm_e ?_))
  refine And.intro vd' (And.intro va' (nm_e ?_))
  refine nm_e (nm_e (nm_e (nm_e ?_)))
  intro gap egap
  rw [← egap] at G
  clear egap
  have gz : gap = 0 ↔ rh_c (P a) (P b) (P c) (P d) = 0 := by
    rw [← Int64.toInt_inj, G]
    constructor
    · intro q
      have q' : (ge_o (P a) (P b) (P c)) * rh_c (P a) (P b) (P c) (P d) = 0 := by
        have : (0 : Int64).toInt = 0 := rfl
        omega
      exact (Int.mul_eq_zero.mp q').resolve_left ho
    · intro q; rw [q, Int.mul_zero]; rfl
  have gl : 0 ≤ gap ↔ (ge_o (P a) (P b) (P c)) * rh_c (P a) (P b) (P c) (P d) ≤ 0 := by
    rw [Int64.le_iff_toInt_le, G]
    have : (0 : Int64).toInt = 0 := rfl
    omega
  refine br_c (fun kz => ?_) (fun kz => ?_)
  · have z := gz.mp kz
    have e : wi_P P a b c d ↔ wi_t P a b c d := ⟨fun q => q.elim (fun q => q.2) (fun q => absurd z q.1), fun q => Or.inl ⟨z, q⟩⟩
    have le : ∀ {x y : Nat}, x < 16 → y < 16 → (nI x ≤ nI y ↔ x ≤ y) := fun hx hy => nI_leI (by omega) (by omega)
    have yes : wi_t P a b c d → post 1 := fun q => h1 a b c d rfl rfl rfl rfl va vb vc vd dist ho (e.mpr q)
    have nope : ¬ wi_t P a b c d → post 0 := fun q => no (fun l => q (e.mp l.2.2))
    have T : ¬ (d < a ∧ d < b ∧ d < c) → wY_inside_310 post (nI a) (nI b) (nI c) (nI d) f_side f_last f_limit a_live a_px a_py a_used a_sa a_sb := fun q => yw_tie3 g a16 b16 c16 d16 n1 q yes nope
    rw [le a16 d16, le b16 d16, le c16 d16]
    clear G gl gz bt xd yd no dist
    exact br_c (fun k => T (by omega)) (fun k => br_c (fun l => T (by omega)) (fun l => br_c (fun o => T (by omega)) (fun o => yes (wt_d (by omega)))))
  · have z : rh_c (P a) (P b) (P c) (P d) ≠ 0 := fun q => kz (gz.mpr q)
    have e : wi_P P a b c d ↔ (0 < rh_c (P a) (P b) (P c) (P d) ↔ 0 < (ge_o (P a) (P b) (P c))) := ⟨fun q => q.elim (fun q => absurd q.1 z) (fun q => q.2), fun q => Or.inr ⟨z, q⟩⟩
    refine br_c (fun l => no (fun q => ?_)) (fun l => h1 a b c d rfl rfl rfl rfl va vb vc vd dist ho (e.mpr ?_))
    · have l' := gl.mp l
      have w := e.mp q.2.2
      rcases Int.lt_or_le 0 (rh_c (P a) (P b) (P c) (P d)) with s | s
      · have := sg_pp (w.mp s) s; omega
      · have s1 : ¬ 0 < (ge_o (P a) (P b) (P c)) := fun t => by have := w.mpr t; omega
        have := sg_pp (show 0 < - (ge_o (P a) (P b) (P c)) by omega) (show 0 < - rh_c (P a) (P b) (P c) (P d) by omega)
        rw [Int.neg_mul_neg] at this; omega
    · have l' : ¬ (ge_o (P a) (P b) (P c)) * rh_c (P a) (P b) (P c) (P d) ≤ 0 := fun q => l (gl.mpr q)
      constructor
      · intro s
        rcases Int.lt_or_le 0 ((ge_o (P a) (P b) (P c))) with t | t
        · exact t
        · have := sg_ww (show 0 ≤ - (ge_o (P a) (P b) (P c)) by omega) (Int.le_of_lt s)
          rw [Int.neg_mul] at this; omega
      · intro t
        rcases Int.lt_or_le 0 (rh_c (P a) (P b) (P c) (P d)) with s | s
        · exact s
        · have := sg_ww (Int.le_of_lt t) (show 0 ≤ - rh_c (P a) (P b) (P c) (P d) by omega)
          rw [Int.mul_neg] at this; omega
theorem yw_cover {post : Int32 → Prop} (g : xs_G a_px a_py P) (hV : xs_V a_live V) (hU : ys_S a_used a_sa a_sb tA tB) (hL : ys_L a_used tA tB S) {x y : Int32}
    (h1 : ∀ a b, x = nI a → y = nI b → tr_see V P S a b → post (nI (ct_n (fun j => a_used j ≠ 0 ∧ (ge_C (P a) (P (tA j)) (P (tB j))) ∧ (ge_C (P b) (P (tA j)) (P (tB j)))) 8)))
    (h0 : (∀ a b, x = nI a → y = nI b → ¬ tr_see V P S a b) → post 0) : wpY_cover post (f_side, f_last, f_limit, a_live, a_px, a_py, a_used, a_sa, a_sb) x y := by
  unfold wpY_cover
  refine yw_sees g hV hU hL (fun a b ea eb sab => br_f nu_1n ?_) (fun q => br_t rfl (h0 q))
  subst ea eb
  have a16 := ((hV a).mp sab.1).1
  have b16 := ((hV b).mp sab.2.1).1
  have hs : ∃ f, (fun f c i => wY_cover_16 post (nI a) (nI b) f_side f_last f_limit a_live a_px a_py a_used a_sa a_sb f (nI c) (nI i)) f 0 0 := by
    refine lo_c (W := fun f c i => wY_cover_16 post (nI a) (nI b) f_side f_last f_limit a_live a_px a_py a_used a_sa a_sb f (nI c) (nI i)) (Q := fun j => a_used j ≠ 0 ∧ (ge_C (P a) (P (tA j)) (P (tB j))) ∧ (ge_C (P b) (P (tA j)) (P (tB j)))) (N := 8) (E := fun c => post (nI c))
      (fun f c e => br_t nu_8' e) (fun f c i hi _ hQ hW => br_f (nu_8 hi) (And.intro (nu_in (by omega) (by decide)) ?_)) (h1 a b rfl rfl sab)
    have vi : vp_in (nI i) 8 := nu_in (by omega) (by decide)
    rw [nI_clamp (n := i) (by omega)]
    refine br_c (fun u => nm_r (nI_1 i) (hW (fun q => q.1 u))) (fun u => And.intro vi (And.intro vi ?_))
    obtain ⟨e1, l1, e2, l2⟩ := hU i hi u
    rw [e1, e2]
    refine yw_on g a16 l1 l2 (fun k => br_f nu_1n (And.intro vi (And.intro vi ?_))) (fun k => br_t rfl (nm_r (nI_1 i) (hW (fun q => k q.2.1))))
    exact yw_on g b16 l1 l2 (fun k' => br_f nu_1n (nm_r (nI_1 c) (nm_r (nI_1 i) (hQ ⟨u, k, k'⟩)))) (fun k' => br_t rfl (nm_r (nI_1 i) (hW (fun q => k' q.2.2))))
  exact hs
end
end
section
/-- the mesh of a configuration -/
def mo_K (m : Int) (V : Nat → Prop) (P : Nat → Int × Int) (S : List (Nat × Nat)) (L : Nat → Nat → Nat) : Prop :=
  tr_pt m V P ∧ m ≤ 100 ∧ tr_sg V P S ∧ tr_T V P S L ∧ tr_LD (rh_H P) P S L
/-- a witness against ab, as the reference asks it -/
def wn_P (V : Nat → Prop) (P : Nat → Int × Int) (S : List (Nat × Nat)) (a b c d : Nat) : Prop :=
  V c ∧ V d ∧ 0 < (ge_o (P a) (P b) (P c)) ∧ (ge_o (P a) (P b) (P d)) < 0 ∧ wi_P P a b c d ∧ tr_see V P S c a ∧ tr_see V P S c b ∧ tr_see V P S d a ∧ tr_see V P S d b
/-- strictly inside a triangle of either turn -/
def hd_P (a b c t : Int × Int) : Prop := (0 < ge_o a b t ∧ 0 < ge_o b c t ∧ 0 < ge_o c a t) ∨ (ge_o a b t < 0 ∧ ge_o b c t < 0 ∧ ge_o c a t < 0)
/-- abc is a face of either turn -/
def fa_P (P : Nat → Int × Int) (L : Nat → Nat → Nat) (a b c : Nat) : Prop := (0 < (ge_o (P a) (P b) (P c)) ∧ L a b = c) ∨ ((ge_o (P a) (P b) (P c)) < 0 ∧ L b a = c)
section
variable {m : Int} {V : Nat → Prop} {P : Nat → Int × Int} {S : List (Nat × Nat)} {L : Nat → Nat → Nat}
theorem rf_iff (K : mo_K m V P S L) {a b : Nat} (hs : tr_see V P S a b) : L a b ≤ 16 ↔ (tr_cov P S a b ∨ ∀ c d, ¬ wn_P V P S a b c d) := by
  obtain ⟨hp, hm, hS, hT, hl⟩ := K
  have hg := rh_gen hp hm
  have hh := rh_hull hp hm
  have sgn : ∀ c d, V c → V d → 0 < (ge_o (P a) (P b) (P c)) → (ge_o (P a) (P b) (P d)) < 0 → (wi_P P a b c d ↔ ge_D (rh_H P) P a b c d < 0) := by
    intro c d vc vd oc od
    have nda : P d ≠ P a := fun g => by rw [g, ge_psp] at od; omega
    have ndb : P d ≠ P b := fun g => by rw [g, ge_spp] at od; omega
    have ndc : P d ≠ P c := fun g => by rw [g] at od; omega
    have w := (wi_1 (rb_v hp hm hs.1) (rb_v hp hm hs.2.1) (rb_v hp hm vc) (rb_v hp hm vd) (tp_16 hp hs.1) (tp_16 hp hs.2.1) (tp_16 hp vc) (tp_16 hp vd) (show (ge_o (P a) (P b) (P c)) ≠ 0 by omega) nda ndb ndc).1 oc
    constructor
    · exact w.1
    · intro q
      refine Classical.byContradiction fun n => ?_
      have := w.2 n
      omega
  constructor
  · intro e
    by_cases hc : tr_cov P S a b
    · exact Or.inl hc
    · right
      rintro c d ⟨vc, vd, oc, od, wi, s1, s2, s3, s4⟩
      have := nw_1 hp hT hl hh e hc (se_sy s1) (se_sy s2) oc (se_sy s3) (se_sy s4) (by have := ge_sw (P a) (P b) (P d); omega)
      have := (sgn c d vc vd oc od).mp wi
      omega
  · rintro (hc | hn)
    · obtain ⟨s, hs', c1, c2⟩ := hc
      exact tt_C hT hs' hs.1 hs.2.1 hs.2.2.1 c1 c2 hs.2.2.2.1
    · refine rf_1 hp hS hT hl hg hh hs (fun c d s1 s2 oc s3 s4 od => ?_)
      have od' : (ge_o (P a) (P b) (P d)) < 0 := by have := ge_sw (P a) (P b) (P d); omega
      rcases Int.lt_or_le (ge_D (rh_H P) P a b c d) 0 with q | q
      · exact absurd ⟨s1.2.1, s3.2.1, oc, od', (sgn c d s1.2.1 s3.2.1 oc od').mpr q, se_sy s1, se_sy s2, se_sy s3, se_sy s4⟩ (hn c d)
      · exact q
theorem fa_1 (K : mo_K m V P S L) {a b c : Nat} (vc : V c) : ((ge_o (P a) (P b) (P c)) ≠ 0 ∧ L a b ≤ 16 ∧ L b c ≤ 16 ∧ L c a ≤ 16 ∧ ∀ k, V k → ¬ hd_P (P a) (P b) (P c) (P k)) ↔ fa_P P L a b c := by
  obtain ⟨hp, hm, hS, hT, hl⟩ := K
  constructor
  · rintro ⟨o, e1, e2, e3, hn⟩
    rcases Int.lt_or_le 0 ((ge_o (P a) (P b) (P c))) with g | g
    · exact Or.inl ⟨g, fc_1 hp hT e1 e2 e3 g (fun k vk q => hn k vk (Or.inl q))⟩
    · refine Or.inr ⟨by omega, fc_1 hp hT (tt_sy hT e1) (tt_sy hT e3) (tt_sy hT e2) (by have := ge_sw (P a) (P b) (P c); omega) (fun k vk q => hn k vk (Or.inr ?_))⟩
      have s1 := ge_sw (P b) (P a) (P k)
      have s2 := ge_sw (P a) (P c) (P k)
      have s3 := ge_sw (P c) (P b) (P k)
      omega
  · have c16 := tp_16 hp vc
    have key : ∀ a b, 0 < (ge_o (P a) (P b) (P c)) → L a b = c → (ge_o (P a) (P b) (P c)) ≠ 0 ∧ L a b ≤ 16 ∧ L b c ≤ 16 ∧ L c a ≤ 16 ∧ ∀ k, V k → ¬ hd_P (P a) (P b) (P c) (P k) := by
      intro a b o e
      obtain ⟨va, vb, _, w1, w2, fo, g1, g2, g3, _, _, _⟩ := tt_face hp hT e c16
      refine ⟨by omega, g1, g2, g3, fun k vk q => ?_⟩
      rcases q with q | q
      · rcases tt_E hT e c16 vk ⟨Int.le_of_lt q.1, Int.le_of_lt q.2.1, Int.le_of_lt q.2.2⟩ with j | j | j
        · rw [j, ge_psp] at q; omega
        · rw [j, ge_spp] at q; omega
        · rw [j] at q; have := q.2.1; rw [ge_spp] at this; omega
      · have A := ge_aff (P a) (P b) (P c) (P k)
        have r1 := ge_rot2 (P a) (P b) (P k)
        have r2 := ge_rot2 (P b) (P c) (P k)
        have r3 := ge_rot2 (P c) (P a) (P k)
        omega
    rintro (⟨o, e⟩ | ⟨o, e⟩)
    · exact key a b o e
    · have s := ge_sw (P a) (P b) (P c)
      obtain ⟨o', e1, e2, e3, hn⟩ := key b a (by omega) e
      refine ⟨by omega, tt_sy hT e1, tt_sy hT e3, tt_sy hT e2, fun k vk q => hn k vk ?_⟩
      have s1 := ge_sw (P b) (P a) (P k)
      have s2 := ge_sw (P a) (P c) (P k)
      have s3 := ge_sw (P c) (P b) (P k)
      unfold hd_P at *
      omega
end
section
variable {f_side f_last f_limit : Int32} {a_live a_px a_py a_used a_sa a_sb : Nat → Int32}
variable {m : Int} {P : Nat → Int × Int} {V : Nat → Prop} {tA tB : Nat → Nat} {S : List (Nat × Nat)} {L : Nat → Nat → Nat}
theorem yw_sees' {post : Int32 → Prop} (g : xs_G a_px a_py P) (hV : xs_V a_live V) (hU : ys_S a_used a_sa a_sb tA tB) (hL : ys_L a_used tA tB S) {a b : Nat} (ha : a < 16) (hb : b < 16)
    (h1 : tr_see V P S a b → post 1) (h0 : ¬ tr_see V P S a b → post 0) : wpY_sees post (f_side, f_last, f_limit, a_live, a_px, a_py, a_used, a_sa, a_sb) (nI a) (nI b) := by
  refine yw_sees g hV hU hL (fun a' b' ea eb s => ?_) (fun q => h0 (q a b rfl rfl))
  have e1 : a = a' := (nu_ni (by omega) (by have := ((hV a').mp s.1).1; omega)).mp ea
  have e2 : b = b' := (nu_ni (by omega) (by have := ((hV b').mp s.2.1).1; omega)).mp eb
  subst e1 e2
  exact h1 s
theorem yw_inside' {post : Int32 → Prop} (g : xs_G a_px a_py P) (hV : xs_V a_live V) {a b c d : Nat} (va : V a) (vb : V b) (vc : V c) (vd : V d) (hd : a ≠ b ∧ a ≠ c ∧ a ≠ d ∧ b ≠ c ∧ b ≠ d ∧ c ≠ d) (ho : (ge_o (P a) (P b) (P c)) ≠ 0)
    (h1 : wi_P P a b c d → post 1) (h0 : ¬ wi_P P a b c d → post 0) : wpY_inside post (f_side, f_last, f_limit, a_live, a_px, a_py, a_used, a_sa, a_sb) (nI a) (nI b) (nI c) (nI d) := by
  have v16 : ∀ {k}, V k → k < 16 := fun {k} v => ((hV k).mp v).1
  have inj : ∀ {p q : Nat}, V p → V q → nI p = nI q → p = q := fun {p q} vp vq e => (nu_ni (by have := v16 vp; omega) (by have := v16 vq; omega)).mp e
  refine yw_inside g hV (fun a' b' c' d' ea eb ec ed va' vb' vc' vd' _ _ w => ?_) (fun q => h0 (q a b c d rfl rfl rfl rfl va vb vc vd hd ho))
  have q1 := inj va va' ea
  have q2 := inj vb vb' eb
  have q3 := inj vc vc' ec
  have q4 := inj vd vd' ed
  subst q1 q2 q3 q4
  exact h1 w
theorem yw_edge {post : Int32 → Prop} (K : mo_K m V P S L) (g : xs_G a_px a_py P) (hV : xs_V a_live V) (hU : ys_S a_used a_sa a_sb tA tB) (hL : ys_L a_used tA tB S) {x y : Int32}
    (h1 : ∀ a b, x = nI a → y = nI b → a < 16 → b < 16 → L a b ≤ 16 → post 1) (h0 : (∀ a b, x = nI a → y = nI b → ¬ L a b ≤ 16) → post 0) : wpY_edge post (f_side, f_last, f_limit, a_live, a_px, a_py, a_used, a_sa, a_sb) x y := by
  have sE : ∀ a b, L a b ≤ 16 → tr_see V P S a b := fun a b e => se_E K.1 K.2.2.1 K.2.2.2.1 e
  unfold wpY_edge
  refine yw_sees g hV hU hL (fun a b ea eb sab => br_f nu_1n ?_) (fun q => br_t rfl (h0 (fun a b ea eb l => q a b ea eb (sE a b l))))
  subst ea eb
  have a16 := ((hV a).mp sab.1).1
  have b16 := ((hV b).mp sab.2.1).1
  have rf := rf_iff K sab
  have no : ¬ L a b ≤ 16 → post 0 := by
    intro hn
    refine h0 (fun c d ec ed l => ?_)
    have s := sE c d l
    have e1 : a = c := (nu_ni (by omega) (by have := ((hV c).mp s.1).1; omega)).mp ec
    have e2 : b = d := (nu_ni (by omega) (by have := ((hV d).mp s.2.1).1; omega)).mp ed
    subst e1 e2
    exact hn l
  have yes : L a b ≤ 16 → post 1 := h1 a b rfl rfl a16 b16
  refine yw_cover g hV hU hL (fun a' b' ea eb s' => ?_) (fun q => absurd sab (q a b rfl rfl))
  have e1 : a = a' := (nu_ni (by omega) (by have := ((hV a').mp s'.1).1; omega)).mp ea
  have e2 : b = b' := (nu_ni (by omega) (by have := ((hV b').mp s'.2.1).1; omega)).mp eb
  subst e1 e2
  have cv : tr_cov P S a b ↔ ∃ j, j < 8 ∧ (a_used j ≠ 0 ∧ (ge_C (P a) (P (tA j)) (P (tB j))) ∧ (ge_C (P b) (P (tA j)) (P (tB j)))) := by
    constructor
    · rintro ⟨s, hs, c1, c2⟩
      obtain ⟨j, hj, u, rfl⟩ := (hL s).mp hs
      exact ⟨j, hj, u, c1, c2⟩
    · rintro ⟨j, hj, u, c1, c2⟩
      exact ⟨(tA j, tB j), (hL _).mpr ⟨j, hj, u, rfl⟩, c1, c2⟩
  have cz : ∀ n, (∃ j, j < n ∧ (a_used j ≠ 0 ∧ (ge_C (P a) (P (tA j)) (P (tB j))) ∧ (ge_C (P b) (P (tA j)) (P (tB j))))) ↔ 0 < ct_n (fun j => a_used j ≠ 0 ∧ (ge_C (P a) (P (tA j)) (P (tB j))) ∧ (ge_C (P b) (P (tA j)) (P (tB j)))) n := by
    intro n
    induction n with
    | zero => exact ⟨fun ⟨j, hj, _⟩ => by omega, fun q => absurd q (Nat.lt_irrefl 0)⟩
    | succ n ih =>
      by_cases q : a_used n ≠ 0 ∧ (ge_C (P a) (P (tA n)) (P (tB n))) ∧ (ge_C (P b) (P (tA n)) (P (tB n)))
      · rw [ct_s1 q]
        exact ⟨fun _ => by omega, fun _ => ⟨n, by omega, q⟩⟩
      · rw [ct_s0 q, ← ih]
        constructor
        · rintro ⟨j, hj, w⟩
          rcases Nat.lt_or_ge j n with l | l
          · exact ⟨j, l, w⟩
          · have : j = n := by omega
            subst this; exact absurd w q
        · rintro ⟨j, hj, w⟩
          exact ⟨j, by omega, w⟩
  have cl := ct_le (fun j => a_used j ≠ 0 ∧ (ge_C (P a) (P (tA j)) (P (tB j))) ∧ (ge_C (P b) (P (tA j)) (P (tB j)))) 8
  have cz8 := cz 8
  rw [← cv] at cz8
  generalize ct_n (fun j => a_used j ≠ 0 ∧ (ge_C (P a) (P (tA j)) (P (tB j))) ∧ (ge_C (P b) (P (tA j)) (P (tB j)))) 8 = N at *
  refine br_c (fun k => ?_) (fun k => yes (rf.mpr (Or.inl (cz8.mpr ?_))))
  · have N0 : N = 0 := by
      rcases Nat.eq_zero_or_pos N with w | w
      · exact w
      · exact absurd k (nI_nle w (by omega))
    have ncov : ¬ tr_cov P S a b := fun q => by have := cz8.mp q; omega
    have rf' : L a b ≤ 16 ↔ ∀ c d, ¬ wn_P V P S a b c d := by
      rw [rf]; exact ⟨fun q => q.elim (fun q => absurd q ncov) id, Or.inr⟩
    have hs : ∃ f, (fun f c => wY_edge_24 post (nI a) (nI b) f_side f_last f_limit a_live a_px a_py a_used a_sa a_sb f (nI c)) f 0 := by
      refine lo_s (W := fun f c => wY_edge_24 post (nI a) (nI b) f_side f_last f_limit a_live a_px a_py a_used a_sa a_sb f (nI c)) (Q := fun c => ∃ d, d < 16 ∧ wn_P V P S a b c d) (N := 16) (A := fun _ => post 0) (E := post 1) (by omega)
        (fun f e => br_t nu_16' e) (fun f c _ hc hA hW => br_f (nu_16 hc) ?_)
        (fun c _ _ q _ => no (fun l => by obtain ⟨d, _, w⟩ := q; exact rf'.mp l c d w))
        (fun hn => yes (rf'.mpr (fun c d w => hn c (by omega) ((hV c).mp w.1).1 ⟨d, ((hV d).mp w.2.1).1, w⟩)))
      have hs' : ∃ f', (fun f' d => wY_edge_33 post (wY_edge_24 post (nI a) (nI b) f_side f_last f_limit a_live a_px a_py a_used a_sa a_sb f) (nI a) (nI b) (nI c) f_side f_last f_limit a_live a_px a_py a_used a_sa a_sb f' (nI d)) f' 0 := by
        refine lo_s (W := fun f' d => wY_edge_33 post (wY_edge_24 post (nI a) (nI b) f_side f_last f_limit a_live a_px a_py a_used a_sa a_sb f) (nI a) (nI b) (nI c) f_side f_last f_limit a_live a_px a_py a_used a_sa a_sb f' (nI d)) (Q := fun d => wn_P V P S a b c d) (N := 16) (A := fun _ => post 0)
          (E := ∀ z, z = nI c + 1 → wY_edge_24 post (nI a) (nI b) f_side f_last f_limit a_live a_px a_py a_used a_sa a_sb f z) (by omega)
          (fun f' e => br_t nu_16' e) (fun f' d _ hd hA' hW' => br_f (nu_16 hd) (And.intro (nu_in hc (by decide)) ?_))
          (fun d _ hd q _ => hA ⟨d, hd, q⟩) (fun hn => nm_r (nI_1 c) (hW (fun ⟨d, hd, q⟩ => hn d (by omega) hd q)))
        have ex : ∀ (q : ¬ wn_P V P S a b c d), ∀ z, z = nI d + 1 → wY_edge_33 post (wY_edge_24 post (nI a) (nI b) f_side f_last f_limit a_live a_px a_py a_used a_sa a_sb f) (nI a) (nI b) (nI c) f_side f_last f_limit a_live a_px a_py a_used a_sa a_sb f' z := fun q => nm_r (nI_1 d) (hW' q)
        rw [nI_clamp (n := c) (by omega), nI_clamp (n := d) (by omega)]
        refine br_c (fun o => ex (fun q => ((hV c).mp q.1).2 o)) (fun o => And.intro (nu_in hd (by decide)) (br_c (fun o2 => ex (fun q => ((hV d).mp q.2.1).2 o2)) (fun o2 => ?_)))
        have vc : V c := (hV c).mpr ⟨hc, o⟩
        have vd : V d := (hV d).mpr ⟨hd, o2⟩
        refine yw_turn g a16 b16 hc (fun r hr => ?_)
        rw [nu_le0 hr]
        refine br_c (fun k1 => ex (fun q => by have := q.2.2.1; omega)) (fun k1 => ?_)
        refine yw_turn g a16 b16 hd (fun r' hr' => ?_)
        rw [nu_0le hr']
        refine br_c (fun k2 => ex (fun q => by have := q.2.2.2.1; omega)) (fun k2 => ?_)
        have dist : a ≠ b ∧ a ≠ c ∧ a ≠ d ∧ b ≠ c ∧ b ≠ d ∧ c ≠ d := by
          refine ⟨sab.2.2.1, ?_, ?_, ?_, ?_, ?_⟩
          · rintro rfl; rw [ge_psp] at k1; omega
          · rintro rfl; rw [ge_psp] at k2; omega
          · rintro rfl; rw [ge_spp] at k1; omega
          · rintro rfl; rw [ge_spp] at k2; omega
          · rintro rfl; omega
        refine yw_inside' g hV sab.1 sab.2.1 vc vd dist (by omega) (fun w => br_f nu_1n ?_) (fun w => br_t rfl (ex (fun q => w q.2.2.2.2.1)))
        refine yw_sees' g hV hU hL hc a16 (fun s1 => br_f nu_1n ?_) (fun s1 => br_t rfl (ex (fun q => s1 q.2.2.2.2.2.1)))
        refine yw_sees' g hV hU hL hc b16 (fun s2 => br_f nu_1n ?_) (fun s2 => br_t rfl (ex (fun q => s2 q.2.2.2.2.2.2.1)))
        refine yw_sees' g hV hU hL hd a16 (fun s3 => br_f nu_1n ?_) (fun s3 => br_t rfl (ex (fun q => s3 q.2.2.2.2.2.2.2.1)))
        exact yw_sees' g hV hU hL hd b16 (fun s4 => br_f nu_1n (hA' ⟨vc, vd, by omega, by omega, w, s1, s2, s3, s4⟩)) (fun s4 => br_t rfl (ex (fun q => s4 q.2.2.2.2.2.2.2.2)))
      exact hs'
    exact hs
  · rcases Nat.eq_zero_or_pos N with w | w
    · rw [w] at k; exact absurd (show nI 0 ≤ 0 by decide) k
    · exact w
theorem yw_edge' {post : Int32 → Prop} (K : mo_K m V P S L) (g : xs_G a_px a_py P) (hV : xs_V a_live V) (hU : ys_S a_used a_sa a_sb tA tB) (hL : ys_L a_used tA tB S) {a b : Nat} (ha : a < 16) (hb : b < 16)
    (h1 : L a b ≤ 16 → post 1) (h0 : ¬ L a b ≤ 16 → post 0) : wpY_edge post (f_side, f_last, f_limit, a_live, a_px, a_py, a_used, a_sa, a_sb) (nI a) (nI b) := by
  refine yw_edge K g hV hU hL (fun a' b' ea eb ha' hb' e => ?_) (fun q => h0 (q a b rfl rfl))
  have e1 : a = a' := (nu_ni (by omega) (by omega)).mp ea
  have e2 : b = b' := (nu_ni (by omega) (by omega)).mp eb
  subst e1 e2
  exact h1 e
theorem yw_holds {post : Int32 → Prop} (g : xs_G a_px a_py P) {a b c : Nat} (ha : a < 16) (hb : b < 16) (hc : c < 16) {x y : Int32} (hxy : rb_b (x.toInt, y.toInt))
    (h1 : hd_P (P a) (P b) (P c) (x.toInt, y.toInt) → post 1) (h0 : ¬ hd_P (P a) (P b) (P c) (x.toInt, y.toInt) → post 0) : wpY_holds post (f_side, f_last, f_limit, a_live, a_px, a_py, a_used, a_sa, a_sb) (nI a) (nI b) (nI c) x y := by
  unfold wpY_holds
  refine yw_at g ha hb hxy (fun r hr => ?_)
  refine yw_at g hb hc hxy (fun s hs => ?_)
  refine yw_at g hc ha hxy (fun t ht => ?_)
  unfold hd_P at h1 h0
  rw [nu_le0 hr, nu_le0 hs, nu_0lt ht]
  have j : ¬ (0 < ge_o (P a) (P b) (x.toInt, y.toInt) ∧ 0 < ge_o (P b) (P c) (x.toInt, y.toInt) ∧ 0 < ge_o (P c) (P a) (x.toInt, y.toInt)) → wY_holds_51 post r s t f_side f_last f_limit a_live a_px a_py a_used a_sa a_sb := by
    intro hn
    unfold wY_holds_51
    rw [nu_0le hr, nu_0le hs, nu_0le ht]
    refine br_c (fun k => h0 (fun q => ?_)) (fun k => br_c (fun l => h0 (fun q => ?_)) (fun l => br_c (fun o => h0 (fun q => ?_)) (fun o => h1 (Or.inr ⟨by omega, by omega, by omega⟩))))
    · rcases q with q | q
      · exact hn q
      · omega
    · rcases q with q | q
      · exact hn q
      · omega
    · rcases q with q | q
      · exact hn q
      · omega
  exact br_c (fun k => j (by omega)) (fun k => br_c (fun l => j (by omega)) (fun l => br_c (fun o => h1 (Or.inl ⟨by omega, by omega, o⟩)) (fun o => j (by omega))))
theorem yw_face {post : Int32 → Prop} (K : mo_K m V P S L) (g : xs_G a_px a_py P) (hV : xs_V a_live V) (hU : ys_S a_used a_sa a_sb tA tB) (hL : ys_L a_used tA tB S) {a b c : Nat} (ha : a < 16) (hb : b < 16) (vc : V c)
    (h1 : fa_P P L a b c → post 1) (h0 : ¬ fa_P P L a b c → post 0) : wpY_face post (f_side, f_last, f_limit, a_live, a_px, a_py, a_used, a_sa, a_sb) (nI a) (nI b) (nI c) := by
  have hc := ((hV c).mp vc).1
  rw [← fa_1 K vc] at h1 h0
  unfold wpY_face
  refine yw_turn g ha hb hc (fun r hr => br_c (fun z => h0 (fun q => q.1 ((nu_eq0 hr).mp z))) (fun z => ?_))
  have z' : (ge_o (P a) (P b) (P c)) ≠ 0 := fun q => z ((nu_eq0 hr).mpr q)
  refine yw_edge' K g hV hU hL ha hb (fun e1 => br_f nu_1n ?_) (fun e1 => br_t rfl (h0 (fun q => e1 q.2.1)))
  refine yw_edge' K g hV hU hL hb hc (fun e2 => br_f nu_1n ?_) (fun e2 => br_t rfl (h0 (fun q => e2 q.2.2.1)))
  refine yw_edge' K g hV hU hL hc ha (fun e3 => br_f nu_1n ?_) (fun e3 => br_t rfl (h0 (fun q => e3 q.2.2.2.1)))
  have hs : ∃ f, (fun f k => wY_face_42 post (nI a) (nI b) (nI c) f_side f_last f_limit a_live a_px a_py a_used a_sa a_sb f (nI k)) f 0 := by
    refine lo_s (W := fun f k => wY_face_42 post (nI a) (nI b) (nI c) f_side f_last f_limit a_live a_px a_py a_used a_sa a_sb f (nI k)) (Q := fun k => V k ∧ hd_P (P a) (P b) (P c) (P k)) (N := 16) (A := fun _ => post 0) (E := post 1) (by omega)
      (fun f e => br_t nu_16' e) (fun f k _ hk hA hW => br_f (nu_16 hk) (And.intro (nu_in hk (by decide)) ?_))
      (fun k _ _ q _ => h0 (fun w => w.2.2.2.2 k q.1 q.2)) (fun hn => h1 ⟨z', e1, e2, e3, fun k vk q => hn k (by omega) ((hV k).mp vk).1 ⟨vk, q⟩⟩)
    rw [nI_clamp (n := k) (by omega)]
    have ex : ∀ (q : ¬ (V k ∧ hd_P (P a) (P b) (P c) (P k))), ∀ z, z = nI k + 1 → wY_face_42 post (nI a) (nI b) (nI c) f_side f_last f_limit a_live a_px a_py a_used a_sa a_sb f z := fun q => nm_r (nI_1 k) (hW q)
    refine br_c (fun o => ex (fun q => ((hV k).mp q.1).2 o)) (fun o => And.intro (nu_in hk (by decide)) (And.intro (nu_in hk (by decide)) ?_))
    have hxy : rb_b ((a_px k).toInt, (a_py k).toInt) := by rw [← (g k hk).1]; exact (g k hk).2
    have eP := (g k hk).1
    exact yw_holds g ha hb hc hxy (fun w => br_f nu_1n (hA ⟨(hV k).mpr ⟨hk, o⟩, by rw [eP]; exact w⟩)) (fun w => br_t rfl (ex (fun q => w (by rw [← eP]; exact q.2))))
  exact hs
theorem yw_apex {post : Int32 → Prop} (K : mo_K m V P S L) (g : xs_G a_px a_py P) (hV : xs_V a_live V) (hU : ys_S a_used a_sa a_sb tA tB) (hL : ys_L a_used tA tB S) {x y : Int32}
    (h1 : ∀ a b, x = nI a → y = nI b → a < 16 → b < 16 → L a b ≤ 16 → post (if L a b < 16 then nI (L a b) else -1)) (h0 : (∀ a b, x = nI a → y = nI b → ¬ L a b ≤ 16) → post (-1)) : wpY_apex post (f_side, f_last, f_limit, a_live, a_px, a_py, a_used, a_sa, a_sb) x y := by
  unfold wpY_apex
  refine yw_edge K g hV hU hL (fun a b ea eb ha hb e => br_f nu_1n ?_) (fun q => br_t rfl (h0 q))
  have h1' := h1 a b ea eb ha hb e
  subst ea eb
  obtain ⟨hp, hm, hS, hT, hl⟩ := K
  have hs : ∃ f, (fun f c => wY_apex_13 post (nI a) (nI b) f_side f_last f_limit a_live a_px a_py a_used a_sa a_sb f (nI c)) f 0 := by
    refine lo_s (W := fun f c => wY_apex_13 post (nI a) (nI b) f_side f_last f_limit a_live a_px a_py a_used a_sa a_sb f (nI c)) (Q := fun c => V c ∧ 0 < (ge_o (P a) (P b) (P c)) ∧ L a b = c) (N := 16) (A := fun c => post (nI c)) (E := post (-1)) (by omega)
      (fun f e => br_t nu_16' e) (fun f c _ hc hA hW => br_f (nu_16 hc) (And.intro (nu_in hc (by decide)) ?_))
      (fun c _ hc q _ => ?_) (fun hn => ?_)
    · rw [nI_clamp (n := c) (by omega)]
      have ex : ∀ (q : ¬ (V c ∧ 0 < (ge_o (P a) (P b) (P c)) ∧ L a b = c)), ∀ z, z = nI c + 1 → wY_apex_13 post (nI a) (nI b) f_side f_last f_limit a_live a_px a_py a_used a_sa a_sb f z := fun q => nm_r (nI_1 c) (hW q)
      refine br_c (fun o => ex (fun q => ((hV c).mp q.1).2 o)) (fun o => ?_)
      have vc : V c := (hV c).mpr ⟨hc, o⟩
      refine yw_turn g ha hb hc (fun r hr => ?_)
      rw [nu_le0 hr]
      refine br_c (fun k => ex (fun q => by have := q.2.1; omega)) (fun k => ?_)
      exact yw_face ⟨hp, hm, hS, hT, hl⟩ g hV hU hL ha hb vc (fun w => br_f nu_1n (hA ⟨vc, by omega, w.elim (fun w => w.2) (fun w => by have := w.1; omega)⟩)) (fun w => br_t rfl (ex (fun q => w (Or.inl ⟨q.2.1, q.2.2⟩))))
    · have : L a b < 16 := by have := q.2.2; omega
      rw [if_pos this, q.2.2] at h1'
      exact h1'
    · have : ¬ L a b < 16 := by
        intro w
        obtain ⟨_, _, vc, _, _, fo, _⟩ := tt_face hp hT (a := a) (b := b) rfl w
        exact hn (L a b) (by omega) w ⟨vc, fo, rfl⟩
      rw [if_neg this] at h1'
      exact h1'
  exact hs
theorem yw_degree {post : Int32 → Prop} (K : mo_K m V P S L) (g : xs_G a_px a_py P) (hV : xs_V a_live V) (hU : ys_S a_used a_sa a_sb tA tB) (hL : ys_L a_used tA tB S) {x : Int32}
    (h1 : ∀ k, V k → x = nI k → post (nI (ct_n (fun j => L k j ≤ 16) 16))) (h0 : (∀ k, V k → x ≠ nI k) → post (-1)) : wpY_degree post (f_side, f_last, f_limit, a_live, a_px, a_py, a_used, a_sa, a_sb) x := by
  unfold wpY_degree
  refine yw_live hV (fun k vk ek => br_f nu_1n ?_) (fun q => br_t rfl (h0 q))
  have h1' := h1 k vk ek
  subst ek
  have k16 := ((hV k).mp vk).1
  have hs : ∃ f, (fun f c i => wY_degree_14 post (nI k) f_side f_last f_limit a_live a_px a_py a_used a_sa a_sb f (nI c) (nI i)) f 0 0 := by
    refine lo_c (W := fun f c i => wY_degree_14 post (nI k) f_side f_last f_limit a_live a_px a_py a_used a_sa a_sb f (nI c) (nI i)) (Q := fun j => L k j ≤ 16) (N := 16) (E := fun c => post (nI c))
      (fun f c e => br_t nu_16' e) (fun f c i hi _ hQ hW => br_f (nu_16 hi) ?_) h1'
    exact yw_edge' K g hV hU hL k16 hi (fun q => br_f nu_1n (nm_r (nI_1 c) (nm_r (nI_1 i) (hQ q)))) (fun q => br_t rfl (nm_r (nI_1 i) (hW q)))
  exact hs
theorem yw_third {post : Int32 → Prop} (K : mo_K m V P S L) (g : xs_G a_px a_py P) (hV : xs_V a_live V) (hU : ys_S a_used a_sa a_sb tA tB) (hL : ys_L a_used tA tB S) {a b : Nat} (ha : a < 16) (hb : b < 16) {x y : Int32} (hxy : rb_b (x.toInt, y.toInt))
    (h1 : ∀ c, b < c → c < 16 → V a → V b → V c → hd_P (P a) (P b) (P c) (x.toInt, y.toInt) → fa_P P L a b c → post (nI c))
    (h0 : (∀ c, b < c → c < 16 → V a → V b → V c → hd_P (P a) (P b) (P c) (x.toInt, y.toInt) → ¬ fa_P P L a b c) → post (-1)) : wpY_third post (f_side, f_last, f_limit, a_live, a_px, a_py, a_used, a_sa, a_sb) (nI a) (nI b) x y := by
  unfold wpY_third
  refine nm_r (nI_1 b) ?_
  have hs : ∃ f, (fun f c => wY_third_5 post (nI a) (nI b) x y f_side f_last f_limit a_live a_px a_py a_used a_sa a_sb f (nI c)) f (b + 1) := by
    refine lo_s (W := fun f c => wY_third_5 post (nI a) (nI b) x y f_side f_last f_limit a_live a_px a_py a_used a_sa a_sb f (nI c)) (Q := fun c => V a ∧ V b ∧ V c ∧ hd_P (P a) (P b) (P c) (x.toInt, y.toInt) ∧ fa_P P L a b c) (N := 16) (A := fun c => post (nI c)) (E := post (-1)) (by omega)
      (fun f e => br_t nu_16' e) (fun f c _ hc hA hW => br_f (nu_16 hc) (And.intro (nu_in ha (by decide)) ?_))
      (fun c h hc q _ => h1 c (by omega) hc q.1 q.2.1 q.2.2.1 q.2.2.2.1 q.2.2.2.2) (fun hn => h0 (fun c h hc va vb vc k w => hn c (by omega) hc ⟨va, vb, vc, k, w⟩))
    rw [nI_clamp (n := a) (by omega), nI_clamp (n := b) (by omega), nI_clamp (n := c) (by omega)]
    have ex : ∀ (q : ¬ (V a ∧ V b ∧ V c ∧ hd_P (P a) (P b) (P c) (x.toInt, y.toInt) ∧ fa_P P L a b c)), ∀ z, z = nI c + 1 → wY_third_5 post (nI a) (nI b) x y f_side f_last f_limit a_live a_px a_py a_used a_sa a_sb f z := fun q => nm_r (nI_1 c) (hW q)
    refine br_c (fun o => ex (fun q => ((hV a).mp q.1).2 o)) (fun o => And.intro (nu_in hb (by decide)) (br_c (fun o2 => ex (fun q => ((hV b).mp q.2.1).2 o2)) (fun o2 => And.intro (nu_in hc (by decide)) (br_c (fun o3 => ex (fun q => ((hV c).mp q.2.2.1).2 o3)) (fun o3 => ?_)))))
    have va : V a := (hV a).mpr ⟨ha, o⟩
    have vb : V b := (hV b).mpr ⟨hb, o2⟩
    have vc : V c := (hV c).mpr ⟨hc, o3⟩
    refine yw_holds g ha hb hc hxy (fun k => br_f nu_1n ?_) (fun k => br_t rfl (ex (fun q => k q.2.2.2.1)))
    exact yw_face K g hV hU hL ha hb vc (fun w => br_f nu_1n (hA ⟨va, vb, vc, k, w⟩)) (fun w => br_t rfl (ex (fun q => w q.2.2.2.2)))
  exact hs
/-- the reference's search for an edge through the place -/
theorem yw_loc1 {post : Int32 → Prop} (K : mo_K m V P S L) (g : xs_G a_px a_py P) (hV : xs_V a_live V) (hU : ys_S a_used a_sa a_sb tA tB) (hL : ys_L a_used tA tB S) {x y : Int32} (hxy : rb_b (x.toInt, y.toInt))
    (h1 : ∀ a b, a < b → b < 16 → L a b ≤ 16 → ge_B (x.toInt, y.toInt) (P a) (P b) → post (nI a + 32 * nI b))
    (h0 : (∀ a b, a < b → b < 16 → L a b ≤ 16 → ¬ ge_B (x.toInt, y.toInt) (P a) (P b)) → ∃ f, wY_locate_128 post x y f_side f_last f_limit a_live a_px a_py a_used a_sa a_sb f 0) : ∃ f, wY_locate_43 post x y f_side f_last f_limit a_live a_px a_py a_used a_sa a_sb f 0 := by
  have hTv : ∀ a b, L a b ≤ 16 → V a ∧ V b := fun a b e => ⟨tt_va K.2.2.2.1 e, tt_vb K.2.2.2.1 e⟩
  have hs : ∃ f, (fun f b => wY_locate_43 post x y f_side f_last f_limit a_live a_px a_py a_used a_sa a_sb f (nI b)) f 0 := by
    refine lo_s (W := fun f b => wY_locate_43 post x y f_side f_last f_limit a_live a_px a_py a_used a_sa a_sb f (nI b)) (Q := fun b => ∃ a, a < b ∧ L a b ≤ 16 ∧ ge_B (x.toInt, y.toInt) (P a) (P b)) (N := 16) (A := fun b => ∀ a, a < b → L a b ≤ 16 → ge_B (x.toInt, y.toInt) (P a) (P b) → post (nI a + 32 * nI b))
      (E := ∃ f, wY_locate_128 post x y f_side f_last f_limit a_live a_px a_py a_used a_sa a_sb f 0) (by omega)
      (fun f e => br_t nu_16' e) (fun f b _ hb hA hW => br_f (nu_16 hb) ?_)
      (fun b _ hb _ _ a l e k => h1 a b l hb e k) (fun hn => h0 (fun a b l hb e k => hn b (by omega) hb ⟨a, l, e, k⟩))
    have hs' : ∃ f', (fun f' a => wY_locate_53 post (wY_locate_43 post x y f_side f_last f_limit a_live a_px a_py a_used a_sa a_sb f) x y (nI b) f_side f_last f_limit a_live a_px a_py a_used a_sa a_sb f' (nI a)) f' 0 := by
      refine lo_s (W := fun f' a => wY_locate_53 post (wY_locate_43 post x y f_side f_last f_limit a_live a_px a_py a_used a_sa a_sb f) x y (nI b) f_side f_last f_limit a_live a_px a_py a_used a_sa a_sb f' (nI a)) (Q := fun a => L a b ≤ 16 ∧ ge_B (x.toInt, y.toInt) (P a) (P b)) (N := b) (A := fun a => post (nI a + 32 * nI b))
        (E := ∀ z, z = nI b + 1 → wY_locate_43 post x y f_side f_last f_limit a_live a_px a_py a_used a_sa a_sb f z) (by omega)
        (fun f' e => br_t (nI_le (Nat.le_refl b) (by omega)) e) (fun f' a _ ha hA' hW' => br_f (nI_ge ha (by omega)) (And.intro (nu_in (show a < 16 by omega) (by decide)) ?_))
        (fun a _ ha q _ => hA ⟨a, ha, q⟩ a ha q.1 q.2) (fun hn => nm_r (nI_1 b) (hW (fun ⟨a, ha, q⟩ => hn a (by omega) ha q)))
      rw [nI_clamp (n := a) (by omega), nI_clamp (n := b) (by omega)]
      have ex : ∀ (q : ¬ (L a b ≤ 16 ∧ ge_B (x.toInt, y.toInt) (P a) (P b))), ∀ z, z = nI a + 1 → wY_locate_53 post (wY_locate_43 post x y f_side f_last f_limit a_live a_px a_py a_used a_sa a_sb f) x y (nI b) f_side f_last f_limit a_live a_px a_py a_used a_sa a_sb f' z := fun q => nm_r (nI_1 a) (hW' q)
      refine br_c (fun o => ex (fun q => ((hV a).mp (hTv a b q.1).1).2 o)) (fun o => And.intro (nu_in hb (by decide)) (br_c (fun o2 => ex (fun q => ((hV b).mp (hTv a b q.1).2).2 o2)) (fun o2 => ?_)))
      refine yw_between g (show a < 16 by omega) hb hxy (fun k => br_f nu_1n ?_) (fun k => br_t rfl (ex (fun q => k q.2)))
      exact yw_edge' K g hV hU hL (show a < 16 by omega) hb (fun e => br_f nu_1n (hA' ⟨e, k⟩)) (fun e => br_t rfl (ex (fun q => e q.1)))
    exact hs'
  exact hs
/-- the reference's search for a face about the place -/
theorem yw_loc2 {post : Int32 → Prop} (K : mo_K m V P S L) (g : xs_G a_px a_py P) (hV : xs_V a_live V) (hU : ys_S a_used a_sa a_sb tA tB) (hL : ys_L a_used tA tB S) {x y : Int32} (hxy : rb_b (x.toInt, y.toInt))
    (h1 : ∀ a b c, a < b → b < c → c < 16 → hd_P (P a) (P b) (P c) (x.toInt, y.toInt) → fa_P P L a b c → post (nI a + 32 * nI b + 1024 * nI c))
    (h0 : ∃ a b c, a < b ∧ b < c ∧ c < 16 ∧ V a ∧ V b ∧ V c ∧ hd_P (P a) (P b) (P c) (x.toInt, y.toInt) ∧ fa_P P L a b c) : ∃ f, wY_locate_128 post x y f_side f_last f_limit a_live a_px a_py a_used a_sa a_sb f 0 := by
  have hs : ∃ f, (fun f b => wY_locate_128 post x y f_side f_last f_limit a_live a_px a_py a_used a_sa a_sb f (nI b)) f 0 := by
    refine lo_s (W := fun f b => wY_locate_128 post x y f_side f_last f_limit a_live a_px a_py a_used a_sa a_sb f (nI b)) (Q := fun b => ∃ a c, a < b ∧ b < c ∧ c < 16 ∧ V a ∧ V b ∧ V c ∧ hd_P (P a) (P b) (P c) (x.toInt, y.toInt) ∧ fa_P P L a b c) (N := 16) (A := fun b => True) (E := False) (by omega)
      (fun f e => e.elim) (fun f b _ hb hA hW => br_f (nu_16 hb) ?_) (fun _ _ _ _ _ => trivial) (fun hn => by obtain ⟨a, b, c, l1, l2, l3, r⟩ := h0; exact hn b (by omega) (by omega) ⟨a, c, l1, l2, l3, r⟩)
    have hs' : ∃ f', (fun f' a => wY_locate_138 post (wY_locate_128 post x y f_side f_last f_limit a_live a_px a_py a_used a_sa a_sb f) x y (nI b) f_side f_last f_limit a_live a_px a_py a_used a_sa a_sb f' (nI a)) f' 0 := by
      refine lo_s (W := fun f' a => wY_locate_138 post (wY_locate_128 post x y f_side f_last f_limit a_live a_px a_py a_used a_sa a_sb f) x y (nI b) f_side f_last f_limit a_live a_px a_py a_used a_sa a_sb f' (nI a)) (Q := fun a => ∃ c, b < c ∧ c < 16 ∧ V a ∧ V b ∧ V c ∧ hd_P (P a) (P b) (P c) (x.toInt, y.toInt) ∧ fa_P P L a b c) (N := b) (A := fun a => True)
        (E := ∀ z, z = nI b + 1 → wY_locate_128 post x y f_side f_last f_limit a_live a_px a_py a_used a_sa a_sb f z) (by omega)
        (fun f' e => br_t (nI_le (Nat.le_refl b) (by omega)) e) (fun f' a _ ha _ hW' => br_f (nI_ge ha (by omega)) ?_)
        (fun _ _ _ _ _ => trivial) (fun hn => nm_r (nI_1 b) (hW (fun ⟨a, c, l1, l2, l3, r⟩ => hn a (by omega) l1 ⟨c, l2, l3, r⟩)))
      refine yw_third K g hV hU hL (show a < 16 by omega) hb hxy (fun c l2 l3 va vb vc k w => br_f (fun q => ?_) (h1 a b c ha l2 l3 k w)) (fun q => br_t rfl (nm_r (nI_1 a) (hW' (fun ⟨c, l2, l3, va, vb, vc, k, w⟩ => q c l2 l3 va vb vc k w))))
      have : ¬ nI c < 0 := nI_pos (by omega)
      rw [q] at this
      exact this (by decide)
    exact hs'
  exact hs
end
end
section
/-! the changing methods -/
def um_L (L : Nat → Nat → Nat) (a b v : Nat) : Nat → Nat → Nat := fun x y => if x = a ∧ y = b then v else L x y
def jn_L (L : Nat → Nat → Nat) (a b c : Nat) : Nat → Nat → Nat := um_L (um_L (um_L L a b c) b c a) c a b
def cu_L (L : Nat → Nat → Nat) (a b c : Nat) : Nat → Nat → Nat := um_L (um_L (um_L L a b 17) b c 17) c a 17
theorem um_M {l : Nat → Int32} {L : Nat → Nat → Nat} (h : xs_M l L) {a b v : Nat} (ha : a < 16) (hb : b < 16) {w : Int32} (hw : w = xs_en v) : xs_M (upd l (a * 16 + b) w) (um_L L a b v) := by
  intro x y hx hy
  unfold upd um_L
  by_cases e : x = a ∧ y = b
  · rw [if_pos e, if_pos (by omega), hw]
  · rw [if_neg e, if_neg (by omega), h x y hx hy]
theorem en_v {v : Nat} (h : v < 16) : nI v = xs_en v := by unfold xs_en; rw [if_pos (by omega)]
theorem en_17 : (-1 : Int32) = xs_en 17 := by unfold xs_en; rw [if_neg (by omega)]
/-- the stack, its top first -/
def sk_I (a_stack : Nat → Int32) : List (Nat × Nat) → Prop
  | [] => True
  | p :: l => a_stack l.length = nI (p.1 * 16 + p.2) ∧ p.1 < 16 ∧ p.2 < 16 ∧ sk_I a_stack l
theorem sk_u {a_stack : Nat → Int32} {v : Int32} : ∀ {l : List (Nat × Nat)} {i : Nat}, sk_I a_stack l → l.length ≤ i → sk_I (upd a_stack i v) l := by
  intro l
  induction l with
  | nil => intro i _ _; trivial
  | cons p l ih =>
    intro i h hi
    have hi' : l.length + 1 ≤ i := hi
    refine ⟨?_, h.2.1, h.2.2.1, ih h.2.2.2 (by omega)⟩
    unfold upd
    rw [if_neg (by omega)]
    exact h.1
section
variable {f_side f_last f_limit f_segCount f_top f_walkQ f_walkP f_walkN : Int32} {a_px a_py a_live a_segA a_segB a_left a_stack : Nat → Int32}
variable {m : Int} {P : Nat → Int × Int} {V : Nat → Prop} {sA sB : Nat → Nat} {n : Nat} {L : Nat → Nat → Nat} {S : List (Nat × Nat)}
theorem xw_join {post : SX → Prop} (hM : xs_M a_left L) {a b c : Nat} (ha : a < 16) (hb : b < 16) (hc : c < 16)
    (h : ∀ l', xs_M l' (jn_L L a b c) → post (f_side, f_last, f_limit, f_segCount, f_top, f_walkQ, f_walkP, f_walkN, a_px, a_py, a_live, a_segA, a_segB, l', a_stack)) : wpX_join post (f_side, f_last, f_limit, f_segCount, f_top, f_walkQ, f_walkP, f_walkN, a_px, a_py, a_live, a_segA, a_segB, a_left, a_stack) (nI a) (nI b) (nI c) := by
  unfold wpX_join
  dsimp only
  rw [nu_ix, nu_ix, nu_ix, nI_clamp (n := a * 16 + b) (by omega), nI_clamp (n := b * 16 + c) (by omega), nI_clamp (n := c * 16 + a) (by omega)]
  refine And.intro (nu_in (by omega) (by decide)) (nm_e (And.intro (nu_in (by omega) (by decide)) (nm_e (And.intro (nu_in (by omega) (by decide)) (nm_e (h _ ?_))))))
  exact um_M (um_M (um_M hM ha hb (en_v hc)) hb hc (en_v ha)) hc ha (en_v hb)
theorem xw_push {post : SX → Prop} {l : List (Nat × Nat)} (hl : sk_I a_stack l) (h10 : l.length < 1024) {a b : Nat} (ha : a < 16) (hb : b < 16)
    (h : ∀ s', sk_I s' ((a, b) :: l) → post (f_side, f_last, f_limit, f_segCount, nI (l.length + 1), f_walkQ, f_walkP, f_walkN, a_px, a_py, a_live, a_segA, a_segB, a_left, s')) : wpX_push post (f_side, f_last, f_limit, f_segCount, nI l.length, f_walkQ, f_walkP, f_walkN, a_px, a_py, a_live, a_segA, a_segB, a_left, a_stack) (nI a) (nI b) := by
  unfold wpX_push
  refine br_f (nI_ge (b := 1024) h10 (by decide)) (And.intro (nu_in h10 (by decide)) (nm_e (nm_r (nI_1 _) (h _ ?_))))
  rw [nu_ix, nI_clamp (n := l.length) (by omega)]
  refine ⟨?_, ha, hb, sk_u hl (Nat.le_refl _)⟩
  unfold upd; rw [if_pos rfl]
theorem xw_cut {post : SX → Prop} (hM : xs_M a_left L) {l : List (Nat × Nat)} (hl : sk_I a_stack l) (h10 : l.length + 3 ≤ 1024) {a b c : Nat} (ha : a < 16) (hb : b < 16) (hc : c < 16)
    (h : ∀ l' s', xs_M l' (cu_L L a b c) → sk_I s' ((c, a) :: (b, c) :: (a, b) :: l) → post (f_side, f_last, f_limit, f_segCount, nI (l.length + 3), f_walkQ, f_walkP, f_walkN, a_px, a_py, a_live, a_segA, a_segB, l', s')) :
    wpX_cut post (f_side, f_last, f_limit, f_segCount, nI l.length, f_walkQ, f_walkP, f_walkN, a_px, a_py, a_live, a_segA, a_segB, a_left, a_stack) (nI a) (nI b) (nI c) := by
  unfold wpX_cut
  dsimp only
  rw [nu_ix, nu_ix, nu_ix, nI_clamp (n := a * 16 + b) (by omega), nI_clamp (n := b * 16 + c) (by omega), nI_clamp (n := c * 16 + a) (by omega)]
  refine And.intro (nu_in (by omega) (by decide)) (nm_e (And.intro (nu_in (by omega) (by decide)) (nm_e (And.intro (nu_in (by omega) (by decide)) (nm_e ?_)))))
  refine xw_push hl (by omega) ha hb (fun s1 h1 => ?_)
  refine xw_push (l := (a, b) :: l) h1 (by show l.length + 1 < 1024; omega) hb hc (fun s2 h2 => ?_)
  refine xw_push (l := (b, c) :: (a, b) :: l) h2 (by show l.length + 1 + 1 < 1024; omega) hc ha (fun s3 h3 => ?_)
  exact h _ _ (um_M (um_M (um_M hM ha hb en_17) hb hc en_17) hc ha en_17) h3
theorem cv_iff (hS : xs_S n a_segA a_segB sA sB) (hL : ∀ s, s ∈ S ↔ ∃ i, i < n ∧ s = (sA i, sB i)) {a b : Nat} :
    tr_cov P S a b ↔ 0 < ct_n (fun i => (ge_C (P a) (P (sA i)) (P (sB i))) ∧ (ge_C (P b) (P (sA i)) (P (sB i)))) n := by
  have cz : ∀ k, (∃ j, j < k ∧ ((ge_C (P a) (P (sA j)) (P (sB j))) ∧ (ge_C (P b) (P (sA j)) (P (sB j))))) ↔ 0 < ct_n (fun j => (ge_C (P a) (P (sA j)) (P (sB j))) ∧ (ge_C (P b) (P (sA j)) (P (sB j)))) k := by
    intro k
    induction k with
    | zero => exact ⟨fun ⟨j, hj, _⟩ => by omega, fun q => absurd q (Nat.lt_irrefl 0)⟩
    | succ k ih =>
      by_cases q : (ge_C (P a) (P (sA k)) (P (sB k))) ∧ (ge_C (P b) (P (sA k)) (P (sB k)))
      · rw [ct_s1 q]
        exact ⟨fun _ => by omega, fun _ => ⟨k, by omega, q⟩⟩
      · rw [ct_s0 q, ← ih]
        constructor
        · rintro ⟨j, hj, w⟩
          rcases Nat.lt_or_ge j k with l | l
          · exact ⟨j, l, w⟩
          · have : j = k := by omega
            subst this; exact absurd w q
        · rintro ⟨j, hj, w⟩
          exact ⟨j, by omega, w⟩
  rw [← cz n]
  constructor
  · rintro ⟨s, hs, c1, c2⟩
    obtain ⟨j, hj, rfl⟩ := (hL s).mp hs
    exact ⟨j, hj, c1, c2⟩
  · rintro ⟨j, hj, c1, c2⟩
    exact ⟨(sA j, sB j), (hL _).mpr ⟨j, hj, rfl⟩, c1, c2⟩
/-- cutting and joining is the flip -/
theorem fl_ops {a b c d : Nat} (nab : a ≠ b) (nbc : b ≠ c) (nca : c ≠ a) (nad : a ≠ d) (ndb : d ≠ b) (ncd : c ≠ d) :
    jn_L (jn_L (cu_L (cu_L L a b c) b a d) a d c) d b c = fl_L L a b c d := by
  funext x y
  unfold jn_L cu_L um_L fl_L
  by_cases h1 : x = a ∧ y = b
  · obtain ⟨rfl, rfl⟩ := h1; grind
  by_cases h2 : x = b ∧ y = a
  · obtain ⟨rfl, rfl⟩ := h2; grind
  by_cases h3 : x = a ∧ y = d
  · obtain ⟨rfl, rfl⟩ := h3; grind
  by_cases h4 : x = d ∧ y = c
  · obtain ⟨rfl, rfl⟩ := h4; grind
  by_cases h5 : x = c ∧ y = a
  · obtain ⟨rfl, rfl⟩ := h5; grind
  by_cases h6 : x = d ∧ y = b
  · obtain ⟨rfl, rfl⟩ := h6; grind
  by_cases h7 : x = b ∧ y = c
  · obtain ⟨rfl, rfl⟩ := h7; grind
  by_cases h8 : x = c ∧ y = d
  · obtain ⟨rfl, rfl⟩ := h8; grind
  simp only [h1, h2, h3, h4, h5, h6, h7, h8, if_false]
end
end
section
theorem nu_codeF : ∀ n : Fin 256, nI n.val >>> ((4 : Int32) &&& 31) = nI (n.val / 16) ∧ nI n.val &&& 15 = nI (n.val % 16) := by decide +kernel
theorem nu_code {a b : Nat} (ha : a < 16) (hb : b < 16) : nI (a * 16 + b) >>> ((4 : Int32) &&& 31) = nI a ∧ nI (a * 16 + b) &&& 15 = nI b := by
  have := nu_codeF ⟨a * 16 + b, by omega⟩
  simp only at this
  rw [show (a * 16 + b) / 16 = a by omega, show (a * 16 + b) % 16 = b by omega] at this
  exact this
section
variable {f_side f_last f_limit f_segCount f_top f_walkQ f_walkP f_walkN : Int32} {a_px a_py a_live a_segA a_segB a_left a_stack : Nat → Int32}
variable {m : Int} {P : Nat → Int × Int} {V : Nat → Prop} {sA sB : Nat → Nat} {n : Nat} {L : Nat → Nat → Nat} {S : List (Nat × Nat)}
theorem xw_flip {post : SX → Prop} (g : xs_G a_px a_py P) (hp : tr_pt m V P) (hm : m ≤ 100) (hT : tr_T V P S L) (hS : xs_S n a_segA a_segB sA sB) (hL : ∀ s, s ∈ S ↔ ∃ i, i < n ∧ s = (sA i, sB i))
    (hM : xs_M a_left L) {l : List (Nat × Nat)} (hl : sk_I a_stack l) (h10 : l.length + 6 ≤ 1024) {a b : Nat} (ha : a < 16) (hb : b < 16)
    (h0 : (∀ c d, L a b = c → c < 16 → L b a = d → d < 16 → ¬ tr_cov P S a b → 0 ≤ ge_D (rh_H P) P a b c d) → post (f_side, f_last, f_limit, nI n, nI l.length, f_walkQ, f_walkP, f_walkN, a_px, a_py, a_live, a_segA, a_segB, a_left, a_stack))
    (h1 : ∀ c d, L a b = c → c < 16 → L b a = d → d < 16 → ¬ tr_cov P S a b → ge_D (rh_H P) P a b c d < 0 →
      ∀ l' s', xs_M l' (fl_L L a b c d) → sk_I s' ((d, b) :: (a, d) :: (b, a) :: (c, a) :: (b, c) :: (a, b) :: l) → post (f_side, f_last, f_limit, nI n, nI (l.length + 6), f_walkQ, f_walkP, f_walkN, a_px, a_py, a_live, a_segA, a_segB, l', s')) :
    wpX_flipIfBad post (f_side, f_last, f_limit, nI n, nI l.length, f_walkQ, f_walkP, f_walkN, a_px, a_py, a_live, a_segA, a_segB, a_left, a_stack) (nI a) (nI b) := by
  unfold wpX_flipIfBad
  dsimp only
  rw [nu_ix, nu_ix, nI_clamp (n := a * 16 + b) (by omega), nI_clamp (n := b * 16 + a) (by omega)]
  refine And.intro (nu_in (by omega) (by decide)) (nm_r (hM a b ha hb) (And.intro (nu_in (by omega) (by decide)) (nm_r (hM b a hb ha) ?_)))
  refine xw_num (fun hc => br_f nu_1n ?_) (fun hc => br_t rfl (h0 (fun c d e1 c16 e2 d16 _ => absurd (by omega) hc)))
  refine xw_num (fun hd => br_f nu_1n ?_) (fun hd => br_t rfl (h0 (fun c d e1 c16 e2 d16 _ => absurd (by omega) hd)))
  refine xw_covering g hS ha hb ?_
  have cl := ct_le (fun i => (ge_C (P a) (P (sA i)) (P (sB i))) ∧ (ge_C (P b) (P (sA i)) (P (sB i)))) n
  have cv := cv_iff (P := P) hS hL (a := a) (b := b)
  have hn8 := hS.1
  generalize ct_n (fun i => (ge_C (P a) (P (sA i)) (P (sB i))) ∧ (ge_C (P b) (P (sA i)) (P (sB i)))) n = N at *
  refine br_c (fun k => h0 (fun c d _ _ _ _ hn => absurd (cv.mpr ?_) hn)) (fun k => ?_)
  · rcases Nat.eq_zero_or_pos N with w | w
    · rw [w] at k; exact absurd k (by decide)
    · exact w
  have ncov : ¬ tr_cov P S a b := by
    intro q
    exact k (nI_lt (a := 0) (cv.mp q) (by omega))
  obtain ⟨va, vb, vc, bc, ca, f1, x1, x2, x3, x4, x5, x6⟩ := tt_face hp hT (a := a) (b := b) rfl hc
  obtain ⟨_, _, vd, ad, db, f2, y1, y2, y3, y4, y5, y6⟩ := tt_face hp hT (a := b) (b := a) rfl hd
  have nab := tt_ne hT x1
  have nbc := tt_ne hT x2
  have nca := tt_ne hT x3
  have nad := tt_ne hT y2
  have ndb := tt_ne hT y3
  have ncd : L a b ≠ L b a := by intro q; rw [q] at f1; have := ge_sw (P a) (P b) (P (L b a)); omega
  have w := (wi_1 (rb_v hp hm va) (rb_v hp hm vb) (rb_v hp hm vc) (rb_v hp hm vd) ha hb hc hd (show (ge_o (P a) (P b) (P (L a b))) ≠ 0 by omega)
    (fun q => nad (tp_inj hp vd va q).symm) (fun q => ndb (tp_inj hp vd vb q)) (fun q => ncd (tp_inj hp vd vc q).symm)).1 f1
  rw [← en_v hc, ← en_v hd]
  refine xw_within g ha hb hc hd (fun q => br_f nu_1n ?_) (fun q => br_t rfl (h0 (fun c d e1 c16 e2 d16 _ => ?_)))
  · refine xw_cut hM hl (by omega) ha hb hc (fun l1 s1 m1 k1 => ?_)
    refine xw_cut (l := (L a b, a) :: (b, L a b) :: (a, b) :: l) m1 k1 (by show l.length + 1 + 1 + 1 + 3 ≤ 1024; omega) hb ha hd (fun l2 s2 m2 k2 => ?_)
    refine xw_join m2 ha hd hc (fun l3 m3 => ?_)
    refine xw_join m3 hd hb hc (fun l4 m4 => ?_)
    rw [fl_ops nab nbc nca nad ndb ncd] at m4
    exact h1 _ _ rfl hc rfl hd ncov (w.1 q) l4 s2 m4 k2
  · have := w.2 q
    rw [← e1, ← e2]; omega
/-- flipping until all edges obey the rule -/
theorem xw_legal {post : SX → Prop} (g : xs_G a_px a_py P) (hp : tr_pt m V P) (hm : m ≤ 100) (hS : xs_S n a_segA a_segB sA sB) (hL : ∀ s, s ∈ S ↔ ∃ i, i < n ∧ s = (sA i, sB i))
    (hpost : ∀ L' l' s', tr_T V P S L' → tr_LD (rh_H P) P S L' → xs_M l' L' → post (f_side, f_last, f_limit, nI n, 0, f_walkQ, f_walkP, f_walkN, a_px, a_py, a_live, a_segA, a_segB, l', s')) :
    ∀ (N i : Nat) (a_left a_stack : Nat → Int32) (L : Nat → Nat → Nat) (F : Nat → Nat → Prop) (l : List (Nat × Nat)), l.length + 3 * lf_c F ≤ N → i + N ≤ 1000 → tr_T V P S L →
      ld_K (rh_H P) P S L (fun x y => (x, y) ∈ l) → lf_F (rh_H P) P L F → xs_M a_left L → sk_I a_stack l →
      wX_legalize_2 post (N + 1) (nI i) f_side f_last f_limit (nI n) (nI l.length) f_walkQ f_walkP f_walkN a_px a_py a_live a_segA a_segB a_left a_stack := by
  intro N
  induction N with
  | zero =>
    intro i a_left a_stack L F l hN hi hT hK hF hM hl
    have l0 : l = [] := List.eq_nil_of_length_eq_zero (by omega)
    subst l0
    exact br_f (nI_ge (b := 1024) (by omega) (by decide)) (br_t (by decide) (hpost L _ _ hT (ld_0 hK (fun x y q => absurd q List.not_mem_nil)) hM))
  | succ N ih =>
    intro i a_left a_stack L F l hN hi hT hK hF hM hl
    refine br_f (nI_ge (b := 1024) (by omega) (by decide)) ?_
    match l, hN, hK, hl with
    | [], _, hK, _ => exact br_t (by decide) (hpost L _ _ hT (ld_0 hK (fun x y q => absurd q List.not_mem_nil)) hM)
    | (a, b) :: l, hN, hK, hl =>
      have hN' : l.length + 1 + 3 * lf_c F ≤ N + 1 := hN
      obtain ⟨es, ha, hb, hl'⟩ := hl
      have ha : a < 16 := ha
      have hb : b < 16 := hb
      have es : a_stack l.length = nI (a * 16 + b) := es
      obtain ⟨c1, c2⟩ := nu_code ha hb
      have vt : vp_in (nI l.length) 1024 := nu_in (by omega) (by decide)
      refine br_f (nI_nle (n := l.length + 1) (by omega) (by omega)) (nm_r (nI_pred l.length) (And.intro vt ?_))
      rw [nI_clamp (n := l.length) (by omega), es]
      refine nm_r c1 (And.intro vt (nm_r c2 ?_))
      have hi1 := nI_1 i
      refine xw_flip g hp hm hT hS hL hM hl' (by omega) ha hb (fun hg => nm_r hi1 ?_) (fun c d e1 hc e2 hd ncov hD l' s' m' k' => nm_r hi1 ?_)
      · refine ih (i + 1) a_left a_stack L F l (by omega) (by omega) hT (ld_pop hK (fun x y q => ?_) hg) hF hM hl'
        rcases List.mem_cons.mp q with q | q
        · exact Or.inr ⟨congrArg Prod.fst q, congrArg Prod.snd q⟩
        · exact Or.inl q
      · have va := tt_va hT (show L a b ≤ 16 by omega)
        have vb := tt_vb hT (show L a b ≤ 16 by omega)
        have ne := tt_ne hT (show L a b ≤ 16 by omega)
        obtain ⟨q1, q2⟩ := fl_x hp hT (rh_hull hp hm) e1 hc e2 hd hD
        have cc := lf_c2 (F := F) ha hb ne (fun f => lf_no hp hT hF f (by omega)) (fun f => lf_no hp hT hF f (by omega))
        refine ih (i + 1) l' s' (fl_L L a b c d) _ ((d, b) :: (a, d) :: (b, a) :: (c, a) :: (b, c) :: (a, b) :: l) (by show l.length + 1 + 1 + 1 + 1 + 1 + 1 + _ ≤ N; omega) (by omega) (fl_T hp hT e1 hc e2 hd q1 q2 ncov) ?_ (lf_flip hp hT hF e1 hc e2 hd q1 q2 hD) m' k'
        refine ld_flip hp hT hK e1 hc e2 hd hD (fun x y q => ?_) ?_ ?_ ?_ ?_
        · rcases List.mem_cons.mp q with q | q
          · exact Or.inr ⟨congrArg Prod.fst q, congrArg Prod.snd q⟩
          · left; simp [q]
        · simp
        · simp
        · simp
        · simp
/-- 'legalize' from a mesh whose bad edges wait on the stack -/
theorem xw_legalize {post : SX → Prop} (g : xs_G a_px a_py P) (hp : tr_pt m V P) (hm : m ≤ 100) (hS : xs_S n a_segA a_segB sA sB) (hL : ∀ s, s ∈ S ↔ ∃ i, i < n ∧ s = (sA i, sB i))
    (hT : tr_T V P S L) {l : List (Nat × Nat)} (hK : ld_K (rh_H P) P S L (fun x y => (x, y) ∈ l)) (hM : xs_M a_left L) (hl : sk_I a_stack l) (h10 : l.length ≤ 130)
    (hpost : ∀ L' l' s', tr_T V P S L' → tr_LD (rh_H P) P S L' → xs_M l' L' → post (f_side, f_last, f_limit, nI n, 0, f_walkQ, f_walkP, f_walkN, a_px, a_py, a_live, a_segA, a_segB, l', s')) :
    wpX_legalize post (f_side, f_last, f_limit, nI n, nI l.length, f_walkQ, f_walkP, f_walkN, a_px, a_py, a_live, a_segA, a_segB, a_left, a_stack) := by
  unfold wpX_legalize
  have c := lf_c256 (fun _ _ => False)
  exact ⟨_, xw_legal g hp hm hS hL hpost 1000 0 a_left a_stack L (fun _ _ => False) l (by omega) (by omega) hT hK (fun _ _ f => f.elim) hM hl⟩
end
end
section
/-! counting pairs -/
theorem ct_cong {Q R : Nat → Prop} : ∀ n, (∀ i, i < n → (Q i ↔ R i)) → ct_n Q n = ct_n R n := by
  intro n h
  have h1 := ct_mono (Q := Q) (R := R) n (fun i hi => (h i hi).mp)
  have h2 := ct_mono (Q := R) (R := Q) n (fun i hi => (h i hi).mpr)
  omega
theorem ct_add (Q : Nat → Prop) (m : Nat) : ∀ j, ct_n Q (m + j) = ct_n Q m + ct_n (fun i => Q (m + i)) j := by
  intro j
  induction j with
  | zero => rfl
  | succ j ih =>
    by_cases h : Q (m + j)
    · rw [show m + (j + 1) = (m + j) + 1 by omega, ct_s1 h, ih, ct_s1 (Q := fun i => Q (m + i)) h]; omega
    · rw [show m + (j + 1) = (m + j) + 1 by omega, ct_s0 h, ih, ct_s0 (Q := fun i => Q (m + i)) h]
theorem ct_none {Q : Nat → Prop} (n : Nat) (h : ∀ i, i < n → ¬ Q i) : ct_n Q n = 0 := by
  induction n with
  | zero => rfl
  | succ n ih => rw [ct_s0 (h n (by omega)), ih (fun i hi => h i (by omega))]
theorem ct_prod (A B : Nat → Prop) : ∀ k, ct_n (fun i => A (i / 16) ∧ B (i % 16)) (16 * k) = ct_n A k * ct_n B 16 := by
  intro k
  induction k with
  | zero => show 0 = 0 * _; omega
  | succ k ih =>
    rw [show 16 * (k + 1) = 16 * k + 16 by omega, ct_add, ih]
    by_cases h : A k
    · have e : ct_n (fun i => A ((16 * k + i) / 16) ∧ B ((16 * k + i) % 16)) 16 = ct_n B 16 := by
        refine ct_cong 16 (fun i hi => ?_)
        rw [show (16 * k + i) / 16 = k by omega, show (16 * k + i) % 16 = i by omega]
        exact ⟨fun q => q.2, fun q => ⟨h, q⟩⟩
      rw [e, ct_s1 h, Nat.add_mul, Nat.one_mul]
    · have e : ct_n (fun i => A ((16 * k + i) / 16) ∧ B ((16 * k + i) % 16)) 16 = 0 := by
        refine ct_none 16 (fun i hi => ?_)
        rw [show (16 * k + i) / 16 = k by omega]
        exact fun q => h q.1
      rw [e, ct_s0 h, Nat.add_zero]
theorem ct_disj {A B : Nat → Prop} : ∀ n, (∀ i, i < n → ¬ (A i ∧ B i)) → ct_n A n + ct_n B n = ct_n (fun i => A i ∨ B i) n := by
  intro n
  induction n with
  | zero => intro _; rfl
  | succ n ih =>
    intro h
    have ih := ih (fun i hi => h i (by omega))
    by_cases a : A n
    · have b : ¬ B n := fun b => h n (by omega) ⟨a, b⟩
      rw [ct_s1 a, ct_s0 b, ct_s1 (Q := fun i => A i ∨ B i) (Or.inl a)]; omega
    · by_cases b : B n
      · rw [ct_s0 a, ct_s1 b, ct_s1 (Q := fun i => A i ∨ B i) (Or.inr b)]; omega
      · rw [ct_s0 a, ct_s0 b, ct_s0 (Q := fun i => A i ∨ B i) (fun q => q.elim a b)]; omega
theorem ct_56f : ∀ r l : Fin 17, r.val + l.val ≤ 15 → r.val * l.val ≤ 56 := by decide
theorem ct_56 {r l : Nat} (h : r + l ≤ 15) : r * l ≤ 56 := ct_56f ⟨r, by omega⟩ ⟨l, by omega⟩ h
/-! the walk's measure -/
def wk_W (V : Nat → Prop) (P : Nat → Int × Int) (a : Nat) (t : Int × Int) (q p : Nat) : Prop := V q ∧ V p ∧ 0 < (ge_o (P a) (P q) t) ∧ (ge_o (P a) (P p) t) ≤ 0 ∧ 0 < (ge_o (P q) (P p) (P a))
noncomputable def wk_mu (V : Nat → Prop) (P : Nat → Int × Int) (a : Nat) (t : Int × Int) (q p : Nat) : Nat :=
  ct_n (fun i => wk_W V P a t (i / 16) (i % 16) ∧ wk_lt P a t q p (i / 16) (i % 16)) 256
section
variable {m : Int} {V : Nat → Prop} {P : Nat → Int × Int} {S : List (Nat × Nat)} {L : Nat → Nat → Nat}
theorem wk_tr {a : Nat} {t : Int × Int} {q p q' p' q'' p'' : Nat} (d1 : 0 < wk_d P a t q p) (d2 : 0 < wk_d P a t q' p') (d3 : 0 < wk_d P a t q'' p'')
    (h1 : wk_lt P a t q p q' p') (h2 : wk_lt P a t q' p' q'' p'') : wk_lt P a t q p q'' p'' := by
  unfold wk_lt at *
  generalize wk_n P a q p = n1 at *
  generalize wk_n P a q' p' = n2 at *
  generalize wk_n P a q'' p'' = n3 at *
  generalize wk_d P a t q p = e1 at *
  generalize wk_d P a t q' p' = e2 at *
  generalize wk_d P a t q'' p'' = e3 at *
  have k1 := sg_pp d3 (show 0 < n2 * e1 - n1 * e2 by omega)
  have k2 := sg_pp d1 (show 0 < n3 * e2 - n2 * e3 by omega)
  have k3 : e2 * (n3 * e1 - n1 * e3) = e3 * (n2 * e1 - n1 * e2) + e1 * (n3 * e2 - n2 * e3) := by grind
  have := sg_inv d2 (show 0 < e2 * (n3 * e1 - n1 * e3) by omega)
  omega
theorem wk_Wd (hp : tr_pt m V P) {a : Nat} {t : Int × Int} {q p : Nat} (w : wk_W V P a t q p) : 0 < wk_d P a t q p :=
  wk_d0 (tp_16 hp w.1) (tp_16 hp w.2.1) w.2.2.2.1 w.2.2.1 w.2.2.2.2
theorem wk_dec (hp : tr_pt m V P) {a : Nat} {t : Int × Int} {q p q' p' : Nat} (w : wk_W V P a t q p) (w' : wk_W V P a t q' p') (h : wk_lt P a t q p q' p') : wk_mu V P a t q' p' + 1 ≤ wk_mu V P a t q p := by
  have q16 := tp_16 hp w'.1
  have p16 := tp_16 hp w'.2.1
  have e1 : (q' * 16 + p') / 16 = q' := by omega
  have e2 : (q' * 16 + p') % 16 = p' := by omega
  refine ct_lt (j := q' * 16 + p') ?_ ?_ 256 (by omega) ?_
  · show wk_W V P a t ((q' * 16 + p') / 16) ((q' * 16 + p') % 16) ∧ wk_lt P a t q p ((q' * 16 + p') / 16) ((q' * 16 + p') % 16)
    rw [e1, e2]; exact ⟨w', h⟩
  · show ¬ (wk_W V P a t ((q' * 16 + p') / 16) ((q' * 16 + p') % 16) ∧ wk_lt P a t q' p' ((q' * 16 + p') / 16) ((q' * 16 + p') % 16))
    rw [e1, e2]; intro g; have := g.2; unfold wk_lt at this; omega
  · intro i _ g
    exact ⟨g.1, wk_tr (wk_Wd hp w) (wk_Wd hp w') (wk_Wd hp g.1) h g.2⟩
theorem wk_56 (hp : tr_pt m V P) {a : Nat} (va : V a) (t : Int × Int) : ct_n (fun i => wk_W V P a t (i / 16) (i % 16)) 256 ≤ 56 := by
  have h1 := ct_mono (Q := fun i => wk_W V P a t (i / 16) (i % 16)) (R := fun i => (V (i / 16) ∧ 0 < (ge_o (P a) (P (i / 16)) t)) ∧ (V (i % 16) ∧ i % 16 ≠ a ∧ (ge_o (P a) (P (i % 16)) t) ≤ 0)) 256 (fun i _ w =>
    ⟨⟨w.1, w.2.2.1⟩, w.2.1, fun e => by have := w.2.2.2.2; rw [e, ge_spp] at this; omega, w.2.2.2.1⟩)
  have h2 : ct_n (fun i => (V (i / 16) ∧ 0 < (ge_o (P a) (P (i / 16)) t)) ∧ (V (i % 16) ∧ i % 16 ≠ a ∧ (ge_o (P a) (P (i % 16)) t) ≤ 0)) 256 = ct_n (fun z => V z ∧ 0 < (ge_o (P a) (P z) t)) 16 * ct_n (fun z => V z ∧ z ≠ a ∧ (ge_o (P a) (P z) t) ≤ 0) 16 :=
    ct_prod (fun z => V z ∧ 0 < (ge_o (P a) (P z) t)) (fun z => V z ∧ z ≠ a ∧ (ge_o (P a) (P z) t) ≤ 0) 16
  have h3 := ct_disj (A := fun z => V z ∧ 0 < (ge_o (P a) (P z) t)) (B := fun z => V z ∧ z ≠ a ∧ (ge_o (P a) (P z) t) ≤ 0) 16 (fun i _ g => by have := g.1.2; have := g.2.2.2; omega)
  have h4 := ct_lt (Q := fun z => (V z ∧ 0 < (ge_o (P a) (P z) t)) ∨ (V z ∧ z ≠ a ∧ (ge_o (P a) (P z) t) ≤ 0)) (R := fun _ => True) (j := a) trivial (by
    rintro (g | g)
    · have := g.2; rw [ge_pps] at this; omega
    · exact g.2.1 rfl) 16 (tp_16 hp va) (fun _ _ _ => trivial)
  have h5 := ct_le (fun _ => True) 16
  have := ct_56 (r := ct_n (fun z => V z ∧ 0 < (ge_o (P a) (P z) t)) 16) (l := ct_n (fun z => V z ∧ z ≠ a ∧ (ge_o (P a) (P z) t) ≤ 0) 16) (by omega)
  omega
theorem wk_mu56 (hp : tr_pt m V P) {a : Nat} (va : V a) {t : Int × Int} {q p : Nat} (w : wk_W V P a t q p) : wk_mu V P a t q p + 1 ≤ 56 := by
  have q16 := tp_16 hp w.1
  have p16 := tp_16 hp w.2.1
  have e1 : (q * 16 + p) / 16 = q := by omega
  have e2 : (q * 16 + p) % 16 = p := by omega
  have h := wk_56 hp va t
  have : wk_mu V P a t q p + 1 ≤ ct_n (fun i => wk_W V P a t (i / 16) (i % 16)) 256 := by
    refine ct_lt (j := q * 16 + p) ?_ ?_ 256 (by omega) (fun i _ g => g.1)
    · show wk_W V P a t ((q * 16 + p) / 16) ((q * 16 + p) % 16); rw [e1, e2]; exact w
    · show ¬ (wk_W V P a t ((q * 16 + p) / 16) ((q * 16 + p) % 16) ∧ wk_lt P a t q p ((q * 16 + p) / 16) ((q * 16 + p) % 16))
      rw [e1, e2]; intro g; have := g.2; unfold wk_lt at this; omega
  omega
theorem wk_IW (h : tr_T V P S L) {a : Nat} {t : Int × Int} {q p : Nat} (I : wk_I P L a t q p) : wk_W V P a t q p :=
  ⟨tt_va h (show L q p ≤ 16 by have := I.1; omega), tt_vb h (show L q p ≤ 16 by have := I.1; omega), I.2.1, I.2.2.1, I.2.2.2.1⟩
end
section
variable {f_side f_last f_limit f_segCount f_top f_walkQ f_walkP f_walkN : Int32} {a_px a_py a_live a_segA a_segB a_left a_stack : Nat → Int32}
variable {m : Int} {P : Nat → Int × Int} {V : Nat → Prop} {L M : Nat → Nat → Nat} {S : List (Nat × Nat)}
/-- 'enter' -/
theorem xw_enter {post : Int32 → SX → Prop} (g : xs_G a_px a_py P) (hM : xs_M a_left M) {a : Nat} (ha : a < 16) {x y : Int32} (hxy : rb_b (x.toInt, y.toInt))
    (hex : ∃ q p, q < 16 ∧ M a q = p ∧ p < 16 ∧ 0 < ge_o (P a) (P q) (x.toInt, y.toInt) ∧ ge_o (P a) (P p) (x.toInt, y.toInt) ≤ 0)
    (h1 : ∀ q p, q < 16 → M a q = p → p < 16 → 0 < ge_o (P a) (P q) (x.toInt, y.toInt) → ge_o (P a) (P p) (x.toInt, y.toInt) ≤ 0 → post 1 (f_side, f_last, f_limit, f_segCount, f_top, nI q, nI p, nI a, a_px, a_py, a_live, a_segA, a_segB, a_left, a_stack)) :
    wpX_enter post (f_side, f_last, f_limit, f_segCount, f_top, f_walkQ, f_walkP, f_walkN, a_px, a_py, a_live, a_segA, a_segB, a_left, a_stack) (nI a) x y := by
  unfold wpX_enter
  have hs : ∃ f, (fun f q => wX_enter_3 post (nI a) x y f_side f_last f_limit f_segCount f_top f_walkQ f_walkP f_walkN a_px a_py a_live a_segA a_segB a_left a_stack f (nI q)) f 0 := by
    refine lo_s (W := fun f q => wX_enter_3 post (nI a) x y f_side f_last f_limit f_segCount f_top f_walkQ f_walkP f_walkN a_px a_py a_live a_segA a_segB a_left a_stack f (nI q)) (Q := fun q => M a q < 16 ∧ 0 < ge_o (P a) (P q) (x.toInt, y.toInt) ∧ ge_o (P a) (P (M a q)) (x.toInt, y.toInt) ≤ 0) (N := 16)
      (A := fun q => post 1 (f_side, f_last, f_limit, f_segCount, f_top, nI q, nI (M a q), nI a, a_px, a_py, a_live, a_segA, a_segB, a_left, a_stack)) (E := False) (by omega)
      (fun f e => e.elim) (fun f q _ hq hA hW => br_f (nu_16 hq) ?_) (fun q _ hq w _ => h1 q _ hq rfl w.1 w.2.1 w.2.2) (fun hn => ?_)
    · rw [nu_ix, nI_clamp (n := a * 16 + q) (by omega), hM a q ha hq]
      have ex : ∀ (w : ¬ (M a q < 16 ∧ 0 < ge_o (P a) (P q) (x.toInt, y.toInt) ∧ ge_o (P a) (P (M a q)) (x.toInt, y.toInt) ≤ 0)), ∀ z, z = nI q + 1 → wX_enter_3 post (nI a) x y f_side f_last f_limit f_segCount f_top f_walkQ f_walkP f_walkN a_px a_py a_live a_segA a_segB a_left a_stack f z := fun w => nm_r (nI_1 q) (hW w)
      refine And.intro (nu_in (by omega) (by decide)) (nm_e ?_)
      refine xw_num (fun hp => br_f nu_1n ?_) (fun hp => br_t rfl (ex (fun w => hp w.1)))
      refine xw_lean g ha hq hxy (fun r hr => ?_)
      rw [nu_le0 hr]
      refine br_c (fun k => ex (fun w => by have := w.2.1; omega)) (fun k => ?_)
      rw [← en_v hp]
      refine xw_lean g ha hp hxy (fun s hs => ?_)
      rw [nu_0lt hs]
      exact br_c (fun k2 => ex (fun w => by have := w.2.2; omega)) (fun k2 => hA ⟨hp, by omega, by omega⟩)
    · obtain ⟨q, p, hq, e, hp, o1, o2⟩ := hex
      exact hn q (by omega) hq ⟨by omega, o1, by rw [e]; exact o2⟩
  exact hs
/-- 'advance' -/
theorem xw_adv {post : Int32 → SX → Prop} (g : xs_G a_px a_py P) (hM : xs_M a_left M) {a q p : Nat} (ha : a < 16) (hq : q < 16) (hp : p < 16) {x y : Int32} (hxy : rb_b (x.toInt, y.toInt))
    (h0 : 0 ≤ ge_o (P q) (P p) (x.toInt, y.toInt) → post 0 (f_side, f_last, f_limit, f_segCount, f_top, nI q, nI p, f_walkN, a_px, a_py, a_live, a_segA, a_segB, a_left, a_stack))
    (hr : ge_o (P q) (P p) (x.toInt, y.toInt) < 0 → M p q < 16)
    (h1 : ∀ r, ge_o (P q) (P p) (x.toInt, y.toInt) < 0 → M p q = r → r < 16 → ge_o (P a) (P r) (x.toInt, y.toInt) ≤ 0 → post 1 (f_side, f_last, f_limit, f_segCount, f_top, nI q, nI r, nI p, a_px, a_py, a_live, a_segA, a_segB, a_left, a_stack))
    (h2 : ∀ r, ge_o (P q) (P p) (x.toInt, y.toInt) < 0 → M p q = r → r < 16 → 0 < ge_o (P a) (P r) (x.toInt, y.toInt) → post 1 (f_side, f_last, f_limit, f_segCount, f_top, nI r, nI p, nI q, a_px, a_py, a_live, a_segA, a_segB, a_left, a_stack)) :
    wpX_advance post (f_side, f_last, f_limit, f_segCount, f_top, nI q, nI p, f_walkN, a_px, a_py, a_live, a_segA, a_segB, a_left, a_stack) (nI a) x y := by
  unfold wpX_advance
  refine xw_lean g hq hp hxy (fun r hr1 => ?_)
  rw [nu_lt0 hr1]
  refine br_c (fun k => ?_) (fun k => h0 (by omega))
  have h16 := hr k
  rw [nu_ix, nI_clamp (n := p * 16 + q) (by omega), hM p q hp hq]
  refine And.intro (nu_in (by omega) (by decide)) (nm_e ?_)
  refine xw_num (fun _ => br_f nu_1n ?_) (fun w => absurd h16 w)
  rw [← en_v h16]
  refine xw_lean g ha h16 hxy (fun s hs => ?_)
  rw [nu_0lt hs]
  exact br_c (fun k2 => h2 _ k rfl h16 k2) (fun k2 => h1 _ k rfl h16 (by omega))
/-- the loop of 'seek' -/
theorem xw_seekl {post : SX → Prop} (g : xs_G a_px a_py P) (hp : tr_pt m V P) (hT : tr_T V P S L) (hM : xs_M a_left L) {a : Nat} (va : V a) {x y : Int32} (hxy : rb_b (x.toInt, y.toInt))
    (ht : 0 ≤ x.toInt ∧ x.toInt ≤ m ∧ 0 ≤ y.toInt ∧ y.toInt ≤ m)
    (hpost : ∀ q p, wk_I P L a (x.toInt, y.toInt) q p → 0 ≤ ge_o (P q) (P p) (x.toInt, y.toInt) → post (f_side, f_last, f_limit, f_segCount, f_top, nI q, nI p, nI (L q p), a_px, a_py, a_live, a_segA, a_segB, a_left, a_stack)) :
    ∀ (N i q p : Nat), wk_mu V P a (x.toInt, y.toInt) q p ≤ N → i + N ≤ 60 → wk_I P L a (x.toInt, y.toInt) q p →
      wX_seek_22 post x y (nI a) (N + 2) 1 (nI i) f_side f_last f_limit f_segCount f_top (nI q) (nI p) (nI (L q p)) a_px a_py a_live a_segA a_segB a_left a_stack := by
  have a16 := tp_16 hp va
  intro N
  induction N with
  | zero =>
    intro i q p hN hi I
    have W := wk_IW hT I
    have q16 := tp_16 hp W.1
    have p16 := tp_16 hp W.2.1
    refine br_f (nI_ge (b := 64) (by omega) (by decide)) (br_f nu_1n ?_)
    have no : ∀ {q' p'}, wk_I P L a (x.toInt, y.toInt) q' p' → wk_lt P a (x.toInt, y.toInt) q p q' p' → False := by
      intro q' p' I' h
      have := wk_dec hp W (wk_IW hT I') h
      omega
    refine xw_adv g hM a16 q16 p16 hxy (fun o => nm_r (nI_1 i) ?_) (fun o => wk_r hp hT ht I o) (fun r o e r16 k => ?_) (fun r o e r16 k => ?_)
    · exact br_f (nI_ge (b := 64) (by omega) (by decide)) (br_t rfl (hpost q p I o))
    · obtain ⟨I', _, f⟩ := wk_s1 hp hT I o e r16 k
      exact (no I' (wk_g1 q16 I.2.1 f)).elim
    · obtain ⟨I', _, f⟩ := wk_s2 hp hT I o e r16 k
      exact (no I' (wk_g2 p16 I.2.2.1 I.2.1 I.2.2.2.1 f)).elim
  | succ N ih =>
    intro i q p hN hi I
    have W := wk_IW hT I
    have q16 := tp_16 hp W.1
    have p16 := tp_16 hp W.2.1
    refine br_f (nI_ge (b := 64) (by omega) (by decide)) (br_f nu_1n ?_)
    refine xw_adv g hM a16 q16 p16 hxy (fun o => nm_r (nI_1 i) ?_) (fun o => wk_r hp hT ht I o) (fun r o e r16 k => nm_r (nI_1 i) ?_) (fun r o e r16 k => nm_r (nI_1 i) ?_)
    · exact br_f (nI_ge (b := 64) (by omega) (by decide)) (br_t rfl (hpost q p I o))
    · obtain ⟨I', e', f⟩ := wk_s1 hp hT I o e r16 k
      have := wk_dec hp W (wk_IW hT I') (wk_g1 q16 I.2.1 f)
      have R := ih (i + 1) q r (by omega) (by omega) I'
      rw [e'] at R
      exact R
    · obtain ⟨I', e', f⟩ := wk_s2 hp hT I o e r16 k
      have := wk_dec hp W (wk_IW hT I') (wk_g2 p16 I.2.2.1 I.2.1 I.2.2.2.1 f)
      have R := ih (i + 1) r p (by omega) (by omega) I'
      rw [e'] at R
      exact R
/-- 'seek' finds a face that holds the place -/
theorem xw_seek {post : SX → Prop} (g : xs_G a_px a_py P) (hp : tr_pt m V P) (hm : m ≤ 100) (hT : tr_T V P S L) (hM : xs_M a_left L) {x y : Int32}
    (ht : 0 ≤ x.toInt ∧ x.toInt ≤ m ∧ 0 ≤ y.toInt ∧ y.toInt ≤ m) (hno : ∀ k, V k → P k ≠ (x.toInt, y.toInt))
    (hpost : ∀ q p, L q p < 16 → ge_T (P q) (P p) (P (L q p)) (x.toInt, y.toInt) → post (f_side, f_last, f_limit, f_segCount, f_top, nI q, nI p, nI (L q p), a_px, a_py, a_live, a_segA, a_segB, a_left, a_stack)) : wpX_seek post (f_side, f_last, f_limit, f_segCount, f_top, f_walkQ, f_walkP, f_walkN, a_px, a_py, a_live, a_segA, a_segB, a_left, a_stack) x y := by
  have hxy : rb_b (x.toInt, y.toInt) := by unfold rb_b; simp only; omega
  have main : ∀ a, V a → ((a = 0 ∧ 0 < y.toInt) ∨ (a = 1 ∧ y.toInt = 0 ∧ x.toInt < m)) → wX_seek_9 post x y (nI a) f_side f_last f_limit f_segCount f_top f_walkQ f_walkP f_walkN a_px a_py a_live a_segA a_segB a_left a_stack := by
    intro a va ha
    obtain ⟨q0, p0, e1, e2, e3, e4⟩ := wk_st hp hT (t := (x.toInt, y.toInt)) ht ha
    unfold wX_seek_9
    refine xw_enter g hM (tp_16 hp va) hxy ⟨q0, p0, tp_16 hp (tt_vb hT (show L a q0 ≤ 16 by omega)), e1, e2, e3, e4⟩ (fun q p hq e hp16 o1 o2 => ?_)
    have I := wk_0 hp hT e hp16 o1 o2
    have fN : L q p = a := tt_f2 hT e hp16
    have hmu := wk_mu56 hp va (wk_IW hT I)
    have R := xw_seekl (post := post) g hp hT hM va hxy ht (fun q p I o => hpost q p I.1 (wk_e I o)) 56 0 q p (by omega) (by omega) I
    rw [fN] at R
    exact ⟨_, R⟩
  unfold wpX_seek
  refine br_c (fun k => ?_) (fun k => ?_)
  · have y0 : y.toInt = 0 := (nu_eq0 rfl).mp k
    refine main 1 (tp_c hp (by omega)) (Or.inr ⟨rfl, y0, ?_⟩)
    rcases Int.lt_or_le x.toInt m with w | w
    · exact w
    · exfalso
      refine hno 1 (tp_c hp (by omega)) ?_
      rw [tp_1 hp]
      exact Prod.ext (by simp only; omega) (by simp only; omega)
  · have y0 : y.toInt ≠ 0 := fun q => k ((nu_eq0 rfl).mpr q)
    exact main 0 (tp_c hp (by omega)) (Or.inl ⟨rfl, by omega⟩)
end
end
section
/-- on a side of a closed triangle, at no corner: strictly between -/
theorem sp_B {u v w k : Int × Int} (fo : 0 < ge_o u v w) (hT : ge_T u v w k) (z0 : ge_o u v k = 0) (nu : k ≠ u) (nv : k ≠ v) : ge_B k u v := by
  obtain ⟨_, k1, k2⟩ := hT
  have A := ge_aff u v w k
  have r1 := ge_rot2 u v k
  have r2 := ge_rot2 v w k
  have r3 := ge_rot2 w u k
  have r4 := ge_rot u v w
  have n1 : ge_o v w k ≠ 0 := by
    intro q
    have e1 : ge_o u v w * (k.1 - v.1) = 0 := by unfold ge_o at z0 q ⊢; grind
    have e2 : ge_o u v w * (k.2 - v.2) = 0 := by unfold ge_o at z0 q ⊢; grind
    have f1 := sg_eq0 fo e1
    have f2 := sg_eq0 fo e2
    exact nv (Prod.ext (by omega) (by omega))
  have n2 : ge_o w u k ≠ 0 := by
    intro q
    have e1 : ge_o u v w * (k.1 - u.1) = 0 := by unfold ge_o at z0 q ⊢; grind
    have e2 : ge_o u v w * (k.2 - u.2) = 0 := by unfold ge_o at z0 q ⊢; grind
    have f1 := sg_eq0 fo e1
    have f2 := sg_eq0 fo e2
    exact nu (Prod.ext (by omega) (by omega))
  exact ge_B1 (ge_Bi (u := v) (v := w) (by have := ge_sw u v k; omega) (by rw [ge_psp]; omega) (by omega))
theorem sp_ops {L : Nat → Nat → Nat} {a b c k : Nat} (nab : a ≠ b) (nbc : b ≠ c) (nca : c ≠ a) (nak : a ≠ k) (nbk : b ≠ k) (nck : c ≠ k) :
    jn_L (jn_L (jn_L (cu_L L a b c) a b k) b c k) c a k = sp_L L a b c k := by
  funext x y
  by_cases s : (x = a ∧ y = b) ∨ (x = b ∧ y = k) ∨ (x = k ∧ y = a) ∨ (x = b ∧ y = c) ∨ (x = c ∧ y = k) ∨ (x = k ∧ y = b) ∨ (x = c ∧ y = a) ∨ (x = a ∧ y = k) ∨ (x = k ∧ y = c)
  · obtain ⟨v1, v2, v3, v4, v5, v6, v7, v8, v9⟩ := sp_f3 (L := L) nab nbc nca nak nbk nck
    unfold jn_L cu_L um_L
    rcases s with ⟨rfl, rfl⟩ | ⟨rfl, rfl⟩ | ⟨rfl, rfl⟩ | ⟨rfl, rfl⟩ | ⟨rfl, rfl⟩ | ⟨rfl, rfl⟩ | ⟨rfl, rfl⟩ | ⟨rfl, rfl⟩ | ⟨rfl, rfl⟩
    · rw [v1]; grind
    · rw [v2]; grind
    · rw [v3]; grind
    · rw [v4]; grind
    · rw [v5]; grind
    · rw [v6]; grind
    · rw [v7]; grind
    · rw [v8]; grind
    · rw [v9]; grind
  · rw [sp_f2 s]
    have q1 : ¬ (x = a ∧ y = b) := fun g => s (Or.inl g)
    have q2 : ¬ (x = b ∧ y = k) := fun g => s (Or.inr (Or.inl g))
    have q3 : ¬ (x = k ∧ y = a) := fun g => s (Or.inr (Or.inr (Or.inl g)))
    have q4 : ¬ (x = b ∧ y = c) := fun g => s (Or.inr (Or.inr (Or.inr (Or.inl g))))
    have q5 : ¬ (x = c ∧ y = k) := fun g => s (Or.inr (Or.inr (Or.inr (Or.inr (Or.inl g)))))
    have q6 : ¬ (x = k ∧ y = b) := fun g => s (Or.inr (Or.inr (Or.inr (Or.inr (Or.inr (Or.inl g))))))
    have q7 : ¬ (x = c ∧ y = a) := fun g => s (Or.inr (Or.inr (Or.inr (Or.inr (Or.inr (Or.inr (Or.inl g)))))))
    have q8 : ¬ (x = a ∧ y = k) := fun g => s (Or.inr (Or.inr (Or.inr (Or.inr (Or.inr (Or.inr (Or.inr (Or.inl g))))))))
    have q9 : ¬ (x = k ∧ y = c) := fun g => s (Or.inr (Or.inr (Or.inr (Or.inr (Or.inr (Or.inr (Or.inr (Or.inr g))))))))
    clear s
    unfold jn_L cu_L um_L
    simp only [q1, q2, q3, q4, q5, q6, q7, q8, q9, if_false]
theorem sd_ops {L : Nat → Nat → Nat} {a b c d k : Nat} (nab : a ≠ b) (nbc : b ≠ c) (nca : c ≠ a) (nad : a ≠ d) (ndb : d ≠ b) (ncd : c ≠ d) (nak : a ≠ k) (nbk : b ≠ k) (nck : c ≠ k) (ndk : d ≠ k) :
    jn_L (jn_L (jn_L (jn_L (cu_L (cu_L L a b c) b a d) a k c) k b c) b k d) k a d = sd_L L a b c d k := by
  funext x y
  by_cases s : sd_S a b c d k x y
  · obtain ⟨v1, v2, ⟨v3, v4, v5⟩, ⟨v6, v7, v8⟩, ⟨v9, w1, w2⟩, ⟨w3, w4, w5⟩⟩ := sd_v (L := L) nab nbc nca nad ndb ncd nak nbk nck ndk
    unfold jn_L cu_L um_L
    rcases s with ⟨rfl, rfl⟩ | ⟨rfl, rfl⟩ | ⟨rfl, rfl⟩ | ⟨rfl, rfl⟩ | ⟨rfl, rfl⟩ | ⟨rfl, rfl⟩ | ⟨rfl, rfl | rfl | rfl | rfl⟩ | ⟨rfl, rfl | rfl | rfl | rfl⟩
    · rw [v1]; grind
    · rw [v2]; grind
    · rw [v5]; grind
    · rw [v7]; grind
    · rw [w2]; grind
    · rw [w4]; grind
    · rw [w3]; grind
    · rw [v6]; grind
    · rw [v4]; grind
    · rw [w1]; grind
    · rw [v3]; grind
    · rw [v9]; grind
    · rw [v8]; grind
    · rw [w5]; grind
  · rw [sd_o s]
    unfold sd_S at s
    have s1 : ¬ (x = a ∧ y = b) := fun g => s (Or.inl g)
    have s2 : ¬ (x = b ∧ y = a) := fun g => s (Or.inr (Or.inl g))
    have s3 : ¬ (x = c ∧ y = a) := fun g => s (Or.inr (Or.inr (Or.inl g)))
    have s4 : ¬ (x = b ∧ y = c) := fun g => s (Or.inr (Or.inr (Or.inr (Or.inl g))))
    have s5 : ¬ (x = d ∧ y = b) := fun g => s (Or.inr (Or.inr (Or.inr (Or.inr (Or.inl g)))))
    have s6 : ¬ (x = a ∧ y = d) := fun g => s (Or.inr (Or.inr (Or.inr (Or.inr (Or.inr (Or.inl g))))))
    have s7 : ¬ (x = k ∧ (y = a ∨ y = b ∨ y = c ∨ y = d)) := fun g => s (Or.inr (Or.inr (Or.inr (Or.inr (Or.inr (Or.inr (Or.inl g)))))))
    have s8 : ¬ (y = k ∧ (x = a ∨ x = b ∨ x = c ∨ x = d)) := fun g => s (Or.inr (Or.inr (Or.inr (Or.inr (Or.inr (Or.inr (Or.inr g)))))))
    have t1 : ¬ (x = k ∧ y = a) := fun g => s7 ⟨g.1, Or.inl g.2⟩
    have t2 : ¬ (x = k ∧ y = b) := fun g => s7 ⟨g.1, Or.inr (Or.inl g.2)⟩
    have t3 : ¬ (x = k ∧ y = c) := fun g => s7 ⟨g.1, Or.inr (Or.inr (Or.inl g.2))⟩
    have t4 : ¬ (x = k ∧ y = d) := fun g => s7 ⟨g.1, Or.inr (Or.inr (Or.inr g.2))⟩
    have r1 : ¬ (x = a ∧ y = k) := fun g => s8 ⟨g.2, Or.inl g.1⟩
    have r2 : ¬ (x = b ∧ y = k) := fun g => s8 ⟨g.2, Or.inr (Or.inl g.1)⟩
    have r3 : ¬ (x = c ∧ y = k) := fun g => s8 ⟨g.2, Or.inr (Or.inr (Or.inl g.1))⟩
    have r4 : ¬ (x = d ∧ y = k) := fun g => s8 ⟨g.2, Or.inr (Or.inr (Or.inr g.1))⟩
    clear s s7 s8
    unfold jn_L cu_L um_L
    simp only [s1, s2, s3, s4, s5, s6, t1, t2, t3, t4, r1, r2, r3, r4, if_false]
section
variable {f_side f_last f_limit f_segCount f_top f_walkQ f_walkP f_walkN : Int32} {a_px a_py a_live a_segA a_segB a_left a_stack : Nat → Int32}
variable {m : Int} {P : Nat → Int × Int} {V : Nat → Prop} {L : Nat → Nat → Nat} {S : List (Nat × Nat)}
theorem xw_splitEdge {post : SX → Prop} {k : Nat} (hp : tr_pt m (fun x => V x ∨ x = k) P) (hm : m ≤ 100) (hk : ¬ V k) (h4 : 4 ≤ k) (hp0 : tr_pt m V P) (hS : tr_sg V P S) (hT : tr_T V P S L) (hl : tr_LD (rh_H P) P S L) (hM : xs_M a_left L)
    {a b : Nat} (e : L a b ≤ 16) (hB : (ge_B (P k) (P a) (P b)))
    (h : ∀ L' l' s' st, tr_T (fun x => V x ∨ x = k) P S L' → ld_K (rh_H P) P S L' (fun x y => (x, y) ∈ st) → xs_M l' L' → sk_I s' st → st.length ≤ 6 → post (f_side, f_last, f_limit, f_segCount, nI st.length, f_walkQ, f_walkP, f_walkN, a_px, a_py, a_live, a_segA, a_segB, l', s')) :
    wpX_splitEdge post (f_side, f_last, f_limit, f_segCount, 0, f_walkQ, f_walkP, f_walkN, a_px, a_py, a_live, a_segA, a_segB, a_left, a_stack) (nI a) (nI b) (nI k) := by
  obtain ⟨hc, hd⟩ := tt_nm2 hp0 hT e (tp_in hp (Or.inr rfl) h4) hB.1
  obtain ⟨va, vb, vc, bc, ca, f1, x1, x2, x3, x4, x5, x6⟩ := tt_face hp0 hT (a := a) (b := b) rfl hc
  obtain ⟨_, _, vd, ad, db, f2, y1, y2, y3, y4, y5, y6⟩ := tt_face hp0 hT (a := b) (b := a) rfl hd
  have ha := tp_16 hp0 va
  have hb := tp_16 hp0 vb
  have k16 : k < 16 := tp_16 hp (Or.inr rfl)
  have nab := tt_ne hT x1
  have nbc := tt_ne hT x2
  have nca := tt_ne hT x3
  have nad := tt_ne hT y2
  have ndb := tt_ne hT y3
  have ncd : L a b ≠ L b a := by intro q; rw [q] at f1; have := ge_sw (P a) (P b) (P (L b a)); omega
  have nk : ∀ {z}, V z → z ≠ k := fun {z} vz q => hk (by rw [← q]; exact vz)
  unfold wpX_splitEdge
  dsimp only
  rw [nu_ix, nu_ix, nI_clamp (n := a * 16 + b) (by omega), nI_clamp (n := b * 16 + a) (by omega)]
  refine And.intro (nu_in (by omega) (by decide)) (nm_r (hM a b ha hb) (And.intro (nu_in (by omega) (by decide)) (nm_r (hM b a hb ha) ?_)))
  refine xw_num (fun _ => br_f nu_1n ?_) (fun q => absurd hc q)
  refine xw_num (fun _ => br_f nu_1n ?_) (fun q => absurd hd q)
  rw [← en_v hc, ← en_v hd]
  refine xw_cut (l := []) hM trivial (by decide) ha hb hc (fun l1 s1 m1 k1 => ?_)
  refine xw_cut (l := [(L a b, a), (b, L a b), (a, b)]) m1 k1 (by simp) hb ha hd (fun l2 s2 m2 k2 => ?_)
  refine xw_join m2 ha k16 hc (fun l3 m3 => ?_)
  refine xw_join m3 k16 hb hc (fun l4 m4 => ?_)
  refine xw_join m4 hb k16 hd (fun l5 m5 => ?_)
  refine xw_join m5 k16 ha hd (fun l6 m6 => ?_)
  rw [sd_ops nab nbc nca nad ndb ncd (nk va) (nk vb) (nk vc) (nk vd)] at m6
  refine h _ l6 s2 [(L b a, b), (a, L b a), (b, a), (L a b, a), (b, L a b), (a, b)] (sd_T hp hk hp0 hS hT rfl hc rfl hd hB) ?_ m6 k2 (by simp)
  exact ld_sd hp0 hk hT hl (rh_hull hp hm) rfl hc rfl hd hB (by simp) (by simp) (by simp) (by simp)
/-- 'split': the new point joins the mesh; the edges that may be bad wait on the stack -/
theorem xw_split {post : SX → Prop} (g : xs_G a_px a_py P) {k : Nat} (hp : tr_pt m (fun x => V x ∨ x = k) P) (hm : m ≤ 100) (hk : ¬ V k) (h4 : 4 ≤ k) (hp0 : tr_pt m V P) (hS : tr_sg V P S) (hT : tr_T V P S L) (hl : tr_LD (rh_H P) P S L) (hM : xs_M a_left L)
    {q p : Nat} (hN : L q p < 16) (hF : (ge_T (P q) (P p) (P (L q p)) (P k)))
    (h : ∀ L' l' s' st, tr_T (fun x => V x ∨ x = k) P S L' → ld_K (rh_H P) P S L' (fun x y => (x, y) ∈ st) → xs_M l' L' → sk_I s' st → st.length ≤ 6 →
      post (f_side, f_last, f_limit, f_segCount, nI st.length, nI q, nI p, nI (L q p), a_px, a_py, a_live, a_segA, a_segB, l', s')) :
    wpX_split post (f_side, f_last, f_limit, f_segCount, 0, nI q, nI p, nI (L q p), a_px, a_py, a_live, a_segA, a_segB, a_left, a_stack) (nI k) := by
  obtain ⟨vq, vp, vn, w1, w2, fo, x1, x2, x3, x4, x5, x6⟩ := tt_face hp0 hT (a := q) (b := p) rfl hN
  have hq := tp_16 hp0 vq
  have hp' := tp_16 hp0 vp
  have k16 : k < 16 := tp_16 hp (Or.inr rfl)
  have nP : ∀ {z}, V z → P k ≠ P z := fun {z} vz e => hk (by rw [tp_inj hp (Or.inr rfl) (Or.inl vz) e]; exact vz)
  have nk : ∀ {z}, V z → z ≠ k := fun {z} vz e => hk (by rw [← e]; exact vz)
  have r1 := ge_rot (P q) (P p) (P (L q p))
  have r2 := ge_rot2 (P q) (P p) (P (L q p))
  unfold wpX_split
  refine xw_turn g hq hp' k16 (fun r hr => br_c (fun z => ?_) (fun z => ?_))
  · exact xw_splitEdge hp hm hk h4 hp0 hS hT hl hM x1 (sp_B fo hF ((nu_eq0 hr).mp z) (nP vq) (nP vp)) h
  · have z1 : (ge_o (P q) (P p) (P k)) ≠ 0 := fun e => z ((nu_eq0 hr).mpr e)
    refine xw_turn g hp' hN k16 (fun r' hr' => br_c (fun z' => ?_) (fun z' => ?_))
    · exact xw_splitEdge hp hm hk h4 hp0 hS hT hl hM x2 (sp_B (by omega) (ge_T1 hF) ((nu_eq0 hr').mp z') (nP vp) (nP vn)) h
    · have z2 : (ge_o (P p) (P (L q p)) (P k)) ≠ 0 := fun e => z' ((nu_eq0 hr').mpr e)
      refine xw_turn g hN hq k16 (fun r'' hr'' => br_c (fun z'' => ?_) (fun z'' => ?_))
      · exact xw_splitEdge hp hm hk h4 hp0 hS hT hl hM x3 (sp_B (by omega) (ge_T1 (ge_T1 hF)) ((nu_eq0 hr'').mp z'') (nP vn) (nP vq)) h
      · have z3 : (ge_o (P (L q p)) (P q) (P k)) ≠ 0 := fun e => z'' ((nu_eq0 hr'').mpr e)
        have t1 : 0 < (ge_o (P q) (P p) (P k)) := by have := hF.1; omega
        have t2 : 0 < (ge_o (P p) (P (L q p)) (P k)) := by have := hF.2.1; omega
        have t3 : 0 < (ge_o (P (L q p)) (P q) (P k)) := by have := hF.2.2; omega
        refine xw_cut (l := []) hM trivial (by decide) hq hp' hN (fun l1 s1 m1 k1 => ?_)
        refine xw_join m1 hq hp' k16 (fun l3 m3 => ?_)
        refine xw_join m3 hp' hN k16 (fun l4 m4 => ?_)
        refine xw_join m4 hN hq k16 (fun l5 m5 => ?_)
        rw [sp_ops (tt_ne hT x1) (tt_ne hT x2) (tt_ne hT x3) (nk vq) (nk vp) (nk vn)] at m5
        refine h _ l5 s1 [(L q p, q), (p, L q p), (q, p)] (sp_T hp hk hp0 hS hT rfl hN t1 t2 t3) ?_ m5 k1 (by simp)
        exact ld_sp hp0 hk hT hl (rh_hull hp hm) rfl hN t1 t2 t3 (by simp) (by simp) (by simp)
end
end
section
/-- a part of a mesh, whole faces, whose missing directed edges wait on the stack -/
def cs_I (L M : Nat → Nat → Nat) (l : List (Nat × Nat)) : Prop := cu_P L M ∧ ∀ x y, L x y ≤ 16 → ¬ M x y ≤ 16 → (x, y) ∈ l
theorem cu_v1 {M : Nat → Nat → Nat} {a b c x y : Nat} (h : cu_L M a b c x y ≤ 16) : cu_L M a b c x y = M x y ∧ ¬ (x = a ∧ y = b) ∧ ¬ (x = b ∧ y = c) ∧ ¬ (x = c ∧ y = a) := by
  unfold cu_L um_L at *
  by_cases h1 : x = c ∧ y = a
  · rw [if_pos h1] at h; omega
  · rw [if_neg h1] at h ⊢
    by_cases h2 : x = b ∧ y = c
    · rw [if_pos h2] at h; omega
    · rw [if_neg h2] at h ⊢
      by_cases h3 : x = a ∧ y = b
      · rw [if_pos h3] at h; omega
      · rw [if_neg h3]; exact ⟨rfl, h3, h2, h1⟩
theorem cu_v2 {M : Nat → Nat → Nat} {a b c x y : Nat} (h3 : ¬ (x = a ∧ y = b)) (h2 : ¬ (x = b ∧ y = c)) (h1 : ¬ (x = c ∧ y = a)) : cu_L M a b c x y = M x y := by
  unfold cu_L um_L
  rw [if_neg h1, if_neg h2, if_neg h3]
/-- cutting a face of the part -/
theorem cs_cut {L M : Nat → Nat → Nat} {l : List (Nat × Nat)} (h : cs_I L M l) {a b c : Nat} (ha : a < 16) (hb : b < 16) (e : M a b = c) (hc : c < 16) : cs_I L (cu_L M a b c) ((c, a) :: (b, c) :: (a, b) :: l) := by
  obtain ⟨⟨m1, m2, m3⟩, m4⟩ := h
  obtain ⟨e1, e2⟩ := m2 a b c e hc
  refine ⟨⟨?_, ?_, ?_⟩, ?_⟩
  · intro x y g
    have := (cu_v1 g).1
    rw [this] at g ⊢
    exact m1 x y g
  · intro x y z g hz
    obtain ⟨k, n1, n2, n3⟩ := cu_v1 (show cu_L M a b c x y ≤ 16 by omega)
    rw [k] at g
    obtain ⟨f1, f2⟩ := m2 x y z g hz
    constructor
    · rw [cu_v2 ?_ ?_ ?_]
      · exact f1
      · rintro ⟨rfl, rfl⟩; exact n3 ⟨f1.symm.trans e, rfl⟩
      · rintro ⟨rfl, rfl⟩; exact n1 ⟨f1.symm.trans e1, rfl⟩
      · rintro ⟨rfl, rfl⟩; exact n2 ⟨f1.symm.trans e2, rfl⟩
    · rw [cu_v2 ?_ ?_ ?_]
      · exact f2
      · rintro ⟨rfl, rfl⟩; exact n2 ⟨rfl, f2.symm.trans e⟩
      · rintro ⟨rfl, rfl⟩; exact n3 ⟨rfl, f2.symm.trans e1⟩
      · rintro ⟨rfl, rfl⟩; exact n1 ⟨rfl, f2.symm.trans e2⟩
  · intro x y g
    have := m3 x y g
    rw [cu_v2 ?_ ?_ ?_]
    · exact this
    · rintro ⟨rfl, rfl⟩; omega
    · rintro ⟨rfl, rfl⟩; omega
    · rintro ⟨rfl, rfl⟩; omega
  · intro x y g1 g2
    by_cases h1 : x = a ∧ y = b
    · obtain ⟨rfl, rfl⟩ := h1; simp
    by_cases h2 : x = b ∧ y = c
    · obtain ⟨rfl, rfl⟩ := h2; simp
    by_cases h3 : x = c ∧ y = a
    · obtain ⟨rfl, rfl⟩ := h3; simp
    rw [cu_v2 h1 h2 h3] at g2
    simp [m4 x y g1 g2]
theorem jn_v1 {M : Nat → Nat → Nat} {a b c x y : Nat} (h3 : ¬ (x = a ∧ y = b)) (h2 : ¬ (x = b ∧ y = c)) (h1 : ¬ (x = c ∧ y = a)) : jn_L M a b c x y = M x y := by
  unfold jn_L um_L
  rw [if_neg h1, if_neg h2, if_neg h3]
theorem jn_v2 {M : Nat → Nat → Nat} {a b c : Nat} (nab : a ≠ b) (nbc : b ≠ c) (nca : c ≠ a) : jn_L M a b c a b = c ∧ jn_L M a b c b c = a ∧ jn_L M a b c c a = b := by
  unfold jn_L um_L
  refine ⟨?_, ?_, ?_⟩
  · rw [if_neg (fun g => nca g.1.symm), if_neg (fun g => nab g.1), if_pos ⟨rfl, rfl⟩]
  · rw [if_neg (fun g => nbc g.1), if_pos ⟨rfl, rfl⟩]
  · rw [if_pos ⟨rfl, rfl⟩]
/-- joining a missing face of the mesh to the part -/
theorem cu_join {L M : Nat → Nat → Nat} (hv : ∀ x y, L x y ≤ 16 → x < 16 ∧ y < 16) (h : cu_P L M) {a b c : Nat} (ha : a < 16) (hb : b < 16) (hc : c < 16) (e : L a b = c) (e1 : L b c = a) (e2 : L c a = b) (nab : a ≠ b) (nbc : b ≠ c) (nca : c ≠ a) (hn : ¬ M a b ≤ 16) :
    cu_P L (jn_L M a b c) ∧ ¬ M b c ≤ 16 ∧ ¬ M c a ≤ 16 := by
  obtain ⟨m1, m2, m3⟩ := h
  have n1 : ¬ M b c ≤ 16 := by
    intro g
    have k := m1 b c g
    have := (m2 b c a (by omega) ha).2
    omega
  have n2 : ¬ M c a ≤ 16 := by
    intro g
    have k := m1 c a g
    have := (m2 c a b (by omega) hb).1
    omega
  obtain ⟨v1, v2, v3⟩ := jn_v2 (M := M) nab nbc nca
  refine ⟨⟨?_, ?_, ?_⟩, n1, n2⟩
  · intro x y g
    by_cases h1 : x = a ∧ y = b
    · obtain ⟨rfl, rfl⟩ := h1; omega
    by_cases h2 : x = b ∧ y = c
    · obtain ⟨rfl, rfl⟩ := h2; omega
    by_cases h3 : x = c ∧ y = a
    · obtain ⟨rfl, rfl⟩ := h3; omega
    rw [jn_v1 h1 h2 h3] at g ⊢
    exact m1 x y g
  · intro x y z g hz
    by_cases h1 : x = a ∧ y = b
    · obtain ⟨rfl, rfl⟩ := h1
      have : z = c := by omega
      subst this; exact ⟨v2, v3⟩
    by_cases h2 : x = b ∧ y = c
    · obtain ⟨rfl, rfl⟩ := h2
      have : z = a := by omega
      subst this; exact ⟨v3, v1⟩
    by_cases h3 : x = c ∧ y = a
    · obtain ⟨rfl, rfl⟩ := h3
      have : z = b := by omega
      subst this; exact ⟨v1, v2⟩
    rw [jn_v1 h1 h2 h3] at g
    obtain ⟨f1, f2⟩ := m2 x y z g hz
    obtain ⟨x16, y16⟩ := hv x y (by rw [← m1 x y (by omega)]; omega)
    constructor
    · rw [jn_v1 ?_ ?_ ?_]
      · exact f1
      · rintro ⟨rfl, rfl⟩; exact hn (by omega)
      · rintro ⟨rfl, rfl⟩; exact n1 (by omega)
      · rintro ⟨rfl, rfl⟩; exact n2 (by omega)
    · rw [jn_v1 ?_ ?_ ?_]
      · exact f2
      · rintro ⟨rfl, rfl⟩; exact hn (by omega)
      · rintro ⟨rfl, rfl⟩; exact n1 (by omega)
      · rintro ⟨rfl, rfl⟩; exact n2 (by omega)
  · intro x y g
    have := m3 x y g
    rw [jn_v1 ?_ ?_ ?_]
    · exact this
    · rintro ⟨rfl, rfl⟩; omega
    · rintro ⟨rfl, rfl⟩; omega
    · rintro ⟨rfl, rfl⟩; omega
/-- absent directed edges -/
noncomputable def cu_c (M : Nat → Nat → Nat) : Nat := ct_n (fun i => ¬ M (i / 16) (i % 16) ≤ 16) 256
theorem cu_c2 {M : Nat → Nat → Nat} {a b c : Nat} (ha : a < 16) (hb : b < 16) (hc : c < 16) (nab : a ≠ b) (nbc : b ≠ c) (nca : c ≠ a) (h1 : ¬ M a b ≤ 16) (h2 : ¬ M b c ≤ 16) : cu_c (jn_L M a b c) + 2 ≤ cu_c M := by
  obtain ⟨v1, v2, v3⟩ := jn_v2 (M := M) nab nbc nca
  have e1 : (a * 16 + b) / 16 = a := by omega
  have e2 : (a * 16 + b) % 16 = b := by omega
  have e3 : (b * 16 + c) / 16 = b := by omega
  have e4 : (b * 16 + c) % 16 = c := by omega
  refine ct_lt2 (j := a * 16 + b) (k := b * 16 + c) ?_ ?_ ?_ ?_ (by omega) (by omega) (by omega) ?_
  · show ¬ M ((a * 16 + b) / 16) ((a * 16 + b) % 16) ≤ 16; rw [e1, e2]; exact h1
  · show ¬ ¬ jn_L M a b c ((a * 16 + b) / 16) ((a * 16 + b) % 16) ≤ 16; rw [e1, e2, v1]; omega
  · show ¬ M ((b * 16 + c) / 16) ((b * 16 + c) % 16) ≤ 16; rw [e3, e4]; exact h2
  · show ¬ ¬ jn_L M a b c ((b * 16 + c) / 16) ((b * 16 + c) % 16) ≤ 16; rw [e3, e4, v2]; omega
  · intro i _ g k
    refine g ?_
    by_cases h1 : i / 16 = a ∧ i % 16 = b
    · rw [h1.1, h1.2, v1]; omega
    by_cases h2 : i / 16 = b ∧ i % 16 = c
    · rw [h2.1, h2.2, v2]; omega
    by_cases h3 : i / 16 = c ∧ i % 16 = a
    · rw [h3.1, h3.2, v3]; omega
    rw [jn_v1 h1 h2 h3]; exact k
section
variable {f_side f_last f_limit f_segCount f_top f_walkQ f_walkP f_walkN : Int32} {a_px a_py a_live a_segA a_segB a_left a_stack : Nat → Int32}
variable {m : Int} {P : Nat → Int × Int} {V : Nat → Prop} {sA sB : Nat → Nat} {n : Nat} {L : Nat → Nat → Nat} {S : List (Nat × Nat)}
theorem cq_iff (hp : tr_pt m V P) (hL : ∀ s, s ∈ S ↔ ∃ i, i < n ∧ s = (sA i, sB i)) {a b : Nat} (va : V a) (vb : V b) (ne : a ≠ b) : cl_Q P V n sA sB a b ↔ tr_see V P S a b := by
  constructor
  · rintro ⟨h1, h2⟩
    refine ⟨va, vb, ne, fun k vk hB => ?_, see_cx.mpr (fun s hs c => ?_)⟩
    · have nn := ge_Bne hB
      exact h1 k vk (fun e => nn.1 (by rw [e])) (fun e => nn.2.1 (by rw [e])) (ge_BC hB)
    · obtain ⟨i, hi, rfl⟩ := (hL s).mp hs
      exact h2 i hi c
  · rintro ⟨_, _, _, h1, h2⟩
    refine ⟨fun k vk n1 n2 c => ?_, fun i hi c => see_cx.mp h2 (sA i, sB i) ((hL _).mpr ⟨i, hi, rfl⟩) c⟩
    rcases ge_Cd c with g | g | g
    · exact n1 (tp_inj hp vk va g)
    · exact n2 (tp_inj hp vk vb g)
    · exact h1 k vk g
/-- 'wrap' puts the face of the mesh onto a half-filled edge -/
theorem xw_wrap {post : SX → Prop} (g : xs_G a_px a_py P) (hV : xs_V a_live V) (hS : xs_S n a_segA a_segB sA sB) (hL : ∀ s, s ∈ S ↔ ∃ i, i < n ∧ s = (sA i, sB i)) (K : mo_K m V P S L)
    {M : Nat → Nat → Nat} (hM : xs_M a_left M) {l : List (Nat × Nat)} (hl : sk_I a_stack l) (h10 : l.length + 2 ≤ 1024) {a b c : Nat} (e : L a b = c) (hc : c < 16)
    (h : ∀ l' s', xs_M l' (jn_L M a b c) → sk_I s' ((a, c) :: (c, b) :: l) → post (f_side, f_last, f_limit, nI n, nI (l.length + 2), f_walkQ, f_walkP, f_walkN, a_px, a_py, a_live, a_segA, a_segB, l', s')) :
    wpX_wrap post (f_side, f_last, f_limit, nI n, nI l.length, f_walkQ, f_walkP, f_walkN, a_px, a_py, a_live, a_segA, a_segB, a_left, a_stack) (nI a) (nI b) := by
  obtain ⟨hp, hm, hSg, hT, hLD⟩ := K
  obtain ⟨va, vb, vc, w1, w2, fo, x1, x2, x3, x4, x5, x6⟩ := tt_face hp hT e hc
  have ha := tp_16 hp va
  have hb := tp_16 hp vb
  have sac := se_E hp hSg hT x6
  have sbc := se_E hp hSg hT x2
  unfold wpX_wrap
  refine xw_best g hV hS ha hb vc fo ((cq_iff hp hL va vc sac.2.2.1).mpr sac) ((cq_iff hp hL vb vc sbc.2.2.1).mpr sbc) (fun c' vc' o' q1 q2 ne => ?_) ?_
  · have nac : a ≠ c' := by rintro rfl; rw [ge_psp] at o'; omega
    have nbc : b ≠ c' := by rintro rfl; rw [ge_spp] at o'; omega
    have s1 := (cq_iff hp hL va vc' nac).mp q1
    have s2 := (cq_iff hp hL vb vc' nbc).mp q2
    have d1 := be_1 hp hT hLD (rh_hull hp hm) e hc s1 s2 o'
    have d2 := rh_gen hp hm a b c c' va vb vc vc' (fun q => nac q.symm) (fun q => nbc q.symm) ne fo
    have d3 := ge_Dsw3 (rh_H P) P a b c c'
    have inj : ∀ {u v : Nat}, V u → V v → u ≠ v → P u ≠ P v := fun vu vv nn q => nn (tp_inj hp vu vv q)
    have W1 := (wi_1 (rb_v hp hm va) (rb_v hp hm vb) (rb_v hp hm vc) (rb_v hp hm vc') ha hb hc (tp_16 hp vc') (show (ge_o (P a) (P b) (P c)) ≠ 0 by omega) (inj vc' va (fun q => nac q.symm)) (inj vc' vb (fun q => nbc q.symm)) (inj vc' vc ne)).1 fo
    have W2 := (wi_1 (rb_v hp hm va) (rb_v hp hm vb) (rb_v hp hm vc') (rb_v hp hm vc) ha hb (tp_16 hp vc') hc (show (ge_o (P a) (P b) (P c')) ≠ 0 by omega) (inj vc va (fun q => sac.2.2.1 q.symm)) (inj vc vb (fun q => sbc.2.2.1 q.symm)) (inj vc vc' (fun q => ne q.symm))).1 o'
    constructor
    · intro w; have := W1.1 w; omega
    · refine Classical.byContradiction fun w => ?_
      have := W2.2 w
      omega
  · refine br_f (nI_pos (by omega)) ?_
    refine xw_join hM ha hb hc (fun l1 m1 => ?_)
    refine xw_push hl (by omega) hc hb (fun s1 k1 => ?_)
    refine xw_push (l := (c, b) :: l) k1 (by show l.length + 1 < 1024; omega) ha hc (fun s2 k2 => ?_)
    exact h l1 s2 m1 k2
theorem xw_refl {post : SX → Prop} (g : xs_G a_px a_py P) (hV : xs_V a_live V) (hS : xs_S n a_segA a_segB sA sB) (hL : ∀ s, s ∈ S ↔ ∃ i, i < n ∧ s = (sA i, sB i)) (K : mo_K m V P S L)
    (hpost : ∀ l' s', xs_M l' L → post (f_side, f_last, f_limit, nI n, 0, f_walkQ, f_walkP, f_walkN, a_px, a_py, a_live, a_segA, a_segB, l', s')) :
    ∀ (N i : Nat) (a_left a_stack : Nat → Int32) (M : Nat → Nat → Nat) (l : List (Nat × Nat)), l.length + cu_c M ≤ N → i + N ≤ 1000 → cu_P L M → (∀ x y, M x y ≤ 16 → ¬ M y x ≤ 16 → (y, x) ∈ l) → xs_M a_left M → sk_I a_stack l →
      wX_refill_2 post (N + 1) (nI i) f_side f_last f_limit (nI n) (nI l.length) f_walkQ f_walkP f_walkN a_px a_py a_live a_segA a_segB a_left a_stack := by
  have hp := K.1
  have hT := K.2.2.2.1
  have fin : ∀ (a_left a_stack : Nat → Int32) (M : Nat → Nat → Nat), cu_P L M → (∀ x y, M x y ≤ 16 → ¬ M y x ≤ 16 → (y, x) ∈ ([] : List (Nat × Nat))) → xs_M a_left M → post (f_side, f_last, f_limit, nI n, 0, f_walkQ, f_walkP, f_walkN, a_px, a_py, a_live, a_segA, a_segB, a_left, a_stack) := by
    intro a_left a_stack M hM hh hx
    have hc : ∀ x y, M x y ≤ 16 → M y x ≤ 16 := fun x y q => Classical.byContradiction fun w => List.not_mem_nil (hh x y q w)
    refine hpost a_left a_stack (fun x y hx' hy' => ?_)
    rw [hx x y hx' hy']
    by_cases q : M x y ≤ 16
    · rw [hM.1 x y q]
    · have : ¬ L x y ≤ 16 := fun w => q (cu_1 hp hT hM hc w)
      unfold xs_en
      rw [if_neg q, if_neg this]
  intro N
  induction N with
  | zero =>
    intro i a_left a_stack M l hN hi hM hh hx hl
    have l0 : l = [] := List.eq_nil_of_length_eq_zero (by omega)
    subst l0
    exact br_f (nI_ge (b := 1024) (by omega) (by decide)) (br_t (by decide) (fin a_left a_stack M hM hh hx))
  | succ N ih =>
    intro i a_left a_stack M l hN hi hM hh hx hl
    refine br_f (nI_ge (b := 1024) (by omega) (by decide)) ?_
    match l, hN, hh, hl with
    | [], _, hh, _ => exact br_t (by decide) (fin a_left a_stack M hM hh hx)
    | (a, b) :: l, hN, hh, hl =>
      have hN' : l.length + 1 + cu_c M ≤ N + 1 := hN
      obtain ⟨es, ha, hb, hl'⟩ := hl
      have ha : a < 16 := ha
      have hb : b < 16 := hb
      have es : a_stack l.length = nI (a * 16 + b) := es
      obtain ⟨c1, c2⟩ := nu_code ha hb
      have vt : vp_in (nI l.length) 1024 := nu_in (by omega) (by decide)
      have hi1 := nI_1 i
      refine br_f (nI_nle (n := l.length + 1) (by omega) (by omega)) (nm_r (nI_pred l.length) (And.intro vt ?_))
      rw [nI_clamp (n := l.length) (by omega), es]
      refine nm_r c1 (And.intro vt (nm_r c2 ?_))
      rw [nu_ix, nu_ix, nI_clamp (n := a * 16 + b) (by omega), nI_clamp (n := b * 16 + a) (by omega), hx a b ha hb, hx b a hb ha, en_le, en_lt]
      refine And.intro (nu_in (by omega) (by decide)) (br_c (fun k => nm_r hi1 ?_) (fun k => And.intro (nu_in (by omega) (by decide)) (br_c (fun k2 => nm_r hi1 ?_) (fun k2 => ?_))))
      · refine ih (i + 1) a_left a_stack M l (by omega) (by omega) hM (fun x y q1 q2 => ?_) hx hl'
        rcases List.mem_cons.mp (hh x y q1 q2) with w | w
        · have e1 := congrArg Prod.fst w
          have e2 := congrArg Prod.snd w
          simp only at e1 e2
          subst e1 e2
          exact absurd k q2
        · exact w
      · refine ih (i + 1) a_left a_stack M l (by omega) (by omega) hM (fun x y q1 q2 => ?_) hx hl'
        rcases List.mem_cons.mp (hh x y q1 q2) with w | w
        · have e1 := congrArg Prod.fst w
          have e2 := congrArg Prod.snd w
          simp only at e1 e2
          subst e1 e2
          exact absurd q1 k2
        · exact w
      · have kba : M b a ≤ 16 := by omega
        have lba : L b a ≤ 16 := by rw [← hM.1 b a kba]; exact kba
        have lab := tt_sy hT lba
        have hc : L a b < 16 := by
          rcases Nat.lt_or_ge (L a b) 16 with w | w
          · exact w
          · exact absurd (show M a b ≤ 16 by rw [hM.2.2 a b ((tt_out hT a b).mp (by omega))]; omega) k
        obtain ⟨va, vb, vc, w1, w2, fo, x1, x2, x3, x4, x5, x6⟩ := tt_face hp hT (a := a) (b := b) rfl hc
        have nab := tt_ne hT x1
        have nbc := tt_ne hT x2
        have nca := tt_ne hT x3
        obtain ⟨hM', n1, n2⟩ := cu_join (fun x y q => ⟨tp_16 hp (tt_va hT q), tp_16 hp (tt_vb hT q)⟩) hM ha hb hc rfl w1 w2 nab nbc nca k
        have cc := cu_c2 (M := M) ha hb hc nab nbc nca k n1
        obtain ⟨v1, v2, v3⟩ := jn_v2 (M := M) nab nbc nca
        refine xw_wrap g hV hS hL K hx hl' (by omega) rfl hc (fun l' s' m' k' => nm_r hi1 ?_)
        refine ih (i + 1) l' s' (jn_L M a b (L a b)) ((a, L a b) :: (L a b, b) :: l) (by show l.length + 1 + 1 + _ ≤ N; omega) (by omega) hM' (fun x y q1 q2 => ?_) m' k'
        by_cases h1 : x = a ∧ y = b
        · obtain ⟨rfl, rfl⟩ := h1
          exfalso
          refine q2 ?_
          by_cases h5 : y = y ∧ x = L x y
          · exact absurd h5.2.symm (fun q => nca q)
          by_cases h6 : y = L x y ∧ x = x
          · exact absurd h6.1 nbc
          rw [jn_v1 (fun q => nab q.1.symm) h5 h6]
          exact kba
        by_cases h2 : x = b ∧ y = L a b
        · obtain ⟨rfl, rfl⟩ := h2; simp
        by_cases h3 : x = L a b ∧ y = a
        · obtain ⟨rfl, rfl⟩ := h3; simp
        rw [jn_v1 h1 h2 h3] at q1
        have q2' : ¬ M y x ≤ 16 := by
          intro w
          refine q2 ?_
          by_cases h4 : y = a ∧ x = b
          · rw [h4.1, h4.2, v1]; omega
          by_cases h5 : y = b ∧ x = L a b
          · rw [h5.1, h5.2, v2]; omega
          by_cases h6 : y = L a b ∧ x = a
          · rw [h6.1, h6.2, v3]; omega
          rw [jn_v1 h4 h5 h6]; exact w
        rcases List.mem_cons.mp (hh x y q1 q2') with w | w
        · exfalso
          have e1 := congrArg Prod.fst w
          have e2 := congrArg Prod.snd w
          simp only at e1 e2
          subst e1 e2
          exact q2 (by rw [v1]; omega)
        · simp [w]
theorem xw_refill {post : SX → Prop} (g : xs_G a_px a_py P) (hV : xs_V a_live V) (hS : xs_S n a_segA a_segB sA sB) (hL : ∀ s, s ∈ S ↔ ∃ i, i < n ∧ s = (sA i, sB i)) (K : mo_K m V P S L)
    {M : Nat → Nat → Nat} (hx : xs_M a_left M) (hM : cu_P L M) {l : List (Nat × Nat)} (hh : ∀ x y, M x y ≤ 16 → ¬ M y x ≤ 16 → (y, x) ∈ l) (hl : sk_I a_stack l) (h10 : l.length ≤ 200)
    (hpost : ∀ l' s', xs_M l' L → post (f_side, f_last, f_limit, nI n, 0, f_walkQ, f_walkP, f_walkN, a_px, a_py, a_live, a_segA, a_segB, l', s')) : wpX_refill post (f_side, f_last, f_limit, nI n, nI l.length, f_walkQ, f_walkP, f_walkN, a_px, a_py, a_live, a_segA, a_segB, a_left, a_stack) := by
  unfold wpX_refill
  have c : cu_c M ≤ 256 := ct_le _ _
  exact ⟨_, xw_refl g hV hS hL K hpost 1000 0 a_left a_stack M l (by omega) (by omega) hM hh hx hl⟩
end
end
section
section
variable {f_side f_last f_limit f_segCount f_top f_walkQ f_walkP f_walkN : Int32} {a_px a_py a_live a_segA a_segB a_left a_stack : Nat → Int32}
variable {m : Int} {P : Nat → Int × Int} {V : Nat → Prop} {L : Nat → Nat → Nat} {S : List (Nat × Nat)}
/-- 'cutStar' takes away the faces at k -/
theorem xw_cutStar {post : SX → Prop} (hp : tr_pt m V P) (hT : tr_T V P S L) (hM : xs_M a_left L) {k : Nat} (vk : V k) (h4 : 4 ≤ k)
    (hpost : ∀ M l l' s', cs_I L M l → (∀ x y, M x y ≤ 16 → x ≠ k ∧ y ≠ k) → xs_M l' M → sk_I s' l → l.length ≤ 48 → post (f_side, f_last, f_limit, f_segCount, nI l.length, f_walkQ, f_walkP, f_walkN, a_px, a_py, a_live, a_segA, a_segB, l', s')) :
    wpX_cutStar post (f_side, f_last, f_limit, f_segCount, 0, f_walkQ, f_walkP, f_walkN, a_px, a_py, a_live, a_segA, a_segB, a_left, a_stack) (nI k) := by
  have k16 := tp_16 hp vk
  have no16 : ∀ y, L k y ≠ 16 := fun y q => by have := (tt_out hT k y).mp q; unfold tr_O at this; omega
  have v16 : ∀ x y, L x y ≤ 16 → x < 16 ∧ y < 16 := fun x y q => ⟨tp_16 hp (tt_va hT q), tp_16 hp (tt_vb hT q)⟩
  unfold wpX_cutStar
  have hs : ∃ f, (fun f i (s : (Nat → Int32) × (Nat → Int32) × List (Nat × Nat)) => wX_cutStar_2 post (nI k) f (nI i) f_side f_last f_limit f_segCount (nI s.2.2.length) f_walkQ f_walkP f_walkN a_px a_py a_live a_segA a_segB (s.1) (s.2.1)) f 0 (a_left, a_stack, []) := by
    refine lo_i (W := fun f i (s : (Nat → Int32) × (Nat → Int32) × List (Nat × Nat)) => wX_cutStar_2 post (nI k) f (nI i) f_side f_last f_limit f_segCount (nI s.2.2.length) f_walkQ f_walkP f_walkN a_px a_py a_live a_segA a_segB (s.1) (s.2.1))
      (I := fun i s => ∃ M, cs_I L M s.2.2 ∧ xs_M s.1 M ∧ sk_I s.2.1 s.2.2 ∧ s.2.2.length ≤ 3 * i ∧ (∀ y, y < i → ¬ M k y ≤ 16) ∧ (∀ y, i ≤ y → L k y ≤ 16 → M k y ≤ 16)) (N := 16)
      ⟨L, ⟨⟨fun _ _ _ => rfl, fun x y z e hz => ⟨tt_f2 hT e hz, tt_f3 hT e hz⟩, fun x y o => (tt_out hT x y).mpr o⟩, fun x y h1 h2 => absurd h1 h2⟩, hM, trivial, by simp, fun y hy => by omega, fun _ _ q => q⟩
      (fun f s I => br_t nu_16' ?_) (fun f i s hi I hW => br_f (nu_16 hi) ?_)
    · obtain ⟨M, hc, hx, hl, len, n1, n2⟩ := I
      refine hpost M s.2.2 s.1 s.2.1 hc (fun x y q => ?_) hx hl (by omega)
      have lq : L x y ≤ 16 := by rw [← hc.1.1 x y q]; exact q
      have xk : x ≠ k := by rintro rfl; exact n1 y (v16 x y lq).2 q
      refine ⟨xk, ?_⟩
      rintro rfl
      have z16 : M x y < 16 := by
        rcases Nat.lt_or_ge (M x y) 16 with w | w
        · exact w
        · have : L x y = 16 := by rw [← hc.1.1 x y q]; omega
          have := (tt_out hT x y).mp this
          unfold tr_O at this; omega
      have := (hc.1.2.1 x y _ rfl z16).1
      exact n1 (M x y) z16 (by have := (v16 x y lq).1; omega)
    · obtain ⟨M, hc, hx, hl, len, n1, n2⟩ := I
      rw [nu_ix, nI_clamp (n := k * 16 + i) (by omega), hx k i k16 hi]
      refine And.intro (nu_in (by omega) (by decide)) (nm_e ?_)
      refine xw_num (fun hq => br_f nu_1n ?_) (fun hq => br_t rfl (nm_r (nI_1 i) (hW s ⟨M, hc, hx, hl, by omega, fun y hy => ?_, fun y hy => n2 y (by omega)⟩)))
      · rw [← en_v hq]
        obtain ⟨e1, e2⟩ := hc.1.2.1 k i _ rfl hq
        have lq : L k i ≤ 16 := by rw [← hc.1.1 k i (by omega)]; omega
        have nki := tt_ne hT lq
        have npk : M k i ≠ k := by
          intro w
          have : L (M k i) k ≤ 16 := by rw [← hc.1.1 (M k i) k (by omega)]; omega
          exact tt_ne hT this w
        refine xw_cut hx hl (by omega) k16 hi hq (fun l' s' m' k' => nm_r (nI_1 i) ?_)
        refine hW (l', s', (M k i, k) :: (i, M k i) :: (k, i) :: s.2.2) ⟨cu_L M k i (M k i), cs_cut hc k16 hi rfl hq, m', k', by show s.2.2.length + 1 + 1 + 1 ≤ _; omega, fun y hy => ?_, fun y hy lk => ?_⟩
        · intro w
          have := cu_v1 w
          rcases Nat.lt_or_ge y i with g | g
          · exact n1 y g (by rw [this.1] at w; exact w)
          · exact this.2.1 ⟨rfl, by omega⟩
        · rw [cu_v2 (fun g => by omega) (fun g => nki g.1) (fun g => npk g.1.symm)]
          exact n2 y (by omega) lk
      · rcases Nat.lt_or_ge y i with g | g
        · exact n1 y g
        · have : y = i := by omega
          subst this
          intro w
          have : M k y = 16 := by omega
          exact no16 y (by rw [← hc.1.1 k y w]; exact this)
  exact hs
end
section
variable {m : Int} {V : Nat → Prop} {P : Nat → Int × Int} {S : List (Nat × Nat)} {L : Nat → Nat → Nat} {H : Nat → Int}
/-- places on one line -/
theorem ge_col3 {f g x y z : Int × Int} (hne : f ≠ g) (h1 : ge_o f g x = 0) (h2 : ge_o f g y = 0) (h3 : ge_o f g z = 0) : ge_o x y z = 0 := by
  have hp := ge_ne hne
  have e1 : (g.1 - f.1) * ge_o x y z = 0 := by unfold ge_o at h1 h2 h3 ⊢; grind
  have e2 : (g.2 - f.2) * ge_o x y z = 0 := by unfold ge_o at h1 h2 h3 ⊢; grind
  have e3 : ((g.1 - f.1) * (g.1 - f.1) + (g.2 - f.2) * (g.2 - f.2)) * ge_o x y z = (g.1 - f.1) * ((g.1 - f.1) * ge_o x y z) + (g.2 - f.2) * ((g.2 - f.2) * ge_o x y z) := by grind
  rw [e1, e2, Int.mul_zero, Int.mul_zero] at e3
  exact sg_eq0 hp (by omega)
/-- segments of different lines through k -/
def jc_P (P : Nat → Int × Int) (S : List (Nat × Nat)) (k : Nat) : Prop :=
  ∃ s ∈ S, ∃ r ∈ S, (ge_C (P k) (P (s.1)) (P (s.2))) ∧ (ge_C (P k) (P (r.1)) (P (r.2))) ∧ ((ge_o (P (s.1)) (P (s.2)) (P (r.1))) ≠ 0 ∨ (ge_o (P (s.1)) (P (s.2)) (P (r.2))) ≠ 0)
/-- without k the segments stay good, if k is no end and no junction -/
theorem dp_sg {k : Nat} (hp : tr_pt m V P) (hS : tr_sg V P S) (hE : ∀ s ∈ S, s.1 ≠ k ∧ s.2 ≠ k) (hJ : ¬ jc_P P S k) : tr_sg (fun x => V x ∧ x ≠ k) P S := by
  constructor
  · intro s hs
    obtain ⟨v1, v2, ne⟩ := hS.1 s hs
    exact ⟨⟨v1, (hE s hs).1⟩, ⟨v2, (hE s hs).2⟩, ne⟩
  · intro s hs r hr hX
    obtain ⟨j, vj, c1, c2⟩ := hS.2 s hs r hr hX
    refine ⟨j, ⟨vj, ?_⟩, c1, c2⟩
    rintro rfl
    refine hJ ⟨s, hs, r, hr, c1, c2, Or.inl ?_⟩
    rcases hX with g | g
    · have := g.1; omega
    · have := g.2.1; have := ge_sw (P s.1) (P s.2) (P r.1); omega
/-- the faces that 'cutStar' leaves are faces of the mesh without k -/
theorem dp_1 {k : Nat} (hp : tr_pt m V P) (hm : m ≤ 100) (vk : V k) (hS : tr_sg V P S) {L' : Nat → Nat → Nat} (hp' : tr_pt m (fun x => V x ∧ x ≠ k) P) (hS' : tr_sg (fun x => V x ∧ x ≠ k) P S)
    (hT : tr_T V P S L) (hl : tr_LD (rh_H P) P S L) (hT' : tr_T (fun x => V x ∧ x ≠ k) P S L') (hl' : tr_LD (rh_H P) P S L') {M : Nat → Nat → Nat} {l : List (Nat × Nat)} (hc : cs_I L M l) (hk : ∀ x y, M x y ≤ 16 → x ≠ k ∧ y ≠ k) :
    cu_P L' M ∧ ∀ x y, M x y ≤ 16 → ¬ M y x ≤ 16 → (y, x) ∈ l := by
  obtain ⟨⟨m1, m2, m3⟩, m4⟩ := hc
  have toL : ∀ x y, M x y ≤ 16 → L x y ≤ 16 := fun x y q => by rw [← m1 x y q]; exact q
  have toL' : ∀ x y, M x y ≤ 16 → L' x y ≤ 16 := fun x y q => dr_1 hp vk hS hp' hS' hT hl hT' hl' (rh_gen hp hm) (rh_hull hp hm) (toL x y q) (hk x y q).1 (hk x y q).2
  refine ⟨⟨fun x y q => ?_, m2, m3⟩, fun x y q1 q2 => m4 y x (tt_sy hT (toL x y q1)) q2⟩
  rcases Nat.lt_or_ge (M x y) 16 with w | w
  · obtain ⟨f1, f2⟩ := m2 x y _ rfl w
    have e := m1 x y q
    have w' : L x y < 16 := by omega
    have x16 := tp_16 hp (tt_va hT (toL x y q))
    have y16 := tp_16 hp (tt_vb hT (toL x y q))
    refine (fc_1 hp' hT' (toL' x y q) (toL' y (M x y) (by omega)) (toL' (M x y) x (by omega)) (tt_fo hT e.symm w) (fun j vj hj => ?_)).symm
    have t : (ge_T (P x) (P y) (P (M x y)) (P j)) := ⟨Int.le_of_lt hj.1, Int.le_of_lt hj.2.1, Int.le_of_lt hj.2.2⟩
    rcases tt_E hT e.symm w vj.1 t with g | g | g
    · rw [g, ge_psp] at hj; omega
    · rw [g, ge_spp] at hj; omega
    · have := hj.2.1; rw [← g, ge_spp] at this; omega
  · have e := m1 x y q
    have : L x y = 16 := by omega
    rw [(tt_out hT' x y).mpr ((tt_out hT x y).mp this)]; omega
/-! configurations with the same segments in another order -/
theorem tm_T {S' : List (Nat × Nat)} (hm : ∀ s, s ∈ S' ↔ s ∈ S) (h : tr_T V P S L) : tr_T V P S' L :=
  ⟨h.1, h.2.1, h.2.2.1, h.2.2.2.1, h.2.2.2.2.1, h.2.2.2.2.2.1, h.2.2.2.2.2.2.1, fun s hs => h.2.2.2.2.2.2.2 s ((hm s).mp hs)⟩
theorem tm_sg {S' : List (Nat × Nat)} (hm : ∀ s, s ∈ S' ↔ s ∈ S) (h : tr_sg V P S) : tr_sg V P S' :=
  ⟨fun s hs => h.1 s ((hm s).mp hs), fun s hs r hr => h.2 s ((hm s).mp hs) r ((hm r).mp hr)⟩
theorem tm_LD {S' : List (Nat × Nat)} (hm : ∀ s, s ∈ S' ↔ s ∈ S) (h : tr_LD H P S L) : tr_LD H P S' L :=
  fun a b c d e hc e' hd hn => h a b c d e hc e' hd (fun ⟨s, hs, q⟩ => hn ⟨s, (hm s).mpr hs, q⟩)
theorem tm_K {S' : List (Nat × Nat)} (hm : ∀ s, s ∈ S' ↔ s ∈ S) (h : mo_K m V P S L) : mo_K m V P S' L :=
  ⟨h.1, h.2.1, tm_sg hm h.2.2.1, tm_T hm h.2.2.2.1, tm_LD hm h.2.2.2.2⟩
/-- the faces that a carving leaves are faces of the mesh with the new segment -/
theorem fp_1 (hp : tr_pt m V P) (hm : m ≤ 100) (hS : tr_sg V P S) {a b : Nat} (hS' : tr_sg V P ((a, b) :: S)) {L' : Nat → Nat → Nat}
    (hT : tr_T V P S L) (hl : tr_LD (rh_H P) P S L) (hT' : tr_T V P ((a, b) :: S) L') (hl' : tr_LD (rh_H P) P ((a, b) :: S) L') {M : Nat → Nat → Nat} {l : List (Nat × Nat)} (hc : cs_I L M l)
    (hk : ∀ x y, L x y ≤ 16 → (ge_X (P x) (P y) (P a) (P b)) → ¬ M x y ≤ 16 ∧ ¬ M y x ≤ 16) :
    cu_P L' M ∧ ∀ x y, M x y ≤ 16 → ¬ M y x ≤ 16 → (y, x) ∈ l := by
  obtain ⟨⟨m1, m2, m3⟩, m4⟩ := hc
  have toL : ∀ x y, M x y ≤ 16 → L x y ≤ 16 := fun x y q => by rw [← m1 x y q]; exact q
  have toL' : ∀ x y, M x y ≤ 16 → L' x y ≤ 16 := fun x y q => fo_1 hp hS hS' hT hl hT' hl' (rh_gen hp hm) (toL x y q)
    (fun g => (hk x y (toL x y q) g).1 q) (fun g => (hk y x (tt_sy hT (toL x y q)) (ge_X1 g)).2 q)
  refine ⟨⟨fun x y q => ?_, m2, m3⟩, fun x y q1 q2 => m4 y x (tt_sy hT (toL x y q1)) q2⟩
  rcases Nat.lt_or_ge (M x y) 16 with w | w
  · obtain ⟨f1, f2⟩ := m2 x y _ rfl w
    have e := m1 x y q
    have x16 := tp_16 hp (tt_va hT (toL x y q))
    have y16 := tp_16 hp (tt_vb hT (toL x y q))
    refine (fc_1 hp hT' (toL' x y q) (toL' y (M x y) (by omega)) (toL' (M x y) x (by omega)) (tt_fo hT e.symm w) (fun j vj hj => ?_)).symm
    have t : (ge_T (P x) (P y) (P (M x y)) (P j)) := ⟨Int.le_of_lt hj.1, Int.le_of_lt hj.2.1, Int.le_of_lt hj.2.2⟩
    rcases tt_E hT e.symm w vj t with g | g | g
    · rw [g, ge_psp] at hj; omega
    · rw [g, ge_spp] at hj; omega
    · have := hj.2.1; rw [← g, ge_spp] at this; omega
  · have e := m1 x y q
    have : L x y = 16 := by omega
    rw [(tt_out hT' x y).mpr ((tt_out hT x y).mp this)]; omega
end
end
section
section
variable {m : Int} {V : Nat → Prop} {P : Nat → Int × Int} {S : List (Nat × Nat)} {L : Nat → Nat → Nat}
/-- an edge strictly within the angle of a face at a: impossible -/
theorem cone_1 (hp : tr_pt m V P) (h : tr_T V P S L) {a q p z : Nat} (e : L a q = p) (hc : p < 16) (ez : L a z ≤ 16) (o1 : 0 < (ge_o (P a) (P q) (P z))) (o2 : 0 < (ge_o (P a) (P z) (P p))) : False := by
  obtain ⟨va, vq, vp, w1, w2, fo, g1, g2, g3, g4, g5, g6⟩ := tt_face hp h e hc
  have vz := tt_vb h ez
  rcases Int.lt_or_le ((ge_o (P q) (P p) (P z))) 0 with d | d
  · refine tt_N h g2 ez ⟨?_, ?_, ?_, ?_⟩
    · have := ge_rot (P a) (P q) (P p); omega
    · have := ge_sw (P q) (P p) (P z); omega
    · omega
    · have := ge_sw (P a) (P z) (P q); have := ge_sw2 (P a) (P q) (P z); omega
  · have s1 := ge_rot (P p) (P a) (P z)
    have s2 := ge_rot2 (P p) (P a) (P z)
    rcases tt_E h e hc vz ⟨Int.le_of_lt o1, d, by have := ge_rot (P a) (P z) (P p); have := ge_rot2 (P a) (P z) (P p); omega⟩ with w | w | w
    · rw [w, ge_pps] at o2; omega
    · rw [w, ge_spp] at o1; omega
    · rw [w, ge_spp] at o2; omega
/-- one face of a lies towards t -/
theorem en_u (hp : tr_pt m V P) (h : tr_T V P S L) {a q p q' p' : Nat} {t : Int × Int} (e : L a q = p) (hc : p < 16) (o1 : 0 < (ge_o (P a) (P q) t)) (o2 : (ge_o (P a) (P p) t) ≤ 0)
    (e' : L a q' = p') (hc' : p' < 16) (o1' : 0 < (ge_o (P a) (P q') t)) (o2' : (ge_o (P a) (P p') t) ≤ 0) : q = q' := by
  have key : ∀ q p q' p', L a q = p → p < 16 → 0 < (ge_o (P a) (P q) t) → (ge_o (P a) (P p) t) ≤ 0 → L a q' = p' → p' < 16 → 0 < (ge_o (P a) (P q') t) → 0 < (ge_o (P a) (P q) (P q')) → False := by
    intro q p q' p' e hc o1 o2 e' hc' o1' k
    have f := tt_fo h e hc
    have G := ge_gp (P a) (P q) (P q') (P p) t
    refine cone_1 hp h e hc (show L a q' ≤ 16 by omega) k ?_
    have I : (ge_o (P a) (P q) t) * (ge_o (P a) (P q') (P p)) = (ge_o (P a) (P q) (P p)) * (ge_o (P a) (P q') t) + (ge_o (P a) (P q) (P q')) * (- (ge_o (P a) (P p) t)) := by grind
    exact sg_p I o1 f o1' (Int.le_of_lt k) (by omega)
  rcases Int.lt_trichotomy ((ge_o (P a) (P q) (P q'))) 0 with k | k | k
  · exact (key q' p' q p e' hc' o1' o2' e hc o1 (by have := ge_sw2 (P a) (P q) (P q'); omega)).elim
  · have va := tt_va h (show L a q ≤ 16 by omega)
    have vq := tt_vb h (show L a q ≤ 16 by omega)
    have vq' := tt_vb h (show L a q' ≤ 16 by omega)
    have c1 : ∀ z : Nat, ge_o (P a) (2 * (P a).1 - t.1, 2 * (P a).2 - t.2) (P z) = (ge_o (P a) (P z) t) := by intro z; unfold ge_o; simp only; grind
    rcases ge_ray (p := P a) (x := (2 * (P a).1 - t.1, 2 * (P a).2 - t.2)) (y := P q) (q := P q') (by rw [c1]; exact o1') (by rw [c1]; exact o1) k with w | w | w
    · exact absurd w (tt_F h (show L a q' ≤ 16 by omega) vq)
    · exact tp_inj hp vq vq' w
    · exact absurd w (tt_F h (show L a q ≤ 16 by omega) vq')
  · exact (key q p q' p' e hc o1 o2 e' hc' o1' k).elim
/-- edges of the face that the walk leaves over q -> p -/
def fe_P (L : Nat → Nat → Nat) (q p x y : Nat) : Prop := (x = q ∧ y = p) ∨ (x = p ∧ y = L q p) ∨ (x = L q p ∧ y = q)
/-- what a walk from a to t has visited; it stands at q, p -/
def cv_I (P : Nat → Int × Int) (L : Nat → Nat → Nat) (a : Nat) (t : Int × Int) (Vis : Nat → Nat → Prop) (q p : Nat) : Prop :=
  (∀ q' p', Vis q' p' → wk_I P L a t q' p' ∧ ((q' = q ∧ p' = p) ∨ wk_lt P a t q' p' q p)) ∧ Vis q p ∧
  (∃ q0 p0, L a q0 = p0 ∧ p0 < 16 ∧ 0 < (ge_o (P a) (P q0) t) ∧ (ge_o (P a) (P p0) t) ≤ 0 ∧ Vis q0 p0) ∧
  (∀ q' p', Vis q' p' → ¬ (q' = q ∧ p' = p) → (ge_o (P q') (P p') t) < 0 ∧ ((ge_o (P a) (P (L p' q')) t) ≤ 0 → Vis q' (L p' q')) ∧ (0 < (ge_o (P a) (P (L p' q')) t) → Vis (L p' q') p'))
theorem wk_as {a : Nat} {t : Int × Int} {q p q' p' : Nat} (h1 : wk_lt P a t q p q' p') (h2 : wk_lt P a t q' p' q p) : False := by
  unfold wk_lt at *; omega
/-- the edge over which the walk came -/
theorem wk_pr1 (hp : tr_pt m V P) (h : tr_T V P S L) {a x y : Nat} (va : V a) {t : Int × Int} (e : L x y < 16) (nz : L x y ≠ a) (ox : 0 < (ge_o (P a) (P x) t)) (oy : (ge_o (P a) (P y) t) ≤ 0) (oa : 0 < (ge_o (P x) (P y) (P a))) (ot : (ge_o (P x) (P y) t) < 0) (oz : 0 < (ge_o (P a) (P (L x y)) t)) :
    0 < (ge_o (P (L x y)) (P y) (P a)) ∧ (ge_o (P (L x y)) (P y) t) < 0 := by
  obtain ⟨vx, vy, vz, w1, w2, fo, _⟩ := tt_face hp h (a := x) (b := y) rfl e
  have inn : 0 ≤ (ge_o (P y) (P (L x y)) (P a)) → 0 ≤ (ge_o (P (L x y)) (P x) (P a)) → False := by
    intro k1 k2
    rcases tt_E h (a := x) (b := y) rfl e va ⟨Int.le_of_lt oa, k1, k2⟩ with w | w | w
    · rw [w, ge_pps] at ox; omega
    · rw [← w, ge_spp] at oa; omega
    · exact nz w.symm
  generalize L x y = z at *
  have r1 := ge_rot2 (P x) (P y) (P a)
  have r2 := ge_rot2 (P y) (P z) (P a)
  have r3 := ge_rot2 (P z) (P x) (P a)
  have s1 := ge_sw2 (P a) (P x) (P z)
  have s2 := ge_sw (P z) (P y) (P a)
  have s2' := ge_sw (P y) (P z) (P a)
  have first : 0 < (ge_o (P z) (P y) (P a)) := by
    rcases Int.lt_or_le 0 ((ge_o (P z) (P y) (P a))) with k | k
    · exact k
    · exfalso
      have G := ge_gp (P a) (P x) (P y) (P z) t
      have p1 := sg_pp (show 0 < (ge_o (P a) (P x) (P y)) by omega) oz
      have p2 := sg_ww (Int.le_of_lt ox) (show 0 ≤ (ge_o (P a) (P y) (P z)) by omega)
      rcases Int.lt_or_le ((ge_o (P a) (P x) (P z))) 0 with g | g
      · exact inn (by omega) (by omega)
      · have := sg_ww g (show 0 ≤ - (ge_o (P a) (P y) t) by omega)
        rw [Int.mul_neg] at this; omega
  refine ⟨first, ?_⟩
  rcases Int.lt_or_le ((ge_o (P z) (P y) t)) 0 with k | k
  · exact k
  · exfalso
    have G := ge_gp (P y) (P x) (P z) (P a) t
    have t1 := ge_sw (P x) (P y) (P z)
    have t2 := ge_rot (P a) (P y) t
    have t2' := ge_rot2 (P a) (P y) t
    have t3 := ge_sw (P a) (P y) t
    have t4 := ge_sw (P x) (P y) (P a)
    have t5 := ge_sw (P x) (P y) t
    have t6 := ge_sw (P z) (P y) t
    have p1 := sg_ww (show 0 ≤ - (ge_o (P y) (P x) (P z)) by omega) (show 0 ≤ ge_o (P y) (P a) t by omega)
    have p2 := sg_ww (show 0 ≤ - (ge_o (P y) (P x) (P a)) by omega) (show 0 ≤ - ge_o (P y) (P z) t by omega)
    have p3 := sg_pp (show 0 < ge_o (P y) (P x) t by omega) (show 0 < - (ge_o (P y) (P z) (P a)) by omega)
    rw [Int.neg_mul] at p1
    rw [Int.neg_mul_neg] at p2
    rw [Int.mul_neg] at p3
    omega
theorem wk_pr2 (hp : tr_pt m V P) (h : tr_T V P S L) {a x y : Nat} (va : V a) {t : Int × Int} (e : L x y < 16) (nz : L x y ≠ a) (ox : 0 < (ge_o (P a) (P x) t)) (oy : (ge_o (P a) (P y) t) ≤ 0) (oa : 0 < (ge_o (P x) (P y) (P a))) (ot : (ge_o (P x) (P y) t) < 0) (oz : (ge_o (P a) (P (L x y)) t) ≤ 0) :
    0 < (ge_o (P x) (P (L x y)) (P a)) ∧ (ge_o (P x) (P (L x y)) t) < 0 := by
  obtain ⟨vx, vy, vz, w1, w2, fo, _⟩ := tt_face hp h (a := x) (b := y) rfl e
  have inn : 0 ≤ (ge_o (P y) (P (L x y)) (P a)) → 0 ≤ (ge_o (P (L x y)) (P x) (P a)) → False := by
    intro k1 k2
    rcases tt_E h (a := x) (b := y) rfl e va ⟨Int.le_of_lt oa, k1, k2⟩ with w | w | w
    · rw [w, ge_pps] at ox; omega
    · rw [← w, ge_spp] at oa; omega
    · exact nz w.symm
  generalize L x y = z at *
  have r1 := ge_rot2 (P x) (P y) (P a)
  have r2 := ge_rot2 (P y) (P z) (P a)
  have r3 := ge_rot2 (P x) (P z) (P a)
  have s1 := ge_sw (P x) (P z) (P a)
  have first : 0 < (ge_o (P x) (P z) (P a)) := by
    rcases Int.lt_or_le 0 ((ge_o (P x) (P z) (P a))) with k | k
    · exact k
    · exfalso
      have G := ge_gp (P a) (P x) (P y) (P z) t
      have I : (ge_o (P a) (P x) t) * (ge_o (P a) (P y) (P z)) = (ge_o (P a) (P x) (P y)) * (- (ge_o (P a) (P z) t)) + (- (ge_o (P a) (P x) (P z))) * (- (ge_o (P a) (P y) t)) := by grind
      have := sg_w I ox (by omega) (by omega) (by omega) (by omega)
      exact inn (by omega) (by omega)
  refine ⟨first, ?_⟩
  rcases Int.lt_or_le ((ge_o (P x) (P z) t)) 0 with k | k
  · exact k
  · exfalso
    have G := ge_gp (P x) (P y) (P z) (P a) t
    have t2 := ge_sw (P a) (P x) t
    have p1 := sg_pp fo (show 0 < - ge_o (P x) (P a) t by omega)
    have p2 := sg_ww (Int.le_of_lt oa) k
    have p3 := sg_pp (show 0 < - ge_o (P x) (P y) t by omega) first
    rw [Int.mul_neg] at p1
    rw [Int.neg_mul] at p3
    omega
/-- a walk that has arrived has visited every edge that its way crosses -/
theorem cv_all (hp : tr_pt m V P) (h : tr_T V P S L) {a : Nat} (va : V a) {t : Int × Int} {Vis : Nat → Nat → Prop} {q p : Nat} (I : cv_I P L a t Vis q p) (hend : 0 ≤ (ge_o (P q) (P p) t)) :
    ∀ x y, L x y ≤ 16 → 0 < (ge_o (P a) (P x) t) → (ge_o (P a) (P y) t) ≤ 0 → 0 < (ge_o (P x) (P y) (P a)) → (ge_o (P x) (P y) t) < 0 → Vis x y := by
  obtain ⟨j1, j2, ⟨q0, p0, f1, f2, f3, f4, f5⟩, j4⟩ := I
  intro x0 y0 e0 a1 a2 a3 a4
  refine Classical.byContradiction fun hn => ?_
  obtain ⟨x, y, x16, y16, ⟨e, ox, oy, oa, ot, nv⟩, hm⟩ := mx_2 (fun x y => L x y ≤ 16 ∧ 0 < (ge_o (P a) (P x) t) ∧ (ge_o (P a) (P y) t) ≤ 0 ∧ 0 < (ge_o (P x) (P y) (P a)) ∧ (ge_o (P x) (P y) t) < 0 ∧ ¬ Vis x y)
    (fun x y => - wk_n P a x y) (wk_d P a t) (fun x y hx hy g => wk_d0 hx hy g.2.2.1 g.2.1 g.2.2.2.1)
    ⟨x0, y0, tp_16 hp (tt_va h e0), tp_16 hp (tt_vb h e0), e0, a1, a2, a3, a4, hn⟩
  have e16 := tt_numV hp h e va oa
  obtain ⟨vx, vy, vz, w1, w2, fo, g1, g2, g3, g4, g5, g6⟩ := tt_face hp h (a := x) (b := y) rfl e16
  have z16 := e16
  by_cases nz : L x y = a
  · have ea : L a x = y := by rw [← nz]; exact w2
    have := en_u hp h ea y16 ox oy f1 f2 f3 f4
    subst this
    have : y = p0 := ea.symm.trans f1
    subst this
    exact nv f5
  · have fin : ∀ x' y', Vis x' y' → (ge_o (P x') (P y') t) < 0 → ¬ (x' = q ∧ y' = p) := by
      rintro x' y' _ o ⟨rfl, rfl⟩; omega
    rcases Int.lt_or_le 0 ((ge_o (P a) (P (L x y)) t)) with oz | oz
    · obtain ⟨b1, b2⟩ := wk_pr1 hp h va e16 nz ox oy oa ot oz
      have vis : Vis (L x y) y := by
        refine Classical.byContradiction fun nvis => ?_
        have k := hm (L x y) y z16 y16 ⟨g5, oz, oy, b1, b2, nvis⟩
        have l := wk_g2 (r := x) (t := t) y16 oy oz b1 (by have := ge_rot (P x) (P y) (P (L x y)); omega)
        unfold wk_lt at l
        rw [Int.neg_mul, Int.neg_mul] at k
        omega
      have := (j4 _ _ vis (fin _ _ vis b2)).2.2
      rw [w1] at this
      exact nv (this ox)
    · obtain ⟨b1, b2⟩ := wk_pr2 hp h va e16 nz ox oy oa ot oz
      have vis : Vis x (L x y) := by
        refine Classical.byContradiction fun nvis => ?_
        have k := hm x (L x y) x16 z16 ⟨g6, ox, oz, b1, b2, nvis⟩
        have l := wk_g1 (p := L x y) (r := y) (t := t) x16 ox (by have := ge_rot2 (P x) (P y) (P (L x y)); omega)
        unfold wk_lt at l
        rw [Int.neg_mul, Int.neg_mul] at k
        omega
      have := (j4 _ _ vis (fin _ _ vis b2)).2.1
      rw [w2] at this
      exact nv (this oy)
end
section
variable {f_side f_last f_limit f_segCount f_top f_walkQ f_walkP f_walkN : Int32} {a_px a_py a_live a_segA a_segB a_left a_stack : Nat → Int32}
variable {m : Int} {P : Nat → Int × Int} {V : Nat → Prop} {L : Nat → Nat → Nat} {S : List (Nat × Nat)}
/-- the loop of 'carve' -/
theorem xw_carvel {post : SX → Prop} (g : xs_G a_px a_py P) (hp : tr_pt m V P) (hT : tr_T V P S L) {a : Nat} (va : V a) {x y : Int32} (hxy : rb_b (x.toInt, y.toInt))
    (ht : 0 ≤ x.toInt ∧ x.toInt ≤ m ∧ 0 ≤ y.toInt ∧ y.toInt ≤ m)
    (hpost : ∀ M l l' s' wQ wP wN, cs_I L M l → (∀ u v, L u v ≤ 16 → 0 < ge_o (P a) (P u) (x.toInt, y.toInt) → ge_o (P a) (P v) (x.toInt, y.toInt) ≤ 0 → 0 < (ge_o (P u) (P v) (P a)) → ge_o (P u) (P v) (x.toInt, y.toInt) < 0 → ¬ M u v ≤ 16 ∧ ¬ M v u ≤ 16) →
      xs_M l' M → sk_I s' l → l.length ≤ 190 → post (f_side, f_last, f_limit, f_segCount, nI l.length, wQ, wP, wN, a_px, a_py, a_live, a_segA, a_segB, l', s')) :
    ∀ (N i q p : Nat) (a_left a_stack : Nat → Int32) (M : Nat → Nat → Nat) (l : List (Nat × Nat)) (Vis : Nat → Nat → Prop), wk_mu V P a (x.toInt, y.toInt) q p ≤ N → i + N ≤ 60 → l.length ≤ 3 * i →
      cv_I P L a (x.toInt, y.toInt) Vis q p → cs_I L M l →
      (∀ u v, L u v ≤ 16 → ¬ M u v ≤ 16 → ∃ q' p', Vis q' p' ∧ ¬ (q' = q ∧ p' = p) ∧ fe_P L q' p' u v) →
      (∀ q' p', Vis q' p' → ¬ (q' = q ∧ p' = p) → ∀ u v, fe_P L q' p' u v → ¬ M u v ≤ 16) → xs_M a_left M → sk_I a_stack l →
      wX_carve_28 post (nI a) x y (N + 2) 1 (nI i) f_side f_last f_limit f_segCount (nI l.length) (nI q) (nI p) (nI (L q p)) a_px a_py a_live a_segA a_segB a_left a_stack := by
  have a16 := tp_16 hp va
  intro N
  -- one turn of the loop, given what the next state asks
  have turn : ∀ (F i q p : Nat) (a_left a_stack : Nat → Int32) (M : Nat → Nat → Nat) (l : List (Nat × Nat)) (Vis : Nat → Nat → Prop), i ≤ 60 → l.length ≤ 3 * i →
      cv_I P L a (x.toInt, y.toInt) Vis q p → cs_I L M l →
      (∀ u v, L u v ≤ 16 → ¬ M u v ≤ 16 → ∃ q' p', Vis q' p' ∧ ¬ (q' = q ∧ p' = p) ∧ fe_P L q' p' u v) →
      (∀ q' p', Vis q' p' → ¬ (q' = q ∧ p' = p) → ∀ u v, fe_P L q' p' u v → ¬ M u v ≤ 16) → xs_M a_left M → sk_I a_stack l →
      (∀ (q1 p1 : Nat) (a_left a_stack : Nat → Int32) (M : Nat → Nat → Nat) (l : List (Nat × Nat)) (Vis : Nat → Nat → Prop), wk_lt P a (x.toInt, y.toInt) q p q1 p1 → l.length ≤ 3 * (i + 1) →
        cv_I P L a (x.toInt, y.toInt) Vis q1 p1 → cs_I L M l →
        (∀ u v, L u v ≤ 16 → ¬ M u v ≤ 16 → ∃ q' p', Vis q' p' ∧ ¬ (q' = q1 ∧ p' = p1) ∧ fe_P L q' p' u v) →
        (∀ q' p', Vis q' p' → ¬ (q' = q1 ∧ p' = p1) → ∀ u v, fe_P L q' p' u v → ¬ M u v ≤ 16) → xs_M a_left M → sk_I a_stack l →
        wX_carve_28 post (nI a) x y (F + 1) 1 (nI (i + 1)) f_side f_last f_limit f_segCount (nI l.length) (nI q1) (nI p1) (nI (L q1 p1)) a_px a_py a_live a_segA a_segB a_left a_stack) →
      wX_carve_28 post (nI a) x y (F + 2) 1 (nI i) f_side f_last f_limit f_segCount (nI l.length) (nI q) (nI p) (nI (L q p)) a_px a_py a_live a_segA a_segB a_left a_stack := by
    intro F i q p a_left a_stack M l Vis hi hlen I hc r1 r2 hM hl next
    obtain ⟨j1, j2, j3, j4⟩ := I
    have I0 := (j1 q p j2).1
    have W0 := wk_IW hT I0
    have q16 := tp_16 hp W0.1
    have p16 := tp_16 hp W0.2.1
    have n16 := I0.1
    obtain ⟨vq, vp, vn, w1, w2, fo, x1, x2, x3, x4, x5, x6⟩ := tt_face hp hT (a := q) (b := p) rfl n16
    have nqp := tt_ne hT x1
    have npN := tt_ne hT x2
    have nNq := tt_ne hT x3
    -- the face we stand in is still there
    have here : M q p = L q p := by
      refine hc.1.1 q p (Classical.byContradiction fun hno => ?_)
      obtain ⟨q', p', v', ne, fe⟩ := r1 q p (by omega) hno
      have I' := (j1 q' p' v').1
      rcases fe with ⟨e1, e2⟩ | ⟨e1, e2⟩ | ⟨e1, e2⟩
      · exact ne ⟨e1.symm, e2.symm⟩
      · have h1 := I0.2.1; rw [e1] at h1; have := I'.2.2.1; omega
      · have h1 := I0.2.2.1; rw [e2] at h1; have := I'.2.1; omega
    refine br_f (nI_ge (b := 64) (by omega) (by decide)) (br_f nu_1n ?_)
    refine xw_cut hM hl (by omega) q16 p16 n16 (fun l1 s1 m1 k1 => ?_)
    have hc1 := cs_cut hc q16 p16 here n16
    have rem : ∀ u v, fe_P L q p u v → ¬ cu_L M q p (L q p) u v ≤ 16 := by
      intro u v fe w
      have := cu_v1 w
      rcases fe with h | h | h
      · exact this.2.1 h
      · exact this.2.2.1 h
      · exact this.2.2.2 h
    have keepR : ∀ u v, ¬ M u v ≤ 16 → ¬ cu_L M q p (L q p) u v ≤ 16 := fun u v h w => h (by have := (cu_v1 w).1; rw [this] at w; exact w)
    -- the face across is still there
    have across : ge_o (P q) (P p) (x.toInt, y.toInt) < 0 → cu_L M q p (L q p) p q = L p q ∧ L p q < 16 := by
      intro o
      have hr := wk_r hp hT ht I0 o
      have e1 : cu_L M q p (L q p) p q = M p q := cu_v2 (fun h => nqp h.1.symm) (fun h => nNq h.2.symm) (fun h => npN h.1)
      refine ⟨?_, hr⟩
      rw [e1]
      refine hc.1.1 p q (Classical.byContradiction fun hno => ?_)
      obtain ⟨q', p', v', ne, fe⟩ := r1 p q (by omega) hno
      obtain ⟨I', ord⟩ := j1 q' p' v'
      have lt : wk_lt P a (x.toInt, y.toInt) q' p' q p := ord.resolve_left ne
      obtain ⟨_, _, _, t1, t2, _⟩ := tt_face hp hT (a := q') (b := p') rfl I'.1
      rcases fe with ⟨e1, e2⟩ | ⟨e1, e2⟩ | ⟨e1, e2⟩
      · have h1 := I0.2.2.1; rw [e1] at h1; have := I'.2.1; omega
      · -- the face of the state (L p q, p)
        have er : L p q = q' := by rw [e1, e2]; exact t1
        have k : 0 < ge_o (P a) (P (L p q)) (x.toInt, y.toInt) := by rw [er]; exact I'.2.1
        obtain ⟨_, _, f⟩ := wk_s2 hp hT I0 o rfl hr k
        have l2 := wk_g2 p16 I0.2.2.1 I0.2.1 I0.2.2.2.1 f
        rw [er] at l2
        subst e1
        exact wk_as lt l2
      · have er : L p q = p' := by rw [e1, e2]; exact t2
        have k : ge_o (P a) (P (L p q)) (x.toInt, y.toInt) ≤ 0 := by rw [er]; exact I'.2.2.1
        obtain ⟨_, _, f⟩ := wk_s1 hp hT I0 o rfl hr k
        have l2 := wk_g1 (p := p) q16 I0.2.1 f
        rw [er] at l2
        subst e2
        exact wk_as lt l2
    -- a next state that the walk may take
    have go : ∀ q1 p1 r, ge_o (P q) (P p) (x.toInt, y.toInt) < 0 → L p q = r → wk_I P L a (x.toInt, y.toInt) q1 p1 → wk_lt P a (x.toInt, y.toInt) q p q1 p1 →
        ((ge_o (P a) (P r) (x.toInt, y.toInt) ≤ 0 → q1 = q ∧ p1 = r) ∧ (0 < ge_o (P a) (P r) (x.toInt, y.toInt) → q1 = r ∧ p1 = p)) →
        wX_carve_28 post (nI a) x y (F + 1) 1 (nI (i + 1)) f_side f_last f_limit f_segCount (nI (l.length + 3)) (nI q1) (nI p1) (nI (L q1 p1)) a_px a_py a_live a_segA a_segB l1 s1 := by
      intro q1 p1 r o er I1 lt1 suc
      have d0 := wk_Wd hp W0
      have d1 := wk_Wd hp (wk_IW hT I1)
      have ltn : ∀ q' p', Vis q' p' → wk_lt P a (x.toInt, y.toInt) q' p' q1 p1 := by
        intro q' p' v'
        obtain ⟨I', ord⟩ := j1 q' p' v'
        rcases ord with ⟨rfl, rfl⟩ | ord
        · exact lt1
        · exact wk_tr (wk_Wd hp (wk_IW hT I')) d0 d1 ord lt1
      have nen : ∀ q' p', Vis q' p' → ¬ (q' = q1 ∧ p' = p1) := by
        rintro q' p' v' ⟨rfl, rfl⟩
        exact wk_as (ltn _ _ v') (ltn _ _ v')
      refine next q1 p1 l1 s1 (cu_L M q p (L q p)) ((L q p, q) :: (p, L q p) :: (q, p) :: l) (fun u v => Vis u v ∨ (u = q1 ∧ v = p1)) lt1 (by show l.length + 1 + 1 + 1 ≤ _; omega) ⟨?_, Or.inr ⟨rfl, rfl⟩, ?_, ?_⟩ hc1 ?_ ?_ m1 k1
      · rintro q' p' (v' | ⟨rfl, rfl⟩)
        · exact ⟨(j1 q' p' v').1, Or.inr (ltn q' p' v')⟩
        · exact ⟨I1, Or.inl ⟨rfl, rfl⟩⟩
      · obtain ⟨q0, p0, f1, f2, f3, f4, f5⟩ := j3
        exact ⟨q0, p0, f1, f2, f3, f4, Or.inl f5⟩
      · rintro q' p' (v' | h') hne
        · by_cases hcur : q' = q ∧ p' = p
          · obtain ⟨rfl, rfl⟩ := hcur
            rw [er]
            refine ⟨o, fun k => Or.inr ?_, fun k => Or.inr ?_⟩
            · obtain ⟨h1, h2⟩ := suc.1 k; exact ⟨h1.symm, h2.symm⟩
            · obtain ⟨h1, h2⟩ := suc.2 k; exact ⟨h1.symm, h2.symm⟩
          · obtain ⟨h1, h2, h3⟩ := j4 q' p' v' hcur
            exact ⟨h1, fun k => Or.inl (h2 k), fun k => Or.inl (h3 k)⟩
        · exact absurd h' hne
      · intro u v lu nu
        by_cases hu : ¬ M u v ≤ 16
        · obtain ⟨q', p', v', _, fe⟩ := r1 u v lu hu
          exact ⟨q', p', Or.inl v', nen q' p' v', fe⟩
        · refine ⟨q, p, Or.inl j2, nen q p j2, ?_⟩
          refine Classical.byContradiction fun nf => nu ?_
          rw [cu_v2 (fun h => nf (Or.inl h)) (fun h => nf (Or.inr (Or.inl h))) (fun h => nf (Or.inr (Or.inr h)))]
          omega
      · rintro q' p' (v' | h') hne u v fe
        · by_cases hcur : q' = q ∧ p' = p
          · obtain ⟨rfl, rfl⟩ := hcur
            exact rem u v fe
          · exact keepR u v (r2 q' p' v' hcur u v fe)
        · exact absurd h' hne
    have nx1 := nI_1 i
    refine xw_adv g m1 a16 q16 p16 hxy (fun o => nm_r nx1 ?_) (fun o => by rw [(across o).1]; exact (across o).2) (fun r o er r16 k => nm_r nx1 ?_) (fun r o er r16 k => nm_r nx1 ?_)
    · refine br_f (nI_ge (b := 64) (by omega) (by decide)) (br_t rfl ?_)
      refine hpost (cu_L M q p (L q p)) ((L q p, q) :: (p, L q p) :: (q, p) :: l) l1 s1 _ _ _ hc1 (fun u v lu c1 c2 c3 c4 => ?_) m1 k1 (by show l.length + 1 + 1 + 1 ≤ _; omega)
      have vis := cv_all hp hT va ⟨j1, j2, j3, j4⟩ o u v lu c1 c2 c3 c4
      have ncur : ¬ (u = q ∧ v = p) := by rintro ⟨rfl, rfl⟩; omega
      have Iu := (j1 u v vis).1
      refine ⟨keepR u v (r2 u v vis ncur u v (Or.inl ⟨rfl, rfl⟩)), ?_⟩
      -- the face across belongs to the next visited state
      have hr := wk_r hp hT ht Iu c4
      obtain ⟨_, s2, s3⟩ := j4 u v vis ncur
      rcases Int.lt_or_le 0 (ge_o (P a) (P (L v u)) (x.toInt, y.toInt)) with k | k
      · obtain ⟨_, ef, _⟩ := wk_s2 hp hT Iu c4 rfl hr k
        have fe : fe_P L (L v u) v v u := Or.inr (Or.inl ⟨rfl, ef.symm⟩)
        by_cases hcur : L v u = q ∧ v = p
        · rw [hcur.1, hcur.2] at fe; rw [hcur.2]; exact rem p u fe
        · exact keepR v u (r2 _ _ (s3 k) hcur v u fe)
      · obtain ⟨_, ef, _⟩ := wk_s1 hp hT Iu c4 rfl hr k
        have fe : fe_P L u (L v u) v u := Or.inr (Or.inr ⟨ef.symm, rfl⟩)
        by_cases hcur : u = q ∧ L v u = p
        · rw [hcur.2, hcur.1] at fe; rw [hcur.1]; exact rem v q fe
        · exact keepR v u (r2 _ _ (s2 k) hcur v u fe)
    · have er' : L p q = r := by rw [← (across o).1]; exact er
      obtain ⟨I1, ef, f⟩ := wk_s1 hp hT I0 o er' r16 k
      have := go q r r o er' I1 (wk_g1 (p := p) q16 I0.2.1 f) ⟨fun _ => ⟨rfl, rfl⟩, fun w => by omega⟩
      rw [ef] at this
      exact this
    · have er' : L p q = r := by rw [← (across o).1]; exact er
      obtain ⟨I1, ef, f⟩ := wk_s2 hp hT I0 o er' r16 k
      have := go r p r o er' I1 (wk_g2 p16 I0.2.2.1 I0.2.1 I0.2.2.2.1 f) ⟨fun w => by omega, fun _ => ⟨rfl, rfl⟩⟩
      rw [ef] at this
      exact this
  induction N with
  | zero =>
    intro i q p a_left a_stack M l Vis hN hi hlen I hc r1 r2 hM hl
    refine turn 0 i q p a_left a_stack M l Vis (by omega) hlen I hc r1 r2 hM hl (fun q1 p1 _ _ _ _ Vis1 lt1 _ I1 _ _ _ _ _ => ?_)
    have := wk_dec hp (wk_IW hT (I.1 q p I.2.1).1) (wk_IW hT (I1.1 q1 p1 I1.2.1).1) lt1
    omega
  | succ N ih =>
    intro i q p a_left a_stack M l Vis hN hi hlen I hc r1 r2 hM hl
    refine turn (N + 1) i q p a_left a_stack M l Vis (by omega) hlen I hc r1 r2 hM hl (fun q1 p1 aL aS M1 l1 Vis1 lt1 len1 I1 c1 s1 s2 m1 k1 => ?_)
    have := wk_dec hp (wk_IW hT (I.1 q p I.2.1).1) (wk_IW hT (I1.1 q1 p1 I1.2.1).1) lt1
    exact ih (i + 1) q1 p1 aL aS M1 l1 Vis1 (by omega) (by omega) len1 I1 c1 s1 s2 m1 k1
/-- 'carve' takes away every face that ab runs through -/
theorem xw_carve {post : SX → Prop} (g : xs_G a_px a_py P) (hp : tr_pt m V P) (hm : m ≤ 100) (hT : tr_T V P S L) (hM : xs_M a_left L) {a b : Nat} (va : V a) (vb : V b) (ne : a ≠ b) (hn : ¬ L a b ≤ 16)
    (hpost : ∀ M l l' s' wQ wP wN, cs_I L M l → (∀ u v, L u v ≤ 16 → (ge_X (P u) (P v) (P a) (P b)) → ¬ M u v ≤ 16 ∧ ¬ M v u ≤ 16) → xs_M l' M → sk_I s' l → l.length ≤ 190 →
      post (f_side, f_last, f_limit, f_segCount, nI l.length, wQ, wP, wN, a_px, a_py, a_live, a_segA, a_segB, l', s')) :
    wpX_carve post (f_side, f_last, f_limit, f_segCount, 0, f_walkQ, f_walkP, f_walkN, a_px, a_py, a_live, a_segA, a_segB, a_left, a_stack) (nI a) (nI b) := by
  have a16 := tp_16 hp va
  have b16 := tp_16 hp vb
  have eP := (g b b16).1
  have hxy : rb_b ((a_px b).toInt, (a_py b).toInt) := by rw [← eP]; exact (g b b16).2
  have ht := tp_box hp vb
  rw [eP] at ht
  unfold wpX_carve
  dsimp only
  rw [nI_clamp (n := b) (by omega)]
  refine And.intro (nu_in b16 (by decide)) (nm_e (And.intro (nu_in b16 (by decide)) (nm_e ?_)))
  obtain ⟨q0, p0, e1, e2, e3, e4⟩ := en_V hp hT va vb ne hn
  rw [eP] at e3 e4
  refine xw_enter g hM a16 hxy ⟨q0, p0, tp_16 hp (tt_vb hT (show L a q0 ≤ 16 by omega)), e1, e2, e3, e4⟩ (fun q p hq e hp16 o1 o2 => ?_)
  have I := wk_0 hp hT e hp16 o1 o2
  have fN : L q p = a := tt_f2 hT e hp16
  have hmu := wk_mu56 hp va (wk_IW hT I)
  have R := xw_carvel (post := post) g hp hT va hxy ht (fun M l l' s' wQ wP wN hc hx m' k' len => hpost M l l' s' wQ wP wN hc (fun u v lu X => hx u v lu ?_ ?_ X.1 ?_) m' k' len)
    56 0 q p a_left a_stack L [] (fun u v => u = q ∧ v = p) (by omega) (by omega) (by simp)
    ⟨fun q' p' h => ⟨by rw [h.1, h.2]; exact I, Or.inl h⟩, ⟨rfl, rfl⟩, ⟨q, p, e, hp16, o1, o2, rfl, rfl⟩, fun q' p' h hne => absurd h hne⟩
    ⟨⟨fun _ _ _ => rfl, fun x y z e hz => ⟨tt_f2 hT e hz, tt_f3 hT e hz⟩, fun x y o => (tt_out hT x y).mpr o⟩, fun x y h1 h2 => absurd h1 h2⟩
    (fun u v h1 h2 => absurd h1 h2) (fun q' p' h hne => absurd h hne) hM trivial
  · rw [fN] at R
    exact ⟨_, R⟩
  · rw [← eP]; have := X.2.2.2; have := ge_rot (P b) (P a) (P u); omega
  · rw [← eP]; have := X.2.2.1; have := ge_sw2 (P a) (P b) (P v); omega
  · rw [← eP]; have := X.2.1; have := ge_sw (P u) (P v) (P b); omega
end
end
section
/-! the relation -/
def xs_L (n : Nat) (sA sB : Nat → Nat) : List (Nat × Nat) := (List.range n).map (fun i => (sA i, sB i))
theorem xs_Lm {n : Nat} {sA sB : Nat → Nat} (s : Nat × Nat) : s ∈ xs_L n sA sB ↔ ∃ i, i < n ∧ s = (sA i, sB i) := by
  unfold xs_L
  rw [List.mem_map]
  constructor
  · rintro ⟨i, hi, rfl⟩
    exact ⟨i, List.mem_range.mp hi, rfl⟩
  · rintro ⟨i, hi, rfl⟩
    exact ⟨i, List.mem_range.mpr hi, rfl⟩
/-- the same segments on both sides, each as often -/
def rl_C (n : Nat) (sA sB : Nat → Nat) (a_used : Nat → Int32) (tA tB : Nat → Nat) : Prop :=
  ∀ Q : Nat → Nat → Prop, ct_n (fun i => Q (sA i) (sB i)) n = ct_n (fun j => a_used j ≠ 0 ∧ Q (tA j) (tB j)) 8
/-- no pair twice -/
def rl_N (n : Nat) (sA sB : Nat → Nat) : Prop := ∀ i j, i < n → j < n → ((sA i = sA j ∧ sB i = sB j) ∨ (sA i = sB j ∧ sB i = sA j)) → i = j
def rl_R (f_side f_last f_limit : Int32) (n : Nat) (a_px a_py a_live a_segA a_segB a_left a_used a_sa a_sb : Nat → Int32) (m : Int) (V : Nat → Prop) (P : Nat → Int × Int) (L : Nat → Nat → Nat) (la lm : Nat) (sA sB tA tB : Nat → Nat) : Prop :=
  (f_side.toInt = m ∧ 8 ≤ m) ∧ (f_last = nI la ∧ 4 ≤ la ∧ la ≤ 15) ∧ (f_limit = nI lm ∧ 1 ≤ lm ∧ lm ≤ 8 ∧ n ≤ lm) ∧ xs_G a_px a_py P ∧ xs_V a_live V ∧ xs_S n a_segA a_segB sA sB ∧ xs_M a_left L ∧
  mo_K m V P (xs_L n sA sB) L ∧ ys_S a_used a_sa a_sb tA tB ∧ rl_C n sA sB a_used tA tB ∧ (∀ j, j < 8 → a_used j ≠ 0 → j < lm) ∧ rl_N n sA sB
def i_Rel (k : Nat) (u : SX) (v : SY) : Prop :=
  ∃ (f_side f_last f_limit : Int32) (n : Nat) (f_walkQ f_walkP f_walkN : Int32) (a_px a_py a_live a_segA a_segB a_left a_stack a_used a_sa a_sb : Nat → Int32) (m : Int) (V : Nat → Prop) (P : Nat → Int × Int) (L : Nat → Nat → Nat) (la lm : Nat) (sA sB tA tB : Nat → Nat),
    u = (f_side, f_last, f_limit, nI n, 0, f_walkQ, f_walkP, f_walkN, a_px, a_py, a_live, a_segA, a_segB, a_left, a_stack) ∧ v = (f_side, f_last, f_limit, a_live, a_px, a_py, a_used, a_sa, a_sb) ∧ rl_R f_side f_last f_limit n a_px a_py a_live a_segA a_segB a_left a_used a_sa a_sb m V P L la lm sA sB tA tB
theorem i_up {k : Nat} {u : SX} {v : SY} (h : i_Rel k u v) : i_Rel (k + 5) u v := h
theorem rl_mk {k : Nat} {f_side f_last f_limit : Int32} {n : Nat} {f_walkQ f_walkP f_walkN : Int32} {a_px a_py a_live a_segA a_segB a_left a_stack a_used a_sa a_sb : Nat → Int32} {m : Int} {V : Nat → Prop} {P : Nat → Int × Int} {L : Nat → Nat → Nat} {la lm : Nat} {sA sB tA tB : Nat → Nat}
    (R : rl_R f_side f_last f_limit n a_px a_py a_live a_segA a_segB a_left a_used a_sa a_sb m V P L la lm sA sB tA tB) : i_Rel k (f_side, f_last, f_limit, nI n, 0, f_walkQ, f_walkP, f_walkN, a_px, a_py, a_live, a_segA, a_segB, a_left, a_stack) (f_side, f_last, f_limit, a_live, a_px, a_py, a_used, a_sa, a_sb) :=
  ⟨f_side, f_last, f_limit, n, f_walkQ, f_walkP, f_walkN, a_px, a_py, a_live, a_segA, a_segB, a_left, a_stack, a_used, a_sa, a_sb, m, V, P, L, la, lm, sA, sB, tA, tB, rfl, rfl, R⟩
theorem rl_el {k : Nat} {u : SX} {v : SY} {Pr : SX → SY → Prop}
    (h : ∀ (f_side f_last f_limit : Int32) (n : Nat) (f_walkQ f_walkP f_walkN : Int32) (a_px a_py a_live a_segA a_segB a_left a_stack a_used a_sa a_sb : Nat → Int32) (m : Int) (V : Nat → Prop) (P : Nat → Int × Int) (L : Nat → Nat → Nat) (la lm : Nat) (sA sB tA tB : Nat → Nat),
      rl_R f_side f_last f_limit n a_px a_py a_live a_segA a_segB a_left a_used a_sa a_sb m V P L la lm sA sB tA tB → Pr (f_side, f_last, f_limit, nI n, 0, f_walkQ, f_walkP, f_walkN, a_px, a_py, a_live, a_segA, a_segB, a_left, a_stack) (f_side, f_last, f_limit, a_live, a_px, a_py, a_used, a_sa, a_sb)) (I : i_Rel k u v) : Pr u v := by
  obtain ⟨f_side, f_last, f_limit, n, f_walkQ, f_walkP, f_walkN, a_px, a_py, a_live, a_segA, a_segB, a_left, a_stack, a_used, a_sa, a_sb, m, V, P, L, la, lm, sA, sB, tA, tB, e1, e2, R⟩ := I
  rw [e1, e2]
  exact h f_side f_last f_limit n f_walkQ f_walkP f_walkN a_px a_py a_live a_segA a_segB a_left a_stack a_used a_sa a_sb m V P L la lm sA sB tA tB R
theorem ct_ex {Q : Nat → Prop} : ∀ n, 0 < ct_n Q n ↔ ∃ i, i < n ∧ Q i := by
  intro n
  induction n with
  | zero => exact ⟨fun h => absurd h (Nat.lt_irrefl 0), fun ⟨i, hi, _⟩ => by omega⟩
  | succ n ih =>
    by_cases q : Q n
    · rw [ct_s1 q]
      exact ⟨fun _ => ⟨n, by omega, q⟩, fun _ => by omega⟩
    · rw [ct_s0 q, ih]
      constructor
      · rintro ⟨i, hi, w⟩
        exact ⟨i, by omega, w⟩
      · rintro ⟨i, hi, w⟩
        rcases Nat.lt_or_ge i n with l | l
        · exact ⟨i, l, w⟩
        · have : i = n := by omega
          subst this; exact absurd w q
theorem rl_ex {n : Nat} {sA sB : Nat → Nat} {a_used : Nat → Int32} {tA tB : Nat → Nat} (h : rl_C n sA sB a_used tA tB) (Q : Nat → Nat → Prop) : (∃ i, i < n ∧ Q (sA i) (sB i)) ↔ ∃ j, j < 8 ∧ a_used j ≠ 0 ∧ Q (tA j) (tB j) := by
  rw [← ct_ex (Q := fun i => Q (sA i) (sB i)), h Q, ct_ex (Q := fun j => a_used j ≠ 0 ∧ Q (tA j) (tB j))]
theorem rl_L {n : Nat} {sA sB : Nat → Nat} {a_used : Nat → Int32} {tA tB : Nat → Nat} (h : rl_C n sA sB a_used tA tB) : ys_L a_used tA tB (xs_L n sA sB) := by
  intro s
  rw [xs_Lm]
  have := rl_ex h (fun x y => s = (x, y))
  exact this
theorem i_vc_x {k : Nat} {u : SX} {v : SY} (I : i_Rel k u v) (hk : k + 5 ≤ 2563) (v1 : Int32) : wpX_x (fun r => wpY_x (fun r' => r' = r ∧ i_Rel (k + 5) u v) v v1) u v1 := by
  refine rl_el (Pr := fun u v => wpX_x (fun r => wpY_x (fun r' => r' = r ∧ i_Rel (k + 5) u v) v v1) u v1) ?_ I
  intro f_side f_last f_limit n f_walkQ f_walkP f_walkN a_px a_py a_live a_segA a_segB a_left a_stack a_used a_sa a_sb m V P L la lm sA sB tA tB R
  have J := rl_mk (k := k + 5) (f_walkQ := f_walkQ) (f_walkP := f_walkP) (f_walkN := f_walkN) (a_stack := a_stack) R
  obtain ⟨⟨h1, h2⟩, h3, h4, g, hV, hS, hM, K, hU, hC, hLm, hN⟩ := R
  unfold wpX_x wpY_x
  refine xw_live hV (fun j vj e => br_f nu_1n ?_) (fun q => br_t rfl ?_)
  · have j16 := ((hV j).mp vj).1
    subst e
    refine And.intro (nu_in j16 (by decide)) ?_
    exact yw_live hV (fun j' vj' e' => br_f nu_1n (And.intro (nu_in j16 (by decide)) ⟨rfl, J⟩)) (fun q => absurd rfl (q j vj))
  · exact yw_live hV (fun j' vj' e' => absurd e' (q j' vj')) (fun q => br_t rfl ⟨rfl, J⟩)
theorem i_vc_y {k : Nat} {u : SX} {v : SY} (I : i_Rel k u v) (hk : k + 5 ≤ 2563) (v1 : Int32) : wpX_y (fun r => wpY_y (fun r' => r' = r ∧ i_Rel (k + 5) u v) v v1) u v1 := by
  refine rl_el (Pr := fun u v => wpX_y (fun r => wpY_y (fun r' => r' = r ∧ i_Rel (k + 5) u v) v v1) u v1) ?_ I
  intro f_side f_last f_limit n f_walkQ f_walkP f_walkN a_px a_py a_live a_segA a_segB a_left a_stack a_used a_sa a_sb m V P L la lm sA sB tA tB R
  have J := rl_mk (k := k + 5) (f_walkQ := f_walkQ) (f_walkP := f_walkP) (f_walkN := f_walkN) (a_stack := a_stack) R
  obtain ⟨⟨h1, h2⟩, h3, h4, g, hV, hS, hM, K, hU, hC, hLm, hN⟩ := R
  unfold wpX_y wpY_y
  refine xw_live hV (fun j vj e => br_f nu_1n ?_) (fun q => br_t rfl ?_)
  · have j16 := ((hV j).mp vj).1
    subst e
    refine And.intro (nu_in j16 (by decide)) ?_
    exact yw_live hV (fun j' vj' e' => br_f nu_1n (And.intro (nu_in j16 (by decide)) ⟨rfl, J⟩)) (fun q => absurd rfl (q j vj))
  · exact yw_live hV (fun j' vj' e' => absurd e' (q j' vj')) (fun q => br_t rfl ⟨rfl, J⟩)
/-- a pair is found on both sides or on neither -/
theorem rl_find {n : Nat} {a_segA a_segB a_used a_sa a_sb : Nat → Int32} {sA sB tA tB : Nat → Nat} (hS : xs_S n a_segA a_segB sA sB) (hU : ys_S a_used a_sa a_sb tA tB) (hC : rl_C n sA sB a_used tA tB) (x y : Int32) :
    (∃ i, i < n ∧ ((a_segA i = x ∧ a_segB i = y) ∨ (a_segA i = y ∧ a_segB i = x))) ↔ ∃ j, j < 8 ∧ a_used j ≠ 0 ∧ ((a_sa j = x ∧ a_sb j = y) ∨ (a_sa j = y ∧ a_sb j = x)) := by
  have h := rl_ex hC (fun p q => (nI p = x ∧ nI q = y) ∨ (nI p = y ∧ nI q = x))
  constructor
  · rintro ⟨i, hi, w⟩
    obtain ⟨e1, l1, e2, l2⟩ := hS.2 i hi
    rw [e1, e2] at w
    obtain ⟨j, hj, u, w'⟩ := h.mp ⟨i, hi, w⟩
    obtain ⟨e3, _, e4, _⟩ := hU j hj u
    exact ⟨j, hj, u, by rw [e3, e4]; exact w'⟩
  · rintro ⟨j, hj, u, w⟩
    obtain ⟨e3, _, e4, _⟩ := hU j hj u
    rw [e3, e4] at w
    obtain ⟨i, hi, w'⟩ := h.mpr ⟨j, hj, u, w⟩
    obtain ⟨e1, l1, e2, l2⟩ := hS.2 i hi
    exact ⟨i, hi, by rw [e1, e2]; exact w'⟩
theorem i_vc_segment {k : Nat} {u : SX} {v : SY} (I : i_Rel k u v) (hk : k + 5 ≤ 2563) (v1 : Int32) (v2 : Int32) : wpX_segment (fun r => wpY_segment (fun r' => r' = r ∧ i_Rel (k + 5) u v) v v1 v2) u v1 v2 := by
  refine rl_el (Pr := fun u v => wpX_segment (fun r => wpY_segment (fun r' => r' = r ∧ i_Rel (k + 5) u v) v v1 v2) u v1 v2) ?_ I
  intro f_side f_last f_limit n f_walkQ f_walkP f_walkN a_px a_py a_live a_segA a_segB a_left a_stack a_used a_sa a_sb m V P L la lm sA sB tA tB R
  have J := rl_mk (k := k + 5) (f_walkQ := f_walkQ) (f_walkP := f_walkP) (f_walkN := f_walkN) (a_stack := a_stack) R
  obtain ⟨⟨h1, h2⟩, h3, h4, g, hV, hS, hM, K, hU, hC, hLm, hN⟩ := R
  have hf := rl_find hS hU hC v1 v2
  unfold wpX_segment wpY_segment
  refine xw_find hS.1 (fun i hi w => br_f (nI_pos (by have := hS.1; omega)) ?_) (fun w => br_t (by decide) ?_)
  · exact yw_slot (fun j hj u w' => br_f (nI_pos (by omega)) ⟨rfl, J⟩) (fun w' => by obtain ⟨j, hj, u, q⟩ := hf.mp ⟨i, hi, w⟩; exact absurd q (w' j hj u))
  · exact yw_slot (fun j hj u w' => by obtain ⟨i, hi, q⟩ := hf.mpr ⟨j, hj, u, w'⟩; exact absurd q (w i hi)) (fun w' => br_t (by decide) ⟨rfl, J⟩)
theorem i_vc_sees {k : Nat} {u : SX} {v : SY} (I : i_Rel k u v) (hk : k + 5 ≤ 2563) (v1 : Int32) (v2 : Int32) : wpX_sees (fun r => wpY_sees (fun r' => r' = r ∧ i_Rel (k + 5) u v) v v1 v2) u v1 v2 := by
  refine rl_el (Pr := fun u v => wpX_sees (fun r => wpY_sees (fun r' => r' = r ∧ i_Rel (k + 5) u v) v v1 v2) u v1 v2) ?_ I
  intro f_side f_last f_limit n f_walkQ f_walkP f_walkN a_px a_py a_live a_segA a_segB a_left a_stack a_used a_sa a_sb m V P L la lm sA sB tA tB R
  have J := rl_mk (k := k + 5) (f_walkQ := f_walkQ) (f_walkP := f_walkP) (f_walkN := f_walkN) (a_stack := a_stack) R
  obtain ⟨⟨h1, h2⟩, h3, h4, g, hV, hS, hM, K, hU, hC, hLm, hN⟩ := R
  have hL := rl_L hC
  have hp := K.1
  have v16 : ∀ {j}, V j → j < 16 := fun {j} v => ((hV j).mp v).1
  unfold wpX_sees
  refine xw_live hV (fun a va ea => br_f nu_1n ?_) (fun q => br_t rfl (yw_sees g hV hU hL (fun a b ea eb s => absurd ea (q a s.1)) (fun _ => ⟨rfl, J⟩)))
  refine xw_live hV (fun b vb eb => br_f nu_1n ?_) (fun q => br_t rfl (yw_sees g hV hU hL (fun a b ea eb s => absurd eb (q b s.2.1)) (fun _ => ⟨rfl, J⟩)))
  subst ea eb
  have a16 := v16 va
  have b16 := v16 vb
  refine br_c (fun q => yw_sees' g hV hU hL a16 b16 (fun s => absurd ((nu_ni (by omega) (by omega)).mp q) s.2.2.1) (fun _ => ⟨rfl, J⟩)) (fun q => ?_)
  have ne : a ≠ b := fun e => q (by rw [e])
  have cq := cq_iff hp xs_Lm va vb ne (n := n) (sA := sA) (sB := sB)
  refine xw_clear g hV hS a16 b16 (fun c => br_f nu_1n ?_) (fun c => br_t rfl ?_)
  · exact yw_sees' g hV hU hL a16 b16 (fun _ => ⟨rfl, J⟩) (fun s => absurd (cq.mp c) s)
  · exact yw_sees' g hV hU hL a16 b16 (fun s => absurd (cq.mpr s) c) (fun _ => ⟨rfl, J⟩)
theorem i_vc_inside {k : Nat} {u : SX} {v : SY} (I : i_Rel k u v) (hk : k + 5 ≤ 2563) (v1 : Int32) (v2 : Int32) (v3 : Int32) (v4 : Int32) : wpX_inside (fun r => wpY_inside (fun r' => r' = r ∧ i_Rel (k + 5) u v) v v1 v2 v3 v4) u v1 v2 v3 v4 := by
  refine rl_el (Pr := fun u v => wpX_inside (fun r => wpY_inside (fun r' => r' = r ∧ i_Rel (k + 5) u v) v v1 v2 v3 v4) u v1 v2 v3 v4) ?_ I
  intro f_side f_last f_limit n f_walkQ f_walkP f_walkN a_px a_py a_live a_segA a_segB a_left a_stack a_used a_sa a_sb m V P L la lm sA sB tA tB R
  have J := rl_mk (k := k + 5) (f_walkQ := f_walkQ) (f_walkP := f_walkP) (f_walkN := f_walkN) (a_stack := a_stack) R
  obtain ⟨⟨h1, h2⟩, h3, h4, g, hV, hS, hM, K, hU, hC, hLm, hN⟩ := R
  have v16 : ∀ {j}, V j → j < 16 := fun {j} v => ((hV j).mp v).1
  unfold wpX_inside
  refine xw_live hV (fun a va ea => br_f nu_1n ?_) (fun q => br_t rfl (yw_inside g hV (fun a b c d ea eb ec ed va vb vc vd _ _ _ => absurd ea (q a va)) (fun _ => ⟨rfl, J⟩)))
  refine xw_live hV (fun b vb eb => br_f nu_1n ?_) (fun q => br_t rfl (yw_inside g hV (fun a b c d ea eb ec ed va vb vc vd _ _ _ => absurd eb (q b vb)) (fun _ => ⟨rfl, J⟩)))
  refine xw_live hV (fun c vc ec => br_f nu_1n ?_) (fun q => br_t rfl (yw_inside g hV (fun a b c d ea eb ec ed va vb vc vd _ _ _ => absurd ec (q c vc)) (fun _ => ⟨rfl, J⟩)))
  refine xw_live hV (fun d vd ed => br_f nu_1n ?_) (fun q => br_t rfl (yw_inside g hV (fun a b c d ea eb ec ed va vb vc vd _ _ _ => absurd ed (q d vd)) (fun _ => ⟨rfl, J⟩)))
  subst ea eb ec ed
  have a16 := v16 va
  have b16 := v16 vb
  have c16 := v16 vc
  have d16 := v16 vd
  have inj : ∀ {p q : Nat}, p < 16 → V q → nI p = nI q → p = q := fun {p q} hp vq e => (nu_ni (by omega) (by have := v16 vq; omega)).mp e
  have no : (¬ ((a ≠ b ∧ a ≠ c ∧ a ≠ d ∧ b ≠ c ∧ b ≠ d ∧ c ≠ d) ∧ (ge_o (P a) (P b) (P c)) ≠ 0 ∧ wi_P P a b c d)) → wpY_inside (fun r' => r' = 0 ∧ i_Rel (k + 5) (f_side, f_last, f_limit, nI n, 0, f_walkQ, f_walkP, f_walkN, a_px, a_py, a_live, a_segA, a_segB, a_left, a_stack) (f_side, f_last, f_limit, a_live, a_px, a_py, a_used, a_sa, a_sb)) (f_side, f_last, f_limit, a_live, a_px, a_py, a_used, a_sa, a_sb) (nI a) (nI b) (nI c) (nI d) := by
    intro hn
    refine yw_inside g hV (fun a' b' c' d' ea eb ec ed va' vb' vc' vd' hd ho hw => ?_) (fun _ => ⟨rfl, J⟩)
    have q1 := inj a16 va' ea
    have q2 := inj b16 vb' eb
    have q3 := inj c16 vc' ec
    have q4 := inj d16 vd' ed
    subst q1 q2 q3 q4
    exact absurd ⟨hd, ho, hw⟩ hn
  rw [nu_ni (a := a) (b := b) (by omega) (by omega), nu_ni (a := a) (b := c) (by omega) (by omega), nu_ni (a := a) (b := d) (by omega) (by omega), nu_ni (a := b) (b := c) (by omega) (by omega), nu_ni (a := b) (b := d) (by omega) (by omega), nu_ni (a := c) (b := d) (by omega) (by omega)]
  refine br_c (fun k => no (fun q => q.1.1 k)) (fun n1 => br_c (fun k => no (fun q => q.1.2.1 k)) (fun n2 => br_c (fun k => no (fun q => q.1.2.2.1 k)) (fun n3 => br_c (fun k => no (fun q => q.1.2.2.2.1 k)) (fun n4 => br_c (fun k => no (fun q => q.1.2.2.2.2.1 k)) (fun n5 => br_c (fun k => no (fun q => q.1.2.2.2.2.2 k)) (fun n6 => ?_))))))
  have dist : a ≠ b ∧ a ≠ c ∧ a ≠ d ∧ b ≠ c ∧ b ≠ d ∧ c ≠ d := ⟨n1, n2, n3, n4, n5, n6⟩
  refine xw_turn g a16 b16 c16 (fun r hr => br_c (fun z => no (fun q => q.2.1 ((nu_eq0 hr).mp z))) (fun z => ?_))
  have ho : (ge_o (P a) (P b) (P c)) ≠ 0 := fun q => z ((nu_eq0 hr).mpr q)
  refine xw_within g a16 b16 c16 d16 (fun w => br_f nu_1n ?_) (fun w => br_t rfl (no (fun q => w q.2.2)))
  exact yw_inside' g hV va vb vc vd dist ho (fun _ => ⟨rfl, J⟩) (fun q => absurd w q)
theorem i_vc_cover {k : Nat} {u : SX} {v : SY} (I : i_Rel k u v) (hk : k + 5 ≤ 2563) (v1 : Int32) (v2 : Int32) : wpX_cover (fun r => wpY_cover (fun r' => r' = r ∧ i_Rel (k + 5) u v) v v1 v2) u v1 v2 := by
  refine rl_el (Pr := fun u v => wpX_cover (fun r => wpY_cover (fun r' => r' = r ∧ i_Rel (k + 5) u v) v v1 v2) u v1 v2) ?_ I
  intro f_side f_last f_limit n f_walkQ f_walkP f_walkN a_px a_py a_live a_segA a_segB a_left a_stack a_used a_sa a_sb m V P L la lm sA sB tA tB R
  have J := rl_mk (k := k + 5) (f_walkQ := f_walkQ) (f_walkP := f_walkP) (f_walkN := f_walkN) (a_stack := a_stack) R
  obtain ⟨⟨h1, h2⟩, h3, h4, g, hV, hS, hM, K, hU, hC, hLm, hN⟩ := R
  have hL := rl_L hC
  have hp := K.1
  have hT := K.2.2.2.1
  have v16 : ∀ {j}, V j → j < 16 := fun {j} v => ((hV j).mp v).1
  unfold wpX_cover
  refine xw_edge hV hM (fun a b e => ⟨tt_va hT e, tt_vb hT e, tt_ne hT e⟩) (fun a b ea eb a16 b16 e => br_f nu_1n ?_) (fun q => br_t rfl ?_)
  · subst ea eb
    refine xw_covering g hS a16 b16 ?_
    refine yw_cover g hV hU hL (fun a' b' ea eb s => ⟨?_, J⟩) (fun q => absurd (se_E hp K.2.2.1 hT e) (q a b rfl rfl))
    have e1 : a = a' := (nu_ni (by omega) (by have := v16 s.1; omega)).mp ea
    have e2 : b = b' := (nu_ni (by omega) (by have := v16 s.2.1; omega)).mp eb
    subst e1 e2
    exact congrArg nI (hC (fun p q => (ge_C (P a) (P p) (P q)) ∧ (ge_C (P b) (P p) (P q)))).symm
  · refine yw_cover g hV hU hL (fun a b ea eb s => ⟨?_, J⟩) (fun _ => ⟨rfl, J⟩)
    have nc : ¬ tr_cov P (xs_L n sA sB) a b := by
      rintro ⟨s', hs', c1, c2⟩
      exact q a b ea eb (tt_C hT hs' s.1 s.2.1 s.2.2.1 c1 c2 s.2.2.2.1)
    rw [cv_iff hS xs_Lm] at nc
    have := hC (fun p q => (ge_C (P a) (P p) (P q)) ∧ (ge_C (P b) (P p) (P q)))
    rw [← this]
    have : ct_n (fun i => (ge_C (P a) (P (sA i)) (P (sB i))) ∧ (ge_C (P b) (P (sA i)) (P (sB i)))) n = 0 := by omega
    rw [this]; rfl
theorem i_vc_edge {k : Nat} {u : SX} {v : SY} (I : i_Rel k u v) (hk : k + 5 ≤ 2563) (v1 : Int32) (v2 : Int32) : wpX_edge (fun r => wpY_edge (fun r' => r' = r ∧ i_Rel (k + 5) u v) v v1 v2) u v1 v2 := by
  refine rl_el (Pr := fun u v => wpX_edge (fun r => wpY_edge (fun r' => r' = r ∧ i_Rel (k + 5) u v) v v1 v2) u v1 v2) ?_ I
  intro f_side f_last f_limit n f_walkQ f_walkP f_walkN a_px a_py a_live a_segA a_segB a_left a_stack a_used a_sa a_sb m V P L la lm sA sB tA tB R
  have J := rl_mk (k := k + 5) (f_walkQ := f_walkQ) (f_walkP := f_walkP) (f_walkN := f_walkN) (a_stack := a_stack) R
  obtain ⟨⟨h1, h2⟩, h3, h4, g, hV, hS, hM, K, hU, hC, hLm, hN⟩ := R
  have hL := rl_L hC
  have hT := K.2.2.2.1
  refine xw_edge hV hM (fun a b e => ⟨tt_va hT e, tt_vb hT e, tt_ne hT e⟩) (fun a b ea eb a16 b16 e => ?_) (fun q => ?_)
  · subst ea eb
    exact yw_edge' K g hV hU hL a16 b16 (fun _ => ⟨rfl, J⟩) (fun q => absurd e q)
  · exact yw_edge K g hV hU hL (fun a b ea eb _ _ e => absurd e (q a b ea eb)) (fun _ => ⟨rfl, J⟩)
theorem i_vc_apex {k : Nat} {u : SX} {v : SY} (I : i_Rel k u v) (hk : k + 5 ≤ 2563) (v1 : Int32) (v2 : Int32) : wpX_apex (fun r => wpY_apex (fun r' => r' = r ∧ i_Rel (k + 5) u v) v v1 v2) u v1 v2 := by
  refine rl_el (Pr := fun u v => wpX_apex (fun r => wpY_apex (fun r' => r' = r ∧ i_Rel (k + 5) u v) v v1 v2) u v1 v2) ?_ I
  intro f_side f_last f_limit n f_walkQ f_walkP f_walkN a_px a_py a_live a_segA a_segB a_left a_stack a_used a_sa a_sb m V P L la lm sA sB tA tB R
  have J := rl_mk (k := k + 5) (f_walkQ := f_walkQ) (f_walkP := f_walkP) (f_walkN := f_walkN) (a_stack := a_stack) R
  obtain ⟨⟨h1, h2⟩, h3, h4, g, hV, hS, hM, K, hU, hC, hLm, hN⟩ := R
  have hL := rl_L hC
  have hT := K.2.2.2.1
  unfold wpX_apex
  refine xw_edge hV hM (fun a b e => ⟨tt_va hT e, tt_vb hT e, tt_ne hT e⟩) (fun a b ea eb a16 b16 e => br_f nu_1n ?_) (fun q => br_t rfl ?_)
  · subst ea eb
    have Y : ∀ r : Int32, (if L a b < 16 then nI (L a b) else -1) = r → wpY_apex (fun r' => r' = r ∧ i_Rel (k + 5) (f_side, f_last, f_limit, nI n, 0, f_walkQ, f_walkP, f_walkN, a_px, a_py, a_live, a_segA, a_segB, a_left, a_stack) (f_side, f_last, f_limit, a_live, a_px, a_py, a_used, a_sa, a_sb)) (f_side, f_last, f_limit, a_live, a_px, a_py, a_used, a_sa, a_sb) (nI a) (nI b) := by
      intro r er
      refine yw_apex K g hV hU hL (fun a' b' ea eb ha' hb' _ => ⟨?_, J⟩) (fun q => absurd e (q a b rfl rfl))
      have e1 : a = a' := (nu_ni (by omega) (by omega)).mp ea
      have e2 : b = b' := (nu_ni (by omega) (by omega)).mp eb
      subst e1 e2
      exact er
    rw [nu_ix, nI_clamp (n := a * 16 + b) (by omega), hM a b a16 b16]
    refine And.intro (nu_in (by omega) (by decide)) (nm_e ?_)
    exact xw_num (fun w => br_f nu_1n (Y _ (by rw [if_pos w]; exact en_v w))) (fun w => br_t rfl (Y _ (by rw [if_neg w])))
  · exact yw_apex K g hV hU hL (fun a b ea eb _ _ e => absurd e (q a b ea eb)) (fun _ => ⟨rfl, J⟩)
theorem i_vc_degree {k : Nat} {u : SX} {v : SY} (I : i_Rel k u v) (hk : k + 5 ≤ 2563) (v1 : Int32) : wpX_degree (fun r => wpY_degree (fun r' => r' = r ∧ i_Rel (k + 5) u v) v v1) u v1 := by
  refine rl_el (Pr := fun u v => wpX_degree (fun r => wpY_degree (fun r' => r' = r ∧ i_Rel (k + 5) u v) v v1) u v1) ?_ I
  intro f_side f_last f_limit n f_walkQ f_walkP f_walkN a_px a_py a_live a_segA a_segB a_left a_stack a_used a_sa a_sb m V P L la lm sA sB tA tB R
  have J := rl_mk (k := k + 5) (f_walkQ := f_walkQ) (f_walkP := f_walkP) (f_walkN := f_walkN) (a_stack := a_stack) R
  obtain ⟨⟨h1, h2⟩, h3, h4, g, hV, hS, hM, K, hU, hC, hLm, hN⟩ := R
  have hL := rl_L hC
  unfold wpX_degree
  refine xw_live hV (fun a va ea => br_f nu_1n ?_) (fun q => br_t rfl (yw_degree K g hV hU hL (fun a va ea => absurd ea (q a va)) (fun _ => ⟨rfl, J⟩)))
  have a16 := ((hV a).mp va).1
  subst ea
  have hs : ∃ f, (fun f c i => wX_degree_14 (fun r => wpY_degree (fun r' => r' = r ∧ i_Rel (k + 5) (f_side, f_last, f_limit, nI n, 0, f_walkQ, f_walkP, f_walkN, a_px, a_py, a_live, a_segA, a_segB, a_left, a_stack) (f_side, f_last, f_limit, a_live, a_px, a_py, a_used, a_sa, a_sb)) (f_side, f_last, f_limit, a_live, a_px, a_py, a_used, a_sa, a_sb) (nI a)) (nI a) f_side f_last f_limit (nI n) 0 f_walkQ f_walkP f_walkN a_px a_py a_live a_segA a_segB a_left a_stack f (nI c) (nI i)) f 0 0 := by
    refine lo_c (W := fun f c i => wX_degree_14 (fun r => wpY_degree (fun r' => r' = r ∧ i_Rel (k + 5) (f_side, f_last, f_limit, nI n, 0, f_walkQ, f_walkP, f_walkN, a_px, a_py, a_live, a_segA, a_segB, a_left, a_stack) (f_side, f_last, f_limit, a_live, a_px, a_py, a_used, a_sa, a_sb)) (f_side, f_last, f_limit, a_live, a_px, a_py, a_used, a_sa, a_sb) (nI a)) (nI a) f_side f_last f_limit (nI n) 0 f_walkQ f_walkP f_walkN a_px a_py a_live a_segA a_segB a_left a_stack f (nI c) (nI i)) (Q := fun j => L a j ≤ 16) (N := 16)
      (E := fun c => wpY_degree (fun r' => r' = nI c ∧ i_Rel (k + 5) (f_side, f_last, f_limit, nI n, 0, f_walkQ, f_walkP, f_walkN, a_px, a_py, a_live, a_segA, a_segB, a_left, a_stack) (f_side, f_last, f_limit, a_live, a_px, a_py, a_used, a_sa, a_sb)) (f_side, f_last, f_limit, a_live, a_px, a_py, a_used, a_sa, a_sb) (nI a))
      (fun f c e => br_t nu_16' e) (fun f c i hi _ hQ hW => br_f (nu_16 hi) ?_) ?_
    · rw [nu_ix, nI_clamp (n := a * 16 + i) (by omega), hM a i a16 hi, en_lt]
      exact And.intro (nu_in (by omega) (by decide)) (br_c (fun q => nm_r (nI_1 i) (hW q)) (fun q => nm_r (nI_1 c) (nm_r (nI_1 i) (hQ (by omega)))))
    · refine yw_degree K g hV hU hL (fun a' va' ea => ⟨?_, J⟩) (fun q => absurd rfl (q a va))
      have e1 : a = a' := (nu_ni (by omega) (by have := ((hV a').mp va').1; omega)).mp ea
      subst e1
      rfl
  exact hs
end
section
section
variable {f_side f_last f_limit f_segCount f_top f_walkQ f_walkP f_walkN : Int32} {a_px a_py a_live a_segA a_segB a_left a_stack : Nat → Int32}
theorem xw_edgeCode {post : Int32 → Prop} {a b : Nat} (ha : a < 16) (hb : b < 16) (h : ∀ x y, x < y → (x = a ∧ y = b) ∨ (x = b ∧ y = a) → post (nI x + 32 * nI y)) (ne : a ≠ b) : wpX_edgeCode post (f_side, f_last, f_limit, f_segCount, f_top, f_walkQ, f_walkP, f_walkN, a_px, a_py, a_live, a_segA, a_segB, a_left, a_stack) (nI a) (nI b) := by
  unfold wpX_edgeCode wpX_least
  dsimp only
  rw [nI_leI (by omega) (by omega)]
  refine br_c (fun k => nm_r (e' := nI a) (by grind) ?_) (fun k => nm_r (e' := nI b) (by grind) ?_)
  · exact h b a (by omega) (Or.inr ⟨rfl, rfl⟩)
  · exact h a b (by omega) (Or.inl ⟨rfl, rfl⟩)
theorem xw_faceCode {post : Int32 → Prop} {a b c : Nat} (ha : a < 16) (hb : b < 16) (hc : c < 16) (nab : a ≠ b) (nbc : b ≠ c) (nca : c ≠ a)
    (h : ∀ x y z, x < y → y < z → (x = a ∧ y = b ∧ z = c) ∨ (x = b ∧ y = c ∧ z = a) ∨ (x = c ∧ y = a ∧ z = b) ∨ (x = b ∧ y = a ∧ z = c) ∨ (x = a ∧ y = c ∧ z = b) ∨ (x = c ∧ y = b ∧ z = a) → post ((nI x + 32 * nI y) + 1024 * nI z)) :
    wpX_faceCode post (f_side, f_last, f_limit, f_segCount, f_top, f_walkQ, f_walkP, f_walkN, a_px, a_py, a_live, a_segA, a_segB, a_left, a_stack) (nI a) (nI b) (nI c) := by
  have second : ∀ lo hi : Nat, lo < hi → lo < 16 → hi < 16 → ((lo = a ∧ hi = b) ∨ (lo = b ∧ hi = a)) → wpX_least (fun r_18 => ∀ x7_34, x7_34 = (nI lo + nI c) - r_18 → wpX_least (fun r_35 => ∀ x9_51, x9_51 = (nI hi + x7_34) - r_35 → post ((r_18 + (32 * r_35)) + (1024 * x9_51))) (f_side, f_last, f_limit, f_segCount, f_top, f_walkQ, f_walkP, f_walkN, a_px, a_py, a_live, a_segA, a_segB, a_left, a_stack) (nI hi) x7_34) (f_side, f_last, f_limit, f_segCount, f_top, f_walkQ, f_walkP, f_walkN, a_px, a_py, a_live, a_segA, a_segB, a_left, a_stack) (nI lo) (nI c) := by
    intro lo hi l1 l2 l3 l4
    unfold wpX_least
    dsimp only
    rw [nI_leI (by omega) (by omega)]
    refine br_c (fun k => nm_r (e' := nI lo) (by grind) ?_) (fun k => nm_r (e' := nI c) (by grind) ?_)
    · rw [nI_leI (by omega) (by omega)]
      exact br_c (fun k2 => nm_r (e' := nI hi) (by grind) (h c lo hi (by omega) l1 (by omega))) (fun k2 => by omega)
    · rw [nI_leI (by omega) (by omega)]
      exact br_c (fun k2 => nm_r (e' := nI hi) (by grind) (h lo c hi (by omega) (by omega) (by omega))) (fun k2 => nm_r (e' := nI c) (by grind) (h lo hi c (by omega) (by omega) (by omega)))
  unfold wpX_faceCode
  refine br_c (fun k => ?_) (fun k => ?_)
  · rw [nI_leI (by omega) (by omega)] at k
    exact nm_r (e' := nI a) (by grind) (second b a (by omega) hb ha (Or.inr ⟨rfl, rfl⟩))
  · rw [nI_leI (by omega) (by omega)] at k
    exact nm_r (e' := nI b) (by grind) (second a b (by omega) ha hb (Or.inl ⟨rfl, rfl⟩))
end
section
variable {m : Int} {V : Nat → Prop} {P : Nat → Int × Int} {S : List (Nat × Nat)} {L : Nat → Nat → Nat}
/-- the reference's faces about t are rotations or mirrors of the walk's face -/
theorem lc_f (hp : tr_pt m V P) (hT : tr_T V P S L) {q p n : Nat} (e : L q p = n) (hn : n < 16) {t : Int × Int} (t1 : 0 < (ge_o (P q) (P p) t)) (t2 : 0 < (ge_o (P p) (P n) t)) (t3 : 0 < (ge_o (P n) (P q) t))
    {a b c : Nat} (hc : c < 16) (h1 : hd_P (P a) (P b) (P c) t) (h2 : fa_P P L a b c) :
    (a = q ∧ b = p ∧ c = n) ∨ (a = p ∧ b = n ∧ c = q) ∨ (a = n ∧ b = q ∧ c = p) ∨ (b = q ∧ a = p ∧ c = n) ∨ (b = p ∧ a = n ∧ c = q) ∨ (b = n ∧ a = q ∧ c = p) := by
  have A := ge_aff (P a) (P b) (P c) t
  have r1 := ge_rot2 (P a) (P b) t
  have r2 := ge_rot2 (P b) (P c) t
  have r3 := ge_rot2 (P c) (P a) t
  have s1 := ge_sw (P a) (P b) t
  have s2 := ge_sw (P b) (P c) t
  have s3 := ge_sw (P c) (P a) t
  rcases h2 with ⟨o, e'⟩ | ⟨o, e'⟩
  · rcases h1 with ⟨k1, k2, k3⟩ | ⟨k1, k2, k3⟩
    · rcases pf_2 hp hT e hn t1 t2 t3 e' hc k1 k2 k3 with h | h | h
      · exact Or.inl h
      · exact Or.inr (Or.inl h)
      · exact Or.inr (Or.inr (Or.inl h))
    · omega
  · rcases h1 with ⟨k1, k2, k3⟩ | ⟨k1, k2, k3⟩
    · omega
    · rcases pf_2 hp hT e hn t1 t2 t3 e' hc (by omega) (by omega) (by omega) with h | h | h
      · exact Or.inr (Or.inr (Or.inr (Or.inl h)))
      · exact Or.inr (Or.inr (Or.inr (Or.inr (Or.inl h))))
      · exact Or.inr (Or.inr (Or.inr (Or.inr (Or.inr h))))
end
theorem lc_s {q p n a b c x y z : Nat} (l1 : x < y) (l2 : y < z) (l1' : a < b) (l2' : b < c)
    (perm : (x = q ∧ y = p ∧ z = n) ∨ (x = p ∧ y = n ∧ z = q) ∨ (x = n ∧ y = q ∧ z = p) ∨ (x = p ∧ y = q ∧ z = n) ∨ (x = q ∧ y = n ∧ z = p) ∨ (x = n ∧ y = p ∧ z = q))
    (h : (a = q ∧ b = p ∧ c = n) ∨ (a = p ∧ b = n ∧ c = q) ∨ (a = n ∧ b = q ∧ c = p) ∨ (b = q ∧ a = p ∧ c = n) ∨ (b = p ∧ a = n ∧ c = q) ∨ (b = n ∧ a = q ∧ c = p)) : a = x ∧ b = y ∧ c = z := by
  rcases perm with ⟨rfl, rfl, rfl⟩ | ⟨rfl, rfl, rfl⟩ | ⟨rfl, rfl, rfl⟩ | ⟨rfl, rfl, rfl⟩ | ⟨rfl, rfl, rfl⟩ | ⟨rfl, rfl, rfl⟩ <;>
    rcases h with ⟨rfl, rfl, rfl⟩ | ⟨rfl, rfl, rfl⟩ | ⟨rfl, rfl, rfl⟩ | ⟨rfl, rfl, rfl⟩ | ⟨rfl, rfl, rfl⟩ | ⟨rfl, rfl, rfl⟩ <;> first | exact ⟨rfl, rfl, rfl⟩ | omega
theorem i_vc_locate {k : Nat} {u : SX} {v : SY} (I : i_Rel k u v) (hk : k + 5 ≤ 2563) (v1 : Int32) (v2 : Int32) : wpX_locate (fun r u' => wpY_locate (fun r' => r' = r ∧ i_Rel (k + 5) u' v) v v1 v2) u v1 v2 := by
  refine rl_el (Pr := fun u v => wpX_locate (fun r u' => wpY_locate (fun r' => r' = r ∧ i_Rel (k + 5) u' v) v v1 v2) u v1 v2) ?_ I
  intro f_side f_last f_limit n f_walkQ f_walkP f_walkN a_px a_py a_live a_segA a_segB a_left a_stack a_used a_sa a_sb m V P L la lm sA sB tA tB R
  have J := fun wQ wP wN => rl_mk (k := k + 5) (f_walkQ := wQ) (f_walkP := wP) (f_walkN := wN) (a_stack := a_stack) R
  obtain ⟨⟨h1, h2⟩, h3, h4, g, hV, hS, hM, K, hU, hC, hLm, hN⟩ := R
  have hL := rl_L hC
  obtain ⟨hp, hm, hSg, hT, hLD⟩ := K
  have K : mo_K m V P (xs_L n sA sB) L := ⟨hp, hm, hSg, hT, hLD⟩
  have JJ := J f_walkQ f_walkP f_walkN
  unfold wpX_locate
  refine br_c (fun q => br_t q ⟨rfl, JJ⟩) (fun q1 => ?_)
  refine br_c (fun q => br_f q1 (br_t q ⟨rfl, JJ⟩)) (fun q2 => ?_)
  refine br_c (fun q => br_f q1 (br_f q2 (br_t q ⟨rfl, JJ⟩))) (fun q3 => ?_)
  refine br_c (fun q4 => ?_) (fun q => br_f q1 (br_f q2 (br_f q3 (br_f q ⟨rfl, JJ⟩))))
  have Yd : ∀ {A B C D E : Prop}, E → (v1 < 0 → A) ∧ (¬ v1 < 0 → ((f_side < v1 → B) ∧ (¬ f_side < v1 → ((v2 < 0 → C) ∧ (¬ v2 < 0 → ((v2 ≤ f_side → E) ∧ (¬ v2 ≤ f_side → D))))))) :=
    fun e => br_f q1 (br_f q2 (br_f q3 (br_t q4 e)))
  have ht : 0 ≤ v1.toInt ∧ v1.toInt ≤ m ∧ 0 ≤ v2.toInt ∧ v2.toInt ≤ m := by
    rw [nu_lt0 rfl] at q1 q3
    rw [nu_lt h1 rfl] at q2
    rw [nu_le rfl h1] at q4
    omega
  have hxy : rb_b (v1.toInt, v2.toInt) := by unfold rb_b; simp only; omega
  have v16 : ∀ {j}, V j → j < 16 := fun {j} v => ((hV j).mp v).1
  refine xw_pointAt g hV (fun j vj ej => br_f (nI_pos (by have := v16 vj; omega)) ?_) (fun hno => br_t (by decide) ?_)
  · refine Yd (yw_pointAt g hV (fun j' vj' ej' => br_f (fun w => ?_) ⟨?_, JJ⟩) (fun w => absurd ej (w j vj)))
    · have : ¬ nI j' < 0 := nI_pos (by have := v16 vj'; omega)
      rw [w] at this; exact this (by decide)
    · rw [tp_inj hp vj vj' (ej.trans ej'.symm)]
  -- no point there: walk
  have noP : ∀ z : Nat, V z → (v1.toInt, v2.toInt) ≠ P z := fun z vz e => hno z vz e.symm
  have Yp : ∀ {r : Int32} {wQ wP wN : Int32}, (∃ f, wY_locate_43 (fun r' => r' = r ∧ i_Rel (k + 5) (f_side, f_last, f_limit, nI n, 0, wQ, wP, wN, a_px, a_py, a_live, a_segA, a_segB, a_left, a_stack) (f_side, f_last, f_limit, a_live, a_px, a_py, a_used, a_sa, a_sb)) v1 v2 f_side f_last f_limit a_live a_px a_py a_used a_sa a_sb f 0) →
      wpY_pointAt (fun r_5 => ((r_5 = (-1) → (∃ n43 : Nat, wY_locate_43 (fun r' => r' = r ∧ i_Rel (k + 5) (f_side, f_last, f_limit, nI n, 0, wQ, wP, wN, a_px, a_py, a_live, a_segA, a_segB, a_left, a_stack) (f_side, f_last, f_limit, a_live, a_px, a_py, a_used, a_sa, a_sb)) v1 v2 f_side f_last f_limit a_live a_px a_py a_used a_sa a_sb n43 0)) ∧ (¬ r_5 = (-1) → (fun r' => r' = r ∧ i_Rel (k + 5) (f_side, f_last, f_limit, nI n, 0, wQ, wP, wN, a_px, a_py, a_live, a_segA, a_segB, a_left, a_stack) (f_side, f_last, f_limit, a_live, a_px, a_py, a_used, a_sa, a_sb)) r_5))) (f_side, f_last, f_limit, a_live, a_px, a_py, a_used, a_sa, a_sb) v1 v2 :=
    fun h => yw_pointAt g hV (fun j vj ej => absurd ej (hno j vj)) (fun _ => br_t rfl h)
  refine xw_seek g hp hm hT hM ht hno (fun q p hN' hF => ?_)
  obtain ⟨vq, vp, vn, w1, w2, fo, x1, x2, x3, x4, x5, x6⟩ := tt_face hp hT (a := q) (b := p) rfl hN'
  have q16 := v16 vq
  have p16 := v16 vp
  have r1 := ge_rot (P q) (P p) (P (L q p))
  have r2 := ge_rot2 (P q) (P p) (P (L q p))
  -- the place on an edge
  have onE : ∀ a b, L a b ≤ 16 → ge_B (v1.toInt, v2.toInt) (P a) (P b) → wpX_edgeCode (fun r => wpY_locate (fun r' => r' = r ∧ i_Rel (k + 5) (f_side, f_last, f_limit, nI n, 0, nI q, nI p, nI (L q p), a_px, a_py, a_live, a_segA, a_segB, a_left, a_stack) (f_side, f_last, f_limit, a_live, a_px, a_py, a_used, a_sa, a_sb)) (f_side, f_last, f_limit, a_live, a_px, a_py, a_used, a_sa, a_sb) v1 v2) (f_side, f_last, f_limit, nI n, 0, nI q, nI p, nI (L q p), a_px, a_py, a_live, a_segA, a_segB, a_left, a_stack) (nI a) (nI b) := by
    intro a b e hB
    have a16 := v16 (tt_va hT e)
    have b16 := v16 (tt_vb hT e)
    refine xw_edgeCode a16 b16 (fun x y l xy => ?_) (tt_ne hT e)
    unfold wpY_locate
    refine Yd (Yp (yw_loc1 K g hV hU hL hxy (fun a' b' l' hb' e' hB' => ⟨?_, J _ _ _⟩) (fun hn => ?_)))
    · have := pe_1 hp hT e e' hB hB'
      have e1 : a' = x := by omega
      have e2 : b' = y := by omega
      rw [e1, e2]
    · exfalso
      rcases xy with ⟨rfl, rfl⟩ | ⟨rfl, rfl⟩
      · exact hn x y l b16 e hB
      · exact hn x y l a16 (tt_sy hT e) (ge_B1 hB)
  refine xw_lean g q16 p16 hxy (fun r hr => br_c (fun z => ?_) (fun z => ?_))
  · exact onE q p x1 (sp_B fo hF ((nu_eq0 hr).mp z) (noP q vq) (noP p vp))
  have z1 : ge_o (P q) (P p) (v1.toInt, v2.toInt) ≠ 0 := fun e => z ((nu_eq0 hr).mpr e)
  refine xw_lean g p16 hN' hxy (fun r' hr' => br_c (fun z' => ?_) (fun z' => ?_))
  · exact onE p (L q p) x2 (sp_B (by omega) (ge_T1 hF) ((nu_eq0 hr').mp z') (noP p vp) (noP _ vn))
  have z2 : ge_o (P p) (P (L q p)) (v1.toInt, v2.toInt) ≠ 0 := fun e => z' ((nu_eq0 hr').mpr e)
  refine xw_lean g hN' q16 hxy (fun r'' hr'' => br_c (fun z'' => ?_) (fun z'' => ?_))
  · exact onE (L q p) q x3 (sp_B (by omega) (ge_T1 (ge_T1 hF)) ((nu_eq0 hr'').mp z'') (noP _ vn) (noP q vq))
  have z3 : ge_o (P (L q p)) (P q) (v1.toInt, v2.toInt) ≠ 0 := fun e => z'' ((nu_eq0 hr'').mpr e)
  have t1 : 0 < ge_o (P q) (P p) (v1.toInt, v2.toInt) := by have := hF.1; omega
  have t2 : 0 < ge_o (P p) (P (L q p)) (v1.toInt, v2.toInt) := by have := hF.2.1; omega
  have t3 : 0 < ge_o (P (L q p)) (P q) (v1.toInt, v2.toInt) := by have := hF.2.2; omega
  refine xw_faceCode q16 p16 hN' (tt_ne hT x1) (tt_ne hT x2) (tt_ne hT x3) (fun x y z l1 l2 perm => ?_)
  show wpY_locate (fun r' => r' = ((nI x + 32 * nI y) + 1024 * nI z) ∧ i_Rel (k + 5) (f_side, f_last, f_limit, nI n, 0, nI q, nI p, nI (L q p), a_px, a_py, a_live, a_segA, a_segB, a_left, a_stack) (f_side, f_last, f_limit, a_live, a_px, a_py, a_used, a_sa, a_sb)) (f_side, f_last, f_limit, a_live, a_px, a_py, a_used, a_sa, a_sb) v1 v2
  unfold wpY_locate
  refine Yd (Yp (yw_loc1 K g hV hU hL hxy (fun a' b' l' hb' e' hB' => absurd hB' (pf_1 hp hT rfl hN' t1 t2 t3 e')) (fun _ => ?_)))
  refine yw_loc2 K g hV hU hL hxy (fun a b c l1' l2' hc' k1 k2 => ⟨?_, J _ _ _⟩) ?_
  · obtain ⟨e1, e2, e3⟩ := lc_s l1 l2 l1' l2' perm (lc_f hp hT rfl hN' t1 t2 t3 hc' k1 k2)
    rw [e1, e2, e3]
  · have s1 := ge_sw (P q) (P p) (v1.toInt, v2.toInt)
    have s2 := ge_sw (P p) (P (L q p)) (v1.toInt, v2.toInt)
    have s3 := ge_sw (P (L q p)) (P q) (v1.toInt, v2.toInt)
    have o1 := ge_sw (P q) (P p) (P (L q p))
    have o2 := ge_sw2 (P q) (P p) (P (L q p))
    have o3 := ge_sw3 (P q) (P p) (P (L q p))
    refine ⟨x, y, z, l1, l2, ?_⟩
    rcases perm with ⟨rfl, rfl, rfl⟩ | ⟨rfl, rfl, rfl⟩ | ⟨rfl, rfl, rfl⟩ | ⟨rfl, rfl, rfl⟩ | ⟨rfl, rfl, rfl⟩ | ⟨rfl, rfl, rfl⟩
    · exact ⟨hN', vq, vp, vn, Or.inl ⟨t1, t2, t3⟩, Or.inl ⟨fo, rfl⟩⟩
    · exact ⟨q16, vp, vn, vq, Or.inl ⟨t2, t3, t1⟩, Or.inl ⟨by omega, w1⟩⟩
    · exact ⟨p16, vn, vq, vp, Or.inl ⟨t3, t1, t2⟩, Or.inl ⟨by omega, w2⟩⟩
    · exact ⟨hN', vp, vq, vn, Or.inr ⟨by omega, by omega, by omega⟩, Or.inr ⟨by omega, rfl⟩⟩
    · exact ⟨p16, vq, vn, vp, Or.inr ⟨by omega, by omega, by omega⟩, Or.inr ⟨by omega, w2⟩⟩
    · exact ⟨q16, vn, vp, vq, Or.inr ⟨by omega, by omega, by omega⟩, Or.inr ⟨by omega, w1⟩⟩
end
section
def pp_P (P : Nat → Int × Int) (k : Nat) (t : Int × Int) : Nat → Int × Int := fun j => if j = k then t else P j
section
variable {m : Int} {V : Nat → Prop} {P : Nat → Int × Int} {S : List (Nat × Nat)} {L : Nat → Nat → Nat}
theorem pp_k (k : Nat) (t : Int × Int) : pp_P P k t k = t := by unfold pp_P; rw [if_pos rfl]
theorem pp_j {k j : Nat} (t : Int × Int) (h : j ≠ k) : pp_P P k t j = P j := by unfold pp_P; rw [if_neg h]
theorem pp_pt (hp : tr_pt m V P) {k : Nat} (h4 : 4 ≤ k) (k16 : k < 16) (hk : ¬ V k) {t : Int × Int} (ht : 0 < t.1 ∧ t.1 < m ∧ 0 < t.2 ∧ t.2 < m) (hno : ∀ j, V j → P j ≠ t) :
    tr_pt m (fun j => V j ∨ j = k) (pp_P P k t) := by
  have nk : ∀ {j}, V j → j ≠ k := fun {j} vj e => hk (by rw [← e]; exact vj)
  refine ⟨tp_m hp, by rw [pp_j t (by omega)]; exact tp_0 hp, by rw [pp_j t (by omega)]; exact tp_1 hp, by rw [pp_j t (by omega)]; exact tp_2 hp, by rw [pp_j t (by omega)]; exact tp_3 hp,
    fun j hj => Or.inl (tp_c hp hj), fun j hj => ?_, fun j hj h => ?_, fun a b ha hb e => ?_⟩
  · rcases hj with hj | rfl
    · exact tp_16 hp hj
    · exact k16
  · rcases hj with hj | rfl
    · rw [pp_j t (nk hj)]; exact tp_in hp hj h
    · rw [pp_k]; exact ht
  · rcases ha with ha | rfl
    · rcases hb with hb | rfl
      · rw [pp_j t (nk ha), pp_j t (nk hb)] at e; exact tp_inj hp ha hb e
      · rw [pp_j t (nk ha), pp_k] at e; exact absurd e (hno a ha)
    · rcases hb with hb | rfl
      · rw [pp_j t (nk hb), pp_k] at e; exact absurd e.symm (hno b hb)
      · rfl
theorem pp_pt0 (hp : tr_pt m V P) {k : Nat} (hk : ¬ V k) (h4 : 4 ≤ k) (t : Int × Int) : tr_pt m V (pp_P P k t) := by
  have nk : ∀ {j}, V j → j ≠ k := fun {j} vj e => hk (by rw [← e]; exact vj)
  exact ⟨tp_m hp, by rw [pp_j t (by omega)]; exact tp_0 hp, by rw [pp_j t (by omega)]; exact tp_1 hp, by rw [pp_j t (by omega)]; exact tp_2 hp, by rw [pp_j t (by omega)]; exact tp_3 hp,
    fun j hj => tp_c hp hj, fun j hj => tp_16 hp hj, fun j hj h => by rw [pp_j t (nk hj)]; exact tp_in hp hj h, fun a b ha hb e => by rw [pp_j t (nk ha), pp_j t (nk hb)] at e; exact tp_inj hp ha hb e⟩
theorem pp_sg0 (hS : tr_sg V P S) {k : Nat} (hk : ¬ V k) (t : Int × Int) : tr_sg V (pp_P P k t) S := by
  have nk : ∀ {j}, V j → j ≠ k := fun {j} vj e => hk (by rw [← e]; exact vj)
  refine ⟨hS.1, fun s hs r hr hX => ?_⟩
  obtain ⟨v1, v2, _⟩ := hS.1 s hs
  obtain ⟨v3, v4, _⟩ := hS.1 r hr
  rw [pp_j t (nk v1), pp_j t (nk v2), pp_j t (nk v3), pp_j t (nk v4)] at hX
  obtain ⟨j, vj, c1, c2⟩ := hS.2 s hs r hr hX
  exact ⟨j, vj, by rw [pp_j t (nk vj), pp_j t (nk v1), pp_j t (nk v2)]; exact c1, by rw [pp_j t (nk vj), pp_j t (nk v3), pp_j t (nk v4)]; exact c2⟩
theorem pp_sg (hS : tr_sg V P S) {k : Nat} : tr_sg (fun j => V j ∨ j = k) P S :=
  ⟨fun s hs => ⟨Or.inl (hS.1 s hs).1, Or.inl (hS.1 s hs).2.1, (hS.1 s hs).2.2⟩, fun s hs r hr hX => by obtain ⟨j, vj, c⟩ := hS.2 s hs r hr hX; exact ⟨j, Or.inl vj, c⟩⟩
end
theorem nar_1 : vp_nar .boolean 1 = 1 := rfl
theorem nar_0 : vp_nar .boolean 0 = 0 := rfl
theorem i_vc_put {k : Nat} {u : SX} {v : SY} (I : i_Rel k u v) (hk : k + 5 ≤ 2563) (v1 : Int32) (v2 : Int32) (v3 : Int32) : wpX_put (fun r u' => wpY_put (fun r' v' => r' = r ∧ i_Rel (k + 5) u' v') v v1 v2 v3) u v1 v2 v3 := by
  refine rl_el (Pr := fun u v => wpX_put (fun r u' => wpY_put (fun r' v' => r' = r ∧ i_Rel (k + 5) u' v') v v1 v2 v3) u v1 v2 v3) ?_ I
  intro f_side f_last f_limit n f_walkQ f_walkP f_walkN a_px a_py a_live a_segA a_segB a_left a_stack a_used a_sa a_sb m V P L la lm sA sB tA tB R
  have J := rl_mk (k := k + 5) (f_walkQ := f_walkQ) (f_walkP := f_walkP) (f_walkN := f_walkN) (a_stack := a_stack) R
  obtain ⟨⟨h1, h2⟩, ⟨h3, la4, la15⟩, h4, g, hV, hS, hM, K, hU, hC, hLm, hN⟩ := R
  obtain ⟨hp, hm, hSg, hT, hLD⟩ := K
  have s1 : (f_side - 1).toInt = m - 1 := by
    have e1 : (1 : Int32).toInt = 1 := rfl
    rw [nu_sub, h1, e1] <;> rw [h1, e1] <;> omega
  unfold wpX_put
  refine br_c (fun q => br_t q ⟨rfl, J⟩) (fun q1 => ?_)
  refine br_c (fun q2 => ?_) (fun q => br_f q1 (br_f q ⟨rfl, J⟩))
  -- the number
  have hj : ∃ j : Nat, 4 ≤ j ∧ j < 16 ∧ v1 = nI j := by
    have n0 : ¬ v1 < 0 := fun w => q1 (by
      rw [Int32.lt_iff_toInt_lt] at w ⊢
      have : (0 : Int32).toInt = 0 := rfl
      have : (4 : Int32).toInt = 4 := rfl
      omega)
    obtain ⟨j, j31, e⟩ := nI_of n0
    subst e
    rw [h3, nI_leI (by omega) (by omega)] at q2
    have := q1
    rw [show (4 : Int32) = nI 4 from rfl, nI_ltI (by omega) (by omega)] at this
    exact ⟨j, by omega, by omega, rfl⟩
  obtain ⟨j, j4, j16, ej⟩ := hj
  subst ej
  have cj : (nI j).toNatClampNeg = j := nI_clamp (by omega)
  have vj : vp_in (nI j) 16 := nu_in j16 (by decide)
  rw [cj]
  refine And.intro vj (br_c (fun q3 => ?_) (fun q => br_f q1 (br_t q2 (And.intro vj (by rw [cj]; exact br_f q ⟨rfl, J⟩)))))
  have Yh : ∀ {A : Prop} {B : Prop} {C : Prop} {D : Prop}, C → (nI j < 4 → A) ∧ (¬ nI j < 4 → ((nI j ≤ f_last → (vp_in (nI j) 16 ∧ ((a_live (nI j).toNatClampNeg = 0 → C) ∧ (¬ a_live (nI j).toNatClampNeg = 0 → D)))) ∧ (¬ nI j ≤ f_last → B))) :=
    fun c => br_f q1 (br_t q2 (And.intro vj (by rw [cj]; exact br_t q3 c)))
  refine br_c (fun q => Yh (br_t q ⟨rfl, J⟩)) (fun q4 => ?_)
  refine br_c (fun q => Yh (br_f q4 (br_t q ⟨rfl, J⟩))) (fun q5 => ?_)
  refine br_c (fun q => Yh (br_f q4 (br_f q5 (br_t q ⟨rfl, J⟩)))) (fun q6 => ?_)
  refine br_c (fun q7 => ?_) (fun q => Yh (br_f q4 (br_f q5 (br_f q6 (br_f q ⟨rfl, J⟩)))))
  have ht : 0 < v2.toInt ∧ v2.toInt < m ∧ 0 < v3.toInt ∧ v3.toInt < m := by
    have e1 : (1 : Int32).toInt = 1 := rfl
    rw [nu_lt rfl e1] at q4 q6
    rw [nu_lt s1 rfl] at q5
    rw [nu_le rfl s1] at q7
    omega
  have v16 : ∀ {j}, V j → j < 16 := fun {j} v => ((hV j).mp v).1
  have njV : ¬ V j := fun w => ((hV j).mp w).2 q3
  have nkj : ∀ {i}, V i → i ≠ j := fun {i} vi e => njV (by rw [← e]; exact vi)
  refine xw_pointAt g hV (fun i vi ei => br_f (nI_pos (by have := v16 vi; omega)) (Yh (br_f q4 (br_f q5 (br_f q6 (br_t q7 ?_)))))) (fun hno => br_t (by decide) ?_)
  · refine yw_pointAt g hV (fun i' vi' ei' => br_f (fun w => ?_) ⟨rfl, J⟩) (fun w => absurd ei (w i vi))
    have : ¬ nI i' < 0 := nI_pos (by have := v16 vi'; omega)
    rw [w] at this; exact this (by decide)
  -- a new point
  have hp' := pp_pt hp j4 j16 njV (t := (v2.toInt, v3.toInt)) ht hno
  have hp0' := pp_pt0 hp njV j4 (v2.toInt, v3.toInt)
  have hSg' := pp_sg0 hSg njV (v2.toInt, v3.toInt)
  have hT' : tr_T V (pp_P P j (v2.toInt, v3.toInt)) (xs_L n sA sB) L := tc_1 (fun i vi => tp_16 hp vi) (fun s hs => ⟨(hSg.1 s hs).1, (hSg.1 s hs).2.1⟩) (fun i vi => pp_j _ (nkj vi)) hT
  have hLD' : tr_LD (rh_H (pp_P P j (v2.toInt, v3.toInt))) (pp_P P j (v2.toInt, v3.toInt)) (xs_L n sA sB) L :=
    lc_1 (fun i vi => tp_16 hp vi) (fun s hs => ⟨(hSg.1 s hs).1, (hSg.1 s hs).2.1⟩) (fun i vi => pp_j _ (nkj vi)) (fun i vi => by unfold rh_H; rw [pp_j _ (nkj vi)]) hT hLD
  have g' : xs_G (upd a_px j v2) (upd a_py j v3) (pp_P P j (v2.toInt, v3.toInt)) := by
    intro i hi
    unfold upd
    by_cases e : i = j
    · subst e
      rw [pp_k, if_pos rfl, if_pos rfl]
      refine ⟨rfl, ?_⟩
      unfold rb_b; simp only; omega
    · rw [pp_j _ e, if_neg e, if_neg e]; exact g i hi
  have hV' : xs_V (upd a_live j (vp_nar .boolean 1)) (fun i => V i ∨ i = j) := by
    intro i
    unfold upd
    by_cases e : i = j
    · subst e
      rw [if_pos rfl, nar_1]
      exact ⟨fun _ => ⟨j16, by decide⟩, fun _ => Or.inr rfl⟩
    · rw [if_neg e]
      exact ⟨fun w => (hV i).mp (w.resolve_right e), fun w => Or.inl ((hV i).mpr w)⟩
  refine xw_seek g hp hm hT hM (by omega) hno (fun q p hN' hF => ?_)
  have vq := tt_va hT (show L q p ≤ 16 by omega)
  have vp := tt_vb hT (show L q p ≤ 16 by omega)
  obtain ⟨_, _, vn, _⟩ := tt_face hp hT (a := q) (b := p) rfl hN'
  refine And.intro vj (nm_r (congrArg (fun z => upd a_px z v2) cj) (And.intro vj (nm_r (congrArg (fun z => upd a_py z v3) cj) (And.intro vj (nm_r (congrArg (fun z => upd a_live z (vp_nar .boolean 1)) cj) ?_)))))
  refine xw_split g' hp' hm njV j4 hp0' hSg' hT' hLD' hM hN' ?_ (fun L' l' s' st T1 K1 m1 k1 len => ?_)
  · rw [pp_k, pp_j _ (nkj vq), pp_j _ (nkj vp), pp_j _ (nkj vn)]; exact hF
  refine xw_legalize g' hp' hm hS xs_Lm T1 K1 m1 k1 (by omega) (fun L2 l2 s2 T2 LD2 m2 => ?_)
  refine Yh (br_f q4 (br_f q5 (br_f q6 (br_t q7 (yw_pointAt g hV (fun i vi ei => absurd ei (hno i vi)) (fun _ => br_t rfl ?_))))))
  refine And.intro vj (nm_r (congrArg (fun z => upd a_live z (vp_nar .boolean 1)) cj) (And.intro vj (nm_r (congrArg (fun z => upd a_px z v2) cj) (And.intro vj (nm_r (congrArg (fun z => upd a_py z v3) cj) ⟨rfl, ?_⟩)))))
  exact rl_mk ⟨⟨h1, h2⟩, ⟨h3, la4, la15⟩, h4, g', hV', hS, m2, ⟨hp', hm, pp_sg hSg', T2, LD2⟩, hU, hC, hLm, hN⟩
end
section
section
variable {f_side f_last f_limit : Int32} {a_live a_px a_py a_used a_sa a_sb : Nat → Int32}
variable {m : Int} {P : Nat → Int × Int} {V : Nat → Prop} {tA tB : Nat → Nat} {S : List (Nat × Nat)} {L : Nat → Nat → Nat}
theorem yw_passes {post : Int32 → Prop} (g : xs_G a_px a_py P) (hU : ys_S a_used a_sa a_sb tA tB) {i k : Nat} (hi : i < 8) (hk : k < 16)
    (h1 : a_used i ≠ 0 → (ge_B (P k) (P (tA i)) (P (tB i))) → post 1) (h0 : ¬ (a_used i ≠ 0 ∧ (ge_B (P k) (P (tA i)) (P (tB i)))) → post 0) : wpY_passes post (f_side, f_last, f_limit, a_live, a_px, a_py, a_used, a_sa, a_sb) (nI i) (nI k) := by
  have vi : vp_in (nI i) 8 := nu_in hi (by decide)
  have vk : vp_in (nI k) 16 := nu_in hk (by decide)
  have eP := (g k hk).1
  have hxy : rb_b ((a_px k).toInt, (a_py k).toInt) := by rw [← eP]; exact (g k hk).2
  unfold wpY_passes
  dsimp only
  rw [nI_clamp (n := i) (by omega), nI_clamp (n := k) (by omega)]
  refine And.intro vi (br_c (fun u => h0 (fun q => q.1 u)) (fun u => And.intro vi (And.intro vi (And.intro vk (And.intro vk ?_)))))
  obtain ⟨e1, l1, e2, l2⟩ := hU i hi u
  rw [e1, e2]
  exact yw_between g l1 l2 hxy (fun q => br_f nu_1n (h1 u (by rw [eP]; exact q))) (fun q => br_t rfl (h0 (fun w => q (by rw [← eP]; exact w.2))))
/-- two slots of different lines through k -/
def jn_P (P : Nat → Int × Int) (a_used : Nat → Int32) (tA tB : Nat → Nat) (k i j : Nat) : Prop :=
  (a_used i ≠ 0 ∧ (ge_B (P k) (P (tA i)) (P (tB i)))) ∧ (a_used j ≠ 0 ∧ (ge_B (P k) (P (tA j)) (P (tB j)))) ∧ ((ge_o (P (tA i)) (P (tB i)) (P (tA j))) ≠ 0 ∨ (ge_o (P (tA i)) (P (tB i)) (P (tB j))) ≠ 0)
theorem yw_drop2 {post : Int32 → SY → Prop} (g : xs_G a_px a_py P) (hU : ys_S a_used a_sa a_sb tA tB) {k : Nat} (hk : k < 16)
    (h1 : (∃ i j, j < i ∧ i < 8 ∧ jn_P P a_used tA tB k i j) → post (-8) (f_side, f_last, f_limit, a_live, a_px, a_py, a_used, a_sa, a_sb)) (h0 : (∀ i j, j < i → i < 8 → ¬ jn_P P a_used tA tB k i j) → post 0 (f_side, f_last, f_limit, upd a_live k (vp_nar .boolean 0), a_px, a_py, a_used, a_sa, a_sb)) :
    ∃ f, wY_drop_67 post (nI k) f_side f_last f_limit a_live a_px a_py a_used a_sa a_sb f 0 := by
  have hs : ∃ f, (fun f i => wY_drop_67 post (nI k) f_side f_last f_limit a_live a_px a_py a_used a_sa a_sb f (nI i)) f 0 := by
    refine lo_s (W := fun f i => wY_drop_67 post (nI k) f_side f_last f_limit a_live a_px a_py a_used a_sa a_sb f (nI i)) (Q := fun i => ∃ j, j < i ∧ jn_P P a_used tA tB k i j) (N := 8) (A := fun _ => post (-8) (f_side, f_last, f_limit, a_live, a_px, a_py, a_used, a_sa, a_sb)) (E := post 0 (f_side, f_last, f_limit, upd a_live k (vp_nar .boolean 0), a_px, a_py, a_used, a_sa, a_sb)) (by omega)
      (fun f e => br_t nu_8' (And.intro (nu_in hk (by decide)) (nm_r (congrArg (fun z => upd a_live z (vp_nar .boolean 0)) (nI_clamp (n := k) (by omega))) e))) (fun f i _ hi hA hW => br_f (nu_8 hi) ?_)
      (fun i _ hi q _ => h1 (by obtain ⟨j, hj, w⟩ := q; exact ⟨i, j, hj, hi, w⟩)) (fun hn => h0 (fun i j hj hi w => hn i (by omega) hi ⟨j, hj, w⟩))
    have hs' : ∃ f', (fun f' j => wY_drop_75 post (wY_drop_67 post (nI k) f_side f_last f_limit a_live a_px a_py a_used a_sa a_sb f) (nI k) (nI i) f_side f_last f_limit a_live a_px a_py a_used a_sa a_sb f' (nI j)) f' 0 := by
      refine lo_s (W := fun f' j => wY_drop_75 post (wY_drop_67 post (nI k) f_side f_last f_limit a_live a_px a_py a_used a_sa a_sb f) (nI k) (nI i) f_side f_last f_limit a_live a_px a_py a_used a_sa a_sb f' (nI j)) (Q := fun j => jn_P P a_used tA tB k i j) (N := i) (A := fun _ => post (-8) (f_side, f_last, f_limit, a_live, a_px, a_py, a_used, a_sa, a_sb))
        (E := ∀ z, z = nI i + 1 → wY_drop_67 post (nI k) f_side f_last f_limit a_live a_px a_py a_used a_sa a_sb f z) (by omega)
        (fun f' e => br_t (nI_le (Nat.le_refl i) (by omega)) e) (fun f' j _ hj hA' hW' => br_f (nI_ge hj (by omega)) ?_)
        (fun j _ hj q _ => hA ⟨j, hj, q⟩) (fun hn => nm_r (nI_1 i) (hW (fun ⟨j, hj, q⟩ => hn j (by omega) hj q)))
      have ex : ∀ (q : ¬ jn_P P a_used tA tB k i j), ∀ z, z = nI j + 1 → wY_drop_75 post (wY_drop_67 post (nI k) f_side f_last f_limit a_live a_px a_py a_used a_sa a_sb f) (nI k) (nI i) f_side f_last f_limit a_live a_px a_py a_used a_sa a_sb f' z := fun q => nm_r (nI_1 j) (hW' q)
      have vi : vp_in (nI i) 8 := nu_in hi (by decide)
      have vj : vp_in (nI j) 8 := nu_in (by omega) (by decide)
      refine yw_passes g hU hi hk (fun u1 b1 => br_f nu_1n ?_) (fun q => br_t rfl (ex (fun w => q w.1)))
      refine yw_passes g hU (show j < 8 by omega) hk (fun u2 b2 => br_f nu_1n ?_) (fun q => br_t rfl (ex (fun w => q w.2.1)))
      obtain ⟨e1, l1, e2, l2⟩ := hU i hi u1
      obtain ⟨e3, l3, e4, l4⟩ := hU j (by omega) u2
      rw [nI_clamp (n := i) (by omega), nI_clamp (n := j) (by omega), e1, e2, e3, e4]
      refine And.intro vi (And.intro vi (And.intro vj ?_))
      refine yw_turn g l1 l2 l3 (fun r hr => br_c (fun z => And.intro vi (And.intro vi (And.intro vj ?_))) (fun z => hA' ⟨⟨u1, b1⟩, ⟨u2, b2⟩, Or.inl (fun w => z ((nu_eq0 hr).mpr w))⟩))
      refine yw_turn g l1 l2 l4 (fun r' hr' => br_c (fun z' => ex (fun w => ?_)) (fun z' => hA' ⟨⟨u1, b1⟩, ⟨u2, b2⟩, Or.inr (fun w => z' ((nu_eq0 hr').mpr w))⟩))
      rcases w.2.2 with w | w
      · exact w ((nu_eq0 hr).mp z)
      · exact w ((nu_eq0 hr').mp z')
    exact hs'
  exact hs
theorem yw_drop1 {post : Int32 → SY → Prop} (g : xs_G a_px a_py P) (hU : ys_S a_used a_sa a_sb tA tB) {k : Nat} (hk : k < 16)
    (h1 : (∃ j, j < 8 ∧ a_used j ≠ 0 ∧ (tA j = k ∨ tB j = k)) → post (-7) (f_side, f_last, f_limit, a_live, a_px, a_py, a_used, a_sa, a_sb)) (h0 : (∀ j, j < 8 → a_used j ≠ 0 → tA j ≠ k ∧ tB j ≠ k) → ∃ f, wY_drop_67 post (nI k) f_side f_last f_limit a_live a_px a_py a_used a_sa a_sb f 0) :
    ∃ f, wY_drop_21 post (nI k) f_side f_last f_limit a_live a_px a_py a_used a_sa a_sb f 0 := by
  have hs : ∃ f, (fun f i => wY_drop_21 post (nI k) f_side f_last f_limit a_live a_px a_py a_used a_sa a_sb f (nI i)) f 0 := by
    refine lo_s (W := fun f i => wY_drop_21 post (nI k) f_side f_last f_limit a_live a_px a_py a_used a_sa a_sb f (nI i)) (Q := fun i => a_used i ≠ 0 ∧ (tA i = k ∨ tB i = k)) (N := 8) (A := fun _ => post (-7) (f_side, f_last, f_limit, a_live, a_px, a_py, a_used, a_sa, a_sb)) (E := ∃ f, wY_drop_67 post (nI k) f_side f_last f_limit a_live a_px a_py a_used a_sa a_sb f 0) (by omega)
      (fun f e => br_t nu_8' e) (fun f i _ hi hA hW => br_f (nu_8 hi) (And.intro (nu_in (by omega) (by decide)) ?_))
      (fun i _ hi q _ => h1 ⟨i, hi, q⟩) (fun hn => h0 (fun i hi u => ⟨fun q => hn i (by omega) hi ⟨u, Or.inl q⟩, fun q => hn i (by omega) hi ⟨u, Or.inr q⟩⟩))
    have vi : vp_in (nI i) 8 := nu_in (by omega) (by decide)
    rw [nI_clamp (n := i) (by omega)]
    refine br_c (fun u => nm_r (nI_1 i) (hW (fun q => q.1 u))) (fun u => And.intro vi ?_)
    obtain ⟨e1, l1, e2, l2⟩ := hU i hi u
    rw [e1, e2, nu_ni (a := tA i) (b := k) (by omega) (by omega), nu_ni (a := tB i) (b := k) (by omega) (by omega)]
    exact br_c (fun o => hA ⟨u, Or.inl o⟩) (fun o => And.intro vi (br_c (fun o2 => hA ⟨u, Or.inr o2⟩) (fun o2 => nm_r (nI_1 i) (hW (fun q => q.2.elim o o2)))))
  exact hs
end
section
variable {m : Int} {V : Nat → Prop} {P : Nat → Int × Int} {S : List (Nat × Nat)} {L : Nat → Nat → Nat}
/-- lines through k: the slots' test and the list's -/
theorem jc_iff {a_used : Nat → Int32} {tA tB : Nat → Nat} (hp : tr_pt m V P) (hS : tr_sg V P S) (hL : ys_L a_used tA tB S) {k : Nat} (vk : V k) (hE : ∀ s ∈ S, s.1 ≠ k ∧ s.2 ≠ k) :
    jc_P P S k ↔ ∃ i j, j < i ∧ i < 8 ∧ jn_P P a_used tA tB k i j := by
  have bc : ∀ s ∈ S, (ge_C (P k) (P (s.1)) (P (s.2))) → (ge_B (P k) (P (s.1)) (P (s.2))) := by
    intro s hs c
    obtain ⟨v1, v2, _⟩ := hS.1 s hs
    rcases ge_Cd c with q | q | q
    · exact absurd (tp_inj hp vk v1 q).symm (hE s hs).1
    · exact absurd (tp_inj hp vk v2 q).symm (hE s hs).2
    · exact q
  constructor
  · rintro ⟨s, hs, r, hr, c1, c2, nc⟩
    have b1 := bc s hs c1
    have b2 := bc r hr c2
    obtain ⟨v1, v2, nv⟩ := hS.1 s hs
    obtain ⟨v3, v4, nv'⟩ := hS.1 r hr
    obtain ⟨i, hi, ui, rfl⟩ := (hL s).mp hs
    obtain ⟨j, hj, uj, rfl⟩ := (hL r).mp hr
    rcases Nat.lt_trichotomy i j with w | w | w
    · refine ⟨j, i, w, hj, ⟨uj, b2⟩, ⟨ui, b1⟩, ?_⟩
      refine Classical.byContradiction fun hn => ?_
      have z1 : (ge_o (P (tA j)) (P (tB j)) (P (tA i))) = 0 := Classical.byContradiction fun q => hn (Or.inl q)
      have z2 : (ge_o (P (tA j)) (P (tB j)) (P (tB i))) = 0 := Classical.byContradiction fun q => hn (Or.inr q)
      have hne : P (tA j) ≠ P (tB j) := fun q => nv' (tp_inj hp v3 v4 q)
      rcases nc with q | q
      · exact q (ge_col3 hne z1 z2 (ge_psp _ _))
      · exact q (ge_col3 hne z1 z2 (ge_spp _ _))
    · subst w
      exfalso
      rcases nc with q | q
      · exact q (ge_psp _ _)
      · exact q (ge_spp _ _)
    · exact ⟨i, j, w, hi, ⟨ui, b1⟩, ⟨uj, b2⟩, nc⟩
  · rintro ⟨i, j, hj, hi, ⟨ui, b1⟩, ⟨uj, b2⟩, nc⟩
    exact ⟨(tA i, tB i), (hL _).mpr ⟨i, hi, ui, rfl⟩, (tA j, tB j), (hL _).mpr ⟨j, by omega, uj, rfl⟩, ge_BC b1, ge_BC b2, nc⟩
/-- the component's test by the first segment -/
theorem jc_x {n : Nat} {sA sB : Nat → Nat} (hp : tr_pt m V P) (hS : tr_sg V P (xs_L n sA sB)) {k : Nat}
    (h : ∀ f j, f < n → j < n → (ge_C (P k) (P (sA f)) (P (sB f))) → (∀ i, i < f → ¬ (ge_C (P k) (P (sA i)) (P (sB i)))) → (ge_C (P k) (P (sA j)) (P (sB j))) → (ge_o (P (sA f)) (P (sB f)) (P (sA j))) = 0 ∧ (ge_o (P (sA f)) (P (sB f)) (P (sB j))) = 0) : ¬ jc_P P (xs_L n sA sB) k := by
  rintro ⟨s, hs, r, hr, c1, c2, nc⟩
  obtain ⟨i, hi, rfl⟩ := (xs_Lm s).mp hs
  obtain ⟨j, hj, rfl⟩ := (xs_Lm r).mp hr
  obtain ⟨f, f16, ⟨fn, cf⟩, fm⟩ := mx_1 (fun f => f < n ∧ (ge_C (P k) (P (sA f)) (P (sB f)))) (fun f => - (f : Int)) (fun _ => 1) n (fun _ _ _ => by omega) ⟨i, hi, hi, c1⟩
  have first : ∀ i', i' < f → ¬ (ge_C (P k) (P (sA i')) (P (sB i'))) := by
    intro i' hi' c
    have := fm i' (by omega) ⟨by omega, c⟩
    omega
  obtain ⟨z1, z2⟩ := h f i fn hi cf first c1
  obtain ⟨z3, z4⟩ := h f j fn hj cf first c2
  obtain ⟨v1, v2, nv⟩ := hS.1 (sA f, sB f) ((xs_Lm _).mpr ⟨f, fn, rfl⟩)
  have hne : P (sA f) ≠ P (sB f) := fun q => nv (tp_inj hp v1 v2 q)
  rcases nc with q | q
  · exact q (ge_col3 hne z1 z2 z3)
  · exact q (ge_col3 hne z1 z2 z4)
end
theorem i_vc_drop {k : Nat} {u : SX} {v : SY} (I : i_Rel k u v) (hk : k + 5 ≤ 2563) (v1 : Int32) : wpX_drop (fun r u' => wpY_drop (fun r' v' => r' = r ∧ i_Rel (k + 5) u' v') v v1) u v1 := by
  refine rl_el (Pr := fun u v => wpX_drop (fun r u' => wpY_drop (fun r' v' => r' = r ∧ i_Rel (k + 5) u' v') v v1) u v1) ?_ I
  intro f_side f_last f_limit n f_walkQ f_walkP f_walkN a_px a_py a_live a_segA a_segB a_left a_stack a_used a_sa a_sb m V P L la lm sA sB tA tB R
  have J := rl_mk (k := k + 5) (f_walkQ := f_walkQ) (f_walkP := f_walkP) (f_walkN := f_walkN) (a_stack := a_stack) R
  obtain ⟨⟨h1, h2⟩, h3, h4, g, hV, hS, hM, K, hU, hC, hLm, hN⟩ := R
  obtain ⟨hp, hm, hSg, hT, hLD⟩ := K
  have hL := rl_L hC
  have v16 : ∀ {j}, V j → j < 16 := fun {j} v => ((hV j).mp v).1
  unfold wpX_drop
  refine xw_live hV (fun j vj ej => br_f nu_1n ?_) (fun q => br_t rfl ?_)
  · subst ej
    have j16 := v16 vj
    have c4 : (4 ≤ nI j) ↔ 4 ≤ j := by rw [show (4 : Int32) = nI 4 from rfl, nI_leI (by omega) (by omega)]
    have Yl : ∀ {post : Int32 → SY → Prop}, ((4 ≤ nI j → (∃ n21 : Nat, wY_drop_21 post (nI j) f_side f_last f_limit a_live a_px a_py a_used a_sa a_sb n21 0)) ∧ (¬ 4 ≤ nI j → post (-6) (f_side, f_last, f_limit, a_live, a_px, a_py, a_used, a_sa, a_sb))) → wpY_drop post (f_side, f_last, f_limit, a_live, a_px, a_py, a_used, a_sa, a_sb) (nI j) := by
      intro post h
      unfold wpY_drop
      exact yw_live hV (fun _ _ _ => br_f nu_1n h) (fun q => absurd rfl (q j vj))
    refine br_c (fun q4 => ?_) (fun q => Yl (br_f q ⟨rfl, J⟩))
    have j4 := c4.mp q4
    have fe := rl_ex hC (fun x y => x = j ∨ y = j)
    refine xw_isEnd hS j16 (fun w => br_f nu_1n (Yl (br_t q4 ?_))) (fun hE => br_t rfl ?_)
    · exact yw_drop1 g hU j16 (fun _ => ⟨rfl, J⟩) (fun q => by obtain ⟨i, hi, u, w'⟩ := fe.mp w; exact absurd w' (fun z => z.elim (q i hi u).1 (q i hi u).2))
    have hE' : ∀ s ∈ xs_L n sA sB, s.1 ≠ j ∧ s.2 ≠ j := by
      intro s hs
      obtain ⟨i, hi, rfl⟩ := (xs_Lm s).mp hs
      exact hE i hi
    have Ye : ∀ {post : Int32 → SY → Prop}, (∃ f, wY_drop_67 post (nI j) f_side f_last f_limit a_live a_px a_py a_used a_sa a_sb f 0) → wpY_drop post (f_side, f_last, f_limit, a_live, a_px, a_py, a_used, a_sa, a_sb) (nI j) := by
      intro post h
      refine Yl (br_t q4 (yw_drop1 g hU j16 (fun w => ?_) (fun _ => h)))
      obtain ⟨i, hi, w'⟩ := fe.mpr w
      exact absurd w' (fun z => z.elim (hE i hi).1 (hE i hi).2)
    have ji := jc_iff hp hSg hL vj hE'
    refine xw_isJunction g hS j16 (fun a b ha hb ca cb nc => br_f nu_1n (Ye (yw_drop2 g hU j16 (fun _ => ⟨rfl, J⟩) (fun q => ?_)))) (fun q => br_t rfl ?_)
    · exfalso
      have : jc_P P (xs_L n sA sB) j := ⟨(sA a, sB a), (xs_Lm _).mpr ⟨a, ha, rfl⟩, (sA b, sB b), (xs_Lm _).mpr ⟨b, hb, rfl⟩, ca, cb, nc⟩
      obtain ⟨x, y, l1, l2, w⟩ := ji.mp this
      exact q x y l1 l2 w
    have hJ := jc_x hp hSg q
    have hSg' := dp_sg hp hSg hE' hJ
    have hp' : tr_pt m (fun x => V x ∧ x ≠ j) P := tp_sub hp (fun x h => h.1) (fun i hi => ⟨tp_c hp hi, by omega⟩)
    obtain ⟨L', hT', hLD'⟩ := ex_1 (H := rh_H P) hp' hSg' (rh_hull hp' hm)
    have hV' : xs_V (upd a_live j (vp_nar .boolean 0)) (fun x => V x ∧ x ≠ j) := by
      intro i
      unfold upd
      by_cases e : i = j
      · subst e
        rw [if_pos rfl, nar_0]
        exact ⟨fun w => absurd rfl w.2, fun w => absurd rfl w.2⟩
      · rw [if_neg e]
        exact ⟨fun w => (hV i).mp w.1, fun w => ⟨(hV i).mpr w, e⟩⟩
    refine xw_cutStar hp hT hM vj j4 (fun M l l' s' hc hno hx hl len => ?_)
    obtain ⟨hM', hh⟩ := dp_1 hp hm vj hSg hp' hSg' hT hLD hT' hLD' hc hno
    refine And.intro (nu_in j16 (by decide)) (nm_r (congrArg (fun z => upd a_live z (vp_nar .boolean 0)) (nI_clamp (n := j) (by omega))) ?_)
    refine xw_refill g hV' hS xs_Lm ⟨hp', hm, hSg', hT', hLD'⟩ hx hM' hh hl (by omega) (fun l2 s2 m2 => ?_)
    refine Ye (yw_drop2 g hU j16 (fun w => absurd (ji.mpr w) hJ) (fun _ => ⟨rfl, ?_⟩))
    exact rl_mk ⟨⟨h1, h2⟩, h3, h4, g, hV', hS, m2, ⟨hp', hm, hSg', hT', hLD'⟩, hU, hC, hLm, hN⟩
  · unfold wpY_drop
    exact yw_live hV (fun j vj ej => absurd ej (q j vj)) (fun _ => br_t rfl ⟨rfl, J⟩)
end
section
/-! counting with one more -/
theorem ct_one {A A' : Nat → Prop} {j0 : Nat} (h1 : A' j0) (h0 : ¬ A j0) : ∀ N, j0 < N → (∀ j, j < N → j ≠ j0 → (A' j ↔ A j)) → ct_n A' N = ct_n A N + 1 := by
  intro N
  induction N with
  | zero => intro h; omega
  | succ N ih =>
    intro hj h
    by_cases e : j0 = N
    · subst e
      rw [ct_s1 h1, ct_s0 h0, ct_cong (Q := A') (R := A) j0 (fun i hi => h i (by omega) (by omega))]
    · have := ih (by omega) (fun j hj => h j (by omega))
      have hN := h N (by omega) (fun q => e q.symm)
      by_cases q : A N
      · rw [ct_s1 q, ct_s1 (hN.mpr q)]; omega
      · rw [ct_s0 q, ct_s0 (fun w => q (hN.mp w))]; omega
theorem ct_ltN {lm : Nat} : ∀ N, lm ≤ N → ct_n (fun j => j < lm) N = lm := by
  intro N
  induction N with
  | zero => intro h; show 0 = lm; omega
  | succ N ih =>
    intro h
    by_cases e : lm = N + 1
    · subst e
      have key : ∀ k, k ≤ N + 1 → ct_n (fun j => j < N + 1) k = k := by
        intro k
        induction k with
        | zero => intro _; rfl
        | succ k ihk =>
          intro hk
          have := ct_s1 (Q := fun j => j < N + 1) (n := k) (by show k < N + 1; omega)
          rw [this, ihk (by omega)]
      exact key (N + 1) (Nat.le_refl _)
    · have := ct_s0 (Q := fun j => j < lm) (n := N) (by show ¬ N < lm; omega)
      rw [this]; exact ih (by omega)
def up_N (f : Nat → Nat) (k v : Nat) : Nat → Nat := fun j => if j = k then v else f j
theorem up_s (f : Nat → Nat) (k v : Nat) : up_N f k v k = v := by unfold up_N; rw [if_pos rfl]
theorem up_n {f : Nat → Nat} {k v j : Nat} (h : j ≠ k) : up_N f k v j = f j := by unfold up_N; rw [if_neg h]
theorem ud_s (f : Nat → Int32) (k : Nat) (v : Int32) : upd f k v k = v := by unfold upd; rw [if_pos rfl]
theorem ud_n {f : Nat → Int32} {k j : Nat} {v : Int32} (h : j ≠ k) : upd f k v j = f j := by unfold upd; rw [if_neg h]
section
variable {f_side f_last f_limit : Int32} {a_live a_px a_py a_used a_sa a_sb : Nat → Int32}
variable {m : Int} {P : Nat → Int × Int} {V : Nat → Prop} {tA tB : Nat → Nat} {S : List (Nat × Nat)} {lm : Nat}
theorem yw_force2 {post : Int32 → SY → Prop} {x y : Int32} (l8 : lm ≤ 8)
    (h1 : ∀ j, j < lm → a_used j = 0 → post 0 (f_side, f_last, nI lm, a_live, a_px, a_py, upd a_used j (vp_nar .boolean 1), upd a_sa j x, upd a_sb j y)) (h0 : (∀ j, j < lm → a_used j ≠ 0) → post (-10) (f_side, f_last, nI lm, a_live, a_px, a_py, a_used, a_sa, a_sb)) :
    ∃ f, wY_force_88 post x y f_side f_last (nI lm) a_live a_px a_py a_used a_sa a_sb f 0 := by
  have hs : ∃ f, (fun f i => wY_force_88 post x y f_side f_last (nI lm) a_live a_px a_py a_used a_sa a_sb f (nI i)) f 0 := by
    refine lo_s (W := fun f i => wY_force_88 post x y f_side f_last (nI lm) a_live a_px a_py a_used a_sa a_sb f (nI i)) (Q := fun i => i < lm ∧ a_used i = 0) (N := 8) (A := fun i => post 0 (f_side, f_last, nI lm, a_live, a_px, a_py, upd a_used i (vp_nar .boolean 1), upd a_sa i x, upd a_sb i y)) (E := post (-10) (f_side, f_last, nI lm, a_live, a_px, a_py, a_used, a_sa, a_sb)) (by omega)
      (fun f e => br_t nu_8' e) (fun f i _ hi hA hW => br_f (nu_8 hi) ?_)
      (fun i _ hi q _ => h1 i q.1 q.2) (fun hn => h0 (fun i hi u => hn i (by omega) (by omega) ⟨hi, u⟩))
    have vi : vp_in (nI i) 8 := nu_in hi (by decide)
    rw [nI_leI (a := lm) (b := i) (by omega) (by omega), nI_clamp (n := i) (by omega)]
    refine br_c (fun q => nm_r (nI_1 i) (hW (fun w => by omega))) (fun q => And.intro vi (br_c (fun u => ?_) (fun u => nm_r (nI_1 i) (hW (fun w => u w.2)))))
    exact And.intro vi (nm_e (And.intro vi (nm_e (And.intro vi (nm_e (hA ⟨by omega, u⟩))))))
  exact hs
theorem yw_force1 {post : Int32 → SY → Prop} (g : xs_G a_px a_py P) (hV : xs_V a_live V) (hU : ys_S a_used a_sa a_sb tA tB) {a b : Nat} (ha : a < 16) (hb : b < 16)
    (h1 : (∃ j, j < 8 ∧ a_used j ≠ 0 ∧ cx_P (P a) (P b) (P (tA j)) (P (tB j)) ∧ ¬ ∃ k, V k ∧ (ge_C (P k) (P a) (P b)) ∧ (ge_C (P k) (P (tA j)) (P (tB j)))) → post (-8) (f_side, f_last, f_limit, a_live, a_px, a_py, a_used, a_sa, a_sb))
    (h0 : (∀ j, j < 8 → a_used j ≠ 0 → cx_P (P a) (P b) (P (tA j)) (P (tB j)) → ∃ k, V k ∧ (ge_C (P k) (P a) (P b)) ∧ (ge_C (P k) (P (tA j)) (P (tB j)))) → ∃ f, wY_force_88 post (nI a) (nI b) f_side f_last f_limit a_live a_px a_py a_used a_sa a_sb f 0) :
    ∃ f, wY_force_41 post (nI a) (nI b) f_side f_last f_limit a_live a_px a_py a_used a_sa a_sb f 0 := by
  have hs : ∃ f, (fun f i => wY_force_41 post (nI a) (nI b) f_side f_last f_limit a_live a_px a_py a_used a_sa a_sb f (nI i)) f 0 := by
    refine lo_s (W := fun f i => wY_force_41 post (nI a) (nI b) f_side f_last f_limit a_live a_px a_py a_used a_sa a_sb f (nI i)) (Q := fun j => a_used j ≠ 0 ∧ cx_P (P a) (P b) (P (tA j)) (P (tB j)) ∧ ¬ ∃ k, V k ∧ (ge_C (P k) (P a) (P b)) ∧ (ge_C (P k) (P (tA j)) (P (tB j)))) (N := 8) (A := fun _ => post (-8) (f_side, f_last, f_limit, a_live, a_px, a_py, a_used, a_sa, a_sb))
      (E := ∃ f, wY_force_88 post (nI a) (nI b) f_side f_last f_limit a_live a_px a_py a_used a_sa a_sb f 0) (by omega)
      (fun f e => br_t nu_8' e) (fun f i _ hi hA hW => br_f (nu_8 hi) (And.intro (nu_in (by omega) (by decide)) ?_))
      (fun i _ hi q _ => h1 ⟨i, hi, q⟩) (fun hn => h0 (fun i hi u c => Classical.byContradiction fun w => hn i (by omega) hi ⟨u, c, w⟩))
    have vi : vp_in (nI i) 8 := nu_in (by omega) (by decide)
    rw [nI_clamp (n := i) (by omega)]
    refine br_c (fun u => nm_r (nI_1 i) (hW (fun q => q.1 u))) (fun u => And.intro vi (And.intro vi ?_))
    obtain ⟨e1, l1, e2, l2⟩ := hU i hi u
    rw [e1, e2]
    exact yw_collide g hV ha hb l1 l2 (fun c w => br_f nu_1n (hA ⟨u, c, w⟩)) (fun w => br_t rfl (nm_r (nI_1 i) (hW (fun q => q.2.2 (w q.2.1)))))
  exact hs
end
section
variable {m : Int} {V : Nat → Prop} {P : Nat → Int × Int} {S : List (Nat × Nat)} {L : Nat → Nat → Nat} {H : Nat → Int}
/-- a new segment that collides with none -/
theorem sg_new {a b : Nat} (hS : tr_sg V P S) (va : V a) (vb : V b) (ne : a ≠ b) (h : ∀ s ∈ S, cx_P (P a) (P b) (P s.1) (P s.2) → ∃ k, V k ∧ (ge_C (P k) (P a) (P b)) ∧ (ge_C (P k) (P (s.1)) (P (s.2)))) : tr_sg V P ((a, b) :: S) := by
  constructor
  · intro s hm
    rcases List.mem_cons.mp hm with rfl | hm
    · exact ⟨va, vb, ne⟩
    · exact hS.1 s hm
  · intro s hm r hr hX
    rcases List.mem_cons.mp hm with rfl | hm
    · rcases List.mem_cons.mp hr with rfl | hr
      · exact ⟨a, va, ge_Ca _ _, ge_Ca _ _⟩
      · exact h r hr hX
    · rcases List.mem_cons.mp hr with rfl | hr
      · obtain ⟨k, vk, c1, c2⟩ := h s hm (cx_sy hX)
        exact ⟨k, vk, c2, c1⟩
      · exact hS.2 s hm r hr hX
/-- an edge becomes a segment: the mesh stays -/
theorem fe_1 (hp : tr_pt m V P) {a b : Nat} (h : tr_T V P S L) (e : L a b ≤ 16) : tr_T V P ((a, b) :: S) L := by
  refine ⟨h.1, h.2.1, h.2.2.1, h.2.2.2.1, h.2.2.2.2.1, h.2.2.2.2.2.1, h.2.2.2.2.2.2.1, ?_⟩
  intro s hs p q vp vq ne cp cq hb
  rcases List.mem_cons.mp hs with rfl | hs
  · have ends : ∀ z, V z → (ge_C (P z) (P a) (P b)) → z = a ∨ z = b := by
      intro z vz cz
      rcases ge_Cd cz with w | w | w
      · exact Or.inl (tp_inj hp vz (tt_va h e) w)
      · exact Or.inr (tp_inj hp vz (tt_vb h e) w)
      · exact absurd w (tt_F h e vz)
    rcases ends p vp cp with rfl | rfl
    · rcases ends q vq cq with rfl | rfl
      · exact absurd rfl ne
      · exact e
    · rcases ends q vq cq with rfl | rfl
      · exact tt_sy h e
      · exact absurd rfl ne
  · exact tt_C h hs vp vq ne cp cq hb
theorem fe_2 {s : Nat × Nat} (h : tr_LD H P S L) : tr_LD H P (s :: S) L :=
  fun a b c d e hc e' hd hn => h a b c d e hc e' hd (fun ⟨r, hr, q⟩ => hn ⟨r, List.mem_cons_of_mem _ hr, q⟩)
theorem xs_Lc {n a b : Nat} {sA sB : Nat → Nat} (s : Nat × Nat) : s ∈ xs_L (n + 1) (up_N sA n a) (up_N sB n b) ↔ s ∈ (a, b) :: xs_L n sA sB := by
  rw [xs_Lm, List.mem_cons, xs_Lm]
  constructor
  · rintro ⟨i, hi, rfl⟩
    by_cases e : i = n
    · subst e; left; rw [up_s, up_s]
    · right; exact ⟨i, by omega, by rw [up_n e, up_n e]⟩
  · rintro (rfl | ⟨i, hi, rfl⟩)
    · exact ⟨n, by omega, by rw [up_s, up_s]⟩
    · exact ⟨i, by omega, by rw [up_n (by omega), up_n (by omega)]⟩
end
theorem i_vc_force {k : Nat} {u : SX} {v : SY} (I : i_Rel k u v) (hk : k + 5 ≤ 2563) (v1 : Int32) (v2 : Int32) : wpX_force (fun r u' => wpY_force (fun r' v' => r' = r ∧ i_Rel (k + 5) u' v') v v1 v2) u v1 v2 := by
  refine rl_el (Pr := fun u v => wpX_force (fun r u' => wpY_force (fun r' v' => r' = r ∧ i_Rel (k + 5) u' v') v v1 v2) u v1 v2) ?_ I
  intro f_side f_last f_limit n f_walkQ f_walkP f_walkN a_px a_py a_live a_segA a_segB a_left a_stack a_used a_sa a_sb m V P L la lm sA sB tA tB R
  have J := rl_mk (k := k + 5) (f_walkQ := f_walkQ) (f_walkP := f_walkP) (f_walkN := f_walkN) (a_stack := a_stack) R
  obtain ⟨⟨h1, h2⟩, h3, ⟨h4, lm1, lm8, nlm⟩, g, hV, hS, hM, K, hU, hC, hLm, hN⟩ := R
  obtain ⟨hp, hm, hSg, hT, hLD⟩ := K
  have hL := rl_L hC
  have v16 : ∀ {j}, V j → j < 16 := fun {j} v => ((hV j).mp v).1
  subst h4
  unfold wpX_force
  refine xw_live hV (fun a va ea => br_f nu_1n ?_) (fun q => br_t rfl ?_)
  rotate_left
  · unfold wpY_force
    exact yw_live hV (fun j vj ej => absurd ej (q j vj)) (fun _ => br_t rfl ⟨rfl, J⟩)
  refine xw_live hV (fun b vb eb => br_f nu_1n ?_) (fun q => br_t rfl ?_)
  rotate_left
  · unfold wpY_force
    exact yw_live hV (fun _ _ _ => br_f nu_1n (yw_live hV (fun j vj ej => absurd ej (q j vj)) (fun _ => br_t rfl ⟨rfl, J⟩))) (fun q => absurd ea (q a va))
  subst ea eb
  have a16 := v16 va
  have b16 := v16 vb
  have Y1 : ∀ {post : Int32 → SY → Prop}, ((nI a = nI b → post (-9) (f_side, f_last, nI lm, a_live, a_px, a_py, a_used, a_sa, a_sb)) ∧ (¬ nI a = nI b → (wpY_segment (fun r_24 => (((r_24 = 0 → (∃ n41 : Nat, wY_force_41 post (nI a) (nI b) f_side f_last (nI lm) a_live a_px a_py a_used a_sa a_sb n41 0)) ∧ (¬ r_24 = 0 → (post (-3) (f_side, f_last, nI lm, a_live, a_px, a_py, a_used, a_sa, a_sb)))))) (f_side, f_last, nI lm, a_live, a_px, a_py, a_used, a_sa, a_sb) (nI a) (nI b)))) → wpY_force post (f_side, f_last, nI lm, a_live, a_px, a_py, a_used, a_sa, a_sb) (nI a) (nI b) := by
    intro post h
    unfold wpY_force
    exact yw_live hV (fun _ _ _ => br_f nu_1n (yw_live hV (fun _ _ _ => br_f nu_1n h) (fun q => absurd rfl (q b vb)))) (fun q => absurd rfl (q a va))
  refine br_c (fun q => Y1 (br_t q ⟨rfl, J⟩)) (fun nab' => ?_)
  have nab : a ≠ b := fun e => nab' (by rw [e])
  have hf := rl_find hS hU hC (nI a) (nI b)
  refine xw_find hS.1 (fun i hi w => br_f (nI_pos (by have := hS.1; omega)) (Y1 (br_f nab' ?_))) (fun hno => br_t (by decide) ?_)
  · unfold wpY_segment
    refine yw_slot (fun j hj u w' => br_f (nI_pos (by omega)) (br_f nu_1n ⟨rfl, J⟩)) (fun w' => ?_)
    obtain ⟨j, hj, u, q⟩ := hf.mp ⟨i, hi, w⟩
    exact absurd q (w' j hj u)
  have Y2 : ∀ {post : Int32 → SY → Prop}, (∃ f, wY_force_41 post (nI a) (nI b) f_side f_last (nI lm) a_live a_px a_py a_used a_sa a_sb f 0) → wpY_force post (f_side, f_last, nI lm, a_live, a_px, a_py, a_used, a_sa, a_sb) (nI a) (nI b) := by
    intro post h
    refine Y1 (br_f nab' ?_)
    unfold wpY_segment
    refine yw_slot (fun j hj u w' => ?_) (fun _ => br_t (by decide) (br_t rfl h))
    obtain ⟨i, hi, q⟩ := hf.mpr ⟨j, hj, u, w'⟩
    exact absurd q (hno i hi)
  have fc := rl_ex hC (fun x y => cx_P (P a) (P b) (P x) (P y) ∧ ¬ ∃ k, V k ∧ (ge_C (P k) (P a) (P b)) ∧ (ge_C (P k) (P x) (P y)))
  refine xw_collides g hV hS a16 b16 (fun w => br_f nu_1n (Y2 (yw_force1 g hV hU a16 b16 (fun _ => ⟨rfl, J⟩) (fun q => ?_)))) (fun hcol => br_t rfl ?_)
  · obtain ⟨j, hj, u, c, w'⟩ := fc.mp w
    exact absurd (q j hj u c) w'
  have Y3 : ∀ {post : Int32 → SY → Prop}, (∃ f, wY_force_88 post (nI a) (nI b) f_side f_last (nI lm) a_live a_px a_py a_used a_sa a_sb f 0) → wpY_force post (f_side, f_last, nI lm, a_live, a_px, a_py, a_used, a_sa, a_sb) (nI a) (nI b) := by
    intro post h
    refine Y2 (yw_force1 g hV hU a16 b16 (fun w => ?_) (fun _ => h))
    obtain ⟨i, hi, c, w'⟩ := fc.mpr w
    exact absurd (hcol i hi c) w'
  -- the number of used slots
  have cu : ct_n (fun j => a_used j ≠ 0 ∧ True) 8 = n := by
    have := hC (fun _ _ => True)
    rw [← this]
    have : ∀ k, ct_n (fun _ => True) k = k := by
      intro k
      induction k with
      | zero => rfl
      | succ k ih => rw [ct_s1 trivial, ih]
    exact this n
  have n8 := hS.1
  rw [nI_ltI (a := n) (b := lm) (by omega) (by omega)]
  refine br_c (fun hlt => ?_) (fun hge => Y3 (yw_force2 lm8 (fun j hj u => ?_) (fun _ => ⟨rfl, J⟩)))
  rotate_left
  · -- a free slot although all are used: impossible
    exfalso
    have c1 : ct_n (fun i => a_used i ≠ 0 ∧ True) 8 + 1 ≤ ct_n (fun i => i < lm) 8 := ct_lt (j := j) hj (fun w => w.1 u) 8 (by omega) (fun i hi w => hLm i hi w.1)
    rw [ct_ltN 8 lm8] at c1
    omega
  -- the new lists
  have e1 : (nI n).toNatClampNeg = n := nI_clamp (by omega)
  have vn : vp_in (nI n) 8 := nu_in (by omega) (by decide)
  have hS' : xs_S (n + 1) (upd a_segA n (nI a)) (upd a_segB n (nI b)) (up_N sA n a) (up_N sB n b) := by
    refine ⟨by omega, fun i hi => ?_⟩
    by_cases e : i = n
    · subst e; rw [ud_s, ud_s, up_s, up_s]; exact ⟨rfl, a16, rfl, b16⟩
    · rw [ud_n e, ud_n e, up_n e, up_n e]; exact hS.2 i (by omega)
  have hN' : rl_N (n + 1) (up_N sA n a) (up_N sB n b) := by
    have nm : ∀ i, i < n → ¬ ((sA i = a ∧ sB i = b) ∨ (sA i = b ∧ sB i = a)) := by
      intro i hi w
      obtain ⟨q1, _, q2, _⟩ := hS.2 i hi
      refine hno i hi ?_
      rw [q1, q2]
      rcases w with w | w
      · rw [w.1, w.2]; exact Or.inl ⟨rfl, rfl⟩
      · rw [w.1, w.2]; exact Or.inr ⟨rfl, rfl⟩
    intro i j hi hj w
    by_cases ei : i = n
    · by_cases ej : j = n
      · omega
      · exfalso
        subst ei
        rw [up_s, up_s, up_n ej, up_n ej] at w
        refine nm j (by omega) ?_
        rcases w with w | w
        · exact Or.inl ⟨w.1.symm, w.2.symm⟩
        · exact Or.inr ⟨w.2.symm, w.1.symm⟩
    · by_cases ej : j = n
      · exfalso
        subst ej
        rw [up_s, up_s, up_n ei, up_n ei] at w
        exact nm i (by omega) w
      · rw [up_n ei, up_n ei, up_n ej, up_n ej] at w
        exact hN i j (by omega) (by omega) w
  have hSg' : tr_sg V P ((a, b) :: xs_L n sA sB) := sg_new hSg va vb nab (fun s hs c => by obtain ⟨i, hi, rfl⟩ := (xs_Lm s).mp hs; exact hcol i hi c)
  -- the reference's part, and the new relation
  have fin : ∀ (L' : Nat → Nat → Nat) (wQ wP wN : Int32) (l' s' : Nat → Int32), mo_K m V P (xs_L (n + 1) (up_N sA n a) (up_N sB n b)) L' → xs_M l' L' →
      wpY_force (fun r' v' => r' = 0 ∧ i_Rel (k + 5) (f_side, f_last, nI lm, nI (n + 1), 0, wQ, wP, wN, a_px, a_py, a_live, upd a_segA n (nI a), upd a_segB n (nI b), l', s') v') (f_side, f_last, nI lm, a_live, a_px, a_py, a_used, a_sa, a_sb) (nI a) (nI b) := by
    intro L' wQ wP wN l' s' K' m'
    refine Y3 (yw_force2 lm8 (fun j hj u => ⟨rfl, ?_⟩) (fun hall => ?_))
    · refine rl_mk (sA := up_N sA n a) (sB := up_N sB n b) (tA := up_N tA j a) (tB := up_N tB j b) ⟨⟨h1, h2⟩, h3, ⟨rfl, lm1, lm8, by omega⟩, g, hV, hS', m', K', ?_, ?_, ?_, hN'⟩
      · intro i hi ui
        by_cases e : i = j
        · subst e; rw [ud_s, ud_s, up_s, up_s]; exact ⟨rfl, a16, rfl, b16⟩
        · rw [ud_n e] at ui
          rw [ud_n e, ud_n e, up_n e, up_n e]; exact hU i hi ui
      · intro Q
        have c0 : ct_n (fun i => Q (up_N sA n a i) (up_N sB n b i)) n = ct_n (fun i => Q (sA i) (sB i)) n := ct_cong n (fun i hi => by rw [up_n (by omega), up_n (by omega)])
        have old := hC Q
        have cong : ∀ i, i < 8 → i ≠ j → ((upd a_used j (vp_nar .boolean 1) i ≠ 0 ∧ Q (up_N tA j a i) (up_N tB j b i)) ↔ (a_used i ≠ 0 ∧ Q (tA i) (tB i))) := by
          intro i _ e
          rw [ud_n e, up_n e, up_n e]
        by_cases q : Q a b
        · have l : ct_n (fun i => Q (up_N sA n a i) (up_N sB n b i)) (n + 1) = ct_n (fun i => Q (up_N sA n a i) (up_N sB n b i)) n + 1 := ct_s1 (Q := fun i => Q (up_N sA n a i) (up_N sB n b i)) (by show Q _ _; rw [up_s, up_s]; exact q)
          have r := ct_one (A := fun i => a_used i ≠ 0 ∧ Q (tA i) (tB i)) (A' := fun i => upd a_used j (vp_nar .boolean 1) i ≠ 0 ∧ Q (up_N tA j a i) (up_N tB j b i)) (j0 := j) (by rw [ud_s, up_s, up_s, nar_1]; exact ⟨by decide, q⟩) (fun w => w.1 u) 8 (by omega) cong
          rw [l, r, c0, old]
        · have l : ct_n (fun i => Q (up_N sA n a i) (up_N sB n b i)) (n + 1) = ct_n (fun i => Q (up_N sA n a i) (up_N sB n b i)) n := ct_s0 (Q := fun i => Q (up_N sA n a i) (up_N sB n b i)) (by show ¬ Q _ _; rw [up_s, up_s]; exact q)
          have r : ct_n (fun i => upd a_used j (vp_nar .boolean 1) i ≠ 0 ∧ Q (up_N tA j a i) (up_N tB j b i)) 8 = ct_n (fun i => a_used i ≠ 0 ∧ Q (tA i) (tB i)) 8 := by
            refine ct_cong 8 (fun i hi => ?_)
            by_cases e : i = j
            · subst e
              rw [up_s, up_s]
              exact ⟨fun w => absurd w.2 q, fun w => absurd u w.1⟩
            · exact cong i hi e
          rw [l, r, c0, old]
      · intro i hi ui
        by_cases e : i = j
        · omega
        · rw [ud_n e] at ui; exact hLm i hi ui
    · exfalso
      have c1 := ct_mono (Q := fun i => i < lm) (R := fun i => a_used i ≠ 0 ∧ True) 8 (fun i _ w => ⟨hall i w, trivial⟩)
      rw [ct_ltN 8 lm8] at c1
      omega
  refine And.intro vn (nm_r (congrArg (fun z => upd a_segA z (nI a)) e1) (And.intro vn (nm_r (congrArg (fun z => upd a_segB z (nI b)) e1) (nm_r (nI_1 n) ?_))))
  have mem := xs_Lc (n := n) (a := a) (b := b) (sA := sA) (sB := sB)
  refine xw_edge hV hM (fun x y e => ⟨tt_va hT e, tt_vb hT e, tt_ne hT e⟩) (fun a' b' ea eb ha' hb' e => br_f nu_1n ?_) (fun hne => br_t rfl ?_)
  · have q1 : a = a' := (nu_ni (by omega) (by omega)).mp ea
    have q2 : b = b' := (nu_ni (by omega) (by omega)).mp eb
    subst q1 q2
    exact fin L f_walkQ f_walkP f_walkN a_left a_stack (tm_K mem ⟨hp, hm, hSg', fe_1 hp hT e, fe_2 hLD⟩) hM
  · obtain ⟨L', hT', hLD'⟩ := ex_1 (H := rh_H P) hp hSg' (rh_hull hp hm)
    have K' := tm_K mem (show mo_K m V P ((a, b) :: xs_L n sA sB) L' from ⟨hp, hm, hSg', hT', hLD'⟩)
    refine xw_carve g hp hm hT hM va vb nab (hne a b rfl rfl) (fun M l l' s' wQ wP wN hc hx m' k' len => ?_)
    obtain ⟨hM', hh⟩ := fp_1 hp hm hSg hSg' hT hLD hT' hLD' hc hx
    exact xw_refill g hV hS' xs_Lm K' m' hM' hh k' (by omega) (fun l2 s2 m2 => fin L' wQ wP wN l2 s2 K' m2)
end
section
/-- a loop with a state, from i0 -/
theorem lo_j {σ : Type} {W : Nat → Nat → σ → Prop} {I : Nat → σ → Prop} {N i0 : Nat} {s0 : σ} (hi0 : i0 ≤ N) (h0 : I i0 s0)
    (hx : ∀ f s, I N s → W (f + 1) N s) (hs : ∀ f i s, i0 ≤ i → i < N → I i s → (∀ s', I (i + 1) s' → W f (i + 1) s') → W (f + 1) i s) : ∃ f, W f i0 s0 := by
  have key : ∀ d i s, i0 ≤ i → i + d = N → I i s → W (d + 1) i s := by
    intro d
    induction d with
    | zero =>
      intro i s _ e h
      have : i = N := by omega
      subst this
      exact hx 0 s h
    | succ d ih =>
      intro i s hi e h
      exact hs (d + 1) i s hi (by omega) h (fun s' h' => ih (i + 1) s' (by omega) (by omega) h')
  exact ⟨N - i0 + 1, key (N - i0) i0 s0 (Nat.le_refl _) (by omega) h0⟩
section
variable {f_side f_last f_limit f_segCount f_top f_walkQ f_walkP f_walkN : Int32} {a_px a_py a_live a_segA a_segB a_left a_stack : Nat → Int32}
variable {m : Int} {P : Nat → Int × Int} {V : Nat → Prop} {sA sB : Nat → Nat} {n : Nat} {L : Nat → Nat → Nat} {S : List (Nat × Nat)}
/-- 'suspectAlong' puts the edges along ab on the stack -/
theorem xw_suspect {post : SX → Prop} (g : xs_G a_px a_py P) (hV : xs_V a_live V) (hM : xs_M a_left L) (hT : ∀ a b, L a b ≤ 16 → V a ∧ V b ∧ a ≠ b) {a b : Nat} (ha : a < 16) (hb : b < 16)
    (hpost : ∀ l s', sk_I s' l → l.length ≤ 225 → (∀ x y, x < y → y < 16 → L x y ≤ 16 → (ge_C (P x) (P a) (P b)) → (ge_C (P y) (P a) (P b)) → (x, y) ∈ l) → post (f_side, f_last, f_limit, f_segCount, nI l.length, f_walkQ, f_walkP, f_walkN, a_px, a_py, a_live, a_segA, a_segB, a_left, s')) :
    wpX_suspectAlong post (f_side, f_last, f_limit, f_segCount, 0, f_walkQ, f_walkP, f_walkN, a_px, a_py, a_live, a_segA, a_segB, a_left, a_stack) (nI a) (nI b) := by
  unfold wpX_suspectAlong
  have hs : ∃ f, (fun f p (s : (Nat → Int32) × List (Nat × Nat)) => wX_suspectAlong_2 post (nI a) (nI b) f (nI p) f_side f_last f_limit f_segCount (nI s.2.length) f_walkQ f_walkP f_walkN a_px a_py a_live a_segA a_segB a_left (s.1)) f 0 (a_stack, []) := by
    refine lo_i (W := fun f p (s : (Nat → Int32) × List (Nat × Nat)) => wX_suspectAlong_2 post (nI a) (nI b) f (nI p) f_side f_last f_limit f_segCount (nI s.2.length) f_walkQ f_walkP f_walkN a_px a_py a_live a_segA a_segB a_left (s.1))
      (I := fun p s => sk_I s.1 s.2 ∧ s.2.length ≤ 15 * p ∧ ∀ x y, x < p → x < y → y < 16 → L x y ≤ 16 → (ge_C (P x) (P a) (P b)) → (ge_C (P y) (P a) (P b)) → (x, y) ∈ s.2) (N := 15)
      ⟨trivial, by simp, fun x y hx => by omega⟩ (fun f s I => br_t (nI_le (a := 15) (b := 15) (by omega) (by decide)) (hpost s.2 s.1 I.1 (by have := I.2.1; omega) (fun x y l h e c1 c2 => I.2.2 x y (by omega) l h e c1 c2)))
      (fun f p s hp I hW => br_f (nI_ge (b := 15) hp (by decide)) (nm_r (nI_1 p) ?_))
    have hs' : ∃ f', (fun f' q (s : (Nat → Int32) × List (Nat × Nat)) => wX_suspectAlong_13 post (wX_suspectAlong_2 post (nI a) (nI b) f) (nI a) (nI b) (nI p) f' (nI q) f_side f_last f_limit f_segCount (nI s.2.length) f_walkQ f_walkP f_walkN a_px a_py a_live a_segA a_segB a_left (s.1)) f' (p + 1) s := by
      refine lo_j (W := fun f' q (s : (Nat → Int32) × List (Nat × Nat)) => wX_suspectAlong_13 post (wX_suspectAlong_2 post (nI a) (nI b) f) (nI a) (nI b) (nI p) f' (nI q) f_side f_last f_limit f_segCount (nI s.2.length) f_walkQ f_walkP f_walkN a_px a_py a_live a_segA a_segB a_left (s.1))
        (I := fun q s => sk_I s.1 s.2 ∧ s.2.length + p + 1 ≤ 15 * p + q ∧ (∀ x y, x < p → x < y → y < 16 → L x y ≤ 16 → (ge_C (P x) (P a) (P b)) → (ge_C (P y) (P a) (P b)) → (x, y) ∈ s.2) ∧ (∀ y, p < y → y < q → L p y ≤ 16 → (ge_C (P p) (P a) (P b)) → (ge_C (P y) (P a) (P b)) → (p, y) ∈ s.2)) (N := 16) (by omega)
        ⟨I.1, by have := I.2.1; omega, I.2.2, fun y h1 h2 => by omega⟩
        (fun f' s' I' => br_t nu_16' (nm_r (nI_1 p) (hW s' ⟨I'.1, by have := I'.2.1; omega, fun x y hx l h e c1 c2 => ?_⟩)))
        (fun f' q s' hq0 hq I' hW' => br_f (nu_16 hq) ?_)
      · rcases Nat.lt_or_ge x p with w | w
        · exact I'.2.2.1 x y w l h e c1 c2
        · have : x = p := by omega
          subst this
          exact I'.2.2.2 y l h e c1 c2
      · obtain ⟨i1, i2, i3, i4⟩ := I'
        have p16 : p < 16 := by omega
        have skip : ¬ (L p q ≤ 16 ∧ (ge_C (P p) (P a) (P b)) ∧ (ge_C (P q) (P a) (P b))) → ∀ z, z = nI q + 1 → wX_suspectAlong_13 post (wX_suspectAlong_2 post (nI a) (nI b) f) (nI a) (nI b) (nI p) f' z f_side f_last f_limit f_segCount (nI s'.2.length) f_walkQ f_walkP f_walkN a_px a_py a_live a_segA a_segB a_left (s'.1) := by
          intro hn
          refine nm_r (nI_1 q) (hW' s' ⟨i1, by omega, i3, fun y h1 h2 e c1 c2 => ?_⟩)
          rcases Nat.lt_or_ge y q with w | w
          · exact i4 y h1 w e c1 c2
          · have : y = q := by omega
            subst this
            exact absurd ⟨e, c1, c2⟩ hn
        refine xw_edge hV hM hT (fun p' q' ep eq hp' hq' e => br_f nu_1n ?_) (fun w => br_t rfl (skip (fun q' => w p q rfl rfl q'.1)))
        have e1 : p = p' := (nu_ni (by omega) (by omega)).mp ep
        have e2 : q = q' := (nu_ni (by omega) (by omega)).mp eq
        subst e1 e2
        refine xw_on g p16 ha hb (fun c1 => br_f nu_1n ?_) (fun c1 => br_t rfl (skip (fun w => c1 w.2.1)))
        refine xw_on g hq ha hb (fun c2 => br_f nu_1n ?_) (fun c2 => br_t rfl (skip (fun w => c2 w.2.2)))
        refine xw_push i1 (by omega) p16 hq (fun s2 k2 => nm_r (nI_1 q) ?_)
        refine hW' (s2, (p, q) :: s'.2) ⟨k2, by show s'.2.length + 1 + p + 1 ≤ _; omega, fun x y h1 h2 h3 h4 h5 h6 => List.mem_cons_of_mem _ (i3 x y h1 h2 h3 h4 h5 h6), fun y h1 h2 e' c1' c2' => ?_⟩
        rcases Nat.lt_or_ge y q with w | w
        · exact List.mem_cons_of_mem _ (i4 y h1 w e' c1' c2')
        · have : y = q := by omega
          subst this
          exact List.mem_cons_self ..
    exact hs'
  exact hs
theorem xw_legalize2 {post : SX → Prop} (g : xs_G a_px a_py P) (hp : tr_pt m V P) (hm : m ≤ 100) (hS : xs_S n a_segA a_segB sA sB) (hL : ∀ s, s ∈ S ↔ ∃ i, i < n ∧ s = (sA i, sB i))
    (hT : tr_T V P S L) {l : List (Nat × Nat)} (hK : ld_K (rh_H P) P S L (fun x y => (x, y) ∈ l)) (hM : xs_M a_left L) (hl : sk_I a_stack l) (h10 : l.length ≤ 225)
    (hpost : ∀ L' l' s', tr_T V P S L' → tr_LD (rh_H P) P S L' → xs_M l' L' → post (f_side, f_last, f_limit, nI n, 0, f_walkQ, f_walkP, f_walkN, a_px, a_py, a_live, a_segA, a_segB, l', s')) :
    wpX_legalize post (f_side, f_last, f_limit, nI n, nI l.length, f_walkQ, f_walkP, f_walkN, a_px, a_py, a_live, a_segA, a_segB, a_left, a_stack) := by
  unfold wpX_legalize
  have c := lf_c256 (fun _ _ => False)
  exact ⟨_, xw_legal g hp hm hS hL hpost 1000 0 a_left a_stack L (fun _ _ => False) l (by omega) (by omega) hT hK (fun _ _ f => f.elim) hM hl⟩
end
/-- counts where one place changes -/
noncomputable def ct_b (p : Prop) : Nat := ct_n (fun _ => p) 1
theorem ct_b1 {p : Prop} (h : p) : ct_b p = 1 := by unfold ct_b; rw [ct_s1 h]; rfl
theorem ct_b0 {p : Prop} (h : ¬ p) : ct_b p = 0 := by unfold ct_b; rw [ct_s0 h]; rfl
theorem ct_bi {p q : Prop} (h : p ↔ q) : ct_b p = ct_b q := by
  by_cases k : p
  · rw [ct_b1 k, ct_b1 (h.mp k)]
  · rw [ct_b0 k, ct_b0 (fun w => k (h.mpr w))]
theorem ct_sb {Q : Nat → Prop} (n : Nat) : ct_n Q (n + 1) = ct_n Q n + ct_b (Q n) := by
  by_cases k : Q n
  · rw [ct_s1 k, ct_b1 k]
  · rw [ct_s0 k, ct_b0 k]; rfl
theorem ct_chg {A A' : Nat → Prop} {j0 N : Nat} (hj : j0 < N) (h : ∀ j, j < N → j ≠ j0 → (A' j ↔ A j)) : ct_n A' N + ct_b (A j0) = ct_n A N + ct_b (A' j0) := by
  by_cases k : A j0
  · by_cases k' : A' j0
    · rw [ct_b1 k, ct_b1 k', ct_cong (Q := A') (R := A) N (fun i hi => by
        by_cases e : i = j0
        · rw [e]; exact ⟨fun _ => k, fun _ => k'⟩
        · exact h i hi e)]
    · have := ct_one (A := A') (A' := A) k k' N hj (fun j hj' e => (h j hj' e).symm)
      rw [ct_b1 k, ct_b0 k']; omega
  · by_cases k' : A' j0
    · have := ct_one (A := A) (A' := A') k' k N hj h
      rw [ct_b0 k, ct_b1 k']; omega
    · rw [ct_b0 k, ct_b0 k', ct_cong (Q := A') (R := A) N (fun i hi => by
        by_cases e : i = j0
        · rw [e]; exact ⟨fun w => absurd w k', fun w => absurd w k⟩
        · exact h i hi e)]
/-- what the list holds after the last entry has moved to place i -/
theorem xs_Lr {n i : Nat} (hi : i < n + 1) {sA sB : Nat → Nat} (s : Nat × Nat) : s ∈ xs_L n (up_N sA i (sA n)) (up_N sB i (sB n)) ↔ ∃ j, j < n + 1 ∧ j ≠ i ∧ s = (sA j, sB j) := by
  rw [xs_Lm]
  constructor
  · rintro ⟨j, hj, rfl⟩
    by_cases e : j = i
    · subst e; exact ⟨n, by omega, by omega, by rw [up_s, up_s]⟩
    · exact ⟨j, by omega, e, by rw [up_n e, up_n e]⟩
  · rintro ⟨j, hj, ne, rfl⟩
    by_cases e : j = n
    · subst e; exact ⟨i, by omega, by rw [up_s, up_s]⟩
    · exact ⟨j, by omega, by rw [up_n ne, up_n ne]⟩
theorem i_vc_release {k : Nat} {u : SX} {v : SY} (I : i_Rel k u v) (hk : k + 5 ≤ 2563) (v1 : Int32) (v2 : Int32) : wpX_release (fun r u' => wpY_release (fun r' v' => r' = r ∧ i_Rel (k + 5) u' v') v v1 v2) u v1 v2 := by
  refine rl_el (Pr := fun u v => wpX_release (fun r u' => wpY_release (fun r' v' => r' = r ∧ i_Rel (k + 5) u' v') v v1 v2) u v1 v2) ?_ I
  intro f_side f_last f_limit n f_walkQ f_walkP f_walkN a_px a_py a_live a_segA a_segB a_left a_stack a_used a_sa a_sb m V P L la lm sA sB tA tB R
  have J := rl_mk (k := k + 5) (f_walkQ := f_walkQ) (f_walkP := f_walkP) (f_walkN := f_walkN) (a_stack := a_stack) R
  obtain ⟨⟨h1, h2⟩, h3, ⟨h4, lm1, lm8, nlm⟩, g, hV, hS, hM, K, hU, hC, hLm, hN⟩ := R
  obtain ⟨hp, hm, hSg, hT, hLD⟩ := K
  have hf := rl_find hS hU hC v1 v2
  have n8 := hS.1
  unfold wpX_release wpY_release
  refine xw_find hS.1 (fun i hi w => br_t (nI_pos' (by omega)) ?_) (fun hno => br_f (by decide) ?_)
  rotate_left
  · refine yw_slot (fun j hj u w' => ?_) (fun _ => br_f (by decide) ⟨rfl, J⟩)
    obtain ⟨i, hi, q⟩ := hf.mpr ⟨j, hj, u, w'⟩
    exact absurd q (hno i hi)
  obtain ⟨n', rfl⟩ : ∃ n', n = n' + 1 := ⟨n - 1, by omega⟩
  have hS2 := hS.2
  obtain ⟨q1, l1, q2, l2⟩ := hS2 i hi
  obtain ⟨q3, l3, q4, l4⟩ := hS2 n' (by omega)
  -- the ends as numbers
  have hab : ∃ a b, v1 = nI a ∧ v2 = nI b ∧ a < 16 ∧ b < 16 ∧ ((sA i = a ∧ sB i = b) ∨ (sA i = b ∧ sB i = a)) := by
    rw [q1, q2] at w
    rcases w with w | w
    · exact ⟨sA i, sB i, w.1.symm, w.2.symm, l1, l2, Or.inl ⟨rfl, rfl⟩⟩
    · exact ⟨sB i, sA i, w.2.symm, w.1.symm, l2, l1, Or.inr ⟨rfl, rfl⟩⟩
  obtain ⟨a, b, ea, eb, a16, b16, hw⟩ := hab
  have onab : ∀ x : Nat, (ge_C (P x) (P (sA i)) (P (sB i))) → (ge_C (P x) (P a) (P b)) := by
    intro x c
    rcases hw with ⟨r1, r2⟩ | ⟨r1, r2⟩
    · rw [← r1, ← r2]; exact c
    · rw [← r1, ← r2]; exact ge_C1 c
  have cn : (nI n').toNatClampNeg = n' := nI_clamp (by omega)
  have ci : (nI i).toNatClampNeg = i := nI_clamp (by omega)
  have vn : vp_in (nI n') 8 := nu_in (by omega) (by decide)
  have vi : vp_in (nI i) 8 := nu_in (by omega) (by decide)
  have hS' : xs_S n' (upd a_segA i (nI (sA n'))) (upd a_segB i (nI (sB n'))) (up_N sA i (sA n')) (up_N sB i (sB n')) := by
    refine ⟨by omega, fun j hj => ?_⟩
    by_cases e : j = i
    · subst e; rw [ud_s, ud_s, up_s, up_s]; exact ⟨rfl, l3, rfl, l4⟩
    · rw [ud_n e, ud_n e, up_n e, up_n e]; exact hS2 j (by omega)
  have mem := xs_Lr hi (sA := sA) (sB := sB)
  have sub : ∀ s, s ∈ xs_L n' (up_N sA i (sA n')) (up_N sB i (sB n')) → s ∈ xs_L (n' + 1) sA sB := by
    intro s hs
    obtain ⟨j, hj, _, e⟩ := (mem s).mp hs
    exact (xs_Lm s).mpr ⟨j, hj, e⟩
  have hSg' : tr_sg V P (xs_L n' (up_N sA i (sA n')) (up_N sB i (sB n'))) := ⟨fun s hs => hSg.1 s (sub s hs), fun s hs r hr => hSg.2 s (sub s hs) r (sub r hr)⟩
  have hT' : tr_T V P (xs_L n' (up_N sA i (sA n')) (up_N sB i (sB n'))) L :=
    ⟨hT.1, hT.2.1, hT.2.2.1, hT.2.2.2.1, hT.2.2.2.2.1, hT.2.2.2.2.2.1, hT.2.2.2.2.2.2.1, fun s hs => hT.2.2.2.2.2.2.2 s (sub s hs)⟩
  have hN' : rl_N n' (up_N sA i (sA n')) (up_N sB i (sB n')) := by
    have ph : ∀ j, j < n' → ∃ j', j' < n' + 1 ∧ up_N sA i (sA n') j = sA j' ∧ up_N sB i (sB n') j = sB j' ∧ ((j = i ∧ j' = n') ∨ (j ≠ i ∧ j' = j)) := by
      intro j hj
      by_cases e : j = i
      · subst e; exact ⟨n', by omega, up_s _ _ _, up_s _ _ _, Or.inl ⟨rfl, rfl⟩⟩
      · exact ⟨j, by omega, up_n e, up_n e, Or.inr ⟨e, rfl⟩⟩
    intro x y hx hy w
    obtain ⟨x', hx', e1, e2, e3⟩ := ph x hx
    obtain ⟨y', hy', e4, e5, e6⟩ := ph y hy
    rw [e1, e2, e4, e5] at w
    have := hN x' y' hx' hy' w
    omega
  refine nm_r (nI_pred n') (And.intro vn (And.intro vi ?_))
  rw [cn, ci, q3, q4]
  refine nm_e (And.intro vn (And.intro vi (nm_e ?_)))
  subst ea eb
  refine xw_suspect g hV hM (fun x y e => ⟨tt_va hT e, tt_vb hT e, tt_ne hT e⟩) a16 b16 (fun l s' k' len hall => ?_)
  refine xw_legalize2 g hp hm hS' xs_Lm hT' ?_ hM k' len (fun L' l2 s2 T2 LD2 m2 => ?_)
  · intro x y c d e hc e' hd hn n1 n2
    refine hLD x y c d e hc e' hd (fun hcov => ?_)
    obtain ⟨s, hs, c1, c2⟩ := hcov
    obtain ⟨j, hj, rfl⟩ := (xs_Lm s).mp hs
    by_cases ej : j = i
    · subst ej
      have y16 := tp_16 hp (tt_vb hT (show L x y ≤ 16 by omega))
      have x16 := tp_16 hp (tt_va hT (show L x y ≤ 16 by omega))
      have nxy := tt_ne hT (show L x y ≤ 16 by omega)
      rcases Nat.lt_or_ge x y with q | q
      · exact n1 (hall x y q y16 (by omega) (onab x c1) (onab y c2))
      · exact n2 (hall y x (by omega) x16 (by omega) (onab y c2) (onab x c1))
    · exact hn ⟨(sA j, sB j), (mem _).mpr ⟨j, hj, ej, rfl⟩, c1, c2⟩
  · refine yw_slot (fun j hj u w' => br_t (nI_pos' (by omega)) (And.intro (nu_in hj (by decide)) (nm_r (congrArg (fun z => upd a_used z (vp_nar .boolean 0)) (nI_clamp (n := j) (by omega))) ⟨rfl, ?_⟩))) (fun hno => ?_)
    · -- the slot holds the same pair as the list's entry
      obtain ⟨q5, l5, q6, l6⟩ := hU j hj u
      have same : sA i = tA j ∧ sB i = tB j := by
        obtain ⟨i', hi', r1, r2⟩ := (rl_ex hC (fun x y => x = tA j ∧ y = tB j)).mpr ⟨j, hj, u, rfl, rfl⟩
        have : i' = i := by
          refine hN i' i hi' hi ?_
          rw [q5, q6] at w'
          rw [r1, r2]
          have z1 : ∀ {p q : Nat}, p < 16 → q < 16 → nI p = nI q → p = q := fun hp hq e => (nu_ni (by omega) (by omega)).mp e
          rcases w' with ⟨w1, w2⟩ | ⟨w1, w2⟩
          · have w1 := z1 l5 a16 w1
            have w2 := z1 l6 b16 w2
            rw [w1, w2]
            rcases hw with ⟨r3, r4⟩ | ⟨r3, r4⟩
            · rw [r3, r4]; exact Or.inl ⟨rfl, rfl⟩
            · rw [r3, r4]; exact Or.inr ⟨rfl, rfl⟩
          · have w1 := z1 l5 b16 w1
            have w2 := z1 l6 a16 w2
            rw [w1, w2]
            rcases hw with ⟨r3, r4⟩ | ⟨r3, r4⟩
            · rw [r3, r4]; exact Or.inr ⟨rfl, rfl⟩
            · rw [r3, r4]; exact Or.inl ⟨rfl, rfl⟩
        subst this
        exact ⟨r1, r2⟩
      refine rl_mk (sA := up_N sA i (sA n')) (sB := up_N sB i (sB n')) (tA := tA) (tB := tB) ⟨⟨h1, h2⟩, h3, ⟨h4, lm1, lm8, by omega⟩, g, hV, hS', m2, ⟨hp, hm, hSg', T2, LD2⟩, ?_, ?_, ?_, hN'⟩
      · intro j' hj' u'
        by_cases e : j' = j
        · subst e; rw [ud_s, nar_0] at u'; exact absurd rfl u'
        · rw [ud_n e] at u'; exact hU j' hj' u'
      · intro Q
        have old := hC Q
        have X1 : ct_n (fun x => Q (up_N sA i (sA n') x) (up_N sB i (sB n') x)) n' + ct_b (Q (sA i) (sB i)) = ct_n (fun x => Q (sA x) (sB x)) (n' + 1) := by
          rw [ct_sb (Q := fun x => Q (sA x) (sB x)) n']
          rcases Nat.lt_or_ge i n' with q | q
          · have := ct_chg (A := fun x => Q (sA x) (sB x)) (A' := fun x => Q (up_N sA i (sA n') x) (up_N sB i (sB n') x)) q (fun x _ e => by rw [up_n e, up_n e])
            rw [up_s, up_s] at this
            exact this
          · have : i = n' := by omega
            subst this
            rw [ct_cong i (fun x hx => by rw [up_n (by omega), up_n (by omega)])]
        have Y1 := ct_chg (A := fun x => a_used x ≠ 0 ∧ Q (tA x) (tB x)) (A' := fun x => upd a_used j (vp_nar .boolean 0) x ≠ 0 ∧ Q (tA x) (tB x)) hj (fun x _ e => by rw [ud_n e])
        rw [ct_b0 (p := upd a_used j (vp_nar .boolean 0) j ≠ 0 ∧ Q (tA j) (tB j)) (by rw [ud_s, nar_0]; exact fun w => w.1 rfl)] at Y1
        have bb : ct_b (Q (sA i) (sB i)) = ct_b (a_used j ≠ 0 ∧ Q (tA j) (tB j)) := ct_bi (by rw [same.1, same.2]; exact ⟨fun w => ⟨u, w⟩, fun w => w.2⟩)
        omega
      · intro j' hj' u'
        by_cases e : j' = j
        · subst e; rw [ud_s, nar_0] at u'; exact absurd rfl u'
        · rw [ud_n e] at u'; exact hLm j' hj' u'
    · obtain ⟨j, hj, u, q⟩ := hf.mp ⟨i, hi, w⟩
      exact absurd q (hno j hj u)
end
section
/-! the constructors -/
def in_px (s : Int32) : Nat → Int32 := fun j => if j = 1 then s else if j = 2 then s else 0
def in_py (s : Int32) : Nat → Int32 := fun j => if j = 2 then s else if j = 3 then s else 0
def in_lv (i : Nat) : Nat → Int32 := fun j => if j < i then 1 else 0
theorem in_lu (i : Nat) : upd (in_lv i) i (vp_nar .boolean 1) = in_lv (i + 1) := by
  funext j
  unfold upd in_lv
  rw [nar_1]
  by_cases e : j = i
  · rw [if_pos e, if_pos (by omega)]
  · rw [if_neg e]
    by_cases w : j < i
    · rw [if_pos w, if_pos (by omega)]
    · rw [if_neg w, if_neg (by omega)]
theorem in_l0 : in_lv 0 = fun _ => 0 := by
  funext j; unfold in_lv; rw [if_neg (by omega)]
theorem in_ex (s : Int32) : upd (upd (upd (upd (fun _ => 0) 0 0) 1 s) 2 s) 3 0 = in_px s := by
  funext j
  unfold upd in_px
  by_cases e1 : j = 1
  · subst e1; simp
  by_cases e2 : j = 2
  · subst e2; simp
  by_cases e3 : j = 3
  · subst e3; simp
  simp [e1, e2, e3]
theorem in_ey (s : Int32) : upd (upd (upd (upd (fun _ => 0) 0 0) 1 0) 2 s) 3 s = in_py s := by
  funext j
  unfold upd in_py
  by_cases e1 : j = 1
  · subst e1; simp
  by_cases e2 : j = 2
  · subst e2; simp
  by_cases e3 : j = 3
  · subst e3; simp
  simp [e1, e2, e3]
theorem in_ux (s : Int32) : upd (upd (fun _ => 0) 1 s) 2 s = in_px s := by
  funext j
  unfold upd in_px
  by_cases e1 : j = 1
  · subst e1; simp
  by_cases e2 : j = 2
  · subst e2; simp
  simp [e1, e2]
theorem in_uy (s : Int32) : upd (upd (fun _ => 0) 2 s) 3 s = in_py s := by
  funext j
  unfold upd in_py
  by_cases e2 : j = 2
  · subst e2; simp
  by_cases e3 : j = 3
  · subst e3; simp
  simp [e2, e3]
theorem in_el : upd (upd (upd (upd (fun _ => 0) 0 (vp_nar .boolean 1)) 1 (vp_nar .boolean 1)) 2 (vp_nar .boolean 1)) 3 (vp_nar .boolean 1) = in_lv 4 := by
  rw [← in_l0, in_lu, in_lu, in_lu, in_lu]
/-- the table after the four rim edges -/
def in_r (i : Nat) : Nat → Nat → Nat := fun x y => if y < i ∧ x = (y + 1) % 4 then 16 else 17
theorem in_rs : ∀ i, i < 4 → um_L (in_r i) ((i + 1) % 4) i 16 = in_r (i + 1) := by
  intro i hi
  funext x y
  unfold um_L in_r
  by_cases e : x = (i + 1) % 4 ∧ y = i
  · rw [if_pos e, if_pos (by constructor; omega; rw [e.1, e.2])]
  · rw [if_neg e]
    by_cases w : y < i ∧ x = (y + 1) % 4
    · rw [if_pos w, if_pos ⟨by omega, w.2⟩]
    · rw [if_neg w, if_neg (fun q => ?_)]
      by_cases z : y = i
      · exact e ⟨by rw [← z]; exact q.2, z⟩
      · exact w ⟨by omega, q.2⟩
theorem in_bf : ∀ x y : Fin 16, jn_L (jn_L (in_r 4) 0 1 2) 0 2 3 x y = ba_L x y := by decide +kernel
theorem in_16 : (16 : Int32) = xs_en 16 := by unfold xs_en; rw [if_pos (by omega)]; rfl
theorem in_and : ∀ i : Fin 4, (nI i.val + 1) &&& 3 = nI ((i.val + 1) % 4) := by decide +kernel
/-- the component's constructor behind the clamps -/
theorem in_X {post : SX → Prop} {s la lm : Int32}
    (h : ∀ l' : Nat → Int32, xs_M l' ba_L → post (s, la, lm, 0, 0, 0, 0, 0, in_px s, in_py s, in_lv 4, (fun _ => 0), (fun _ => 0), l', (fun _ => 0))) :
    ∃ f, wX_init_129 post s la lm 0 0 0 0 0 f 0 (fun _ => 0) (fun _ => 0) (fun _ => 0) (fun _ => 0) (fun _ => 0) (fun _ => 0) (fun _ => 0) := by
  have rim : ∀ l0 : Nat → Int32, xs_M l0 (in_r 0) → ∃ f, wX_init_194 post s la lm 0 0 0 0 0 f 0 (in_px s) (in_py s) (in_lv 4) (fun _ => 0) (fun _ => 0) l0 (fun _ => 0) := by
    intro l0 h0
    have hs : ∃ f, (fun f i (l : Nat → Int32) => wX_init_194 post s la lm 0 0 0 0 0 f (nI i) (in_px s) (in_py s) (in_lv 4) (fun _ => 0) (fun _ => 0) l (fun _ => 0)) f 0 l0 := by
      refine lo_i (W := fun f i (l : Nat → Int32) => wX_init_194 post s la lm 0 0 0 0 0 f (nI i) (in_px s) (in_py s) (in_lv 4) (fun _ => 0) (fun _ => 0) l (fun _ => 0)) (I := fun i l => xs_M l (in_r i)) (N := 4) h0
        (fun f l I => br_t (nI_le (a := 4) (b := 4) (by omega) (by decide)) ?_) (fun f i l hi I hW => br_f (nI_ge (b := 4) hi (by decide)) (nm_r (in_and ⟨i, hi⟩) ?_))
      · refine xw_join (a := 0) (b := 1) (c := 2) I (by omega) (by omega) (by omega) (fun l1 m1 => ?_)
        refine xw_join (a := 0) (b := 2) (c := 3) m1 (by omega) (by omega) (by omega) (fun l2 m2 => ?_)
        refine h l2 (fun x y hx hy => ?_)
        rw [m2 x y hx hy]
        exact congrArg xs_en (in_bf ⟨x, hx⟩ ⟨y, hy⟩)
      · have hn : (i + 1) % 4 < 4 := by omega
        simp only
        rw [nu_ix, nI_clamp (n := (i + 1) % 4 * 16 + i) (by omega)]
        refine And.intro (nu_in (by omega) (by decide)) (nm_e (nm_r (nI_1 i) (hW _ ?_)))
        show xs_M _ (in_r (i + 1))
        rw [← in_rs i hi]
        exact um_M I (by omega) (by omega) in_16
    exact hs
  have hs : ∃ f, (fun f i (l : Nat → Int32) => wX_init_129 post s la lm 0 0 0 0 0 f (nI i) (fun _ => 0) (fun _ => 0) (fun _ => 0) (fun _ => 0) (fun _ => 0) l (fun _ => 0)) f 0 (fun _ => 0) := by
    refine lo_i (W := fun f i (l : Nat → Int32) => wX_init_129 post s la lm 0 0 0 0 0 f (nI i) (fun _ => 0) (fun _ => 0) (fun _ => 0) (fun _ => 0) (fun _ => 0) l (fun _ => 0)) (I := fun i l => ∀ j, j < i → l j = -1) (N := 256) (fun j hj => by omega)
      (fun f l I => br_t (nI_le (a := 256) (b := 256) (by omega) (by decide)) ?_) (fun f i l hi I hW => br_f (nI_ge (b := 256) hi (by decide)) ?_)
    · have c0 : (0 : Int32).toNatClampNeg = 0 := by decide
      have c1 : (1 : Int32).toNatClampNeg = 1 := by decide
      have c2 : (2 : Int32).toNatClampNeg = 2 := by decide
      have c3 : (3 : Int32).toNatClampNeg = 3 := by decide
      have w0 : vp_in 0 16 := vp_in_iff.mpr (by decide)
      have w1 : vp_in 1 16 := vp_in_iff.mpr (by decide)
      have w2 : vp_in 2 16 := vp_in_iff.mpr (by decide)
      have w3 : vp_in 3 16 := vp_in_iff.mpr (by decide)
      unfold wpX_place
      dsimp only
      rw [c0, c1, c2, c3]
      refine And.intro w0 (nm_e (And.intro w0 (nm_e (And.intro w0 (nm_e ?_)))))
      refine And.intro w1 (nm_e (And.intro w1 (nm_e (And.intro w1 (nm_e ?_)))))
      refine And.intro w2 (nm_e (And.intro w2 (nm_e (And.intro w2 (nm_e ?_)))))
      refine And.intro w3 (nm_r (in_ex s) (And.intro w3 (nm_r (in_ey s) (And.intro w3 (nm_r in_el ?_)))))
      refine rim l (fun x y hx hy => ?_)
      rw [I (x * 16 + y) (by omega)]
      unfold in_r
      rw [if_neg (by omega)]
      exact en_17
    · rw [nI_clamp (n := i) (by omega)]
      refine And.intro (nu_in (by omega) (by decide)) (nm_e (nm_r (nI_1 i) (hW _ (fun j hj => ?_))))
      by_cases e : j = i
      · rw [e, ud_s]
      · rw [ud_n e]; exact I j (by omega)
  exact hs
/-- the reference's constructor behind the clamps -/
theorem in_Y {post : SY → Prop} {s la lm : Int32} (h : post (s, la, lm, in_lv 4, in_px s, in_py s, (fun _ => 0), (fun _ => 0), (fun _ => 0))) :
    ∃ f, wY_init_134 post s la lm f 0 (fun _ => 0) (fun _ => 0) (fun _ => 0) (fun _ => 0) (fun _ => 0) (fun _ => 0) := by
  have hs : ∃ f, (fun f i (l : Nat → Int32) => wY_init_134 post s la lm f (nI i) l (fun _ => 0) (fun _ => 0) (fun _ => 0) (fun _ => 0) (fun _ => 0)) f 0 (fun _ => 0) := by
    refine lo_i (W := fun f i (l : Nat → Int32) => wY_init_134 post s la lm f (nI i) l (fun _ => 0) (fun _ => 0) (fun _ => 0) (fun _ => 0) (fun _ => 0)) (I := fun i l => l = in_lv i) (N := 4) in_l0.symm
      (fun f l I => br_t (nI_le (a := 4) (b := 4) (by omega) (by decide)) ?_) (fun f i l hi I hW => br_f (nI_ge (b := 4) hi (by decide)) ?_)
    · subst I
      exact nm_e (nm_r (in_ux s) (nm_e (nm_r (in_uy s) h)))
    · subst I
      rw [nI_clamp (n := i) (by omega)]
      exact And.intro (nu_in (by omega) (by decide)) (nm_r (in_lu i) (nm_r (nI_1 i) (hW _ rfl)))
  exact hs
theorem in_ldf : ∀ a b : Fin 4, ba_L a b < 16 → ba_L b a < 16 → (a = 0 ∧ b = 2) ∨ (a = 2 ∧ b = 0) := by decide
theorem in_ld {m : Int} {P : Nat → Int × Int} (hm : 0 < m) (e0 : P 0 = (0, 0)) (e1 : P 1 = (m, 0)) (e2 : P 2 = (m, m)) (e3 : P 3 = (0, m)) : tr_LD (rh_H P) P [] ba_L := by
  have d1 : ge_D (rh_H P) P 0 2 3 1 = (m * m) * (rh_e 0 + rh_e 2 - rh_e 3 - rh_e 1) := by
    rw [rh_D, e0, e1, e2, e3]
    unfold rh_c ge_o
    simp only
    generalize rh_M = M
    generalize rh_e 0 = f0
    generalize rh_e 1 = f1
    generalize rh_e 2 = f2
    generalize rh_e 3 = f3
    grind
  have q1 : rh_e 0 = 65536 * rh_e 1 := rh_es (k := 0) (by omega)
  have q2 := rh_ep 1
  have q3 : rh_e 3 ≤ rh_e 2 := rh_em (by omega)
  have d2 : 0 ≤ ge_D (rh_H P) P 0 2 3 1 := by
    rw [d1]; exact sg_ww (Int.le_of_lt (sg_pp hm hm)) (by omega)
  intro a b c d h hc h' hd _
  obtain ⟨ha, hb⟩ := ba_lt (show ba_L a b ≤ 16 by omega)
  have k := in_ldf ⟨a, ha⟩ ⟨b, hb⟩ (by show ba_L a b < 16; omega) (by show ba_L b a < 16; omega)
  have k' : (a = 0 ∧ b = 2) ∨ (a = 2 ∧ b = 0) := by
    rcases k with ⟨k1, k2⟩ | ⟨k1, k2⟩
    · exact Or.inl ⟨congrArg Fin.val k1, congrArg Fin.val k2⟩
    · exact Or.inr ⟨congrArg Fin.val k1, congrArg Fin.val k2⟩
  have b1 : ba_L 0 2 = 3 := by decide
  have b2 : ba_L 2 0 = 1 := by decide
  rcases k' with ⟨rfl, rfl⟩ | ⟨rfl, rfl⟩
  · rw [b1] at h; rw [b2] at h'; subst h; subst h'; exact d2
  · rw [b2] at h; rw [b1] at h'; subst h; subst h'
    have : ge_D (rh_H P) P 2 0 1 3 = ge_D (rh_H P) P 0 2 3 1 := by unfold ge_D ge_o; grind
    omega
/-- the first states are related -/
theorem in_R {s : Int32} (h8 : 8 ≤ s.toInt) (h100 : s.toInt ≤ 100) {c d : Nat} (c1 : 1 ≤ c) (c12 : c ≤ 12) (d1 : 1 ≤ d) (d8 : d ≤ 8) {l' : Nat → Int32} (hM : xs_M l' ba_L) :
    i_Rel 3 (s, 3 + nI c, nI d, 0, 0, 0, 0, 0, in_px s, in_py s, in_lv 4, (fun _ => 0), (fun _ => 0), l', (fun _ => 0)) (s, 3 + nI c, nI d, in_lv 4, in_px s, in_py s, (fun _ => 0), (fun _ => 0), (fun _ => 0)) := by
  have z : (0 : Int32).toInt = 0 := rfl
  have hP0 : ((in_px s 0).toInt, (in_py s 0).toInt) = (0, 0) := by unfold in_px in_py; simp
  have hP1 : ((in_px s 1).toInt, (in_py s 1).toInt) = (s.toInt, 0) := by unfold in_px in_py; simp
  have hP2 : ((in_px s 2).toInt, (in_py s 2).toInt) = (s.toInt, s.toInt) := by unfold in_px in_py; simp
  have hP3 : ((in_px s 3).toInt, (in_py s 3).toInt) = (0, s.toInt) := by unfold in_px in_py; simp
  have hp : tr_pt s.toInt (fun k => k < 4) (fun k => ((in_px s k).toInt, (in_py s k).toInt)) := by
    refine ⟨by omega, hP0, hP1, hP2, hP3, fun k hk => hk, fun k hk => by have : k < 4 := hk; omega, fun k hk h4 => by have : k < 4 := hk; omega, fun a b ha hb e => ?_⟩
    have ha : a < 4 := ha
    have hb : b < 4 := hb
    have ea : a = 0 ∨ a = 1 ∨ a = 2 ∨ a = 3 := by omega
    have eb : b = 0 ∨ b = 1 ∨ b = 2 ∨ b = 3 := by omega
    simp only at e
    rcases ea with rfl | rfl | rfl | rfl <;> rcases eb with rfl | rfl | rfl | rfl <;> first | rfl | (exfalso; simp only [hP0, hP1, hP2, hP3, Prod.mk.injEq] at e; omega)
  have hb : ∀ k, ((in_px s k) = 0 ∨ (in_px s k) = s) ∧ ((in_py s k) = 0 ∨ (in_py s k) = s) := by
    intro k
    unfold in_px in_py
    constructor
    · by_cases e1 : k = 1
      · rw [if_pos e1]; exact Or.inr rfl
      · rw [if_neg e1]
        by_cases e2 : k = 2
        · rw [if_pos e2]; exact Or.inr rfl
        · rw [if_neg e2]; exact Or.inl rfl
    · by_cases e1 : k = 2
      · rw [if_pos e1]; exact Or.inr rfl
      · rw [if_neg e1]
        by_cases e2 : k = 3
        · rw [if_pos e2]; exact Or.inr rfl
        · rw [if_neg e2]; exact Or.inl rfl
  have R : rl_R s (3 + nI c) (nI d) 0 (in_px s) (in_py s) (in_lv 4) (fun _ => 0) (fun _ => 0) l' (fun _ => 0) (fun _ => 0) (fun _ => 0) s.toInt (fun k => k < 4) (fun k => ((in_px s k).toInt, (in_py s k).toInt)) ba_L (3 + c) d (fun _ => 0) (fun _ => 0) (fun _ => 0) (fun _ => 0) := by
    refine ⟨⟨rfl, h8⟩, ⟨nI_add 3 c, by omega, by omega⟩, ⟨rfl, d1, d8, by omega⟩, ?_, ?_, ⟨by omega, fun i hi => by omega⟩, hM, ⟨hp, h100, ?_, ba_P hp, in_ld (by omega) hP0 hP1 hP2 hP3⟩, ?_, ?_, ?_, ?_⟩
    · intro k _
      refine ⟨rfl, ?_⟩
      obtain ⟨k1, k2⟩ := hb k
      unfold rb_b
      simp only
      rcases k1 with k1 | k1 <;> rcases k2 with k2 | k2 <;> rw [k1, k2] <;> omega
    · intro k
      unfold in_lv
      by_cases e : k < 4
      · rw [if_pos e]; exact ⟨fun _ => ⟨by omega, by decide⟩, fun _ => e⟩
      · rw [if_neg e]; exact ⟨fun w => absurd w e, fun w => absurd rfl w.2⟩
    · exact ⟨fun s hs => absurd hs List.not_mem_nil, fun s hs => absurd hs List.not_mem_nil⟩
    · intro j _ u; exact absurd rfl u
    · intro Q
      rw [ct_none (Q := fun j => (fun _ => (0 : Int32)) j ≠ 0 ∧ Q ((fun _ => 0) j) ((fun _ => 0) j)) 8 (fun i _ w => w.1 rfl)]
      rfl
    · intro j _ u; exact absurd rfl u
    · intro i j hi; omega
  exact rl_mk (f_walkQ := 0) (f_walkP := 0) (f_walkN := 0) (a_stack := fun _ => 0) R
theorem in_num {x : Int32} {M : Nat} (h0 : (1 : Int32) ≤ x) (hM : x ≤ nI M) (h31 : M < 2000) : ∃ c : Nat, x = nI c ∧ 1 ≤ c ∧ c ≤ M := by
  have e1 : (1 : Int32).toInt = 1 := rfl
  rw [Int32.le_iff_toInt_le, e1] at h0
  have n0 : ¬ x < 0 := fun w => by
    rw [Int32.lt_iff_toInt_lt] at w
    have : (0 : Int32).toInt = 0 := rfl
    omega
  obtain ⟨c, c31, e⟩ := nI_of n0
  subst e
  rw [nI_leI c31 (by omega)] at hM
  rw [nI_toInt c31] at h0
  exact ⟨c, rfl, by omega, hM⟩
theorem i_vc0 (k0 : Int32) (k1 : Int32) (k2 : Int32) : wpX_init (fun u => wpY_init (fun v => i_Rel 3 u v) k0 k1 k2) k0 k1 k2 := by
  -- the last clamp, on both sides
  have lim : ∀ (s : Int32) (c : Nat), 8 ≤ s.toInt → s.toInt ≤ 100 → 1 ≤ c → c ≤ 12 → ∀ (Yi : (SY → Prop) → Prop),
      (∀ post, wY_init_102 post k2 (nI c) 3 s 0 0 (fun _ => 0) (fun _ => 0) (fun _ => 0) (fun _ => 0) (fun _ => 0) (fun _ => 0) → Yi post) →
      ∀ t : SX, wpX_clamp (fun r_34 => (∃ n129 : Nat, wX_init_129 (fun u => Yi (fun v => i_Rel 3 u v)) s (3 + nI c) r_34 0 0 0 0 0 n129 0 (fun _ => 0) (fun _ => 0) (fun _ => 0) (fun _ => 0) (fun _ => 0) (fun _ => 0) (fun _ => 0))) t k2 1 8 := by
    intro s c h8 h100 c1 c12 Yi hY t
    obtain ⟨t1, t2, t3, t4, t5, t6, t7, t8, t9, t10, t11, t12, t13, t14, t15⟩ := t
    refine br_c (fun q1 => br_c (fun q2 => ?_) (fun q2 => ?_)) (fun q1 => ?_)
    · obtain ⟨d, e, d1, d8⟩ := in_num q1 (M := 8) q2 (by omega)
      subst e
      refine in_X (fun l' m' => hY _ (nm_e (br_t q1 (br_t q2 ?_))))
      exact in_Y (in_R h8 h100 c1 c12 d1 d8 m')
    · refine in_X (fun l' m' => hY _ (nm_e (br_t q1 (br_f q2 ?_))))
      exact in_Y (in_R (d := 8) h8 h100 c1 c12 (by omega) (by omega) m')
    · refine in_X (fun l' m' => hY _ (nm_e (br_f q1 ?_)))
      exact in_Y (in_R (d := 1) h8 h100 c1 c12 (by omega) (by omega) m')
  have pts : ∀ s : Int32, 8 ≤ s.toInt → s.toInt ≤ 100 → ∀ (Yi : (SY → Prop) → Prop),
      (∀ post, wY_init_76 post k1 k2 s 0 0 0 (fun _ => 0) (fun _ => 0) (fun _ => 0) (fun _ => 0) (fun _ => 0) (fun _ => 0) → Yi post) →
      ∀ t : SX, wpX_clamp (fun r_17 => ∀ f_last_33 : Int32, f_last_33 = 3 + r_17 → wpX_clamp (fun r_34 => (∃ n129 : Nat, wX_init_129 (fun u => Yi (fun v => i_Rel 3 u v)) s f_last_33 r_34 0 0 0 0 0 n129 0 (fun _ => 0) (fun _ => 0) (fun _ => 0) (fun _ => 0) (fun _ => 0) (fun _ => 0) (fun _ => 0))) (s, f_last_33, 0, 0, 0, 0, 0, 0, (fun _ => 0), (fun _ => 0), (fun _ => 0), (fun _ => 0), (fun _ => 0), (fun _ => 0), (fun _ => 0)) k2 1 8) t k1 1 12 := by
    intro s h8 h100 Yi hY t
    obtain ⟨t1, t2, t3, t4, t5, t6, t7, t8, t9, t10, t11, t12, t13, t14, t15⟩ := t
    refine br_c (fun q1 => br_c (fun q2 => ?_) (fun q2 => ?_)) (fun q1 => ?_)
    · obtain ⟨c, e, c1, c12⟩ := in_num q1 (M := 12) q2 (by omega)
      subst e
      exact nm_e (lim s c h8 h100 c1 c12 Yi (fun post hp => hY post (br_t q1 (br_t q2 hp))) _)
    · exact nm_e (lim s 12 h8 h100 (by omega) (by omega) Yi (fun post hp => hY post (br_t q1 (br_f q2 hp))) _)
    · exact nm_e (lim s 1 h8 h100 (by omega) (by omega) Yi (fun post hp => hY post (br_f q1 hp)) _)
  have e8 : (8 : Int32).toInt = 8 := rfl
  have e100 : (100 : Int32).toInt = 100 := rfl
  unfold wpX_init
  refine br_c (fun q1 => br_c (fun q2 => ?_) (fun q2 => ?_)) (fun q1 => ?_)
  · refine pts k0 ?_ ?_ (fun post => wpY_init post k0 k1 k2) (fun post hp => br_t q1 (br_t q2 hp)) _
    · rw [Int32.le_iff_toInt_le, e8] at q1; exact q1
    · rw [Int32.le_iff_toInt_le, e100] at q2; exact q2
  · exact pts 100 (by rw [e100]; omega) (by rw [e100]; omega) (fun post => wpY_init post k0 k1 k2) (fun post hp => br_t q1 (br_f q2 hp)) _
  · exact pts 8 (by rw [e8]; omega) (by rw [e8]; omega) (fun post => wpY_init post k0 k1 k2) (fun post hp => br_f q1 hp) _
end
