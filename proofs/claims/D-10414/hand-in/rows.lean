section
/-- the set of the first c stretches -/
def zr_S (c : Nat) (lo hi : Nat → Nat) (v : Nat) : Prop := ∃ i, i < c ∧ lo i ≤ v ∧ v ≤ hi i
/-- ascending, never two that touch, all below 1000 -/
def zr_C (c : Nat) (lo hi : Nat → Nat) : Prop := (∀ i, i < c → lo i ≤ hi i ∧ hi i < 1000) ∧ (∀ i j, i < j → j < c → hi i + 1 < lo j)
/-- two arrays hold the set P from place o on, as c stretches -/
def zr_R (o c : Nat) (al ah : Nat → Int32) (P : Nat → Prop) : Prop :=
  ∃ lo hi : Nat → Nat, (∀ i, i < c → al (o + i) = nI (lo i) ∧ ah (o + i) = nI (hi i)) ∧ zr_C c lo hi ∧ ∀ v, P v ↔ zr_S c lo hi v
theorem zr_iff {o c : Nat} {al ah : Nat → Int32} {P Q : Nat → Prop} (h : zr_R o c al ah P) (e : ∀ v, P v ↔ Q v) : zr_R o c al ah Q := by
  obtain ⟨lo, hi, h1, h2, h3⟩ := h
  exact ⟨lo, hi, h1, h2, fun v => (e v).symm.trans (h3 v)⟩
theorem zr_cg {o o' c : Nat} {al ah bl bh : Nat → Int32} {P : Nat → Prop} (h : zr_R o c al ah P) (e : ∀ i, i < c → bl (o' + i) = al (o + i) ∧ bh (o' + i) = ah (o + i)) : zr_R o' c bl bh P := by
  obtain ⟨lo, hi, h1, h2, h3⟩ := h
  exact ⟨lo, hi, fun i hi' => ⟨(e i hi').1.trans (h1 i hi').1, (e i hi').2.trans (h1 i hi').2⟩, h2, h3⟩
theorem zr_nil {o : Nat} {al ah : Nat → Int32} {P : Nat → Prop} (h : ∀ v, ¬ P v) : zr_R o 0 al ah P :=
  ⟨fun _ => 0, fun _ => 0, fun i hi => absurd hi (Nat.not_lt_zero i), ⟨fun i hi => absurd hi (Nat.not_lt_zero i), fun i j _ hj => absurd hj (Nat.not_lt_zero j)⟩, fun v => ⟨fun z => absurd z (h v), fun ⟨i, hi, _⟩ => absurd hi (Nat.not_lt_zero i)⟩⟩
theorem zr_lt {o c : Nat} {al ah : Nat → Int32} {P : Nat → Prop} (h : zr_R o c al ah P) {v : Nat} (hv : P v) : v < 1000 := by
  obtain ⟨lo, hi, h1, h2, h3⟩ := h
  obtain ⟨i, hi', h4, h5⟩ := (h3 v).mp hv
  have := (h2.1 i hi').2
  omega
/-- one more stretch behind the others -/
theorem zr_push {c x y : Nat} {al ah : Nat → Int32} {P Q : Nat → Prop} (h : zr_R 0 c al ah P) (hx : ∀ v, P v → v + 1 < x) (hxy : x ≤ y) (hy : y < 1000) (hQ : ∀ v, Q v ↔ (P v ∨ (x ≤ v ∧ v ≤ y))) : zr_R 0 (c + 1) (upd al c (nI x)) (upd ah c (nI y)) Q := by
  obtain ⟨lo, hi, h1, ⟨h2, h2'⟩, h3⟩ := h
  have hb : ∀ i, i < c → hi i + 1 < x := fun i hi' => hx (hi i) ((h3 (hi i)).mpr ⟨i, hi', (h2 i hi').1, Nat.le_refl _⟩)
  refine ⟨fun i => if i = c then x else lo i, fun i => if i = c then y else hi i, fun i hi' => ?_, ⟨fun i hi' => ?_, fun i j hij hj => ?_⟩, fun v => ?_⟩
  · by_cases e : i = c
    · subst e
      show upd al i (nI x) (0 + i) = nI (if i = i then x else lo i) ∧ upd ah i (nI y) (0 + i) = nI (if i = i then y else hi i)
      rw [if_pos rfl, if_pos rfl, Nat.zero_add]
      exact ⟨pk_us, pk_us⟩
    · have := h1 i (by omega)
      rw [Nat.zero_add] at this
      show upd al c (nI x) (0 + i) = nI (if i = c then x else lo i) ∧ upd ah c (nI y) (0 + i) = nI (if i = c then y else hi i)
      rw [Nat.zero_add, if_neg e, if_neg e]
      exact ⟨(pk_un e).trans this.1, (pk_un e).trans this.2⟩
  · show (if i = c then x else lo i) ≤ (if i = c then y else hi i) ∧ (if i = c then y else hi i) < 1000
    by_cases e : i = c
    · rw [if_pos e, if_pos e]
      exact ⟨hxy, hy⟩
    · rw [if_neg e, if_neg e]
      exact h2 i (by omega)
  · show (if i = c then y else hi i) + 1 < (if j = c then x else lo j)
    have e : ¬ i = c := by omega
    rw [if_neg e]
    by_cases e' : j = c
    · rw [if_pos e']
      exact hb i (by omega)
    · rw [if_neg e']
      exact h2' i j hij (by omega)
  · rw [hQ v, h3 v]
    constructor
    · intro z
      rcases z with ⟨i, hi', z1, z2⟩ | ⟨z1, z2⟩
      · refine ⟨i, by omega, ?_⟩
        show (if i = c then x else lo i) ≤ v ∧ v ≤ (if i = c then y else hi i)
        rw [if_neg (by omega), if_neg (by omega)]
        exact ⟨z1, z2⟩
      · refine ⟨c, by omega, ?_⟩
        show (if c = c then x else lo c) ≤ v ∧ v ≤ (if c = c then y else hi c)
        rw [if_pos rfl, if_pos rfl]
        exact ⟨z1, z2⟩
    · intro z
      obtain ⟨i, hi', z⟩ := z
      have z' : (if i = c then x else lo i) ≤ v ∧ v ≤ (if i = c then y else hi i) := z
      by_cases e : i = c
      · rw [if_pos e, if_pos e] at z'
        exact Or.inr z'
      · rw [if_neg e, if_neg e] at z'
        exact Or.inl ⟨i, by omega, z'⟩
/-! how many -/
noncomputable def zr_b (p : Prop) : Nat := @ite Nat p (Classical.propDecidable p) 1 0
theorem zr_b1 {p : Prop} (h : p) : zr_b p = 1 := by
  unfold zr_b
  rw [if_pos h]
theorem zr_b0 {p : Prop} (h : ¬ p) : zr_b p = 0 := by
  unfold zr_b
  rw [if_neg h]
noncomputable def zr_cd (P : Nat → Prop) : Nat → Nat
  | 0 => 0
  | n + 1 => zr_cd P n + zr_b (P n)
theorem zr_ie {P Q U M : Nat → Prop} (hU : ∀ v, U v ↔ (P v ∨ Q v)) (hM : ∀ v, M v ↔ (P v ∧ Q v)) (n : Nat) : zr_cd P n + zr_cd Q n = zr_cd U n + zr_cd M n := by
  induction n with
  | zero => rfl
  | succ n ih =>
    show (zr_cd P n + zr_b (P n)) + (zr_cd Q n + zr_b (Q n)) = (zr_cd U n + zr_b (U n)) + (zr_cd M n + zr_b (M n))
    have key : zr_b (P n) + zr_b (Q n) = zr_b (U n) + zr_b (M n) := by
      by_cases p : P n
      · by_cases q : Q n
        · rw [zr_b1 p, zr_b1 q, zr_b1 ((hU n).mpr (Or.inl p)), zr_b1 ((hM n).mpr ⟨p, q⟩)]
        · rw [zr_b1 p, zr_b0 q, zr_b1 ((hU n).mpr (Or.inl p)), zr_b0 (fun z => q ((hM n).mp z).2)]
      · by_cases q : Q n
        · rw [zr_b0 p, zr_b1 q, zr_b1 ((hU n).mpr (Or.inr q)), zr_b0 (fun z => p ((hM n).mp z).1)]
        · rw [zr_b0 p, zr_b0 q, zr_b0 (fun z => ((hU n).mp z).elim p q), zr_b0 (fun z => p ((hM n).mp z).1)]
    omega
theorem zr_cde {P Q : Nat → Prop} (h : ∀ v, P v ↔ Q v) (n : Nat) : zr_cd P n = zr_cd Q n := by
  have e : P = Q := funext fun v => propext (h v)
  rw [e]
theorem zr_cdn {P : Nat → Prop} (h : ∀ v, ¬ P v) (n : Nat) : zr_cd P n = 0 := by
  induction n with
  | zero => rfl
  | succ n ih =>
    show zr_cd P n + zr_b (P n) = 0
    rw [ih, zr_b0 (h n)]
theorem zr_cdl (P : Nat → Prop) (n : Nat) : zr_cd P n ≤ n := by
  induction n with
  | zero => exact Nat.le_refl 0
  | succ n ih =>
    show zr_cd P n + zr_b (P n) ≤ n + 1
    by_cases p : P n
    · rw [zr_b1 p]
      omega
    · rw [zr_b0 p]
      omega
theorem zr_cc {P Q : Nat → Prop} {n : Nat} (h : ∀ v, v < n → (Q v ↔ ¬ P v)) : zr_cd Q n + zr_cd P n = n := by
  induction n with
  | zero => rfl
  | succ n ih =>
    have i := ih (fun v hv => h v (by omega))
    show (zr_cd Q n + zr_b (Q n)) + (zr_cd P n + zr_b (P n)) = n + 1
    by_cases p : P n
    · rw [zr_b1 p, zr_b0 (fun z => (h n (by omega)).mp z p)]
      omega
    · rw [zr_b0 p, zr_b1 ((h n (by omega)).mpr p)]
      omega
theorem zr_cdi (x y : Nat) (n : Nat) (h : x ≤ y) : zr_cd (fun v => x ≤ v ∧ v ≤ y) n = min n (y + 1) - min n x := by
  induction n with
  | zero => simp [zr_cd]
  | succ n ih =>
    show zr_cd (fun v => x ≤ v ∧ v ≤ y) n + zr_b (x ≤ n ∧ n ≤ y) = min (n + 1) (y + 1) - min (n + 1) x
    rw [ih]
    by_cases p : x ≤ n ∧ n ≤ y
    · rw [zr_b1 p]
      omega
    · rw [zr_b0 p]
      omega
def zr_sum (lo hi : Nat → Nat) : Nat → Nat
  | 0 => 0
  | k + 1 => zr_sum lo hi k + (hi k - lo k + 1)
theorem zr_Ss {k : Nat} {lo hi : Nat → Nat} (v : Nat) : zr_S (k + 1) lo hi v ↔ (zr_S k lo hi v ∨ (lo k ≤ v ∧ v ≤ hi k)) := by
  constructor
  · rintro ⟨i, h1, h2⟩
    by_cases e : i = k
    · subst e
      exact Or.inr h2
    · exact Or.inl ⟨i, by omega, h2⟩
  · intro z
    rcases z with ⟨i, h1, h2⟩ | h2
    · exact ⟨i, by omega, h2⟩
    · exact ⟨k, by omega, h2⟩
theorem zr_S0 {lo hi : Nat → Nat} (v : Nat) : ¬ zr_S 0 lo hi v := fun ⟨i, h, _⟩ => Nat.not_lt_zero i h
theorem zr_card {c : Nat} {lo hi : Nat → Nat} (h : zr_C c lo hi) : ∀ k, k ≤ c → zr_cd (zr_S k lo hi) 1000 = zr_sum lo hi k := by
  intro k
  induction k with
  | zero => intro _; exact zr_cdn zr_S0 1000
  | succ k ih =>
    intro hk
    have e := zr_ie (P := zr_S k lo hi) (Q := fun v => lo k ≤ v ∧ v ≤ hi k) (U := zr_S (k + 1) lo hi) (M := fun _ => False) zr_Ss (fun v => ⟨fun z => z.elim, fun ⟨⟨i, z1, z2, z3⟩, z4, z5⟩ => by
      have := h.2 i k z1 (by omega)
      omega⟩) 1000
    have h2 := h.1 k (by omega)
    rw [ih (by omega), zr_cdi _ _ _ h2.1, zr_cdn (P := fun _ => False) (fun _ z => z)] at e
    show zr_cd (zr_S (k + 1) lo hi) 1000 = zr_sum lo hi k + (hi k - lo k + 1)
    omega
/-- where a stretch begins -/
def zr_T (P : Nat → Prop) (v : Nat) : Prop := P v ∧ ∀ w, v = w + 1 → ¬ P w
theorem zr_Tl {c : Nat} {lo hi : Nat → Nat} (h : zr_C c lo hi) (v : Nat) : zr_T (zr_S c lo hi) v ↔ ∃ i, i < c ∧ v = lo i := by
  constructor
  · rintro ⟨⟨i, h1, h2, h3⟩, h4⟩
    refine ⟨i, h1, ?_⟩
    by_cases e : v = lo i
    · exact e
    · exact absurd (⟨i, h1, by omega, by omega⟩ : zr_S c lo hi (v - 1)) (h4 (v - 1) (by omega))
  · rintro ⟨i, h1, h2⟩
    have hi' := h.1 i h1
    refine ⟨⟨i, h1, by omega, by omega⟩, ?_⟩
    rintro w hw ⟨j, z1, z2, z3⟩
    rcases Nat.lt_trichotomy j i with q | q | q
    · have := h.2 j i q h1
      omega
    · subst q
      omega
    · have := h.2 i j q z1
      omega
theorem zr_stc {c : Nat} {lo hi : Nat → Nat} (h : zr_C c lo hi) : zr_cd (zr_T (zr_S c lo hi)) 1000 = c := by
  rw [zr_cde (zr_Tl h)]
  have key : ∀ k, k ≤ c → zr_cd (fun v => ∃ i, i < k ∧ v = lo i) 1000 = k := by
    intro k
    induction k with
    | zero => intro _; exact zr_cdn (fun v ⟨i, z, _⟩ => Nat.not_lt_zero i z) 1000
    | succ k ih =>
      intro hk
      have e := zr_ie (P := fun v => ∃ i, i < k ∧ v = lo i) (Q := fun v => lo k ≤ v ∧ v ≤ lo k) (U := fun v => ∃ i, i < k + 1 ∧ v = lo i) (M := fun _ => False) (fun v => ⟨fun ⟨i, z1, z2⟩ => by
        by_cases q : i = k
        · subst q
          exact Or.inr ⟨by omega, by omega⟩
        · exact Or.inl ⟨i, by omega, z2⟩, fun z => by
        rcases z with ⟨i, z1, z2⟩ | z
        · exact ⟨i, by omega, z2⟩
        · exact ⟨k, by omega, by omega⟩⟩) (fun v => ⟨fun z => z.elim, fun ⟨⟨i, z1, z2⟩, z4, z5⟩ => by
        have q := h.2 i k z1 (by omega)
        have := h.1 i (by omega)
        omega⟩) 1000
      have h2 := h.1 k (by omega)
      rw [ih (by omega), zr_cdi _ _ _ (Nat.le_refl _), zr_cdn (P := fun _ => False) (fun _ z => z)] at e
      omega
  exact key c (Nat.le_refl c)
/-- the number of stretches is the set's own -/
theorem zr_uniq {o o' c c' : Nat} {al ah bl bh : Nat → Int32} {P : Nat → Prop} (h : zr_R o c al ah P) (h' : zr_R o' c' bl bh P) : c = c' := by
  obtain ⟨lo, hi, _, h2, h3⟩ := h
  obtain ⟨lo', hi', _, h2', h3'⟩ := h'
  have e1 : P = zr_S c lo hi := funext fun v => propext (h3 v)
  have e2 : P = zr_S c' lo' hi' := funext fun v => propext (h3' v)
  rw [← zr_stc h2, ← zr_stc h2', ← e1, ← e2]
theorem zr_rcd {c : Nat} {P : Nat → Prop} {lo hi : Nat → Nat} (h2 : zr_C c lo hi) (h3 : ∀ v, P v ↔ zr_S c lo hi v) : zr_cd P 1000 = zr_sum lo hi c := by
  rw [zr_cde h3, zr_card h2 c (Nat.le_refl c)]
/-- a set within itself, stretch by stretch -/
theorem zr_in {c c' : Nat} {lo hi lo' hi' : Nat → Nat} (h : zr_C c lo hi) (h' : zr_C c' lo' hi') (e : ∀ v, zr_S c lo hi v → zr_S c' lo' hi' v) {i : Nat} (hi0 : i < c) : ∃ j, j < c' ∧ lo' j ≤ lo i ∧ lo i ≤ hi' j ∧ hi i ≤ hi' j := by
  obtain ⟨j, j1, j2, j3⟩ := e (lo i) ⟨i, hi0, Nat.le_refl _, (h.1 i hi0).1⟩
  refine ⟨j, j1, j2, j3, ?_⟩
  rcases Nat.lt_or_ge (hi' j) (hi i) with z | z
  · obtain ⟨k, k1, k2, k3⟩ := e (hi' j + 1) ⟨i, hi0, by omega, by omega⟩
    rcases Nat.lt_trichotomy k j with q | q | q
    · have := h'.2 k j q j1
      omega
    · subst q
      omega
    · have := h'.2 j k q k1
      omega
  · exact z
/-! small numbers -/
theorem zr_sh : ∀ k, k < 1001 → (nI k).toInt16.toInt32 = nI k := by decide +kernel
theorem zr_by : ∀ k, k < 128 → (nI k).toInt8.toInt32 = nI k := by decide +kernel
theorem zr_vs {k : Nat} (h : k < 1001) : vp_nar .short (nI k) = nI k := by rw [vp_nar_short, zr_sh k h]
theorem zr_ix (d i : Nat) : (24 : Int32) * nI d + nI i = nI (24 * d + i) := by
  rw [show (24 : Int32) = nI 24 from rfl, pk_mul, nI_add]
theorem zr_i0 (d : Nat) : (24 : Int32) * nI d = nI (24 * d) := by
  rw [show (24 : Int32) = nI 24 from rfl, pk_mul]
theorem zr_m1 {h l : Nat} (hh : h < 2000) (hl : l < 2000) : nI h < nI l - 1 ↔ h + 1 < l := by
  rw [Int32.lt_iff_toInt_lt, show (1 : Int32) = nI 1 from rfl, pk_sub_toInt (by omega) (by omega), nI_toInt (by omega)]
  omega
theorem zr_lm {x y : Nat} (hx : x < 2000) (hy : y < 2000) : nI x ≤ nI y - 1 ↔ x < y := by
  rw [Int32.le_iff_toInt_le, show (1 : Int32) = nI 1 from rfl, pk_sub_toInt (by omega) (by omega), nI_toInt (by omega)]
  omega
theorem zr_pm {y : Nat} (h : 0 < y) : nI y - 1 = nI (y - 1) := by
  rw [show (1 : Int32) = nI 1 from rfl, pk_sub h]
theorem zr_st {f : Nat → Int32} {x v w : Int32} {k : Nat} (hx : x = nI k) (hk : k < 2 ^ 31) (hv : v = w) : upd f x.toNatClampNeg v = upd f k w := by rw [hx, nI_clamp hk, hv]
theorem zr_rd {f : Nat → Int32} {x w : Int32} {k : Nat} (hx : x = nI k) (hk : k < 2 ^ 31) (hf : f k = w) : f x.toNatClampNeg = w := by rw [hx, nI_clamp hk, hf]
theorem zr_rn {f : Nat → Int32} {k w : Nat} (hk : k < 2 ^ 31) (hw : w < 1001) (hf : f k = nI w) : vp_nar .short (f (nI k).toNatClampNeg) = nI w := by rw [nI_clamp hk, hf, zr_vs hw]
end
section
section
variable {ft fa fM fN fD fl fh fL fH fm : Int32} {a1 a2 a3 a4 a5 a6 a7 a8 : Nat → Int32}
/-- the four rows hold the sets F -/
def zr_A (a2 a3 a4 : Nat → Int32) (F : Nat → Nat → Prop) : Prop := ∀ d, d < 4 → ∃ c, c ≤ 24 ∧ a2 d = nI c ∧ zr_R (24 * d) c a3 a4 (F d)
def zr_set (F : Nat → Nat → Prop) (d : Nat) (Q : Nat → Prop) : Nat → Nat → Prop := fun e => if e = d then Q else F e
theorem zr_set1 {F : Nat → Nat → Prop} {d : Nat} {Q : Nat → Prop} : zr_set F d Q d = Q := if_pos rfl
theorem zr_set0 {F : Nat → Nat → Prop} {d e : Nat} {Q : Nat → Prop} (h : e ≠ d) : zr_set F d Q e = F e := if_neg h
theorem zr_rng {post : Int32 → Prop} {d : Nat} (hd : d < 4) (h : post 1) : wpX_isRange post (ft, fa, fM, fN, fD, fl, fh, fL, fH, fm, a1, a2, a3, a4, a5, a6, a7, a8) (nI d) :=
  pk_lt d 0 (fun z => absurd z (by omega)) (fun _ => pk_lt 3 d (fun z => absurd z (by omega)) (fun _ => h))
theorem zr_rngE {post : Int32 → Prop} {p0 : Int32} (h0 : post 0) (h1 : ∀ d, d < 4 → p0 = nI d → post 1) : wpX_isRange post (ft, fa, fM, fN, fD, fl, fh, fL, fH, fm, a1, a2, a3, a4, a5, a6, a7, a8) p0 := by
  refine br_c (fun _ => h0) (fun z => br_c (fun _ => h0) (fun z2 => ?_))
  obtain ⟨j, hj, e⟩ := nI_of z
  subst e
  have : ¬ 3 < j := fun q => z2 (nI_lt q hj)
  exact h1 j (by omega) rfl
theorem zr_keep {post : Int32 → St1 → Prop} {d c : Nat} {Q : Nat → Prop} {F : Nat → Nat → Prop} (hd : d < 4) (hc : c ≤ 24) (hm : zr_R 0 c a5 a6 Q) (hA : zr_A a2 a3 a4 F)
    (H : ∀ b2 b3 b4, zr_A b2 b3 b4 (zr_set F d Q) → post 1 (ft, fa, fM, fN, fD, fl, fh, fL, fH, nI c, a1, b2, b3, b4, a5, a6, a7, a8)) : wpX_keep post (ft, fa, fM, fN, fD, fl, fh, fL, fH, nI c, a1, a2, a3, a4, a5, a6, a7, a8) (nI d) := by
  obtain ⟨lo, hi, h1, h2, h3⟩ := hm
  have g5 : ∀ i, i < c → a5 i = nI (lo i) ∧ a6 i = nI (hi i) := fun i q => by
    have := h1 i q
    rwa [Nat.zero_add] at this
  show ∃ n, wX_keep_2 post (nI d) ft fa fM fN fD fl fh fL fH (nI c) n 0 a1 a2 a3 a4 a5 a6 a7 a8
  refine pk_loop (fun n i (s : (Nat → Int32) × (Nat → Int32)) => wX_keep_2 post (nI d) ft fa fM fN fD fl fh fL fH (nI c) n (nI i) a1 a2 s.1 s.2 a5 a6 a7 a8) (fun i s => (∀ j, j < i → s.1 (24 * d + j) = nI (lo j) ∧ s.2 (24 * d + j) = nI (hi j)) ∧ (∀ j, (j < 24 * d ∨ 24 * d + 24 ≤ j) → s.1 j = a3 j ∧ s.2 j = a4 j)) c 0 (a3, a4) (by omega) ⟨fun j hj => absurd hj (by omega), fun j _ => ⟨rfl, rfl⟩⟩ ?_ ?_
  · intro n s hs
    refine pk_le c c (fun _ => ⟨pk_in d 4 hd, nm_r (zr_st rfl (by omega) (zr_by c (by omega))) (H _ _ _ (fun e he => ?_))⟩) (fun z => absurd z (by omega))
    by_cases q : e = d
    · subst q
      refine ⟨c, hc, pk_us, ?_⟩
      rw [zr_set1]
      exact ⟨lo, hi, hs.1, h2, h3⟩
    · obtain ⟨ce, k1, k2, k3⟩ := hA e he
      refine ⟨ce, k1, (pk_un q).trans k2, ?_⟩
      rw [zr_set0 q]
      exact zr_cg k3 (fun i hi' => hs.2 (24 * e + i) (by omega))
  · intro n i s hi' hs hw
    have gl := (h2.1 i hi')
    have gi := g5 i hi'
    have t := hw (upd s.1 (24 * d + i) (nI (lo i)), upd s.2 (24 * d + i) (nI (hi i))) ⟨fun j hj => ?_, fun j hj => ?_⟩
    · exact pk_le c i (fun z => absurd z (by omega)) (fun _ => ⟨pk_in i 64 (by omega), pk_in (24 * d + i) 96 (by omega) (zr_ix d i), nm_r (zr_st (zr_ix d i) (by omega) (zr_rn (by omega) (by omega) gi.1)) ⟨pk_in i 64 (by omega), pk_in (24 * d + i) 96 (by omega) (zr_ix d i), nm_r (zr_st (zr_ix d i) (by omega) (zr_rn (by omega) (by omega) gi.2)) (nm_r (nI_1 i) t)⟩⟩)
    · show upd s.1 (24 * d + i) (nI (lo i)) (24 * d + j) = nI (lo j) ∧ upd s.2 (24 * d + i) (nI (hi i)) (24 * d + j) = nI (hi j)
      by_cases e : j = i
      · subst e
        exact ⟨pk_us, pk_us⟩
      · have q : 24 * d + j ≠ 24 * d + i := by omega
        rw [pk_un q, pk_un q]
        exact hs.1 j (by omega)
    · show upd s.1 (24 * d + i) (nI (lo i)) j = a3 j ∧ upd s.2 (24 * d + i) (nI (hi i)) j = a4 j
      have q : j ≠ 24 * d + i := by omega
      rw [pk_un q, pk_un q]
      exact hs.2 j hj
theorem zr_append {post : St1 → Prop} {c x y : Nat} {p0 p1 : Int32} (hc : c < 64) (hx : x ≤ 1000) (hy : y ≤ 1000) (e0 : p0 = nI x) (e1 : p1 = nI y - 1)
    (H0 : y ≤ x → post (ft, fa, fM, fN, fD, fl, fh, fL, fH, nI c, a1, a2, a3, a4, a5, a6, a7, a8)) (H1 : x < y → post (ft, fa, fM, fN, fD, fl, fh, fL, fH, nI (c + 1), a1, a2, a3, a4, upd a5 c (nI x), upd a6 c (nI (y - 1)), a7, a8)) : wpX_append post (ft, fa, fM, fN, fD, fl, fh, fL, fH, nI c, a1, a2, a3, a4, a5, a6, a7, a8) p0 p1 := by
  subst e0 e1
  refine ek_if (zr_lm (by omega) (by omega)) (fun z => ?_) (fun z => H0 (by omega))
  exact ⟨pk_in c 64 hc, nm_r (zr_st rfl (by omega) (zr_sh x (by omega))) ⟨pk_in c 64 hc, nm_r (zr_st rfl (by omega) (by rw [zr_pm (by omega), zr_sh (y - 1) (by omega)])) (nm_r (nI_1 c) (H1 z))⟩⟩
/-! count -/
theorem zr_count {post : Int32 → Prop} {d : Nat} {F : Nat → Nat → Prop} (hd : d < 4) (hA : zr_A a2 a3 a4 F) (H : post (nI (zr_cd (F d) 1000))) : wpX_count post (ft, fa, fM, fN, fD, fl, fh, fL, fH, fm, a1, a2, a3, a4, a5, a6, a7, a8) (nI d) := by
  obtain ⟨c, hc, e2, lo, hi, h1, h2, h3⟩ := hA d hd
  have hs := zr_rcd h2 h3
  have hb := zr_cdl (F d) 1000
  have mono : ∀ k, k ≤ c → zr_sum lo hi k ≤ 1000 := fun k hk => by
    rw [← zr_card h2 k hk]
    exact zr_cdl _ _
  unfold wpX_count
  refine zr_rng hd (br_f (by decide) (nm_r (zr_i0 d) ?_))
  refine pk_loop (σ := Unit) (fun n i _ => wX_count_17 post (nI d) ft fa fM fN fD fl fh fL fH fm a1 a2 a3 a4 a5 a6 a7 a8 n (nI (zr_sum lo hi i)) (nI (24 * d + i))) (fun _ _ => True) c 0 () (by omega) trivial ?_ ?_
  · intro n s _
    refine ⟨pk_in d 4 hd, pk_le (24 * d + c) (24 * d + c) (fun _ => ?_) (fun z => absurd z (by omega)) (hx := ?_)⟩
    · rw [← hs]
      exact H
    · rw [nI_clamp (by omega), e2]
      exact zr_ix d c
  · intro n i s hi' _ hw
    have g := h1 i hi'
    have gl := h2.1 i hi'
    refine ⟨pk_in d 4 hd, pk_le (24 * d + c) (24 * d + i) (fun z => absurd z (by omega)) (fun _ => ⟨pk_in (24 * d + i) 96 (by omega), pk_in (24 * d + i) 96 (by omega), nm_r (e' := nI (zr_sum lo hi (i + 1))) ?_ (nm_r (nI_1 _) (hw () trivial))⟩) (hx := ?_)⟩
    · rw [nI_clamp (by omega), g.1, g.2, pk_sub gl.1, nI_1, nI_add]
      rfl
    · rw [nI_clamp (by omega), e2]
      exact zr_ix d c
/-! within -/
theorem zr_around {post : Int32 → Prop} {d j v c : Nat} {lo hi : Nat → Nat} {p1 : Int32} (hd : d < 4) (hc : c ≤ 24) (e2 : a2 d = nI c) (h1 : ∀ i, i < c → a3 (24 * d + i) = nI (lo i) ∧ a4 (24 * d + i) = nI (hi i)) (h2 : zr_C c lo hi)
    (hj : j < c) (hv1 : lo j ≤ v) (hv2 : v ≤ hi j) (ev : p1 = nI v) (H : post (nI (24 * d + j))) : wpX_stretchAround post (ft, fa, fM, fN, fD, fl, fh, fL, fH, fm, a1, a2, a3, a4, a5, a6, a7, a8) (nI d) p1 := by
  subst ev
  unfold wpX_stretchAround
  refine nm_r (zr_i0 d) ⟨pk_in d 4 hd, nm_r (e' := nI (24 * d + c)) ?_ ?_⟩
  · rw [nI_clamp (by omega), e2, nI_add]
  have hjv := h2.1 j hj
  refine loop_m (σ := Nat × Nat) (fun n s => wX_stretchAround_15 post (nI d) (nI v) ft fa fM fN fD fl fh fL fH fm a1 a2 a3 a4 a5 a6 a7 a8 n (nI (24 * d + s.1)) (nI (24 * d + s.2))) (fun s => s.1 ≤ j ∧ j ≤ s.2 ∧ s.2 ≤ c) (fun s => s.2 - s.1) ?_ (0, c) ⟨by omega, by omega, by omega⟩
  intro n s hs hw
  obtain ⟨p, q⟩ := s
  have hs1 : p ≤ j := hs.1
  have hs2 : j ≤ q := hs.2.1
  have hs3 : q ≤ c := hs.2.2
  show wX_stretchAround_15 post (nI d) (nI v) ft fa fM fN fD fl fh fL fH fm a1 a2 a3 a4 a5 a6 a7 a8 (n + 1) (nI (24 * d + p)) (nI (24 * d + q))
  refine pk_le (24 * d + q) (24 * d + p) (fun z => ?_) (fun z => ⟨by decide, nm_r (e' := nI (24 * d + (p + q) / 2)) ?_ ?_⟩)
  · have e : p = j := by omega
    subst e
    refine ⟨pk_in d 4 hd, pk_eq (24 * d + p) (24 * d + c) (fun z => absurd z (by omega)) (fun _ => ⟨pk_in (24 * d + p) 96 (by omega), pk_le (lo p) v (fun _ => H) (fun z => absurd z (by omega)) (hx := zr_rd rfl (by omega) (h1 p hj).1)⟩) (hy := ?_)⟩
    rw [nI_clamp (by omega), e2]
    exact zr_ix d c
  · rw [nI_add, show (2 : Int32) = nI 2 from rfl, pk_div (by omega) (by omega) (by omega)]
    exact congrArg nI (by omega)
  · have hm : (p + q) / 2 < c := by omega
    have gm := h2.1 _ hm
    refine ⟨pk_in (24 * d + (p + q) / 2) 96 (by omega), pk_le v (hi ((p + q) / 2)) (fun z => hw (p, (p + q) / 2) ?_ ?_) (fun z => nm_r (nI_1 _) (hw ((p + q) / 2 + 1, q) ?_ ?_)) (hy := zr_rd rfl (by omega) (h1 _ hm).2)⟩
    · show p ≤ j ∧ j ≤ (p + q) / 2 ∧ (p + q) / 2 ≤ c
      refine ⟨by omega, ?_, by omega⟩
      rcases Nat.lt_or_ge ((p + q) / 2) j with g | g
      · have := h2.2 _ j g hj
        omega
      · exact g
    · show (p + q) / 2 - p < q - p
      omega
    · show (p + q) / 2 + 1 ≤ j ∧ j ≤ q ∧ q ≤ c
      refine ⟨?_, by omega, by omega⟩
      rcases Nat.lt_trichotomy ((p + q) / 2) j with g | g | g
      · omega
      · rw [g] at z
        omega
      · have := h2.2 j _ g hm
        omega
    · show q - ((p + q) / 2 + 1) < q - p
      omega
theorem zr_within {post : Int32 → Prop} {a b : Nat} {F : Nat → Nat → Prop} (ha : a < 4) (hb : b < 4) (hA : zr_A a2 a3 a4 F) (e : ∀ v, F a v → F b v) (H : post 1) : wpX_within post (ft, fa, fM, fN, fD, fl, fh, fL, fH, fm, a1, a2, a3, a4, a5, a6, a7, a8) (nI a) (nI b) := by
  obtain ⟨c, hc, e2, lo, hi, h1, h2, h3⟩ := hA a ha
  obtain ⟨c', hc', e2', lo', hi', h1', h2', h3'⟩ := hA b hb
  unfold wpX_within
  refine zr_rng ha (br_f (by decide) (zr_rng hb (br_f (by decide) (nm_r (zr_i0 a) ?_))))
  refine pk_loop (σ := Unit) (fun n i _ => wX_within_23 post (nI a) (nI b) ft fa fM fN fD fl fh fL fH fm a1 a2 a3 a4 a5 a6 a7 a8 n (nI (24 * a + i))) (fun _ _ => True) c 0 () (by omega) trivial ?_ ?_
  · intro n s _
    refine ⟨pk_in a 4 ha, pk_le (24 * a + c) (24 * a + c) (fun _ => H) (fun z => absurd z (by omega)) (hx := ?_)⟩
    rw [nI_clamp (by omega), e2]
    exact zr_ix a c
  · intro n i s hi0 _ hw
    obtain ⟨j, j1, j2, j3, j4⟩ := zr_in h2 h2' (fun v hv => (h3' v).mp (e v ((h3 v).mpr hv))) hi0
    have gj := h2'.1 j j1
    refine ⟨pk_in a 4 ha, pk_le (24 * a + c) (24 * a + i) (fun z => absurd z (by omega)) (fun _ => ⟨pk_in (24 * a + i) 96 (by omega), zr_around hb hc' e2' h1' h2' j1 j2 j3 (zr_rd rfl (by omega) (h1 i hi0).1) ?_⟩) (hx := ?_)⟩
    · exact br_f (nI_pos (by omega)) ⟨pk_in (24 * b + j) 96 (by omega), pk_in (24 * a + i) 96 (by omega), pk_le (hi i) (hi' j) (fun _ => nm_r (nI_1 _) (hw () trivial)) (fun z => absurd z (by omega)) (hx := zr_rd rfl (by omega) (h1 i hi0).2) (hy := zr_rd rfl (by omega) (h1' j j1).2)⟩
    · rw [nI_clamp (by omega), e2]
      exact zr_ix a c
end
end
section
/-- what unite's loop keeps: i stretches seen, [l, h] the melted interval, n stretches in the next arrays, p: placed -/
def zr_UI (lo hi : Nat → Nat) (c x y i l h n p : Nat) (b7 b8 : Nat → Int32) : Prop :=
  l ≤ h ∧ h < 1000 ∧ n ≤ i + p ∧ ∃ N : Nat → Prop, zr_R 0 n b7 b8 N ∧
    ((p = 0 ∧ (∀ v, N v → zr_S i lo hi v ∧ v + 1 < l) ∧ (∀ v, (N v ∨ (l ≤ v ∧ v ≤ h)) ↔ (zr_S i lo hi v ∨ (x ≤ v ∧ v ≤ y)))) ∨
     (p = 1 ∧ (∀ k, i ≤ k → k < c → h + 1 < lo k) ∧ (∀ v, N v → v ≤ h ∨ zr_S i lo hi v) ∧ (∀ v, N v ↔ (zr_S i lo hi v ∨ (x ≤ v ∧ v ≤ y)))))
theorem zr_Sb {c i v : Nat} {lo hi : Nat → Nat} (h : zr_C c lo hi) (hi' : i < c) (hv : zr_S i lo hi v) : v + 1 < lo i := by
  obtain ⟨k, k1, k2, k3⟩ := hv
  have := h.2 k i k1 hi'
  omega
theorem zr_ui0 {lo hi : Nat → Nat} {c x y : Nat} {b7 b8 : Nat → Int32} (hxy : x ≤ y) (hy : y < 1000) : zr_UI lo hi c x y 0 x y 0 0 b7 b8 :=
  ⟨hxy, hy, Nat.le_refl _, fun _ => False, zr_nil (fun _ z => z), Or.inl ⟨rfl, fun _ z => z.elim, fun v => ⟨fun z => Or.inr (z.elim (fun q => q.elim) id), fun z => Or.inr (z.elim (fun q => absurd q (zr_S0 v)) id)⟩⟩⟩
/-- placed ahead of stretch i -/
theorem zr_uiP {lo hi : Nat → Nat} {c x y i l h n : Nat} {b7 b8 : Nat → Int32} (hC : zr_C c lo hi) (hi' : i < c) (u : zr_UI lo hi c x y i l h n 0 b7 b8) (g : h + 1 < lo i) : zr_UI lo hi c x y i l h (n + 1) 1 (upd b7 n (nI l)) (upd b8 n (nI h)) := by
  obtain ⟨u1, u2, u3, N, u4, u5⟩ := u
  rcases u5 with ⟨_, v1, v2⟩ | ⟨z, _⟩
  · refine ⟨u1, u2, by omega, fun v => N v ∨ (l ≤ v ∧ v ≤ h), zr_push u4 (fun v z => (v1 v z).2) u1 u2 (fun v => Iff.rfl), Or.inr ⟨rfl, fun k k1 k2 => ?_, fun v z => ?_, v2⟩⟩
    · rcases Nat.eq_or_lt_of_le k1 with q | q
      · subst q
        exact g
      · have := hC.2 i k q k2
        have := hC.1 i hi'
        omega
    · rcases z with z | z
      · exact Or.inr (v1 v z).1
      · exact Or.inl z.2
  · omega
/-- placed: every later stretch is copied -/
theorem zr_ui1 {lo hi : Nat → Nat} {c x y i l h n : Nat} {b7 b8 : Nat → Int32} (hC : zr_C c lo hi) (hi' : i < c) (u : zr_UI lo hi c x y i l h n 1 b7 b8) : h + 1 < lo i ∧ zr_UI lo hi c x y (i + 1) l h (n + 1) 1 (upd b7 n (nI (lo i))) (upd b8 n (nI (hi i))) := by
  obtain ⟨u1, u2, u3, N, u4, u5⟩ := u
  rcases u5 with ⟨z, _⟩ | ⟨_, v1, v2, v3⟩
  · omega
  · have g := v1 i (Nat.le_refl i) hi'
    have gi := hC.1 i hi'
    refine ⟨g, u1, u2, by omega, fun v => N v ∨ (lo i ≤ v ∧ v ≤ hi i), zr_push u4 (fun v z => ?_) gi.1 gi.2 (fun v => Iff.rfl), Or.inr ⟨rfl, fun k k1 k2 => v1 k (by omega) k2, fun v z => ?_, fun v => ?_⟩⟩
    · rcases v2 v z with q | q
      · omega
      · exact zr_Sb hC hi' q
    · rcases z with z | z
      · rcases v2 v z with q | q
        · exact Or.inl q
        · exact Or.inr ((zr_Ss v).mpr (Or.inl q))
      · exact Or.inr ((zr_Ss v).mpr (Or.inr z))
    · constructor
      · intro z
        rcases z with z | z
        · rcases (v3 v).mp z with q | q
          · exact Or.inl ((zr_Ss v).mpr (Or.inl q))
          · exact Or.inr q
        · exact Or.inl ((zr_Ss v).mpr (Or.inr z))
      · intro z
        rcases z with z | z
        · rcases (zr_Ss v).mp z with q | q
          · exact Or.inl ((v3 v).mpr (Or.inl q))
          · exact Or.inr q
        · exact Or.inl ((v3 v).mpr (Or.inr z))
/-- not placed, stretch i lies below: it is copied -/
theorem zr_uiC {lo hi : Nat → Nat} {c x y i l h n : Nat} {b7 b8 : Nat → Int32} (hC : zr_C c lo hi) (hi' : i < c) (u : zr_UI lo hi c x y i l h n 0 b7 b8) (g : hi i + 1 < l) : zr_UI lo hi c x y (i + 1) l h (n + 1) 0 (upd b7 n (nI (lo i))) (upd b8 n (nI (hi i))) := by
  obtain ⟨u1, u2, u3, N, u4, u5⟩ := u
  rcases u5 with ⟨_, v1, v2⟩ | ⟨z, _⟩
  · have gi := hC.1 i hi'
    refine ⟨u1, u2, by omega, fun v => N v ∨ (lo i ≤ v ∧ v ≤ hi i), zr_push u4 (fun v z => zr_Sb hC hi' (v1 v z).1) gi.1 gi.2 (fun v => Iff.rfl), Or.inl ⟨rfl, fun v z => ?_, fun v => ?_⟩⟩
    · rcases z with z | z
      · exact ⟨(zr_Ss v).mpr (Or.inl (v1 v z).1), (v1 v z).2⟩
      · exact ⟨(zr_Ss v).mpr (Or.inr z), by omega⟩
    · constructor
      · intro z
        rcases z with (z | z) | z
        · exact Or.inl ((zr_Ss v).mpr (Or.inl (v1 v z).1))
        · exact Or.inl ((zr_Ss v).mpr (Or.inr z))
        · rcases (v2 v).mp (Or.inr z) with q | q
          · exact Or.inl ((zr_Ss v).mpr (Or.inl q))
          · exact Or.inr q
      · intro z
        rcases z with z | z
        · rcases (zr_Ss v).mp z with q | q
          · rcases (v2 v).mpr (Or.inl q) with r | r
            · exact Or.inl (Or.inl r)
            · exact Or.inr r
          · exact Or.inl (Or.inr q)
        · rcases (v2 v).mpr (Or.inr z) with r | r
          · exact Or.inl (Or.inl r)
          · exact Or.inr r
  · omega
/-- stretch i melts into it -/
theorem zr_uiM {lo hi : Nat → Nat} {c x y i l h n : Nat} {b7 b8 : Nat → Int32} (hC : zr_C c lo hi) (hi' : i < c) (u : zr_UI lo hi c x y i l h n 0 b7 b8) (g : ¬ hi i + 1 < l) (g' : ¬ h + 1 < lo i) : zr_UI lo hi c x y (i + 1) (min l (lo i)) (max h (hi i)) n 0 b7 b8 := by
  obtain ⟨u1, u2, u3, N, u4, u5⟩ := u
  rcases u5 with ⟨_, v1, v2⟩ | ⟨z, _⟩
  · have gi := hC.1 i hi'
    refine ⟨by omega, by omega, by omega, N, u4, Or.inl ⟨rfl, fun v z => ⟨(zr_Ss v).mpr (Or.inl (v1 v z).1), ?_⟩, fun v => ?_⟩⟩
    · have q := zr_Sb hC hi' (v1 v z).1
      have := (v1 v z).2
      omega
    · constructor
      · intro z
        rcases z with z | z
        · exact Or.inl ((zr_Ss v).mpr (Or.inl (v1 v z).1))
        · have k : (l ≤ v ∧ v ≤ h) ∨ (lo i ≤ v ∧ v ≤ hi i) := by omega
          rcases k with k | k
          · rcases (v2 v).mp (Or.inr k) with q | q
            · exact Or.inl ((zr_Ss v).mpr (Or.inl q))
            · exact Or.inr q
          · exact Or.inl ((zr_Ss v).mpr (Or.inr k))
      · intro z
        rcases z with z | z
        · rcases (zr_Ss v).mp z with q | q
          · rcases (v2 v).mpr (Or.inl q) with r | r
            · exact Or.inl r
            · exact Or.inr (by omega)
          · exact Or.inr (by omega)
        · rcases (v2 v).mpr (Or.inr z) with r | r
          · exact Or.inl r
          · exact Or.inr (by omega)
  · omega
section
variable {ft fa fM fN fD fl fh fL fH fm : Int32} {a1 a2 a3 a4 a5 a6 a7 a8 : Nat → Int32}
theorem zr_u210 {post : St1 → Prop} {n : Nat} {P : Nat → Prop} (hn : n ≤ 64) (hR : zr_R 0 n a7 a8 P) (H : ∀ b5 b6, zr_R 0 n b5 b6 P → post (ft, fa, fM, fN, fD, fl, fh, fL, fH, nI n, a1, a2, a3, a4, b5, b6, a7, a8)) : ∃ k, wX_unite_210 post (nI n) ft fa fM fN fD fl fh fL fH fm k 0 a1 a2 a3 a4 a5 a6 a7 a8 := by
  obtain ⟨lo, hi, h1, h2, h3⟩ := hR
  have g5 : ∀ i, i < n → a7 i = nI (lo i) ∧ a8 i = nI (hi i) := fun i q => by
    have := h1 i q
    rwa [Nat.zero_add] at this
  refine pk_loop (fun k i (s : (Nat → Int32) × (Nat → Int32)) => wX_unite_210 post (nI n) ft fa fM fN fD fl fh fL fH fm k (nI i) a1 a2 a3 a4 s.1 s.2 a7 a8) (fun i s => ∀ j, j < i → s.1 j = nI (lo j) ∧ s.2 j = nI (hi j)) n 0 (a5, a6) (by omega) (fun j hj => absurd hj (by omega)) ?_ ?_
  · intro k s hs
    exact pk_le n n (fun _ => H _ _ ⟨lo, hi, fun i hi' => by rw [Nat.zero_add]; exact hs i hi', h2, h3⟩) (fun z => absurd z (by omega))
  · intro k i s hi' hs hw
    have gl := (h2.1 i hi')
    have gi := g5 i hi'
    have t := hw (upd s.1 i (nI (lo i)), upd s.2 i (nI (hi i))) (fun j hj => ?_)
    · exact pk_le n i (fun z => absurd z (by omega)) (fun _ => ⟨pk_in i 64 (by omega), pk_in i 64 (by omega), nm_r (zr_st rfl (by omega) (zr_rn (by omega) (by omega) gi.1)) ⟨pk_in i 64 (by omega), pk_in i 64 (by omega), nm_r (zr_st rfl (by omega) (zr_rn (by omega) (by omega) gi.2)) (nm_r (nI_1 i) t)⟩⟩)
    · show upd s.1 i (nI (lo i)) j = nI (lo j) ∧ upd s.2 i (nI (hi i)) j = nI (hi j)
      by_cases e : j = i
      · subst e
        exact ⟨pk_us, pk_us⟩
      · rw [pk_un e, pk_un e]
        exact hs j (by omega)
theorem zr_u100 {post : St1 → Prop} {J : Int32 → Int32 → Int32 → Int32 → Int32 → (Nat → Int32) → (Nat → Int32) → (Nat → Int32) → (Nat → Int32) → (Nat → Int32) → (Nat → Int32) → (Nat → Int32) → (Nat → Int32) → Prop} {x3 x4 x6 : Int32} {n i a b : Nat} (hi : i < 64) (hn : n < 64) (e5 : a5 i = nI a) (e6 : a6 i = nI b) (hl : a < 1001) (hh : b < 1001)
    (H : J x3 x4 (nI (n + 1)) x6 (nI (i + 1)) a1 a2 a3 a4 a5 a6 (upd a7 n (nI a)) (upd a8 n (nI b))) : wX_unite_100 post J x3 x4 (nI n) x6 (nI i) ft fa fM fN fD fl fh fL fH fm a1 a2 a3 a4 a5 a6 a7 a8 := by
  unfold wX_unite_100
  exact ⟨pk_in i 64 hi, pk_in n 64 hn, nm_r (zr_st rfl (by omega) (zr_rn (by omega) hl e5)) ⟨pk_in i 64 hi, pk_in n 64 hn, nm_r (zr_st rfl (by omega) (zr_rn (by omega) hh e6)) (nm_r (nI_1 n) (nm_r (nI_1 i) H))⟩⟩
theorem zr_u153 {post : St1 → Prop} {J : Int32 → Int32 → Int32 → Int32 → Int32 → (Nat → Int32) → (Nat → Int32) → (Nat → Int32) → (Nat → Int32) → (Nat → Int32) → (Nat → Int32) → (Nat → Int32) → (Nat → Int32) → Prop} {x3 x5 x6 : Int32} {h i b : Nat} (hi : i < 64) (e6 : a6 i = nI b) (hh : h < 1001) (hb : b < 1001)
    (H : J x3 (nI (max h b)) x5 x6 (nI (i + 1)) a1 a2 a3 a4 a5 a6 a7 a8) : wX_unite_153 post J x3 (nI h) x5 x6 (nI i) ft fa fM fN fD fl fh fL fH fm a1 a2 a3 a4 a5 a6 a7 a8 := by
  unfold wX_unite_153
  rw [nI_clamp (show i < 2 ^ 31 by omega), e6]
  refine ⟨pk_in i 64 hi, pk_le b h (fun z => nm_r (nI_1 i) ?_) (fun z => ⟨pk_in i 64 hi, nm_e (nm_r (nI_1 i) ?_)⟩)⟩
  · rw [Nat.max_eq_left z] at H
    exact H
  · rw [Nat.max_eq_right (by omega)] at H
    exact H
theorem zr_u73 {post : St1 → Prop} {J : Int32 → Int32 → Int32 → Int32 → Int32 → (Nat → Int32) → (Nat → Int32) → (Nat → Int32) → (Nat → Int32) → (Nat → Int32) → (Nat → Int32) → (Nat → Int32) → (Nat → Int32) → Prop} {x6 : Int32} {l h n i a b : Nat} (hi : i < 64) (hn : n < 64) (e5 : a5 i = nI a) (e6 : a6 i = nI b) (hl : l < 1001) (hh : h < 1000) (ha : a < 1001) (hb : b < 1001)
    (H1 : (b + 1 < l ∨ h + 1 < a) → J (nI l) (nI h) (nI (n + 1)) x6 (nI (i + 1)) a1 a2 a3 a4 a5 a6 (upd a7 n (nI a)) (upd a8 n (nI b)))
    (H2 : ¬ b + 1 < l → ¬ h + 1 < a → J (nI (min l a)) (nI (max h b)) (nI n) x6 (nI (i + 1)) a1 a2 a3 a4 a5 a6 a7 a8) : wX_unite_73 post J (nI l) (nI h) (nI n) x6 (nI i) ft fa fM fN fD fl fh fL fH fm a1 a2 a3 a4 a5 a6 a7 a8 := by
  unfold wX_unite_73
  rw [nI_clamp (show i < 2 ^ 31 by omega), e5, e6]
  refine ⟨pk_in i 64 hi, ek_if (zr_m1 (by omega) (by omega)) (fun z => zr_u100 hi hn e5 e6 ha hb (H1 (Or.inl z))) (fun z => ⟨pk_in i 64 hi, pk_le a (h + 1) (fun z2 => ⟨pk_in i 64 hi, pk_le l a (fun z3 => zr_u153 hi e6 (by omega) hb ?_) (fun z3 => ⟨pk_in i 64 hi, nm_e (zr_u153 hi e6 (by omega) hb ?_)⟩)⟩) (fun z2 => zr_u100 hi hn e5 e6 ha hb (H1 (Or.inr z2))) (hy := nI_1 h)⟩)⟩
  · have t := H2 z (by omega)
    rw [Nat.min_eq_left z3] at t
    exact t
  · have t := H2 z (by omega)
    rw [Nat.min_eq_right (by omega)] at t
    exact t
theorem zr_unite {post : St1 → Prop} {c x y : Nat} {p0 p1 : Int32} {P : Nat → Prop} (hc : c ≤ 60) (hR : zr_R 0 c a5 a6 P) (hx : x ≤ 1000) (hy : y ≤ 1000) (e0 : p0 = nI x) (e1 : p1 = nI y - 1)
    (H : ∀ c' b5 b6 b7 b8, c' ≤ c + 1 → zr_R 0 c' b5 b6 (fun v => P v ∨ (x ≤ v ∧ v < y)) → post (ft, fa, fM, fN, fD, fl, fh, fL, fH, nI c', a1, a2, a3, a4, b5, b6, b7, b8)) : wpX_unite post (ft, fa, fM, fN, fD, fl, fh, fL, fH, nI c, a1, a2, a3, a4, a5, a6, a7, a8) p0 p1 := by
  subst e0 e1
  refine ek_if (zr_lm (by omega) (by omega)) (fun hxy => ?_) (fun z => H c a5 a6 a7 a8 (by omega) (zr_iff hR (fun v => ⟨fun q => Or.inl q, fun q => q.elim id (fun q => absurd q.1 (by omega))⟩)))
  rw [zr_pm (by omega)]
  obtain ⟨lo, hi, h1, h2, h3⟩ := hR
  have g5 : ∀ i, i < c → a5 i = nI (lo i) ∧ a6 i = nI (hi i) := fun i q => by
    have := h1 i q
    rwa [Nat.zero_add] at this
  have fin : ∀ n b7 b8, n ≤ c + 1 → zr_R 0 n b7 b8 (fun v => zr_S c lo hi v ∨ (x ≤ v ∧ v ≤ y - 1)) → ∃ k, wX_unite_210 post (nI n) ft fa fM fN fD fl fh fL fH (nI c) k 0 a1 a2 a3 a4 a5 a6 b7 b8 := by
    intro n b7 b8 hn hN
    refine zr_u210 (by omega) hN (fun b5 b6 hb => H n b5 b6 b7 b8 hn (zr_iff hb (fun v => ?_)))
    rw [h3 v]
    constructor
    · intro z
      rcases z with z | z
      · exact Or.inl z
      · exact Or.inr (by omega)
    · intro z
      rcases z with z | z
      · exact Or.inl z
      · exact Or.inr (by omega)
  refine pk_loop (σ := Nat × Nat × Nat × Nat × (Nat → Int32) × (Nat → Int32)) (fun k i s => wX_unite_20 post ft fa fM fN fD fl fh fL fH (nI c) k (nI s.1) (nI s.2.1) (nI s.2.2.1) (nI s.2.2.2.1) (nI i) a1 a2 a3 a4 a5 a6 s.2.2.2.2.1 s.2.2.2.2.2) (fun i s => zr_UI lo hi c x (y - 1) i s.1 s.2.1 s.2.2.1 s.2.2.2.1 s.2.2.2.2.1 s.2.2.2.2.2) c 0 (x, y - 1, 0, 0, a7, a8) (by omega) (zr_ui0 (by omega) (by omega)) ?_ ?_
  · intro k s hs
    obtain ⟨l, h, n, p, b7, b8⟩ := s
    have u : zr_UI lo hi c x (y - 1) c l h n p b7 b8 := hs
    show wX_unite_20 post ft fa fM fN fD fl fh fL fH (nI c) (k + 1) (nI l) (nI h) (nI n) (nI p) (nI c) a1 a2 a3 a4 a5 a6 b7 b8
    obtain ⟨u1, u2, u3, N, u4, u5⟩ := u
    refine pk_le c c (fun _ => ?_) (fun z => absurd z (by omega))
    rcases u5 with ⟨z, v1, v2⟩ | ⟨z, _, _, v3⟩
    · subst z
      refine br_t rfl ⟨pk_in n 64 (by omega), nm_r (zr_st rfl (by omega) (zr_sh l (by omega))) ⟨pk_in n 64 (by omega), nm_r (zr_st rfl (by omega) (zr_sh h (by omega))) (nm_r (nI_1 n) (fin (n + 1) _ _ (by omega) ?_))⟩⟩
      exact zr_push u4 (fun v q => (v1 v q).2) u1 u2 (fun v => (v2 v).symm)
    · subst z
      exact br_f (by decide) (fin n _ _ (by omega) (zr_iff u4 v3))
  · intro k i s hi' hs hw
    obtain ⟨l, h, n, p, b7, b8⟩ := s
    have u : zr_UI lo hi c x (y - 1) i l h n p b7 b8 := hs
    have w : ∀ l h n p b7 b8, zr_UI lo hi c x (y - 1) (i + 1) l h n p b7 b8 → wX_unite_20 post ft fa fM fN fD fl fh fL fH (nI c) k (nI l) (nI h) (nI n) (nI p) (nI (i + 1)) a1 a2 a3 a4 a5 a6 b7 b8 := fun l h n p b7 b8 q => hw (l, h, n, p, b7, b8) q
    show wX_unite_20 post ft fa fM fN fD fl fh fL fH (nI c) (k + 1) (nI l) (nI h) (nI n) (nI p) (nI i) a1 a2 a3 a4 a5 a6 b7 b8
    have u1 := u.1
    have u2 := u.2.1
    have u3 := u.2.2.1
    have gl := h2.1 i hi'
    have gi := g5 i hi'
    have up : p = 0 ∨ p = 1 := by
      obtain ⟨_, _, _, N, _, q⟩ := u
      rcases q with q | q
      · exact Or.inl q.1
      · exact Or.inr q.1
    refine pk_le c i (fun z => absurd z (by omega)) (fun _ => ⟨pk_in i 64 (by omega), pk_le (lo i) (h + 1) (fun z => ?_) (fun z => ?_) (hx := zr_rd rfl (by omega) gi.1) (hy := nI_1 h)⟩)
    · rcases up with e | e
      · subst e
        exact zr_u73 (by omega) (by omega) gi.1 gi.2 (by omega) u2 (by omega) (by omega) (fun q => w _ _ _ 0 _ _ (zr_uiC h2 hi' u (by omega))) (fun q q' => w _ _ _ 0 _ _ (zr_uiM h2 hi' u q q'))
      · subst e
        have := (zr_ui1 h2 hi' u).1
        omega
    · rcases up with e | e
      · subst e
        have u' := zr_uiP h2 hi' u z
        refine br_t rfl ⟨pk_in n 64 (by omega), nm_r (zr_st rfl (by omega) (zr_sh l (by omega))) ⟨pk_in n 64 (by omega), nm_r (zr_st rfl (by omega) (zr_sh h (by omega))) (nm_r (nI_1 n) ?_)⟩⟩
        exact zr_u73 (by omega) (by omega) gi.1 gi.2 (by omega) u2 (by omega) (by omega) (fun q => w _ _ _ 1 _ _ (zr_ui1 h2 hi' u').2) (fun q q' => absurd z q')
      · subst e
        refine br_f (by decide) ?_
        exact zr_u73 (by omega) (by omega) gi.1 gi.2 (by omega) u2 (by omega) (by omega) (fun q => w _ _ _ 1 _ _ (zr_ui1 h2 hi' u).2) (fun q q' => absurd z q')
end
end
section
section
variable {ft fa fM fN fD fl fh fL fH fm : Int32} {a1 a2 a3 a4 a5 a6 a7 a8 : Nat → Int32}
theorem zr_j82 {post : Int32 → St1 → Prop} {d b c0 : Nat} {F : Nat → Nat → Prop} {P0 : Nat → Prop} (hd : d < 4) (hb : b < 4) (hA : zr_A a2 a3 a4 F) (hc0 : c0 ≤ 24) (hR : zr_R 0 c0 a5 a6 P0)
    (H0 : ∀ m b5 b6 b7 b8, post 0 (ft, fa, fM, fN, fD, fl, fh, fL, fH, m, a1, a2, a3, a4, b5, b6, b7, b8))
    (H1 : ∀ m b2 b3 b4 b5 b6 b7 b8, zr_A b2 b3 b4 (zr_set F d (fun v => P0 v ∨ F b v)) → post 1 (ft, fa, fM, fN, fD, fl, fh, fL, fH, m, a1, b2, b3, b4, b5, b6, b7, b8)) : ∃ k, wX_join_82 post (nI d) (nI b) k 0 ft fa fM fN fD fl fh fL fH (nI c0) a1 a2 a3 a4 a5 a6 a7 a8 := by
  obtain ⟨cb, hcb, e2, lo, hi, h1, h2, h3⟩ := hA b hb
  refine pk_loop (σ := Nat × (Nat → Int32) × (Nat → Int32) × (Nat → Int32) × (Nat → Int32)) (fun k i s => wX_join_82 post (nI d) (nI b) k (nI i) ft fa fM fN fD fl fh fL fH (nI s.1) a1 a2 a3 a4 s.2.1 s.2.2.1 s.2.2.2.1 s.2.2.2.2) (fun i s => s.1 ≤ c0 + i ∧ zr_R 0 s.1 s.2.1 s.2.2.1 (fun v => P0 v ∨ zr_S i lo hi v)) cb 0 (c0, a5, a6, a7, a8) (by omega) ⟨by omega, zr_iff hR (fun v => ⟨Or.inl, fun z => z.elim id (fun q => absurd q (zr_S0 v))⟩)⟩ ?_ ?_
  · intro k s hs
    obtain ⟨c, b5, b6, b7, b8⟩ := s
    have hs1 : c ≤ c0 + cb := hs.1
    have hs2 : zr_R 0 c b5 b6 (fun v => P0 v ∨ zr_S cb lo hi v) := hs.2
    show wX_join_82 post (nI d) (nI b) (k + 1) (nI cb) ft fa fM fN fD fl fh fL fH (nI c) a1 a2 a3 a4 b5 b6 b7 b8
    refine ⟨pk_in b 4 hb, pk_le cb cb (fun _ => pk_lt 24 c (fun _ => H0 _ _ _ _ _) (fun z => ?_)) (fun z => absurd z (by omega)) (hx := zr_rd rfl (by omega) e2)⟩
    exact zr_keep hd z (zr_iff hs2 (fun v => (or_congr Iff.rfl (h3 v)).symm)) hA (fun b2 b3 b4 hA' => br_f (by decide) (H1 _ _ _ _ _ _ _ _ hA'))
  · intro k i s hi' hs hw
    obtain ⟨c, b5, b6, b7, b8⟩ := s
    have hs1 : c ≤ c0 + i := hs.1
    have hs2 : zr_R 0 c b5 b6 (fun v => P0 v ∨ zr_S i lo hi v) := hs.2
    show wX_join_82 post (nI d) (nI b) (k + 1) (nI i) ft fa fM fN fD fl fh fL fH (nI c) a1 a2 a3 a4 b5 b6 b7 b8
    have gi := h1 i hi'
    have gl := h2.1 i hi'
    refine ⟨pk_in b 4 hb, pk_le cb i (fun z => absurd z (by omega)) (fun _ => ⟨pk_in (24 * b + i) 96 (by omega) (zr_ix b i), pk_in (24 * b + i) 96 (by omega) (zr_ix b i), ?_⟩) (hx := zr_rd rfl (by omega) e2)⟩
    refine zr_unite (x := lo i) (y := hi i + 1) (by omega) hs2 (by omega) (by omega) (zr_rd (zr_ix b i) (by omega) gi.1) ((zr_rd (zr_ix b i) (by omega) gi.2).trans (nI_pred (hi i)).symm) (fun c' b5' b6' b7' b8' q1 q2 => nm_r (nI_1 i) (hw (c', b5', b6', b7', b8') ⟨by show c' ≤ c0 + (i + 1); omega, zr_iff q2 (fun v => ?_)⟩))
    constructor
    · intro z
      rcases z with (z | z) | z
      · exact Or.inl z
      · exact Or.inr ((zr_Ss v).mpr (Or.inl z))
      · exact Or.inr ((zr_Ss v).mpr (Or.inr (by omega)))
    · intro z
      rcases z with z | z
      · exact Or.inl (Or.inl z)
      · rcases (zr_Ss v).mp z with q | q
        · exact Or.inl (Or.inr q)
        · exact Or.inr (by omega)
theorem zr_join {post : Int32 → St1 → Prop} {d a b : Nat} {F : Nat → Nat → Prop} (hd : d < 4) (ha : a < 4) (hb : b < 4) (hA : zr_A a2 a3 a4 F)
    (H0 : ∀ m b5 b6 b7 b8, post 0 (ft, fa, fM, fN, fD, fl, fh, fL, fH, m, a1, a2, a3, a4, b5, b6, b7, b8))
    (H1 : ∀ m b2 b3 b4 b5 b6 b7 b8, zr_A b2 b3 b4 (zr_set F d (fun v => F a v ∨ F b v)) → post 1 (ft, fa, fM, fN, fD, fl, fh, fL, fH, m, a1, b2, b3, b4, b5, b6, b7, b8)) : wpX_join post (ft, fa, fM, fN, fD, fl, fh, fL, fH, fm, a1, a2, a3, a4, a5, a6, a7, a8) (nI d) (nI a) (nI b) := by
  obtain ⟨ca, hca, e2, lo, hi, h1, h2, h3⟩ := hA a ha
  unfold wpX_join
  refine zr_rng hd (br_f (by decide) (zr_rng ha (br_f (by decide) (zr_rng hb (br_f (by decide) ?_)))))
  refine pk_loop (σ := Nat × (Nat → Int32) × (Nat → Int32) × (Nat → Int32) × (Nat → Int32)) (fun k i s => wX_join_34 post (nI d) (nI a) (nI b) k (nI i) ft fa fM fN fD fl fh fL fH (nI s.1) a1 a2 a3 a4 s.2.1 s.2.2.1 s.2.2.2.1 s.2.2.2.2) (fun i s => s.1 ≤ i ∧ zr_R 0 s.1 s.2.1 s.2.2.1 (zr_S i lo hi)) ca 0 (0, a5, a6, a7, a8) (by omega) ⟨by omega, zr_nil zr_S0⟩ ?_ ?_
  · intro k s hs
    obtain ⟨c, b5, b6, b7, b8⟩ := s
    have hs1 : c ≤ ca := hs.1
    have hs2 : zr_R 0 c b5 b6 (zr_S ca lo hi) := hs.2
    show wX_join_34 post (nI d) (nI a) (nI b) (k + 1) (nI ca) ft fa fM fN fD fl fh fL fH (nI c) a1 a2 a3 a4 b5 b6 b7 b8
    refine ⟨pk_in a 4 ha, pk_le ca ca (fun _ => ?_) (fun z => absurd z (by omega)) (hx := zr_rd rfl (by omega) e2)⟩
    exact zr_j82 hd hb hA (by omega) (zr_iff hs2 (fun v => (h3 v).symm)) H0 H1
  · intro k i s hi' hs hw
    obtain ⟨c, b5, b6, b7, b8⟩ := s
    have hs1 : c ≤ i := hs.1
    have hs2 : zr_R 0 c b5 b6 (zr_S i lo hi) := hs.2
    show wX_join_34 post (nI d) (nI a) (nI b) (k + 1) (nI i) ft fa fM fN fD fl fh fL fH (nI c) a1 a2 a3 a4 b5 b6 b7 b8
    have gi := h1 i hi'
    have gl := h2.1 i hi'
    refine ⟨pk_in a 4 ha, pk_le ca i (fun z => absurd z (by omega)) (fun _ => ⟨pk_in (24 * a + i) 96 (by omega) (zr_ix a i), pk_in (24 * a + i) 96 (by omega) (zr_ix a i), ?_⟩) (hx := zr_rd rfl (by omega) e2)⟩
    refine zr_unite (x := lo i) (y := hi i + 1) (by omega) hs2 (by omega) (by omega) (zr_rd (zr_ix a i) (by omega) gi.1) ((zr_rd (zr_ix a i) (by omega) gi.2).trans (nI_pred (hi i)).symm) (fun c' b5' b6' b7' b8' q1 q2 => nm_r (nI_1 i) (hw (c', b5', b6', b7', b8') ⟨by show c' ≤ i + 1; omega, zr_iff q2 (fun v => ?_)⟩))
    rw [zr_Ss v]
    constructor
    · intro z
      rcases z with z | z
      · exact Or.inl z
      · exact Or.inr (by omega)
    · intro z
      rcases z with z | z
      · exact Or.inl z
      · exact Or.inr (by omega)
/-! invert -/
theorem zr_invert {post : Int32 → St1 → Prop} {d a : Nat} {F : Nat → Nat → Prop} (hd : d < 4) (ha : a < 4) (hA : zr_A a2 a3 a4 F)
    (H0 : ∀ c b5 b6, 24 < c → zr_R 0 c b5 b6 (fun v => v < 1000 ∧ ¬ F a v) → post 0 (ft, fa, fM, fN, fD, fl, fh, fL, fH, nI c, a1, a2, a3, a4, b5, b6, a7, a8))
    (H1 : ∀ m b2 b3 b4 b5 b6, zr_A b2 b3 b4 (zr_set F d (fun v => v < 1000 ∧ ¬ F a v)) → post 1 (ft, fa, fM, fN, fD, fl, fh, fL, fH, m, a1, b2, b3, b4, b5, b6, a7, a8)) : wpX_invert post (ft, fa, fM, fN, fD, fl, fh, fL, fH, fm, a1, a2, a3, a4, a5, a6, a7, a8) (nI d) (nI a) := by
  obtain ⟨ca, hca, e2, lo, hi, h1, h2, h3⟩ := hA a ha
  unfold wpX_invert
  refine zr_rng hd (br_f (by decide) (zr_rng ha (br_f (by decide) ?_)))
  refine pk_loop (σ := Nat × Nat × (Nat → Int32) × (Nat → Int32)) (fun k i s => wX_invert_28 post (nI d) (nI a) k (nI s.1) (nI i) ft fa fM fN fD fl fh fL fH (nI s.2.1) a1 a2 a3 a4 s.2.2.1 s.2.2.2 a7 a8)
    (fun i s => s.2.1 ≤ i ∧ s.1 ≤ 1000 ∧ (∀ k, k < i → hi k < s.1) ∧ (∀ w, s.1 = w + 1 → F a w) ∧ (∀ k, i ≤ k → k < ca → s.1 ≤ lo k) ∧ zr_R 0 s.2.1 s.2.2.1 s.2.2.2 (fun v => v < s.1 ∧ ¬ F a v)) ca 0 (0, 0, a5, a6) (by omega)
    ⟨Nat.le_refl 0, Nat.zero_le _, fun k hk => absurd hk (by omega), fun w hw => absurd hw (by show ¬ 0 = w + 1; omega), fun k _ _ => Nat.zero_le _, zr_nil (fun v z => absurd z.1 (by show ¬ v < 0; omega))⟩ ?_ ?_
  · intro k s hs
    obtain ⟨x, c, b5, b6⟩ := s
    obtain ⟨s1, s2, s3, s4, s5, s6⟩ := hs
    have s1 : c ≤ ca := s1
    have s2 : x ≤ 1000 := s2
    have s3 : ∀ k, k < ca → hi k < x := s3
    have s4 : ∀ w, x = w + 1 → F a w := s4
    have s6 : zr_R 0 c b5 b6 (fun v => v < x ∧ ¬ F a v) := s6
    show wX_invert_28 post (nI d) (nI a) (k + 1) (nI x) (nI ca) ft fa fM fN fD fl fh fL fH (nI c) a1 a2 a3 a4 b5 b6 a7 a8
    have off : ∀ v, x ≤ v → ¬ F a v := fun v hv z => by
      obtain ⟨j, j1, j2, j3⟩ := (h3 v).mp z
      have := s3 j j1
      omega
    have fin : ∀ c b5 b6, c ≤ 25 → zr_R 0 c b5 b6 (fun v => v < 1000 ∧ ¬ F a v) → (24 < nI c → post 0 (ft, fa, fM, fN, fD, fl, fh, fL, fH, nI c, a1, a2, a3, a4, b5, b6, a7, a8)) ∧ (¬ 24 < nI c → wpX_keep (fun r u => (r = 0 → post 0 u) ∧ (¬ r = 0 → post 1 u)) (ft, fa, fM, fN, fD, fl, fh, fL, fH, nI c, a1, a2, a3, a4, b5, b6, a7, a8) (nI d)) := fun c b5 b6 hc hR =>
      pk_lt 24 c (fun z => H0 c b5 b6 z hR) (fun z => zr_keep hd z hR hA (fun b2 b3 b4 hA' => br_f (by decide) (H1 _ _ _ _ _ _ hA')))
    refine ⟨pk_in a 4 ha, pk_le ca ca (fun _ => ?_) (fun z => absurd z (by omega)) (hx := zr_rd rfl (by omega) e2)⟩
    refine zr_append (x := x) (y := 1000) (by omega) s2 (by omega) rfl (by decide) (fun z => ?_) (fun z => ?_)
    · refine fin c b5 b6 (by omega) (zr_iff s6 (fun v => ⟨fun q => ⟨by omega, q.2⟩, fun q => ⟨by omega, q.2⟩⟩))
    · refine fin (c + 1) _ _ (by omega) (zr_push s6 (fun v q => ?_) (by omega) (by omega) (fun v => ?_))
      · by_cases e : v + 1 = x
        · exact absurd (s4 v e.symm) q.2
        · have := q.1
          omega
      · constructor
        · intro q
          by_cases e : v < x
          · exact Or.inl ⟨e, q.2⟩
          · exact Or.inr (by omega)
        · intro q
          rcases q with q | q
          · exact ⟨by omega, q.2⟩
          · exact ⟨by omega, off v q.1⟩
  · intro k i s hi' hs hw
    obtain ⟨x, c, b5, b6⟩ := s
    obtain ⟨s1, s2, s3, s4, s5, s6⟩ := hs
    have s1 : c ≤ i := s1
    have s2 : x ≤ 1000 := s2
    have s3 : ∀ k, k < i → hi k < x := s3
    have s4 : ∀ w, x = w + 1 → F a w := s4
    have s5 : ∀ k, i ≤ k → k < ca → x ≤ lo k := s5
    have s6 : zr_R 0 c b5 b6 (fun v => v < x ∧ ¬ F a v) := s6
    have gi := h1 i hi'
    have gl := h2.1 i hi'
    have g5 := s5 i (Nat.le_refl i) hi'
    have w : ∀ c b5 b6, c ≤ i + 1 → zr_R 0 c b5 b6 (fun v => v < hi i + 1 ∧ ¬ F a v) → wX_invert_28 post (nI d) (nI a) k (nI (hi i + 1)) (nI (i + 1)) ft fa fM fN fD fl fh fL fH (nI c) a1 a2 a3 a4 b5 b6 a7 a8 := fun c b5 b6 q1 q2 => hw (hi i + 1, c, b5, b6) ⟨q1, by show hi i + 1 ≤ 1000; omega, fun j hj => by
        show hi j < hi i + 1
        by_cases e : j = i
        · subst e
          omega
        · have := s3 j (by omega)
          omega, fun w hw => (h3 w).mpr ⟨i, hi', by have hw : hi i + 1 = w + 1 := hw; omega, by have hw : hi i + 1 = w + 1 := hw; omega⟩, fun j j1 j2 => by
        show hi i + 1 ≤ lo j
        have := h2.2 i j (by omega) j2
        omega, q2⟩
    have mid : ∀ v, x ≤ v → v < lo i → ¬ F a v := fun v v1 v2 z => by
      obtain ⟨j, j1, j2, j3⟩ := (h3 v).mp z
      rcases Nat.lt_trichotomy j i with q | q | q
      · have := s3 j q
        omega
      · subst q
        omega
      · have := h2.2 i j q j1
        omega
    have inn : ∀ v, lo i ≤ v → v ≤ hi i → F a v := fun v v1 v2 => (h3 v).mpr ⟨i, hi', v1, v2⟩
    show wX_invert_28 post (nI d) (nI a) (k + 1) (nI x) (nI i) ft fa fM fN fD fl fh fL fH (nI c) a1 a2 a3 a4 b5 b6 a7 a8
    refine ⟨pk_in a 4 ha, pk_le ca i (fun z => absurd z (by omega)) (fun _ => ⟨pk_in (24 * a + i) 96 (by omega) (zr_ix a i), ?_⟩) (hx := zr_rd rfl (by omega) e2)⟩
    have eh : (a4 ((24 : Int32) * nI a + nI i).toNatClampNeg) + 1 = nI (hi i + 1) := by rw [zr_rd (zr_ix a i) (by omega) gi.2, nI_1]
    refine zr_append (x := x) (y := lo i) (by omega) s2 (by omega) rfl (by rw [zr_rd (zr_ix a i) (by omega) gi.1]) (fun z => ?_) (fun z => ?_)
    · refine ⟨pk_in (24 * a + i) 96 (by omega) (zr_ix a i), nm_r eh (nm_r (nI_1 i) (w c b5 b6 (by omega) (zr_iff s6 (fun v => ?_))))⟩
      constructor
      · intro q
        exact ⟨by omega, q.2⟩
      · intro q
        refine ⟨?_, q.2⟩
        rcases Nat.lt_or_ge v x with r | r
        · exact r
        · exact absurd (inn v (by omega) (by omega)) q.2
    · refine ⟨pk_in (24 * a + i) 96 (by omega) (zr_ix a i), nm_r eh (nm_r (nI_1 i) (w (c + 1) _ _ (by omega) (zr_push s6 (fun v q => ?_) (by omega) (by omega) (fun v => ?_))))⟩
      · by_cases e : v + 1 = x
        · exact absurd (s4 v e.symm) q.2
        · have := q.1
          omega
      · constructor
        · intro q
          by_cases e : v < x
          · exact Or.inl ⟨e, q.2⟩
          · refine Or.inr ⟨by omega, ?_⟩
            rcases Nat.lt_or_ge v (lo i) with r | r
            · omega
            · exact absurd (inn v r (by omega)) q.2
        · intro q
          rcases q with q | q
          · exact ⟨by omega, q.2⟩
          · exact ⟨by omega, mid v q.1 (by omega)⟩
end
end
section
/-- what intersect's loop keeps: i, j stretches passed, all below p is done -/
def zr_MI (la ha lb hb : Nat → Nat) (ca cb i j p c : Nat) (b5 b6 : Nat → Int32) : Prop :=
  i ≤ ca ∧ j ≤ cb ∧ c ≤ i + j ∧ (∀ k, k < i → ha k < p) ∧ (∀ k, k < j → hb k < p) ∧ (∀ k, i ≤ k → k < ca → p ≤ ha k + 1) ∧ (∀ k, j ≤ k → k < cb → p ≤ hb k + 1) ∧
    (i < ca → j < cb → p ≤ la i ∨ p ≤ lb j) ∧ zr_R 0 c b5 b6 (fun v => v < p ∧ zr_S ca la ha v ∧ zr_S cb lb hb v)
theorem zr_pre {c i v : Nat} {lo hi : Nat → Nat} (h : zr_C c lo hi) (hi' : i < c) (e : lo i = v + 1) : ¬ zr_S c lo hi v :=
  ((zr_Tl h (lo i)).mpr ⟨i, hi', rfl⟩).2 v e
theorem zr_hm {c i k : Nat} {lo hi : Nat → Nat} (h : zr_C c lo hi) (hk : i ≤ k) (hk' : k < c) : hi i ≤ hi k := by
  rcases Nat.eq_or_lt_of_le hk with q | q
  · subst q
    exact Nat.le_refl _
  · have := h.2 i k q hk'
    have := h.1 k hk'
    omega
/-- one turn: from = max, to = min -/
theorem zr_mset {la ha lb hb : Nat → Nat} {ca cb i j p c z0 z1 : Nat} {b5 b6 : Nat → Int32} (A : zr_C ca la ha) (B : zr_C cb lb hb) (u : zr_MI la ha lb hb ca cb i j p c b5 b6) (hi : i < ca) (hj : j < cb)
    (f1 : la i ≤ z0) (f2 : lb j ≤ z0) (f3 : z0 = la i ∨ z0 = lb j) (t1 : z1 ≤ ha i) (t2 : z1 ≤ hb j) (t3 : z1 = ha i ∨ z1 = hb j) :
    (∀ v, (v < z1 + 1 ∧ zr_S ca la ha v ∧ zr_S cb lb hb v) ↔ ((v < p ∧ zr_S ca la ha v ∧ zr_S cb lb hb v) ∨ (z0 ≤ v ∧ v ≤ z1))) ∧ (∀ v, (v < p ∧ zr_S ca la ha v ∧ zr_S cb lb hb v) → v + 1 < z0) := by
  obtain ⟨u1, u2, u3, u4, u5, u6, u7, u8, u9⟩ := u
  have k6 := u6 i (Nat.le_refl i) hi
  have k7 := u7 j (Nat.le_refl j) hj
  constructor
  · intro v
    constructor
    · rintro ⟨q1, q2, q3⟩
      rcases Nat.lt_or_ge v p with r | r
      · exact Or.inl ⟨r, q2, q3⟩
      · refine Or.inr ?_
        obtain ⟨k, m1, m2, m3⟩ := q2
        obtain ⟨l, n1, n2, n3⟩ := q3
        have ek : k = i := by
          rcases Nat.lt_trichotomy k i with g | g | g
          · have := u4 k g
            omega
          · exact g
          · have := A.2 i k g m1
            omega
        have el : l = j := by
          rcases Nat.lt_trichotomy l j with g | g | g
          · have := u5 l g
            omega
          · exact g
          · have := B.2 j l g n1
            omega
        subst ek el
        rcases f3 with g | g <;> omega
    · intro q
      rcases q with ⟨q1, q2, q3⟩ | q
      · exact ⟨by rcases t3 with g | g <;> omega, q2, q3⟩
      · exact ⟨by omega, ⟨i, hi, by omega, by omega⟩, ⟨j, hj, by omega, by omega⟩⟩
  · rintro v ⟨q1, q2, q3⟩
    have g := u8 hi hj
    by_cases e : z0 = v + 1
    · rcases f3 with r | r
      · exact absurd q2 (zr_pre A hi (by omega))
      · exact absurd q3 (zr_pre B hj (by omega))
    · omega
theorem zr_mB {la ha lb hb : Nat → Nat} {ca cb i j p c c' : Nat} {b5 b6 d5 d6 : Nat → Int32} (A : zr_C ca la ha) (B : zr_C cb lb hb) (u : zr_MI la ha lb hb ca cb i j p c b5 b6) (hi : i < ca) (hj : j < cb) (g : hb j ≤ ha i) (hc : c' ≤ c + 1)
    (h : zr_R 0 c' d5 d6 (fun v => v < hb j + 1 ∧ zr_S ca la ha v ∧ zr_S cb lb hb v)) : zr_MI la ha lb hb ca cb i (j + 1) (hb j + 1) c' d5 d6 := by
  obtain ⟨u1, u2, u3, u4, u5, u6, u7, u8, u9⟩ := u
  have k7 := u7 j (Nat.le_refl j) hj
  refine ⟨u1, by omega, by omega, fun k hk => ?_, fun k hk => ?_, fun k k1 k2 => ?_, fun k k1 k2 => ?_, fun q1 q2 => Or.inr ?_, h⟩
  · have := u4 k hk
    omega
  · by_cases e : k = j
    · subst e
      omega
    · have := u5 k (by omega)
      omega
  · have := zr_hm A k1 k2
    omega
  · have := zr_hm (i := j) B (by omega) k2
    omega
  · have := B.2 j (j + 1) (by omega) q2
    omega
theorem zr_mA {la ha lb hb : Nat → Nat} {ca cb i j p c c' : Nat} {b5 b6 d5 d6 : Nat → Int32} (A : zr_C ca la ha) (B : zr_C cb lb hb) (u : zr_MI la ha lb hb ca cb i j p c b5 b6) (hi : i < ca) (hj : j < cb) (g : ha i < hb j) (hc : c' ≤ c + 1)
    (h : zr_R 0 c' d5 d6 (fun v => v < ha i + 1 ∧ zr_S ca la ha v ∧ zr_S cb lb hb v)) : zr_MI la ha lb hb ca cb (i + 1) j (ha i + 1) c' d5 d6 := by
  obtain ⟨u1, u2, u3, u4, u5, u6, u7, u8, u9⟩ := u
  have k6 := u6 i (Nat.le_refl i) hi
  refine ⟨by omega, u2, by omega, fun k hk => ?_, fun k hk => ?_, fun k k1 k2 => ?_, fun k k1 k2 => ?_, fun q1 q2 => Or.inl ?_, h⟩
  · by_cases e : k = i
    · subst e
      omega
    · have := u4 k (by omega)
      omega
  · have := u5 k hk
    omega
  · have := zr_hm (i := i) A (by omega) k2
    omega
  · have := zr_hm B k1 k2
    omega
  · have := A.2 i (i + 1) (by omega) q1
    omega
section
variable {ft fa fM fN fD fl fh fL fH fm : Int32} {a1 a2 a3 a4 a5 a6 a7 a8 : Nat → Int32}
theorem zr_inter {post : St1 → Prop} {a b : Nat} {F : Nat → Nat → Prop} (ha : a < 4) (hb : b < 4) (hA : zr_A a2 a3 a4 F)
    (H : ∀ c b5 b6, c ≤ 48 → zr_R 0 c b5 b6 (fun v => F a v ∧ F b v) → post (ft, fa, fM, fN, fD, fl, fh, fL, fH, nI c, a1, a2, a3, a4, b5, b6, a7, a8)) : wpX_intersect post (ft, fa, fM, fN, fD, fl, fh, fL, fH, fm, a1, a2, a3, a4, a5, a6, a7, a8) (nI a) (nI b) := by
  obtain ⟨ca, hca, e2, lo, hi, h1, h2, h3⟩ := hA a ha
  obtain ⟨cb, hcb, e2', lo', hi', h1', h2', h3'⟩ := hA b hb
  unfold wpX_intersect
  refine nm_r (zr_i0 a) (nm_r (zr_i0 b) ⟨pk_in a 4 ha, nm_r (e' := nI (24 * a + ca)) (by rw [nI_clamp (by omega), e2, nI_add]) ⟨pk_in b 4 hb, nm_r (e' := nI (24 * b + cb)) (by rw [nI_clamp (by omega), e2', nI_add]) ?_⟩⟩)
  refine loop_m (σ := Nat × Nat × Nat × Nat × (Nat → Int32) × (Nat → Int32)) (fun n s => wX_intersect_37 post (nI (24 * a + ca)) (nI (24 * b + cb)) n (nI (24 * a + s.1)) (nI (24 * b + s.2.1)) ft fa fM fN fD fl fh fL fH (nI s.2.2.2.1) a1 a2 a3 a4 s.2.2.2.2.1 s.2.2.2.2.2 a7 a8)
    (fun s => zr_MI lo hi lo' hi' ca cb s.1 s.2.1 s.2.2.1 s.2.2.2.1 s.2.2.2.2.1 s.2.2.2.2.2) (fun s => (ca - s.1) + (cb - s.2.1)) ?_ (0, 0, 0, 0, a5, a6) ⟨Nat.zero_le _, Nat.zero_le _, Nat.le_refl _, fun k hk => absurd hk (Nat.not_lt_zero k), fun k hk => absurd hk (Nat.not_lt_zero k), fun k _ _ => Nat.zero_le _, fun k _ _ => Nat.zero_le _, fun _ _ => Or.inl (Nat.zero_le _), zr_nil (fun v z => Nat.not_lt_zero v z.1)⟩
  intro n s hs hw
  obtain ⟨i, j, p, c, b5, b6⟩ := s
  have u : zr_MI lo hi lo' hi' ca cb i j p c b5 b6 := hs
  have w : ∀ i' j' p' c' d5 d6, zr_MI lo hi lo' hi' ca cb i' j' p' c' d5 d6 → (ca - i') + (cb - j') < (ca - i) + (cb - j) → wX_intersect_37 post (nI (24 * a + ca)) (nI (24 * b + cb)) n (nI (24 * a + i')) (nI (24 * b + j')) ft fa fM fN fD fl fh fL fH (nI c') a1 a2 a3 a4 d5 d6 a7 a8 := fun i' j' p' c' d5 d6 q1 q2 => hw (i', j', p', c', d5, d6) q1 q2
  show wX_intersect_37 post (nI (24 * a + ca)) (nI (24 * b + cb)) (n + 1) (nI (24 * a + i)) (nI (24 * b + j)) ft fa fM fN fD fl fh fL fH (nI c) a1 a2 a3 a4 b5 b6 a7 a8
  have u1 := u.1
  have u2 := u.2.1
  have u3 := u.2.2.1
  have fin : (i = ca ∨ j = cb) → post (ft, fa, fM, fN, fD, fl, fh, fL, fH, nI c, a1, a2, a3, a4, b5, b6, a7, a8) := by
    intro z
    obtain ⟨_, _, _, u4, u5, _, _, _, u9⟩ := u
    refine H c b5 b6 (by omega) (zr_iff u9 (fun v => ?_))
    rw [h3 v, h3' v]
    refine ⟨fun q => q.2, fun q => ⟨?_, q⟩⟩
    rcases z with z | z
    · obtain ⟨k, k1, k2, k3⟩ := q.1
      have := u4 k (by omega)
      omega
    · obtain ⟨k, k1, k2, k3⟩ := q.2
      have := u5 k (by omega)
      omega
  refine pk_le (24 * a + ca) (24 * a + i) (fun z => fin (Or.inl (by omega))) (fun zi => pk_le (24 * b + cb) (24 * b + j) (fun z => fin (Or.inr (by omega))) (fun zj => ?_))
  have ki : i < ca := by omega
  have kj : j < cb := by omega
  have gi := h1 i ki
  have gj := h1' j kj
  have li := h2.1 i ki
  have lj := h2'.1 j kj
  have r3i : a3 (nI (24 * a + i)).toNatClampNeg = nI (lo i) := zr_rd rfl (by omega) gi.1
  have r4i : a4 (nI (24 * a + i)).toNatClampNeg = nI (hi i) := zr_rd rfl (by omega) gi.2
  have r3j : a3 (nI (24 * b + j)).toNatClampNeg = nI (lo' j) := zr_rd rfl (by omega) gj.1
  have r4j : a4 (nI (24 * b + j)).toNatClampNeg = nI (hi' j) := zr_rd rfl (by omega) gj.2
  have ii : vp_in (nI (24 * a + i)) 96 := pk_in (24 * a + i) 96 (by omega)
  have ij : vp_in (nI (24 * b + j)) 96 := pk_in (24 * b + j) 96 (by omega)
  have last : ∀ z0 z1 : Nat, lo i ≤ z0 → lo' j ≤ z0 → (z0 = lo i ∨ z0 = lo' j) → z1 ≤ hi i → z1 ≤ hi' j → (z1 = hi i ∨ z1 = hi' j) → ∀ (y0 y1 : Int32), y0 = nI z0 → y1 = nI z1 →
      wX_intersect_116 post (wX_intersect_37 post (nI (24 * a + ca)) (nI (24 * b + cb)) n) (nI (24 * a + i)) (nI (24 * b + j)) (nI (24 * a + ca)) (nI (24 * b + cb)) y0 y1 ft fa fM fN fD fl fh fL fH (nI c) a1 a2 a3 a4 b5 b6 a7 a8 := by
    intro z0 z1 f1 f2 f3 t1 t2 t3 y0 y1 ey0 ey1
    obtain ⟨m1, m2⟩ := zr_mset h2 h2' u ki kj f1 f2 f3 t1 t2 t3
    have nxt : ∀ c' d5 d6, c' ≤ c + 1 → zr_R 0 c' d5 d6 (fun v => v < z1 + 1 ∧ zr_S ca lo hi v ∧ zr_S cb lo' hi' v) →
        ((a4 (nI (24 * b + j)).toNatClampNeg) ≤ (a4 (nI (24 * a + i)).toNatClampNeg) → ∀ x4 : Int32, x4 = nI (24 * b + j) + 1 → wX_intersect_37 post (nI (24 * a + ca)) (nI (24 * b + cb)) n (nI (24 * a + i)) x4 ft fa fM fN fD fl fh fL fH (nI c') a1 a2 a3 a4 d5 d6 a7 a8) ∧
        (¬ (a4 (nI (24 * b + j)).toNatClampNeg) ≤ (a4 (nI (24 * a + i)).toNatClampNeg) → ∀ x3 : Int32, x3 = nI (24 * a + i) + 1 → wX_intersect_37 post (nI (24 * a + ca)) (nI (24 * b + cb)) n x3 (nI (24 * b + j)) ft fa fM fN fD fl fh fL fH (nI c') a1 a2 a3 a4 d5 d6 a7 a8) := by
      intro c' d5 d6 q1 q2
      refine pk_le (hi' j) (hi i) (fun g => nm_r (nI_1 _) (w i (j + 1) (hi' j + 1) c' d5 d6 (zr_mB h2 h2' u ki kj g q1 ?_) (by omega))) (fun g => nm_r (nI_1 _) (w (i + 1) j (hi i + 1) c' d5 d6 (zr_mA h2 h2' u ki kj g q1 ?_) (by omega))) (hx := r4j) (hy := r4i)
      · have e : z1 = hi' j := by omega
        rw [e] at q2
        exact q2
      · have e : z1 = hi i := by omega
        rw [e] at q2
        exact q2
    refine zr_append (x := z0) (y := z1 + 1) (by omega) (by omega) (by omega) ey0 (ey1.trans (nI_pred z1).symm) (fun g => ⟨ii, ij, nxt c b5 b6 (by omega) ?_⟩) (fun g => ⟨ii, ij, nxt (c + 1) _ _ (by omega) ?_⟩)
    · refine zr_iff u.2.2.2.2.2.2.2.2 (fun v => ?_)
      rw [m1 v]
      exact ⟨Or.inl, fun q => q.elim id (fun q => absurd q (by omega))⟩
    · exact zr_push u.2.2.2.2.2.2.2.2 m2 (by omega) (by omega) m1
  have mid : ∀ z0 : Nat, lo i ≤ z0 → lo' j ≤ z0 → (z0 = lo i ∨ z0 = lo' j) → ∀ y0 : Int32, y0 = nI z0 →
      wX_intersect_82 post (wX_intersect_37 post (nI (24 * a + ca)) (nI (24 * b + cb)) n) (nI (24 * a + i)) (nI (24 * b + j)) (nI (24 * a + ca)) (nI (24 * b + cb)) y0 ft fa fM fN fD fl fh fL fH (nI c) a1 a2 a3 a4 b5 b6 a7 a8 := by
    intro z0 f1 f2 f3 y0 ey0
    exact ⟨ii, ij, pk_le (hi' j) (hi i) (fun g => ⟨ij, last z0 (hi' j) f1 f2 f3 g (Nat.le_refl _) (Or.inr rfl) _ _ ey0 r4j⟩) (fun g => ⟨ii, last z0 (hi i) f1 f2 f3 (Nat.le_refl _) (by omega) (Or.inl rfl) _ _ ey0 r4i⟩) (hx := r4j) (hy := r4i)⟩
  exact ⟨ii, ij, pk_le (lo i) (lo' j) (fun g => ⟨ij, mid (lo' j) g (Nat.le_refl _) (Or.inr rfl) _ r3j⟩) (fun g => ⟨ii, mid (lo i) (Nat.le_refl _) (by omega) (Or.inl rfl) _ r3i⟩) (hx := r3i) (hy := r3j)⟩
theorem zr_meet {post : Int32 → St1 → Prop} {d a b : Nat} {F : Nat → Nat → Prop} (hd : d < 4) (ha : a < 4) (hb : b < 4) (hA : zr_A a2 a3 a4 F)
    (H0 : ∀ m b5 b6, post 0 (ft, fa, fM, fN, fD, fl, fh, fL, fH, m, a1, a2, a3, a4, b5, b6, a7, a8))
    (H1 : ∀ m b2 b3 b4 b5 b6, zr_A b2 b3 b4 (zr_set F d (fun v => F a v ∧ F b v)) → post 1 (ft, fa, fM, fN, fD, fl, fh, fL, fH, m, a1, b2, b3, b4, b5, b6, a7, a8)) : wpX_meet post (ft, fa, fM, fN, fD, fl, fh, fL, fH, fm, a1, a2, a3, a4, a5, a6, a7, a8) (nI d) (nI a) (nI b) := by
  unfold wpX_meet
  refine zr_rng hd (br_f (by decide) (zr_rng ha (br_f (by decide) (zr_rng hb (br_f (by decide) ?_)))))
  refine zr_inter ha hb hA (fun c b5 b6 q1 q2 => ?_)
  exact pk_lt 24 c (fun _ => H0 _ _ _) (fun z => zr_keep hd z q2 hA (fun b2 b3 b4 hA' => br_f (by decide) (H1 _ _ _ _ _ _ hA')))
/-! holds -/
theorem zr_h47 {post : Int32 → St1 → Prop} {a : Nat} {F : Nat → Nat → Prop} (ha : a < 2) (hA : zr_A a2 a3 a4 F)
    (H : ∀ m b2 b3 b4 b5 b6 b7 b8 G, zr_A b2 b3 b4 G → post 1 (ft, fa, fM, fN, fD, fl, fh, fL, fH, m, a1, b2, b3, b4, b5, b6, b7, b8)) : wL_holds_47 post (nI a) ft fa fM fN fD fl fh fL fH fm a1 a2 a3 a4 a5 a6 a7 a8 := by
  unfold wL_holds_47
  have hlt : ∀ v, F a v → v < 1000 := fun v hv => by
    obtain ⟨c, _, _, h⟩ := hA a (by omega)
    exact zr_lt h hv
  refine zr_invert (d := 2) (by omega) (by omega) hA (fun c b5 b6 _ _ => br_t rfl (H _ _ _ _ _ _ _ _ _ hA)) (fun m b2 b3 b4 b5 b6 hB => br_f (by decide) ?_)
  refine zr_count (d := 2) (by omega) hB (zr_count (by omega) hB ?_)
  have e2 : zr_set F 2 (fun v => v < 1000 ∧ ¬ F a v) 2 = (fun v => v < 1000 ∧ ¬ F a v) := zr_set1
  have ea : zr_set F 2 (fun v => v < 1000 ∧ ¬ F a v) a = F a := zr_set0 (by omega)
  rw [e2, ea]
  have cc := zr_cc (P := F a) (Q := fun v => v < 1000 ∧ ¬ F a v) (n := 1000) (fun v hv => ⟨fun q => q.2, fun q => ⟨hv, q⟩⟩)
  have cl := zr_cdl (F a) 1000
  have ek : (1000 : Int32) - nI (zr_cd (F a) 1000) = nI (zr_cd (fun v => v < 1000 ∧ ¬ F a v) 1000) := by
    rw [show (1000 : Int32) = nI 1000 from rfl, pk_sub cl]
    exact congrArg nI (by omega)
  refine br_t ek.symm ?_
  have back : ∀ v, (v < 1000 ∧ ¬ zr_set F 2 (fun v => v < 1000 ∧ ¬ F a v) 2 v) ↔ F a v := fun v => by
    rw [e2]
    constructor
    · rintro ⟨q1, q2⟩
      by_cases p : F a v
      · exact p
      · exact absurd ⟨q1, p⟩ q2
    · intro p
      exact ⟨hlt v p, fun q => q.2 p⟩
  refine zr_invert (d := 3) (a := 2) (by omega) (by omega) hB (fun c b5' b6' q1 q2 => ?_) (fun m' d2 d3 d4 d5 d6 hD => br_f (by decide) ?_)
  · obtain ⟨c0, k1, _, k2⟩ := hA a (by omega)
    have := zr_uniq k2 (zr_iff q2 back)
    omega
  · have f3 : zr_set (zr_set F 2 (fun v => v < 1000 ∧ ¬ F a v)) 3 (fun v => v < 1000 ∧ ¬ zr_set F 2 (fun v => v < 1000 ∧ ¬ F a v) 2 v) 3 = (fun v => v < 1000 ∧ ¬ zr_set F 2 (fun v => v < 1000 ∧ ¬ F a v) 2 v) := zr_set1
    have fa' : zr_set (zr_set F 2 (fun v => v < 1000 ∧ ¬ F a v)) 3 (fun v => v < 1000 ∧ ¬ zr_set F 2 (fun v => v < 1000 ∧ ¬ F a v) 2 v) a = F a := (zr_set0 (by omega)).trans ea
    refine zr_within (a := 3) (by omega) (by omega) hD (fun v q => ?_) (br_f (by decide) (zr_within (b := 3) (by omega) (by omega) hD (fun v q => ?_) (br_f (by decide) (H _ _ _ _ _ _ _ _ _ hD))))
    · rw [f3] at q
      rw [fa']
      exact (back v).mp q
    · rw [fa'] at q
      rw [f3]
      exact (back v).mpr q
theorem zr_holds {post : Int32 → St1 → Prop} {a b : Nat} {F : Nat → Nat → Prop} (ha : a < 2) (hb : b < 2) (hA : zr_A a2 a3 a4 F)
    (H : ∀ m b2 b3 b4 b5 b6 b7 b8 G, zr_A b2 b3 b4 G → post 1 (ft, fa, fM, fN, fD, fl, fh, fL, fH, m, a1, b2, b3, b4, b5, b6, b7, b8)) : wpL_holds post (ft, fa, fM, fN, fD, fl, fh, fL, fH, fm, a1, a2, a3, a4, a5, a6, a7, a8) (nI a) (nI b) := by
  unfold wpL_holds
  refine zr_join (d := 2) (by omega) (by omega) (by omega) hA (fun m b5 b6 b7 b8 => br_t rfl (zr_h47 ha hA H)) (fun m b2 b3 b4 b5 b6 b7 b8 hB => br_f (by decide) ?_)
  refine zr_meet (d := 3) (by omega) (by omega) (by omega) hB (fun m b5 b6 => br_t rfl (zr_h47 ha hB H)) (fun m c2 c3 c4 c5 c6 hC => br_f (by decide) ?_)
  refine zr_count (by omega) hC (zr_count (by omega) hC (zr_count (d := 2) (by omega) hC (zr_count (d := 3) (by omega) hC (br_t ?_ (zr_h47 ha hC H)))))
  have ea : zr_set F 2 (fun v => F a v ∨ F b v) a = F a := zr_set0 (by omega)
  have eb : zr_set F 2 (fun v => F a v ∨ F b v) b = F b := zr_set0 (by omega)
  rw [nI_add, nI_add]
  refine congrArg nI ?_
  have ga : ∀ M, zr_set (zr_set F 2 (fun v => F a v ∨ F b v)) 3 M a = F a := fun M => (zr_set0 (by omega)).trans ea
  have gb : ∀ M, zr_set (zr_set F 2 (fun v => F a v ∨ F b v)) 3 M b = F b := fun M => (zr_set0 (by omega)).trans eb
  have g2 : ∀ M, zr_set (zr_set F 2 (fun v => F a v ∨ F b v)) 3 M 2 = (fun v => F a v ∨ F b v) := fun M => (zr_set0 (by omega)).trans zr_set1
  have g3 : ∀ M, zr_set (zr_set F 2 (fun v => F a v ∨ F b v)) 3 M 3 = M := fun M => zr_set1
  rw [ga, gb, g2, g3]
  refine zr_ie (fun v => Iff.rfl) (fun v => ?_) 1000
  show zr_set F 2 (fun v => F a v ∨ F b v) a v ∧ zr_set F 2 (fun v => F a v ∨ F b v) b v ↔ _
  rw [ea, eb]
end
end
section
/-! chars and texts -/
def zr_dg (x : Int32) : Prop := ¬ x < 48 ∧ ¬ 57 < x
def zr_kn (x : Int32) : Prop := zr_dg x ∨ x = 32 ∨ x = 42 ∨ x = 46 ∨ x = 124 ∨ x = 60 ∨ x = 62 ∨ x = 61 ∨ x = 94 ∨ x = 126 ∨ x = 45
/-- a number stands from p to e -/
def zr_nT (a : Nat → Int32) (p e : Nat) : Prop := (e = p + 1 ∧ zr_dg (a p)) ∨ (e = p + 3 ∧ zr_dg (a p) ∧ a (p + 1) = 46 ∧ zr_dg (a (p + 2))) ∨ (e = p + 5 ∧ zr_dg (a p) ∧ a (p + 1) = 46 ∧ zr_dg (a (p + 2)) ∧ a (p + 3) = 46 ∧ zr_dg (a (p + 4)))
/-- .. and in a text of T chars no point follows it -/
def zr_num (a : Nat → Int32) (T p e : Nat) : Prop := e ≤ T ∧ zr_nT a p e ∧ (e < T → a e ≠ 46)
/-- from p to the text's end T stands one item -/
def zr_item (a : Nat → Int32) (T p : Nat) : Prop := p < T ∧ (a p = 42 → p + 1 = T) ∧ ((a p = 60 ∨ a p = 62) → (zr_num a T (p + 1) T ∨ (a (p + 1) = 61 ∧ zr_num a T (p + 2) T))) ∧ ((a p = 94 ∨ a p = 126) → zr_num a T (p + 1) T) ∧
  (¬ a p = 42 → ¬ a p = 60 → ¬ a p = 62 → ¬ a p = 94 → ¬ a p = 126 → (zr_num a T p T ∨ ∃ e, e < T ∧ zr_num a T p e ∧ a e = 45 ∧ zr_num a T (e + 1) T))
theorem zr_nTd {a : Nat → Int32} {p e : Nat} (h : zr_nT a p e) : p < e ∧ e ≤ p + 5 ∧ zr_dg (a p) := by
  rcases h with ⟨h1, h2⟩ | ⟨h1, h2, _⟩ | ⟨h1, h2, _⟩
  · exact ⟨by omega, by omega, h2⟩
  · exact ⟨by omega, by omega, h2⟩
  · exact ⟨by omega, by omega, h2⟩
theorem zr_nTe {a b : Nat → Int32} {p e : Nat} (h : zr_nT a p e) (g : ∀ j, p ≤ j → j < e → b j = a j) : zr_nT b p e := by
  rcases h with ⟨h1, h2⟩ | ⟨h1, h2, h3, h4⟩ | ⟨h1, h2, h3, h4, h5, h6⟩
  · exact Or.inl ⟨h1, by rw [g p (by omega) (by omega)]; exact h2⟩
  · exact Or.inr (Or.inl ⟨h1, by rw [g p (by omega) (by omega)]; exact h2, by rw [g _ (by omega) (by omega)]; exact h3, by rw [g _ (by omega) (by omega)]; exact h4⟩)
  · exact Or.inr (Or.inr ⟨h1, by rw [g p (by omega) (by omega)]; exact h2, by rw [g _ (by omega) (by omega)]; exact h3, by rw [g _ (by omega) (by omega)]; exact h4, by rw [g _ (by omega) (by omega)]; exact h5, by rw [g _ (by omega) (by omega)]; exact h6⟩)
theorem zr_dgn {x y : Int32} (h : zr_dg x) (hy : y < 48 ∨ 57 < y) : ¬ x = y := by
  intro e
  subst e
  rcases hy with q | q
  · exact h.1 q
  · exact h.2 q
theorem zr_itS {b : Nat → Int32} {t : Nat} (h : b t = 42) : zr_item b (t + 1) t := by
  refine ⟨by omega, fun _ => rfl, fun q => ?_, fun q => ?_, fun q => absurd h q⟩
  · rw [h] at q
    exact absurd q (by decide)
  · rw [h] at q
    exact absurd q (by decide)
theorem zr_itB1 {b : Nat → Int32} {t e : Nat} (h : b t = 60 ∨ b t = 62) (n : zr_nT b (t + 1) e) : zr_item b e t := by
  have d := zr_nTd n
  refine ⟨by omega, fun q => ?_, fun _ => Or.inl ⟨Nat.le_refl _, n, fun z => absurd z (by omega)⟩, fun q => ?_, fun _ q1 q2 => ?_⟩
  · rw [q] at h
    exact absurd h (by decide)
  · rcases h with h | h
    · rw [h] at q
      exact absurd q (by decide)
    · rw [h] at q
      exact absurd q (by decide)
  · rcases h with h | h
    · exact absurd h q1
    · exact absurd h q2
theorem zr_itB2 {b : Nat → Int32} {t e : Nat} (h : b t = 60 ∨ b t = 62) (h' : b (t + 1) = 61) (n : zr_nT b (t + 2) e) : zr_item b e t := by
  have d := zr_nTd n
  refine ⟨by omega, fun q => ?_, fun _ => Or.inr ⟨h', Nat.le_refl _, n, fun z => absurd z (by omega)⟩, fun q => ?_, fun _ q1 q2 => ?_⟩
  · rw [q] at h
    exact absurd h (by decide)
  · rcases h with h | h
    · rw [h] at q
      exact absurd q (by decide)
    · rw [h] at q
      exact absurd q (by decide)
  · rcases h with h | h
    · exact absurd h q1
    · exact absurd h q2
theorem zr_itC {b : Nat → Int32} {t e : Nat} (h : b t = 94 ∨ b t = 126) (n : zr_nT b (t + 1) e) : zr_item b e t := by
  have d := zr_nTd n
  refine ⟨by omega, fun q => ?_, fun q => ?_, fun _ => ⟨Nat.le_refl _, n, fun z => absurd z (by omega)⟩, fun _ _ _ q1 q2 => ?_⟩
  · rw [q] at h
    exact absurd h (by decide)
  · rcases h with h | h
    · rw [h] at q
      exact absurd q (by decide)
    · rw [h] at q
      exact absurd q (by decide)
  · rcases h with h | h
    · exact absurd h q1
    · exact absurd h q2
theorem zr_itN {b : Nat → Int32} {t e : Nat} (n : zr_nT b t e) : zr_item b e t := by
  have d := zr_nTd n
  refine ⟨by omega, fun q => absurd q (zr_dgn d.2.2 (by decide)), fun q => ?_, fun q => ?_, fun _ _ _ _ _ => Or.inl ⟨Nat.le_refl _, n, fun z => absurd z (by omega)⟩⟩
  · exact q.elim (fun q => absurd q (zr_dgn d.2.2 (by decide))) (fun q => absurd q (zr_dgn d.2.2 (by decide)))
  · exact q.elim (fun q => absurd q (zr_dgn d.2.2 (by decide))) (fun q => absurd q (zr_dgn d.2.2 (by decide)))
theorem zr_itR {b : Nat → Int32} {t e e' : Nat} (n : zr_nT b t e) (h : b e = 45) (n' : zr_nT b (e + 1) e') : zr_item b e' t := by
  have d := zr_nTd n
  have d' := zr_nTd n'
  refine ⟨by omega, fun q => absurd q (zr_dgn d.2.2 (by decide)), fun q => ?_, fun q => ?_, fun _ _ _ _ _ => Or.inr ⟨e, by omega, ⟨by omega, n, fun _ => by rw [h]; decide⟩, h, ⟨Nat.le_refl _, n', fun z => absurd z (by omega)⟩⟩⟩
  · exact q.elim (fun q => absurd q (zr_dgn d.2.2 (by decide))) (fun q => absurd q (zr_dgn d.2.2 (by decide)))
  · exact q.elim (fun q => absurd q (zr_dgn d.2.2 (by decide))) (fun q => absurd q (zr_dgn d.2.2 (by decide)))
theorem zr_chr {k : Nat} (h : k < 65536) : ((nI k).toUInt32 % 65536).toInt32 = nI k := by
  rw [pk_char, pk_tn (by omega), Nat.mod_eq_of_lt h]
theorem zr_vc {k : Nat} (h : k < 65536) : vp_nar .char (nI k) = nI k := by
  have := pk_vc (nI k)
  rwa [zr_chr h] at this
theorem zr_dgN {k : Nat} (h : k ≤ 9) : zr_dg (nI (48 + k)) := ⟨nI_nlt (b := 48) (by omega) (by omega), nI_nlt (a := 57) (by omega) (by omega)⟩
theorem zr_d1 {v : Nat} (hv : v < 1000) : ((48 + nI v / 100).toUInt32 % 65536).toInt32 = nI (48 + v / 100) := by
  rw [show (100 : Int32) = nI 100 from rfl, show (48 : Int32) = nI 48 from rfl, pk_div (by omega) (by omega) (by omega), nI_add, zr_chr (by omega)]
theorem zr_d2 {v : Nat} (hv : v < 1000) : ((48 + ((nI v / 10) - (nI v / 10) / 10 * 10)).toUInt32 % 65536).toInt32 = nI (48 + v / 10 % 10) := by
  rw [show (10 : Int32) = nI 10 from rfl, show (48 : Int32) = nI 48 from rfl, pk_div (by omega) (by omega) (by omega), pk_rem (by omega) (by omega) (by omega), nI_add, zr_chr (by omega)]
theorem zr_d3 {v : Nat} (hv : v < 1000) : ((48 + (nI v - nI v / 10 * 10)).toUInt32 % 65536).toInt32 = nI (48 + v % 10) := by
  rw [show (10 : Int32) = nI 10 from rfl, show (48 : Int32) = nI 48 from rfl, pk_rem (by omega) (by omega) (by omega), nI_add, zr_chr (by omega)]
section
variable {ft fa fM fN fD fl fh fL fH fm : Int32} {a1 a2 a3 a4 a5 a6 a7 a8 : Nat → Int32}
theorem zr_isD {post : Int32 → Prop} {x : Int32} (H0 : ¬ zr_dg x → post 0) (H1 : zr_dg x → post 1) : wpX_isDigit post (ft, fa, fM, fN, fD, fl, fh, fL, fH, fm, a1, a2, a3, a4, a5, a6, a7, a8) x :=
  br_c (fun z => H0 (fun q => q.1 z)) (fun z => br_c (fun z2 => H0 (fun q => q.2 z2)) (fun z2 => H1 ⟨z, z2⟩))
theorem zr_type {post : Int32 → St1 → Prop} {t : Nat} {x : Int32} (ht : t ≤ 40) (H2 : 40 ≤ t → post (-2) (nI t, fa, fM, fN, fD, fl, fh, fL, fH, fm, a1, a2, a3, a4, a5, a6, a7, a8)) (H0 : ¬ zr_kn x → post (-1) (nI t, fa, fM, fN, fD, fl, fh, fL, fH, fm, a1, a2, a3, a4, a5, a6, a7, a8))
    (H1 : t < 40 → zr_kn x → post (nI (t + 1)) (nI (t + 1), fa, fM, fN, fD, fl, fh, fL, fH, fm, upd a1 t (vp_nar .char x), a2, a3, a4, a5, a6, a7, a8)) : wpX_type post (nI t, fa, fM, fN, fD, fl, fh, fL, fH, fm, a1, a2, a3, a4, a5, a6, a7, a8) x := by
  have K : t < 40 → zr_kn x → wX_type_80 post x (nI t) fa fM fN fD fl fh fL fH fm a1 a2 a3 a4 a5 a6 a7 a8 := fun q k => by
    unfold wX_type_80 wX_type_85
    exact br_f (by decide) ⟨pk_in t 40 q, nm_r (zr_st rfl (by omega) rfl) (nm_r (nI_1 t) (H1 q k))⟩
  refine pk_lt t 40 (fun z => zr_isD (fun nd => br_t rfl ?_) (fun d => br_f (by decide) (K z (Or.inl d)))) (fun z => H2 z)
  refine br_c (fun e => K z (Or.inr (Or.inl e))) (fun n1 => br_c (fun e => K z (Or.inr (Or.inr (Or.inl e)))) (fun n2 => br_c (fun e => K z (Or.inr (Or.inr (Or.inr (Or.inl e))))) (fun n3 => br_c (fun e => K z (Or.inr (Or.inr (Or.inr (Or.inr (Or.inl e)))))) (fun n4 => br_c (fun e => K z (Or.inr (Or.inr (Or.inr (Or.inr (Or.inr (Or.inl e))))))) (fun n5 => br_c (fun e => K z (Or.inr (Or.inr (Or.inr (Or.inr (Or.inr (Or.inr (Or.inl e)))))))) (fun n6 => br_c (fun e => K z (Or.inr (Or.inr (Or.inr (Or.inr (Or.inr (Or.inr (Or.inr (Or.inl e))))))))) (fun n7 => br_c (fun e => K z (Or.inr (Or.inr (Or.inr (Or.inr (Or.inr (Or.inr (Or.inr (Or.inr (Or.inl e)))))))))) (fun n8 => br_c (fun e => K z (Or.inr (Or.inr (Or.inr (Or.inr (Or.inr (Or.inr (Or.inr (Or.inr (Or.inr (Or.inl e))))))))))) (fun n9 => br_c (fun e => K z (Or.inr (Or.inr (Or.inr (Or.inr (Or.inr (Or.inr (Or.inr (Or.inr (Or.inr (Or.inr (e)))))))))))) (fun n10 => ?_))))))))))
  refine br_t rfl (H0 (fun k => ?_))
  rcases k with k | k | k | k | k | k | k | k | k | k | k
  · exact nd k
  · exact n1 k
  · exact n2 k
  · exact n3 k
  · exact n4 k
  · exact n5 k
  · exact n6 k
  · exact n7 k
  · exact n8 k
  · exact n9 k
  · exact n10 k
theorem zr_typeW {post : Int32 → St1 → Prop} {t : Nat} {x : Int32} (ht : t ≤ 40) (H : ∀ r t' b1, t' ≤ 40 → t' ≤ t + 1 → post r (nI t', fa, fM, fN, fD, fl, fh, fL, fH, fm, b1, a2, a3, a4, a5, a6, a7, a8)) : wpX_type post (nI t, fa, fM, fN, fD, fl, fh, fL, fH, fm, a1, a2, a3, a4, a5, a6, a7, a8) x :=
  zr_type ht (fun _ => H _ _ _ ht (by omega)) (fun _ => H _ _ _ ht (by omega)) (fun z _ => H _ _ _ (by omega) (by omega))
theorem zr_typeK {post : Int32 → St1 → Prop} {t k : Nat} {x : Int32} (ht : t < 40) (hk : k < 65536) (e : x = nI k) (kn : zr_kn x) (H : ∀ r, post r (nI (t + 1), fa, fM, fN, fD, fl, fh, fL, fH, fm, upd a1 t (nI k), a2, a3, a4, a5, a6, a7, a8)) : wpX_type post (nI t, fa, fM, fN, fD, fl, fh, fL, fH, fm, a1, a2, a3, a4, a5, a6, a7, a8) x := by
  refine zr_type (by omega) (fun z => absurd z (by omega)) (fun z => absurd kn z) (fun _ _ => ?_)
  rw [e, zr_vc hk]
  exact H _
theorem zr_k46 : zr_kn 46 := by
  unfold zr_kn zr_dg
  decide
theorem zr_number {post : St1 → Prop} {t v D : Nat} (ht : t + 5 ≤ 40) (hv : v < 1000) (hD : D = 1 ∨ D = 2 ∨ D = 3) (H : ∀ e b1, t < e → e ≤ t + 5 → (∀ j, j < t → b1 j = a1 j) → zr_nT b1 t e → post (nI e, fa, fM, fN, fD, fl, fh, fL, fH, fm, b1, a2, a3, a4, a5, a6, a7, a8)) : wpL_number post (nI t, fa, fM, fN, fD, fl, fh, fL, fH, fm, a1, a2, a3, a4, a5, a6, a7, a8) (nI v) (nI D) := by
  have g1 := zr_dgN (k := v / 100) (by omega)
  have g2 := zr_dgN (k := v / 10 % 10) (by omega)
  have g3 := zr_dgN (k := v % 10) (by omega)
  rcases hD with e | e | e
  · subst e
    refine ⟨by decide, zr_typeK (by omega) (by omega) (zr_d1 hv) (by rw [zr_d1 hv]; exact Or.inl g1) (fun r => br_t (by decide) (br_t (by decide) (br_t (by decide) (br_t (by decide) (H _ _ (by omega) (by omega) (fun j hj => ?_) ?_)))))⟩
    · rw [pk_un (by omega)]
    · exact Or.inl ⟨rfl, by rw [pk_us]; exact g1⟩
  · subst e
    refine ⟨by decide, zr_typeK (by omega) (by omega) (zr_d1 hv) (by rw [zr_d1 hv]; exact Or.inl g1) (fun r => br_f (by decide) (zr_typeK (by omega) (by decide) (show (46 : Int32) = nI 46 from rfl) zr_k46 (fun r => br_f (by decide) ⟨by decide, by decide, zr_typeK (by omega) (by omega) (zr_d2 hv) (by rw [zr_d2 hv]; exact Or.inl g2) (fun r => br_t (by decide) (br_t (by decide) (H _ _ (by omega) (by omega) (fun j hj => ?_) ?_)))⟩)))⟩
    · rw [pk_un (by omega), pk_un (by omega), pk_un (by omega)]
    · refine Or.inr (Or.inl ⟨rfl, ?_, ?_, ?_⟩)
      · rw [pk_un (by omega), pk_un (by omega), pk_us]
        exact g1
      · rw [pk_un (by omega), pk_us]
        rfl
      · rw [pk_us]
        exact g2
  · subst e
    refine ⟨by decide, zr_typeK (by omega) (by omega) (zr_d1 hv) (by rw [zr_d1 hv]; exact Or.inl g1) (fun r => br_f (by decide) (zr_typeK (by omega) (by decide) (show (46 : Int32) = nI 46 from rfl) zr_k46 (fun r => br_f (by decide) ⟨by decide, by decide, zr_typeK (by omega) (by omega) (zr_d2 hv) (by rw [zr_d2 hv]; exact Or.inl g2) (fun r => br_f (by decide) (zr_typeK (by omega) (by decide) (show (46 : Int32) = nI 46 from rfl) zr_k46 (fun r => br_f (by decide) ⟨by decide, zr_typeK (by omega) (by omega) (zr_d3 hv) (by rw [zr_d3 hv]; exact Or.inl g3) (fun r => H _ _ (by omega) (by omega) (fun j hj => ?_) ?_)⟩)))⟩)))⟩
    · rw [pk_un (by omega), pk_un (by omega), pk_un (by omega), pk_un (by omega), pk_un (by omega)]
    · refine Or.inr (Or.inr ⟨rfl, ?_, ?_, ?_, ?_, ?_⟩)
      · rw [pk_un (by omega), pk_un (by omega), pk_un (by omega), pk_un (by omega), pk_us]
        exact g1
      · rw [pk_un (by omega), pk_un (by omega), pk_un (by omega), pk_us]
        rfl
      · rw [pk_un (by omega), pk_un (by omega), pk_us]
        exact g2
      · rw [pk_un (by omega), pk_us]
        rfl
      · rw [pk_us]
        exact g3
/-! an item, from its sign on -/
theorem zr_i128 {post : St1 → Prop} {t v D f : Nat} {w : Int32} (ht : t + 5 ≤ 40) (hv : v < 1000) (hD : D = 1 ∨ D = 2 ∨ D = 3) (hf0 : 0 < f) (hf : f < 9 ∨ 11 < f) (hf1 : f < 16) (H : ∀ e b1, t < e → e ≤ t + 5 → (∀ j, j < t → b1 j = a1 j) → zr_nT b1 t e → post (nI e, fa, fM, fN, fD, fl, fh, fL, fH, fm, b1, a2, a3, a4, a5, a6, a7, a8)) : wL_item_128 post w (nI f) (nI v) (nI D) (nI t) fa fM fN fD fl fh fL fH fm a1 a2 a3 a4 a5 a6 a7 a8 := by
  unfold wL_item_128
  refine pk_eq f 0 (fun z => absurd z (by omega)) (fun _ => zr_number ht hv hD (fun e b1 q1 q2 q3 q4 => ?_))
  exact pk_lt f 9 (fun _ => H e b1 q1 q2 q3 q4) (fun z => pk_lt 11 f (fun _ => H e b1 q1 q2 q3 q4) (fun z => absurd z (by omega)))
theorem zr_k45 : zr_kn 45 := by
  unfold zr_kn zr_dg
  decide
theorem zr_and (x : Int32) {m : Int32} (k n : Nat) (hm : m.toBitVec.toNat = 2 ^ k - 1) (hn : 2 ^ k = n) : ∃ j : Nat, j < n ∧ x &&& m = nI j := by
  obtain ⟨j, h1, h2⟩ := pk_andE x k hm
  exact ⟨j, by omega, h2⟩
theorem zr_D3 (x : Int32) : ∃ D : Nat, (D = 1 ∨ D = 2 ∨ D = 3) ∧ (1 : Int32) + ((x &&& 3) - (x &&& 3) / 3 * 3) = nI D := by
  obtain ⟨j, h1, h2⟩ := zr_and x (m := 3) 2 4 (by decide) (by decide)
  refine ⟨1 + j % 3, by omega, ?_⟩
  rw [h2, show (3 : Int32) = nI 3 from rfl, pk_rem (by omega) (by omega) (by omega), show (1 : Int32) = nI 1 from rfl, nI_add]
theorem zr_i128r {post : St1 → Prop} {t v D f : Nat} {w : Int32} (ht : t + 11 ≤ 40) (hv : v < 1000) (hD : D = 1 ∨ D = 2 ∨ D = 3) (hf : 9 ≤ f) (hf' : f ≤ 11) (H : ∀ e e' b1, e' ≤ t + 11 → zr_nT b1 t e → b1 e = 45 → zr_nT b1 (e + 1) e' → post (nI e', fa, fM, fN, fD, fl, fh, fL, fH, fm, b1, a2, a3, a4, a5, a6, a7, a8)) : wL_item_128 post w (nI f) (nI v) (nI D) (nI t) fa fM fN fD fl fh fL fH fm a1 a2 a3 a4 a5 a6 a7 a8 := by
  unfold wL_item_128
  refine pk_eq f 0 (fun z => absurd z (by omega)) (fun _ => zr_number (by omega) hv hD (fun e b1 q1 q2 q3 q4 => ?_))
  refine pk_lt f 9 (fun z => absurd z (by omega)) (fun z => pk_lt 11 f (fun z => absurd z (by omega)) (fun z => ?_))
  refine zr_typeK (by omega) (by decide) (show (45 : Int32) = nI 45 from rfl) zr_k45 (fun r => ⟨by decide, by decide, ?_⟩)
  obtain ⟨m, m1, m2⟩ := zr_and (w >>> ((16 : Int32) &&& 31)) (m := 511) 9 512 (by decide) (by decide)
  obtain ⟨D', d1, d2⟩ := zr_D3 (w >>> ((25 : Int32) &&& 31))
  rw [d2, m2, nI_add, show (1000 : Int32) = nI 1000 from rfl, pk_rem (by omega) (by omega) (by omega)]
  refine zr_number (by omega) (by omega) d1 (fun e' b2 p1 p2 p3 p4 => H e e' b2 (by omega) (zr_nTe q4 (fun j j1 j2 => ?_)) ?_ p4)
  · rw [p3 j (by omega), pk_un (by omega)]
  · rw [p3 e (by omega), pk_us]
    rfl
theorem zr_k42 : zr_kn 42 := by
  unfold zr_kn zr_dg
  decide
theorem zr_k60 : zr_kn 60 := by
  unfold zr_kn zr_dg
  decide
theorem zr_k62 : zr_kn 62 := by
  unfold zr_kn zr_dg
  decide
theorem zr_k61 : zr_kn 61 := by
  unfold zr_kn zr_dg
  decide
theorem zr_k94 : zr_kn 94 := by
  unfold zr_kn zr_dg
  decide
theorem zr_k126 : zr_kn 126 := by
  unfold zr_kn zr_dg
  decide
theorem zr_if0 {post : St1 → Prop} {t v D : Nat} {w : Int32} (ht : t + 12 ≤ 40) (hv : v < 1000) (hD : D = 1 ∨ D = 2 ∨ D = 3) (H : ∀ e b1, e ≤ t + 12 → zr_item b1 e t → post (nI e, fa, fM, fN, fD, fl, fh, fL, fH, fm, b1, a2, a3, a4, a5, a6, a7, a8)) : wpX_type (fun r u => match u with | (ft, fa, fM, fN, fD, fl, fh, fL, fH, fm, a1, a2, a3, a4, a5, a6, a7, a8) => wL_item_40 post w (nI 0) (nI v) (nI D) ft fa fM fN fD fl fh fL fH fm a1 a2 a3 a4 a5 a6 a7 a8) (nI t, fa, fM, fN, fD, fl, fh, fL, fH, fm, a1, a2, a3, a4, a5, a6, a7, a8) 42 :=
  zr_typeK (by omega) (by decide) (show (42 : Int32) = nI 42 from rfl) zr_k42 (fun r => br_f (by decide) (br_f (by decide) (br_f (by decide) (br_f (by decide) (br_f (by decide) (br_f (by decide) (br_f (by decide) (br_f (by decide) (br_f (by decide) (br_f (by decide) (br_t rfl (br_t (by decide) (H _ _ (by omega) (zr_itS (by rw [pk_us]; rfl)))))))))))))))
theorem zr_if1 {post : St1 → Prop} {t v D : Nat} {w : Int32} (ht : t + 12 ≤ 40) (hv : v < 1000) (hD : D = 1 ∨ D = 2 ∨ D = 3) (H : ∀ e b1, e ≤ t + 12 → zr_item b1 e t → post (nI e, fa, fM, fN, fD, fl, fh, fL, fH, fm, b1, a2, a3, a4, a5, a6, a7, a8)) : wL_item_40 post w (nI 1) (nI v) (nI D) (nI t) fa fM fN fD fl fh fL fH fm a1 a2 a3 a4 a5 a6 a7 a8 :=
  br_t (by decide) (zr_typeK (by omega) (by decide) (show (60 : Int32) = nI 60 from rfl) zr_k60 (fun r => br_f (by decide) (br_f (by decide) (br_f (by decide) (br_f (by decide) (br_f (by decide) (br_f (by decide) (br_f (by decide) (br_f (by decide) (zr_i128 (by omega) hv hD (by decide) (by decide) (by decide) (fun e b1 q1 q2 q3 q4 => H e b1 (by omega) (zr_itB1 (Or.inl ((q3 t (by omega)).trans pk_us)) q4))))))))))))
theorem zr_if2 {post : St1 → Prop} {t v D : Nat} {w : Int32} (ht : t + 12 ≤ 40) (hv : v < 1000) (hD : D = 1 ∨ D = 2 ∨ D = 3) (H : ∀ e b1, e ≤ t + 12 → zr_item b1 e t → post (nI e, fa, fM, fN, fD, fl, fh, fL, fH, fm, b1, a2, a3, a4, a5, a6, a7, a8)) : wL_item_40 post w (nI 2) (nI v) (nI D) (nI t) fa fM fN fD fl fh fL fH fm a1 a2 a3 a4 a5 a6 a7 a8 :=
  br_f (by decide) (br_t (by decide) (zr_typeK (by omega) (by decide) (show (60 : Int32) = nI 60 from rfl) zr_k60 (fun r => br_f (by decide) (br_f (by decide) (br_t (by decide) (zr_typeK (by omega) (by decide) (show (61 : Int32) = nI 61 from rfl) zr_k61 (fun r => br_f (by decide) (br_f (by decide) (br_f (by decide) (br_f (by decide) (zr_i128 (by omega) hv hD (by decide) (by decide) (by decide) (fun e b1 q1 q2 q3 q4 => H e b1 (by omega) (zr_itB2 (Or.inl ((q3 t (by omega)).trans ((pk_un (by omega)).trans pk_us))) ((q3 (t + 1) (by omega)).trans pk_us) q4)))))))))))))
theorem zr_if3 {post : St1 → Prop} {t v D : Nat} {w : Int32} (ht : t + 12 ≤ 40) (hv : v < 1000) (hD : D = 1 ∨ D = 2 ∨ D = 3) (H : ∀ e b1, e ≤ t + 12 → zr_item b1 e t → post (nI e, fa, fM, fN, fD, fl, fh, fL, fH, fm, b1, a2, a3, a4, a5, a6, a7, a8)) : wL_item_40 post w (nI 3) (nI v) (nI D) (nI t) fa fM fN fD fl fh fL fH fm a1 a2 a3 a4 a5 a6 a7 a8 :=
  br_f (by decide) (br_f (by decide) (br_t (by decide) (zr_typeK (by omega) (by decide) (show (62 : Int32) = nI 62 from rfl) zr_k62 (fun r => br_f (by decide) (br_f (by decide) (br_f (by decide) (br_f (by decide) (br_f (by decide) (br_f (by decide) (zr_i128 (by omega) hv hD (by decide) (by decide) (by decide) (fun e b1 q1 q2 q3 q4 => H e b1 (by omega) (zr_itB1 (Or.inr ((q3 t (by omega)).trans pk_us)) q4))))))))))))
theorem zr_if4 {post : St1 → Prop} {t v D : Nat} {w : Int32} (ht : t + 12 ≤ 40) (hv : v < 1000) (hD : D = 1 ∨ D = 2 ∨ D = 3) (H : ∀ e b1, e ≤ t + 12 → zr_item b1 e t → post (nI e, fa, fM, fN, fD, fl, fh, fL, fH, fm, b1, a2, a3, a4, a5, a6, a7, a8)) : wL_item_40 post w (nI 4) (nI v) (nI D) (nI t) fa fM fN fD fl fh fL fH fm a1 a2 a3 a4 a5 a6 a7 a8 :=
  br_f (by decide) (br_f (by decide) (br_f (by decide) (br_t (by decide) (zr_typeK (by omega) (by decide) (show (62 : Int32) = nI 62 from rfl) zr_k62 (fun r => br_f (by decide) (br_t (by decide) (zr_typeK (by omega) (by decide) (show (61 : Int32) = nI 61 from rfl) zr_k61 (fun r => br_f (by decide) (br_f (by decide) (br_f (by decide) (br_f (by decide) (zr_i128 (by omega) hv hD (by decide) (by decide) (by decide) (fun e b1 q1 q2 q3 q4 => H e b1 (by omega) (zr_itB2 (Or.inr ((q3 t (by omega)).trans ((pk_un (by omega)).trans pk_us))) ((q3 (t + 1) (by omega)).trans pk_us) q4))))))))))))))
theorem zr_if5 {post : St1 → Prop} {t v D : Nat} {w : Int32} (ht : t + 12 ≤ 40) (hv : v < 1000) (hD : D = 1 ∨ D = 2 ∨ D = 3) (H : ∀ e b1, e ≤ t + 12 → zr_item b1 e t → post (nI e, fa, fM, fN, fD, fl, fh, fL, fH, fm, b1, a2, a3, a4, a5, a6, a7, a8)) : wL_item_40 post w (nI 5) (nI v) (nI D) (nI t) fa fM fN fD fl fh fL fH fm a1 a2 a3 a4 a5 a6 a7 a8 :=
  br_f (by decide) (br_f (by decide) (br_f (by decide) (br_f (by decide) (br_f (by decide) (br_f (by decide) (br_t (by decide) (zr_typeK (by omega) (by decide) (show (94 : Int32) = nI 94 from rfl) zr_k94 (fun r => br_f (by decide) (br_f (by decide) (zr_i128 (by omega) hv hD (by decide) (by decide) (by decide) (fun e b1 q1 q2 q3 q4 => H e b1 (by omega) (zr_itC (Or.inl ((q3 t (by omega)).trans pk_us)) q4))))))))))))
theorem zr_if6 {post : St1 → Prop} {t v D : Nat} {w : Int32} (ht : t + 12 ≤ 40) (hv : v < 1000) (hD : D = 1 ∨ D = 2 ∨ D = 3) (H : ∀ e b1, e ≤ t + 12 → zr_item b1 e t → post (nI e, fa, fM, fN, fD, fl, fh, fL, fH, fm, b1, a2, a3, a4, a5, a6, a7, a8)) : wL_item_40 post w (nI 6) (nI v) (nI D) (nI t) fa fM fN fD fl fh fL fH fm a1 a2 a3 a4 a5 a6 a7 a8 :=
  br_f (by decide) (br_f (by decide) (br_f (by decide) (br_f (by decide) (br_f (by decide) (br_f (by decide) (br_f (by decide) (br_t (by decide) (zr_typeK (by omega) (by decide) (show (94 : Int32) = nI 94 from rfl) zr_k94 (fun r => br_f (by decide) (br_f (by decide) (zr_i128 (by omega) hv hD (by decide) (by decide) (by decide) (fun e b1 q1 q2 q3 q4 => H e b1 (by omega) (zr_itC (Or.inl ((q3 t (by omega)).trans pk_us)) q4)))))))))))))
theorem zr_if7 {post : St1 → Prop} {t v D : Nat} {w : Int32} (ht : t + 12 ≤ 40) (hv : v < 1000) (hD : D = 1 ∨ D = 2 ∨ D = 3) (H : ∀ e b1, e ≤ t + 12 → zr_item b1 e t → post (nI e, fa, fM, fN, fD, fl, fh, fL, fH, fm, b1, a2, a3, a4, a5, a6, a7, a8)) : wL_item_40 post w (nI 7) (nI v) (nI D) (nI t) fa fM fN fD fl fh fL fH fm a1 a2 a3 a4 a5 a6 a7 a8 :=
  br_f (by decide) (br_f (by decide) (br_f (by decide) (br_f (by decide) (br_f (by decide) (br_f (by decide) (br_f (by decide) (br_f (by decide) (br_t (by decide) (zr_typeK (by omega) (by decide) (show (126 : Int32) = nI 126 from rfl) zr_k126 (fun r => zr_i128 (by omega) hv hD (by decide) (by decide) (by decide) (fun e b1 q1 q2 q3 q4 => H e b1 (by omega) (zr_itC (Or.inr ((q3 t (by omega)).trans pk_us)) q4))))))))))))
theorem zr_if8 {post : St1 → Prop} {t v D : Nat} {w : Int32} (ht : t + 12 ≤ 40) (hv : v < 1000) (hD : D = 1 ∨ D = 2 ∨ D = 3) (H : ∀ e b1, e ≤ t + 12 → zr_item b1 e t → post (nI e, fa, fM, fN, fD, fl, fh, fL, fH, fm, b1, a2, a3, a4, a5, a6, a7, a8)) : wL_item_40 post w (nI 8) (nI v) (nI D) (nI t) fa fM fN fD fl fh fL fH fm a1 a2 a3 a4 a5 a6 a7 a8 :=
  br_f (by decide) (br_f (by decide) (br_f (by decide) (br_f (by decide) (br_f (by decide) (br_f (by decide) (br_f (by decide) (br_f (by decide) (br_f (by decide) (br_t (by decide) (zr_typeK (by omega) (by decide) (show (126 : Int32) = nI 126 from rfl) zr_k126 (fun r => zr_i128 (by omega) hv hD (by decide) (by decide) (by decide) (fun e b1 q1 q2 q3 q4 => H e b1 (by omega) (zr_itC (Or.inr ((q3 t (by omega)).trans pk_us)) q4)))))))))))))
theorem zr_if9 {post : St1 → Prop} {t v D : Nat} {w : Int32} (ht : t + 12 ≤ 40) (hv : v < 1000) (hD : D = 1 ∨ D = 2 ∨ D = 3) (H : ∀ e b1, e ≤ t + 12 → zr_item b1 e t → post (nI e, fa, fM, fN, fD, fl, fh, fL, fH, fm, b1, a2, a3, a4, a5, a6, a7, a8)) : wL_item_40 post w (nI 9) (nI v) (nI D) (nI t) fa fM fN fD fl fh fL fH fm a1 a2 a3 a4 a5 a6 a7 a8 :=
  br_f (by decide) (br_f (by decide) (br_f (by decide) (br_f (by decide) (br_f (by decide) (br_f (by decide) (br_f (by decide) (br_f (by decide) (br_f (by decide) (br_f (by decide) (zr_i128r (by omega) hv hD (by decide) (by decide) (fun e e' b1 q1 q2 q3 q4 => H e' b1 (by omega) (zr_itR q2 q3 q4))))))))))))
theorem zr_if10 {post : St1 → Prop} {t v D : Nat} {w : Int32} (ht : t + 12 ≤ 40) (hv : v < 1000) (hD : D = 1 ∨ D = 2 ∨ D = 3) (H : ∀ e b1, e ≤ t + 12 → zr_item b1 e t → post (nI e, fa, fM, fN, fD, fl, fh, fL, fH, fm, b1, a2, a3, a4, a5, a6, a7, a8)) : wL_item_40 post w (nI 10) (nI v) (nI D) (nI t) fa fM fN fD fl fh fL fH fm a1 a2 a3 a4 a5 a6 a7 a8 :=
  br_f (by decide) (br_f (by decide) (br_f (by decide) (br_f (by decide) (br_f (by decide) (br_f (by decide) (br_f (by decide) (br_f (by decide) (br_f (by decide) (br_f (by decide) (zr_i128r (by omega) hv hD (by decide) (by decide) (fun e e' b1 q1 q2 q3 q4 => H e' b1 (by omega) (zr_itR q2 q3 q4))))))))))))
theorem zr_if11 {post : St1 → Prop} {t v D : Nat} {w : Int32} (ht : t + 12 ≤ 40) (hv : v < 1000) (hD : D = 1 ∨ D = 2 ∨ D = 3) (H : ∀ e b1, e ≤ t + 12 → zr_item b1 e t → post (nI e, fa, fM, fN, fD, fl, fh, fL, fH, fm, b1, a2, a3, a4, a5, a6, a7, a8)) : wL_item_40 post w (nI 11) (nI v) (nI D) (nI t) fa fM fN fD fl fh fL fH fm a1 a2 a3 a4 a5 a6 a7 a8 :=
  br_f (by decide) (br_f (by decide) (br_f (by decide) (br_f (by decide) (br_f (by decide) (br_f (by decide) (br_f (by decide) (br_f (by decide) (br_f (by decide) (br_f (by decide) (zr_i128r (by omega) hv hD (by decide) (by decide) (fun e e' b1 q1 q2 q3 q4 => H e' b1 (by omega) (zr_itR q2 q3 q4))))))))))))
theorem zr_if12 {post : St1 → Prop} {t v D : Nat} {w : Int32} (ht : t + 12 ≤ 40) (hv : v < 1000) (hD : D = 1 ∨ D = 2 ∨ D = 3) (H : ∀ e b1, e ≤ t + 12 → zr_item b1 e t → post (nI e, fa, fM, fN, fD, fl, fh, fL, fH, fm, b1, a2, a3, a4, a5, a6, a7, a8)) : wL_item_40 post w (nI 12) (nI v) (nI D) (nI t) fa fM fN fD fl fh fL fH fm a1 a2 a3 a4 a5 a6 a7 a8 :=
  br_f (by decide) (br_f (by decide) (br_f (by decide) (br_f (by decide) (br_f (by decide) (br_f (by decide) (br_f (by decide) (br_f (by decide) (br_f (by decide) (br_f (by decide) (zr_i128 (by omega) hv hD (by decide) (by decide) (by decide) (fun e b1 q1 q2 q3 q4 => H e b1 (by omega) (zr_itN q4))))))))))))
theorem zr_if13 {post : St1 → Prop} {t v D : Nat} {w : Int32} (ht : t + 12 ≤ 40) (hv : v < 1000) (hD : D = 1 ∨ D = 2 ∨ D = 3) (H : ∀ e b1, e ≤ t + 12 → zr_item b1 e t → post (nI e, fa, fM, fN, fD, fl, fh, fL, fH, fm, b1, a2, a3, a4, a5, a6, a7, a8)) : wL_item_40 post w (nI 13) (nI v) (nI D) (nI t) fa fM fN fD fl fh fL fH fm a1 a2 a3 a4 a5 a6 a7 a8 :=
  br_f (by decide) (br_f (by decide) (br_f (by decide) (br_f (by decide) (br_f (by decide) (br_f (by decide) (br_f (by decide) (br_f (by decide) (br_f (by decide) (br_f (by decide) (zr_i128 (by omega) hv hD (by decide) (by decide) (by decide) (fun e b1 q1 q2 q3 q4 => H e b1 (by omega) (zr_itN q4))))))))))))
theorem zr_if14 {post : St1 → Prop} {t v D : Nat} {w : Int32} (ht : t + 12 ≤ 40) (hv : v < 1000) (hD : D = 1 ∨ D = 2 ∨ D = 3) (H : ∀ e b1, e ≤ t + 12 → zr_item b1 e t → post (nI e, fa, fM, fN, fD, fl, fh, fL, fH, fm, b1, a2, a3, a4, a5, a6, a7, a8)) : wL_item_40 post w (nI 14) (nI v) (nI D) (nI t) fa fM fN fD fl fh fL fH fm a1 a2 a3 a4 a5 a6 a7 a8 :=
  br_f (by decide) (br_f (by decide) (br_f (by decide) (br_f (by decide) (br_f (by decide) (br_f (by decide) (br_f (by decide) (br_f (by decide) (br_f (by decide) (br_f (by decide) (zr_i128 (by omega) hv hD (by decide) (by decide) (by decide) (fun e b1 q1 q2 q3 q4 => H e b1 (by omega) (zr_itN q4))))))))))))
theorem zr_if15 {post : St1 → Prop} {t v D : Nat} {w : Int32} (ht : t + 12 ≤ 40) (hv : v < 1000) (hD : D = 1 ∨ D = 2 ∨ D = 3) (H : ∀ e b1, e ≤ t + 12 → zr_item b1 e t → post (nI e, fa, fM, fN, fD, fl, fh, fL, fH, fm, b1, a2, a3, a4, a5, a6, a7, a8)) : wL_item_40 post w (nI 15) (nI v) (nI D) (nI t) fa fM fN fD fl fh fL fH fm a1 a2 a3 a4 a5 a6 a7 a8 :=
  br_f (by decide) (br_f (by decide) (br_f (by decide) (br_f (by decide) (br_f (by decide) (br_f (by decide) (br_f (by decide) (br_f (by decide) (br_f (by decide) (br_f (by decide) (zr_i128 (by omega) hv hD (by decide) (by decide) (by decide) (fun e b1 q1 q2 q3 q4 => H e b1 (by omega) (zr_itN q4))))))))))))
theorem zr_itemW {post : St1 → Prop} {t : Nat} {w : Int32} (ht : t + 12 ≤ 40) (H : ∀ e b1, e ≤ t + 12 → zr_item b1 e t → post (nI e, fa, fM, fN, fD, fl, fh, fL, fH, fm, b1, a2, a3, a4, a5, a6, a7, a8)) : wpL_item post (nI t, fa, fM, fN, fD, fl, fh, fL, fH, fm, a1, a2, a3, a4, a5, a6, a7, a8) w := by
  obtain ⟨f, f1, f2⟩ := zr_and w (m := 15) 4 16 (by decide) (by decide)
  obtain ⟨m, m1, m2⟩ := zr_and (w >>> ((4 : Int32) &&& 31)) (m := 1023) 10 1024 (by decide) (by decide)
  obtain ⟨D, d1, d2⟩ := zr_D3 (w >>> ((14 : Int32) &&& 31))
  refine nm_r f2 ⟨by decide, nm_r (e' := nI (m % 1000)) (by rw [m2, show (1000 : Int32) = nI 1000 from rfl, pk_rem (by omega) (by omega) (by omega)]) ⟨by decide, nm_r d2 ?_⟩⟩
  have hv : m % 1000 < 1000 := by omega
  have hf : f = 0 ∨ f = 1 ∨ f = 2 ∨ f = 3 ∨ f = 4 ∨ f = 5 ∨ f = 6 ∨ f = 7 ∨ f = 8 ∨ f = 9 ∨ f = 10 ∨ f = 11 ∨ f = 12 ∨ f = 13 ∨ f = 14 ∨ f = 15 := by omega
  rcases hf with e | e | e | e | e | e | e | e | e | e | e | e | e | e | e | e
  · subst e
    exact br_t rfl (zr_if0 ht hv d1 H)
  · subst e
    exact br_f (by decide) (zr_if1 ht hv d1 H)
  · subst e
    exact br_f (by decide) (zr_if2 ht hv d1 H)
  · subst e
    exact br_f (by decide) (zr_if3 ht hv d1 H)
  · subst e
    exact br_f (by decide) (zr_if4 ht hv d1 H)
  · subst e
    exact br_f (by decide) (zr_if5 ht hv d1 H)
  · subst e
    exact br_f (by decide) (zr_if6 ht hv d1 H)
  · subst e
    exact br_f (by decide) (zr_if7 ht hv d1 H)
  · subst e
    exact br_f (by decide) (zr_if8 ht hv d1 H)
  · subst e
    exact br_f (by decide) (zr_if9 ht hv d1 H)
  · subst e
    exact br_f (by decide) (zr_if10 ht hv d1 H)
  · subst e
    exact br_f (by decide) (zr_if11 ht hv d1 H)
  · subst e
    exact br_f (by decide) (zr_if12 ht hv d1 H)
  · subst e
    exact br_f (by decide) (zr_if13 ht hv d1 H)
  · subst e
    exact br_f (by decide) (zr_if14 ht hv d1 H)
  · subst e
    exact br_f (by decide) (zr_if15 ht hv d1 H)
end
end
section
theorem zr_nm1 {a : Nat → Int32} {t p e : Nat} (h : zr_num a t p e) : p < t ∧ zr_dg (a p) := by
  have d := zr_nTd h.2.1
  have := h.1
  exact ⟨by omega, d.2.2⟩
theorem zr_nm2 {a : Nat → Int32} {t p e : Nat} (h : zr_num a t p e) (g : p + 1 < t → ¬ a (p + 1) = 46) : p + 1 = e := by
  obtain ⟨h1, h2, h3⟩ := h
  rcases h2 with ⟨k1, _⟩ | ⟨k1, _, k2, _⟩ | ⟨k1, _, k2, _⟩
  · exact k1.symm
  · exact absurd k2 (g (by omega))
  · exact absurd k2 (g (by omega))
theorem zr_nm3 {a : Nat → Int32} {t p e : Nat} (h : zr_num a t p e) (g : p + 1 < t) (g' : a (p + 1) = 46) : p + 2 < t ∧ zr_dg (a (p + 2)) := by
  obtain ⟨h1, h2, h3⟩ := h
  rcases h2 with ⟨k1, _⟩ | ⟨k1, _, k2, k3⟩ | ⟨k1, _, k2, k3, _⟩
  · subst k1
    exact absurd g' (h3 g)
  · exact ⟨by omega, k3⟩
  · exact ⟨by omega, k3⟩
theorem zr_nm4 {a : Nat → Int32} {t p e : Nat} (h : zr_num a t p e) (g : p + 1 < t) (g' : a (p + 1) = 46) (k : p + 3 < t → ¬ a (p + 3) = 46) : p + 3 = e := by
  obtain ⟨h1, h2, h3⟩ := h
  rcases h2 with ⟨k1, _⟩ | ⟨k1, _, k2, k3⟩ | ⟨k1, _, k2, k3, k4, _⟩
  · subst k1
    exact absurd g' (h3 g)
  · exact k1.symm
  · exact absurd k4 (k (by omega))
theorem zr_nm5 {a : Nat → Int32} {t p e : Nat} (h : zr_num a t p e) (g : p + 1 < t) (g' : a (p + 1) = 46) (k : p + 3 < t) (k' : a (p + 3) = 46) : p + 4 < t ∧ zr_dg (a (p + 4)) ∧ p + 5 = e := by
  obtain ⟨h1, h2, h3⟩ := h
  rcases h2 with ⟨k1, _⟩ | ⟨k1, _, k2, k3⟩ | ⟨k1, _, k2, k3, k4, k5⟩
  · subst k1
    exact absurd g' (h3 g)
  · subst k1
    exact absurd k' (h3 k)
  · exact ⟨by omega, k5, k1.symm⟩
theorem zr_dgv {x : Int32} (h : zr_dg x) : ∃ k, k ≤ 9 ∧ x - 48 = nI k := by
  obtain ⟨h1, h2⟩ := h
  rw [Int32.lt_iff_toInt_lt, show (48 : Int32).toInt = 48 from by decide] at h1
  rw [Int32.lt_iff_toInt_lt, show (57 : Int32).toInt = 57 from by decide] at h2
  have h0 : ¬ x < 0 := by
    rw [Int32.lt_iff_toInt_lt, show (0 : Int32).toInt = 0 from by decide]
    omega
  obtain ⟨j, j1, j2⟩ := nI_of h0
  subst j2
  rw [nI_toInt j1] at h1 h2
  refine ⟨j - 48, by omega, ?_⟩
  rw [show (48 : Int32) = nI 48 from rfl, pk_sub (by omega)]
theorem zr_m100 (k : Nat) : (100 : Int32) * nI k = nI (100 * k) := by rw [show (100 : Int32) = nI 100 from rfl, pk_mul]
theorem zr_m10 (k : Nat) : (10 : Int32) * nI k = nI (10 * k) := by rw [show (10 : Int32) = nI 10 from rfl, pk_mul]
section
variable {ft fa fM fN fD fl fh fL fH fm : Int32} {a1 a2 a3 a4 a5 a6 a7 a8 : Nat → Int32}
theorem zr_rngF {post : Int32 → Prop} {p0 : Int32} (h0 : (∀ d, d < 4 → ¬ p0 = nI d) → post 0) (h1 : ∀ d, d < 4 → p0 = nI d → post 1) : wpX_isRange post (ft, fa, fM, fN, fD, fl, fh, fL, fH, fm, a1, a2, a3, a4, a5, a6, a7, a8) p0 := by
  refine br_c (fun z => h0 (fun d hd e => ?_)) (fun z => br_c (fun z2 => h0 (fun d hd e => ?_)) (fun z2 => ?_))
  · subst e
    exact absurd z (nI_pos (by omega))
  · subst e
    exact absurd z2 (nI_nlt (a := 3) (by omega) (by omega))
  · obtain ⟨j, hj, e⟩ := nI_of z
    subst e
    have : ¬ 3 < j := fun q => z2 (nI_lt q hj)
    exact h1 j (by omega) rfl
theorem zr_pass {post : Int32 → St1 → Prop} {t p : Nat} {x : Int32} (ht : t ≤ 40) (hp : p ≤ t) (H0 : (p < t → ¬ a1 p = x) → post 0 (nI t, nI p, fM, fN, fD, fl, fh, fL, fH, fm, a1, a2, a3, a4, a5, a6, a7, a8)) (H1 : p < t → a1 p = x → post 1 (nI t, nI (p + 1), fM, fN, fD, fl, fh, fL, fH, fm, a1, a2, a3, a4, a5, a6, a7, a8)) : wpX_pass post (nI t, nI p, fM, fN, fD, fl, fh, fL, fH, fm, a1, a2, a3, a4, a5, a6, a7, a8) x :=
  pk_le t p (fun z => H0 (fun q => absurd q (by omega))) (fun z => ⟨pk_in p 40 (by omega), ek_if (d := a1 p = x) (by rw [nI_clamp (by omega)]) (fun e => nm_r (nI_1 p) (H1 z e)) (fun e => H0 (fun _ => e))⟩)
theorem zr_part {post : Int32 → St1 → Prop} {t p : Nat} (ht : t ≤ 40) (hp : p ≤ t)
    (H0 : ∀ q M N D l h, q ≤ t → (∀ e, ¬ zr_num a1 t p e) → post 0 (nI t, nI q, M, N, D, l, h, fL, fH, fm, a1, a2, a3, a4, a5, a6, a7, a8))
    (H1 : ∀ q M N D l h, p < q → q ≤ t → M ≤ 9 → N ≤ 9 → l ≤ h → h ≤ 999 → (∀ e, zr_num a1 t p e → q = e) → post 1 (nI t, nI q, nI M, nI N, D, nI l, nI h, fL, fH, fm, a1, a2, a3, a4, a5, a6, a7, a8)) : wpX_readPartial post (nI t, nI p, fM, fN, fD, fl, fh, fL, fH, fm, a1, a2, a3, a4, a5, a6, a7, a8) := by
  have ep : (nI p).toNatClampNeg = p := nI_clamp (by omega)
  have ep2 : (nI (p + 1 + 1)).toNatClampNeg = p + 2 := nI_clamp (by omega)
  have ep4 : (nI (p + 1 + 1 + 1 + 1)).toNatClampNeg = p + 4 := nI_clamp (by omega)
  refine pk_le t p (fun z => H0 p _ _ _ _ _ hp (fun e q => absurd (zr_nm1 q).1 (by omega))) (fun z => ⟨pk_in p 40 (by omega), zr_isD (fun nd => br_t rfl (H0 p _ _ _ _ _ hp (fun e q => ?_))) (fun d => br_f (by decide) ⟨pk_in p 40 (by omega), ?_⟩)⟩)
  · rw [ep] at nd
    exact nd (zr_nm1 q).2
  rw [ep] at d
  obtain ⟨k, k1, k2⟩ := zr_dgv d
  refine nm_r (e' := nI k) (by rw [ep]; exact k2) (nm_r (nI_1 p) (nm_r (e' := nI (100 * k)) (zr_m100 k) (nm_r (e' := nI (100 * k + 99)) (nI_add _ 99) ?_)))
  refine zr_pass ht (by omega) (fun g => br_t rfl (H1 (p + 1) k 0 _ _ _ (by omega) (by omega) k1 (by omega) (by omega) (by omega) (fun e q => zr_nm2 q g))) (fun g g' => br_f (by decide) ?_)
  refine pk_le t (p + 1 + 1) (fun z2 => H0 _ _ _ _ _ _ (by omega) (fun e q => absurd (zr_nm3 q g g').1 (by omega))) (fun z2 => ⟨pk_in (p + 1 + 1) 40 (by omega), zr_isD (fun nd => br_t rfl (H0 _ _ _ _ _ _ (by omega) (fun e q => ?_))) (fun d2 => br_f (by decide) ⟨pk_in (p + 1 + 1) 40 (by omega), ?_⟩)⟩)
  · rw [ep2] at nd
    exact nd (zr_nm3 q g g').2
  rw [ep2] at d2
  obtain ⟨k', k1', k2'⟩ := zr_dgv d2
  refine nm_r (e' := nI k') (by rw [ep2]; exact k2') (nm_r (nI_1 _) (nm_r (e' := nI (100 * k + 10 * k')) (by rw [zr_m10 k', nI_add]) (nm_r (e' := nI (100 * k + 10 * k' + 9)) (nI_add _ 9) ?_)))
  refine zr_pass ht (by omega) (fun c => br_t rfl (H1 (p + 1 + 1 + 1) k k' _ _ _ (by omega) (by omega) k1 k1' (by omega) (by omega) (fun e q => zr_nm4 q g g' c))) (fun c c' => br_f (by decide) ?_)
  refine pk_le t (p + 1 + 1 + 1 + 1) (fun z3 => H0 _ _ _ _ _ _ (by omega) (fun e q => absurd (zr_nm5 q g g' c c').1 (by omega))) (fun z3 => ⟨pk_in (p + 1 + 1 + 1 + 1) 40 (by omega), zr_isD (fun nd => br_t rfl (H0 _ _ _ _ _ _ (by omega) (fun e q => ?_))) (fun d3 => br_f (by decide) ⟨pk_in (p + 1 + 1 + 1 + 1) 40 (by omega), ?_⟩)⟩)
  · rw [ep4] at nd
    exact nd (zr_nm5 q g g' c c').2.1
  rw [ep4] at d3
  obtain ⟨k'', k1'', k2''⟩ := zr_dgv d3
  refine nm_r (e' := nI (100 * k + 10 * k' + k'')) (by rw [ep4, k2'', nI_add]) (nm_r (nI_1 _) ?_)
  exact H1 (p + 1 + 1 + 1 + 1 + 1) k k' _ _ _ (by omega) (by omega) k1 k1' (by omega) (by omega) (fun e q => (zr_nm5 q g g' c c').2.2)
theorem zr_tilde {post : Int32 → St1 → Prop} {t p : Nat} (ht : t ≤ 40) (hp : p ≤ t)
    (H0 : ∀ q M N D l h L G, q ≤ t → (∀ e, ¬ zr_num a1 t p e) → post 0 (nI t, nI q, M, N, D, l, h, L, G, fm, a1, a2, a3, a4, a5, a6, a7, a8))
    (H1 : ∀ q M N D l h L G x y, p < q → q ≤ t → x ≤ 1000 → y ≤ 1000 → L = nI x → G = nI y - 1 → (∀ e, zr_num a1 t p e → q = e) → post 1 (nI t, nI q, M, N, D, l, h, L, G, fm, a1, a2, a3, a4, a5, a6, a7, a8)) : wpX_readTilde post (nI t, nI p, fM, fN, fD, fl, fh, fL, fH, fm, a1, a2, a3, a4, a5, a6, a7, a8) := by
  unfold wpX_readTilde
  refine zr_part ht hp (fun q M N D l h k1 k2 => br_t rfl (H0 _ _ _ _ _ _ _ _ k1 k2)) (fun q M N D l h k1 k2 k3 k4 k5 k6 k7 => br_f (by decide) (br_c (fun _ => nm_r (e' := nI (100 * M + 100) - 1) ?_ ?_) (fun _ => nm_r (e' := nI (100 * M + 10 * N + 10) - 1) ?_ ?_)))
  · rw [zr_m100 M, show (99 : Int32) = nI 99 from rfl, nI_add, nI_pred (100 * M + 99)]
  · exact H1 _ _ _ _ _ _ _ _ l (100 * M + 100) k1 k2 (by omega) (by omega) rfl rfl k7
  · rw [zr_m100 M, zr_m10 N, nI_add, show (9 : Int32) = nI 9 from rfl, nI_add, nI_pred (100 * M + 10 * N + 9)]
  · exact H1 _ _ _ _ _ _ _ _ l (100 * M + 10 * N + 10) k1 k2 (by omega) (by omega) rfl rfl k7
theorem zr_caret {post : Int32 → St1 → Prop} {t p : Nat} (ht : t ≤ 40) (hp : p ≤ t)
    (H0 : ∀ q M N D l h L G, q ≤ t → (∀ e, ¬ zr_num a1 t p e) → post 0 (nI t, nI q, M, N, D, l, h, L, G, fm, a1, a2, a3, a4, a5, a6, a7, a8))
    (H1 : ∀ q M N D l h L G x y, p < q → q ≤ t → x ≤ 1000 → y ≤ 1000 → L = nI x → G = nI y - 1 → (∀ e, zr_num a1 t p e → q = e) → post 1 (nI t, nI q, M, N, D, l, h, L, G, fm, a1, a2, a3, a4, a5, a6, a7, a8)) : wpX_readCaret post (nI t, nI p, fM, fN, fD, fl, fh, fL, fH, fm, a1, a2, a3, a4, a5, a6, a7, a8) := by
  unfold wpX_readCaret
  refine zr_part ht hp (fun q M N D l h k1 k2 => br_t rfl (H0 _ _ _ _ _ _ _ _ k1 k2)) (fun q M N D l h k1 k2 k3 k4 k5 k6 k7 => br_f (by decide) ?_)
  have e32 : (100 : Int32) * nI M + 99 = nI (100 * M + 100) - 1 := by
    rw [zr_m100 M, show (99 : Int32) = nI 99 from rfl, nI_add, nI_pred (100 * M + 99)]
  have e64 : (10 : Int32) * nI N + 9 = nI (10 * N + 10) - 1 := by
    rw [zr_m10 N, show (9 : Int32) = nI 9 from rfl, nI_add, nI_pred (10 * N + 9)]
  have g32 : wX_readCaret_32 post (nI t) (nI q) (nI M) (nI N) D (nI l) (nI h) (nI l) fH fm a1 a2 a3 a4 a5 a6 a7 a8 := nm_r e32 (H1 _ _ _ _ _ _ _ _ l (100 * M + 100) k1 k2 (by omega) (by omega) rfl rfl k7)
  have g64 : wX_readCaret_64 post (nI t) (nI q) (nI M) (nI N) D (nI l) (nI h) (nI l) fH fm a1 a2 a3 a4 a5 a6 a7 a8 := nm_r e64 (H1 _ _ _ _ _ _ _ _ l (10 * N + 10) k1 k2 (by omega) (by omega) rfl rfl k7)
  exact br_c (fun _ => br_c (fun _ => g32) (fun _ => br_c (fun _ => br_c (fun _ => g64) (fun _ => H1 _ _ _ _ _ _ _ _ l (l + 1) k1 k2 (by omega) (by omega) rfl (nI_pred l).symm k7)) (fun _ => g64))) (fun _ => g32)
theorem zr_bound {post : Int32 → St1 → Prop} {t p x0 y0 : Nat} {p0 : Int32} (ht : t ≤ 40) (hp : p ≤ t) (hx0 : x0 ≤ 1000) (hy0 : y0 ≤ 1000) (eL : fL = nI x0) (eG : fH = nI y0 - 1)
    (H0 : ∀ q M N D l h L G, q ≤ t → ¬ (zr_num a1 t p t ∨ (a1 p = 61 ∧ zr_num a1 t (p + 1) t)) → post 0 (nI t, nI q, M, N, D, l, h, L, G, fm, a1, a2, a3, a4, a5, a6, a7, a8))
    (H1 : ∀ q M N D l h L G x y, p < q → q ≤ t → x ≤ 1000 → y ≤ 1000 → L = nI x → G = nI y - 1 → ((zr_num a1 t p t ∨ (a1 p = 61 ∧ zr_num a1 t (p + 1) t)) → q = t) → post 1 (nI t, nI q, M, N, D, l, h, L, G, fm, a1, a2, a3, a4, a5, a6, a7, a8)) : wpX_readBound post (nI t, nI p, fM, fN, fD, fl, fh, fL, fH, fm, a1, a2, a3, a4, a5, a6, a7, a8) p0 := by
  unfold wpX_readBound
  refine zr_pass ht hp (fun g => ?_) (fun g g' => ?_)
  · have key : (zr_num a1 t p t ∨ (a1 p = 61 ∧ zr_num a1 t (p + 1) t)) → zr_num a1 t p t := fun z => by
      rcases z with z | z
      · exact z
      · have := (zr_nm1 z.2).1
        exact absurd z.1 (g (by omega))
    refine zr_part ht hp (fun q M N D l h k1 k2 => br_t rfl (H0 _ _ _ _ _ _ _ _ k1 (fun z => k2 t (key z)))) (fun q M N D l h k1 k2 k3 k4 k5 k6 k7 => br_f (by decide) (br_c (fun _ => br_t rfl (nm_r (nI_1 h) ?_)) (fun _ => br_t rfl (nm_e ?_))))
    · exact H1 _ _ _ _ _ _ _ _ (h + 1) y0 k1 k2 (by omega) hy0 rfl eG (fun z => k7 t (key z))
    · exact H1 _ _ _ _ _ _ _ _ x0 l k1 k2 hx0 (by omega) eL rfl (fun z => k7 t (key z))
  · have key : (zr_num a1 t p t ∨ (a1 p = 61 ∧ zr_num a1 t (p + 1) t)) → zr_num a1 t (p + 1) t := fun z => by
      rcases z with z | z
      · exact absurd g' (zr_dgn (zr_nm1 z).2 (by decide))
      · exact z.2
    refine zr_part ht (by omega) (fun q M N D l h k1 k2 => br_t rfl (H0 _ _ _ _ _ _ _ _ k1 (fun z => k2 t (key z)))) (fun q M N D l h k1 k2 k3 k4 k5 k6 k7 => br_f (by decide) (br_c (fun _ => br_f (by decide) ?_) (fun _ => br_f (by decide) ?_)))
    · exact H1 _ _ _ _ _ _ _ _ l y0 (by omega) k2 (by omega) hy0 rfl eG (fun z => k7 t (key z))
    · exact H1 _ _ _ _ _ _ _ _ x0 (h + 1) (by omega) k2 hx0 (by omega) eL (nI_pred h).symm (fun z => k7 t (key z))
theorem zr_readItem {post : Int32 → St1 → Prop} {t p : Nat} (ht : t ≤ 40) (hp : p ≤ t)
    (H0 : ∀ q M N D l h L G, q ≤ t → ¬ zr_item a1 t p → post 0 (nI t, nI q, M, N, D, l, h, L, G, fm, a1, a2, a3, a4, a5, a6, a7, a8))
    (H1 : ∀ q M N D l h L G x y, p < q → q ≤ t → x ≤ 1000 → y ≤ 1000 → L = nI x → G = nI y - 1 → (zr_item a1 t p → q = t) → post 1 (nI t, nI q, M, N, D, l, h, L, G, fm, a1, a2, a3, a4, a5, a6, a7, a8)) : wpX_readItem post (nI t, nI p, fM, fN, fD, fl, fh, fL, fH, fm, a1, a2, a3, a4, a5, a6, a7, a8) := by
  have e9 : (999 : Int32) = nI 1000 - 1 := by decide
  unfold wpX_readItem
  refine zr_pass ht hp (fun n42 => br_t rfl ?_) (fun g g' => br_f (by decide) (H1 _ _ _ _ _ _ _ _ 0 1000 (by omega) (by omega) (by omega) (by omega) rfl e9 (fun it => it.2.1 g')))
  refine zr_pass ht hp (fun n60 => br_t rfl ?_) (fun g g' => br_f (by decide) (zr_bound (x0 := 0) (y0 := 1000) ht (by omega) (by omega) (by omega) rfl e9 (fun q M N D l h L G k1 k2 => ⟨rfl, H0 _ _ _ _ _ _ _ _ k1 (fun it => k2 (it.2.2.1 (Or.inl g')))⟩) (fun q M N D l h L G x y k1 k2 k3 k4 k5 k6 k7 => ⟨rfl, H1 _ _ _ _ _ _ _ _ x y (by omega) k2 k3 k4 k5 k6 (fun it => k7 (it.2.2.1 (Or.inl g')))⟩)))
  refine zr_pass ht hp (fun n62 => br_t rfl ?_) (fun g g' => br_f (by decide) (zr_bound (x0 := 0) (y0 := 1000) ht (by omega) (by omega) (by omega) rfl e9 (fun q M N D l h L G k1 k2 => ⟨rfl, H0 _ _ _ _ _ _ _ _ k1 (fun it => k2 (it.2.2.1 (Or.inr g')))⟩) (fun q M N D l h L G x y k1 k2 k3 k4 k5 k6 k7 => ⟨rfl, H1 _ _ _ _ _ _ _ _ x y (by omega) k2 k3 k4 k5 k6 (fun it => k7 (it.2.2.1 (Or.inr g')))⟩)))
  refine zr_pass ht hp (fun n94 => br_t rfl ?_) (fun g g' => br_f (by decide) (zr_caret ht (by omega) (fun q M N D l h L G k1 k2 => ⟨rfl, H0 _ _ _ _ _ _ _ _ k1 (fun it => k2 t (it.2.2.2.1 (Or.inl g')))⟩) (fun q M N D l h L G x y k1 k2 k3 k4 k5 k6 k7 => ⟨rfl, H1 _ _ _ _ _ _ _ _ x y (by omega) k2 k3 k4 k5 k6 (fun it => k7 t (it.2.2.2.1 (Or.inl g')))⟩)))
  refine zr_pass ht hp (fun n126 => br_t rfl ?_) (fun g g' => br_f (by decide) (zr_tilde ht (by omega) (fun q M N D l h L G k1 k2 => ⟨rfl, H0 _ _ _ _ _ _ _ _ k1 (fun it => k2 t (it.2.2.2.1 (Or.inr g')))⟩) (fun q M N D l h L G x y k1 k2 k3 k4 k5 k6 k7 => ⟨rfl, H1 _ _ _ _ _ _ _ _ x y (by omega) k2 k3 k4 k5 k6 (fun it => k7 t (it.2.2.2.1 (Or.inr g')))⟩)))
  have itN : zr_item a1 t p → (zr_num a1 t p t ∨ ∃ e, e < t ∧ zr_num a1 t p e ∧ a1 e = 45 ∧ zr_num a1 t (e + 1) t) := fun it => it.2.2.2.2 (n42 it.1) (n60 it.1) (n62 it.1) (n94 it.1) (n126 it.1)
  refine zr_part ht hp (fun q M N D l h k1 k2 => br_t rfl (H0 _ _ _ _ _ _ _ _ k1 (fun it => ?_))) (fun q M N D l h k1 k2 k3 k4 k5 k6 k7 => br_f (by decide) ?_)
  · rcases itN it with z | ⟨e, _, z, _⟩
    · exact k2 t z
    · exact k2 e z
  refine zr_pass ht k2 (fun g => br_t rfl (H1 _ _ _ _ _ _ _ _ l (h + 1) k1 k2 (by omega) (by omega) rfl (nI_pred h).symm (fun it => ?_))) (fun g g' => br_f (by decide) ?_)
  · rcases itN it with z | ⟨e, z1, z2, z3, _⟩
    · exact k7 t z
    · have e1 := k7 e z2
      subst e1
      exact absurd z3 (g z1)
  refine zr_part ht (by omega) (fun q' M' N' D' l' h' k1' k2' => br_t rfl (H0 _ _ _ _ _ _ _ _ k1' (fun it => ?_))) (fun q' M' N' D' l' h' k1' k2' k3' k4' k5' k6' k7' => br_f (by decide) (H1 _ _ _ _ _ _ _ _ l (h' + 1) (by omega) k2' (by omega) (by omega) rfl (nI_pred h').symm (fun it => ?_)))
  · rcases itN it with z | ⟨e, z1, z2, z3, z4⟩
    · have := k7 t z
      omega
    · have e1 := k7 e z2
      subst e1
      exact k2' t z4
  · rcases itN it with z | ⟨e, z1, z2, z3, z4⟩
    · have := k7 t z
      omega
    · have e1 := k7 e z2
      subst e1
      exact k7' t z4
theorem zr_cl8 {post : Int32 → St1 → Prop} {t p c : Nat} {P : Nat → Prop} (ht : t ≤ 40) (hc : c ≤ 60) (hR : zr_R 0 c a5 a6 P)
    (H0 : ∀ q M N D l h L G, q ≤ t → ¬ zr_item a1 t p → post 0 (nI t, nI q, M, N, D, l, h, L, G, nI c, a1, a2, a3, a4, a5, a6, a7, a8))
    (H1 : ∀ q M N D l h L G c' b5 b6 b7 b8 Q, p < q → q ≤ t → (zr_item a1 t p → q = t) → c' ≤ c + 1 → zr_R 0 c' b5 b6 Q → post 1 (nI t, nI q, M, N, D, l, h, L, G, nI c', a1, a2, a3, a4, b5, b6, b7, b8)) :
    ∀ n x y r q (M N D l h L G : Int32), q ≤ t → x ≤ 1000 → y ≤ 1000 → (r = 0 ∨ r = 1) → (t - q) + r < n → p ≤ q → (r = 0 → p < q) → (zr_item a1 t p → (r = 1 ∧ q = p) ∨ (r = 0 ∧ q = t)) →
      wX_readClause_8 post n (nI x) (nI y - 1) (nI r) (nI t) (nI q) M N D l h L G (nI c) a1 a2 a3 a4 a5 a6 a7 a8 := by
  intro n
  induction n with
  | zero =>
    intro x y r q M N D l h L G hq hx hy hr hn
    exact absurd hn (Nat.not_lt_zero _)
  | succ n ih =>
    intro x y r q M N D l h L G hq hx hy hr hn hpq hr0 hit
    refine pk_eq r 0 (fun z => ?_) (fun z => ?_)
    · subst z
      refine zr_unite hc hR hx hy rfl rfl (fun c' b5 b6 b7 b8 k1 k2 => H1 q _ _ _ _ _ _ _ c' b5 b6 b7 b8 _ (hr0 rfl) hq (fun it => ?_) k1 k2)
      rcases hit it with w | w
      · omega
      · exact w.2
    · have er : r = 1 := by omega
      subst er
      have hqp : zr_item a1 t p → q = p := fun it => by
        rcases hit it with w | w
        · exact w.2
        · omega
      refine zr_readItem ht hq (fun q' M N D l h L G k1 k2 => br_t rfl (H0 _ _ _ _ _ _ _ _ k1 (fun it => k2 (by rw [hqp it]; exact it)))) (fun q' M N D l h L G x' y' k1 k2 k3 k4 e1 e2 k5 => br_f (by decide) ?_)
      subst e1 e2
      have hend : zr_item a1 t p → q' = t := fun it => k5 (by rw [hqp it]; exact it)
      have go : ∀ x1 y1, x1 ≤ 1000 → y1 ≤ 1000 → wX_readClause_47 post (wX_readClause_8 post n) (nI x1) (nI y1 - 1) (nI t) (nI q') M N D l h (nI x') (nI y' - 1) (nI c) a1 a2 a3 a4 a5 a6 a7 a8 := by
        intro x1 y1 hx1 hy1
        refine zr_pass ht k2 (fun _ => ih x1 y1 0 q' M N D l h _ _ k2 hx1 hy1 (Or.inl rfl) (by omega) (by omega) (fun _ => by omega) (fun it => Or.inr ⟨rfl, hend it⟩)) (fun g _ => ih x1 y1 1 (q' + 1) M N D l h _ _ (by omega) hx1 hy1 (Or.inr rfl) (by omega) (by omega) (fun z => absurd z (by omega)) (fun it => ?_))
        have := hend it
        omega
      exact br_c (fun _ => br_c (fun _ => go x y hx hy) (fun _ => go x y' hx k4)) (fun _ => br_c (fun _ => go x' y k3 hy) (fun _ => go x' y' k3 k4))
theorem zr_clause {post : Int32 → St1 → Prop} {t p c : Nat} {P : Nat → Prop} (ht : t ≤ 40) (hp : p ≤ t) (hc : c ≤ 60) (hR : zr_R 0 c a5 a6 P)
    (H0 : ∀ q M N D l h L G, q ≤ t → ¬ zr_item a1 t p → post 0 (nI t, nI q, M, N, D, l, h, L, G, nI c, a1, a2, a3, a4, a5, a6, a7, a8))
    (H1 : ∀ q M N D l h L G c' b5 b6 b7 b8 Q, p < q → q ≤ t → (zr_item a1 t p → q = t) → c' ≤ c + 1 → zr_R 0 c' b5 b6 Q → post 1 (nI t, nI q, M, N, D, l, h, L, G, nI c', a1, a2, a3, a4, b5, b6, b7, b8)) : wpX_readClause post (nI t, nI p, fM, fN, fD, fl, fh, fL, fH, nI c, a1, a2, a3, a4, a5, a6, a7, a8) := by
  have w := zr_cl8 ht hc hR H0 H1 (t + 2) 0 1000 1 p fM fN fD fl fh fL fH hp (by omega) (by omega) (Or.inr rfl) (by omega) (Nat.le_refl _) (fun z => absurd z (by omega)) (fun _ => Or.inl ⟨rfl, rfl⟩)
  rw [show nI 1000 - 1 = (999 : Int32) from by decide] at w
  exact ⟨t + 2, w⟩
theorem zr_rr {post : Int32 → St1 → Prop} {t : Nat} (ht : t ≤ 40)
    (H0 : ∀ q M N D l h L G m b5 b6 b7 b8, ¬ zr_item a1 t 0 → post 0 (nI t, q, M, N, D, l, h, L, G, m, a1, a2, a3, a4, b5, b6, b7, b8))
    (H1 : ∀ q M N D l h L G c b5 b6 b7 b8 Q, c ≤ 24 → zr_R 0 c b5 b6 Q → post 1 (nI t, q, M, N, D, l, h, L, G, nI c, a1, a2, a3, a4, b5, b6, b7, b8)) :
    ∀ n r q c (Q : Nat → Prop) (M N D l h L G : Int32) (b5 b6 b7 b8 : Nat → Int32), q ≤ t → (r = 0 ∨ r = 1) → (t - q) + r < n → 2 * c ≤ q + 1 → (r = 1 → 2 * c ≤ q) → zr_R 0 c b5 b6 Q → (zr_item a1 t 0 → (r = 1 ∧ q = 0) ∨ (r = 0 ∧ q = t)) →
      wX_readRange_12 post n (nI r) (nI t) (nI q) M N D l h L G (nI c) a1 a2 a3 a4 b5 b6 b7 b8 := by
  intro n
  induction n with
  | zero =>
    intro r q c Q M N D l h L G b5 b6 b7 b8 hq hr hn
    exact absurd hn (Nat.not_lt_zero _)
  | succ n ih =>
    intro r q c Q M N D l h L G b5 b6 b7 b8 hq hr hn hc hc1 hR hit
    refine pk_eq r 0 (fun z => ?_) (fun z => ?_)
    · subst z
      refine pk_eq q t (fun _ => H1 _ _ _ _ _ _ _ _ c b5 b6 b7 b8 Q (by omega) hR) (fun w => H0 _ _ _ _ _ _ _ _ _ _ _ _ _ (fun it => ?_))
      rcases hit it with v | v
      · omega
      · exact w v.2
    · have er : r = 1 := by omega
      subst er
      have hc1' := hc1 rfl
      have hq0 : zr_item a1 t 0 → q = 0 := fun it => by
        rcases hit it with w | w
        · exact w.2
        · omega
      refine zr_clause ht hq (by omega) hR (fun q' M N D l h L G k1 k2 => br_t rfl (H0 _ _ _ _ _ _ _ _ _ _ _ _ _ (fun it => k2 (by rw [hq0 it]; exact it)))) (fun q' M N D l h L G c' b5' b6' b7' b8' Q' k1 k2 k3 k4 k5 => br_f (by decide) ?_)
      have hend : zr_item a1 t 0 → q' = t := fun it => k3 (by rw [hq0 it]; exact it)
      refine zr_pass ht k2 (fun _ => ih 0 q' c' Q' M N D l h L G b5' b6' b7' b8' k2 (Or.inl rfl) (by omega) (by omega) (fun z => absurd z (by omega)) k5 (fun it => Or.inr ⟨rfl, hend it⟩)) (fun g _ => ih 1 (q' + 1) c' Q' M N D l h L G b5' b6' b7' b8' (by omega) (Or.inr rfl) (by omega) (by omega) (fun _ => by omega) k5 (fun it => ?_))
      have := hend it
      omega
theorem zr_read {post : Int32 → St1 → Prop} {t : Nat} {F : Nat → Nat → Prop} {p0 : Int32} (ht : t ≤ 40) (hA : zr_A a2 a3 a4 F)
    (H : ∀ r t' q M N D l h L G m b2 b3 b4 b5 b6 b7 b8 F', t' ≤ 40 → zr_A b2 b3 b4 F' → (∀ d, d < 4 → p0 = nI d → zr_item a1 t 0 → 0 ≤ r) → post r (nI t', q, M, N, D, l, h, L, G, m, a1, b2, b3, b4, b5, b6, b7, b8)) : wpX_read post (nI t, fa, fM, fN, fD, fl, fh, fL, fH, fm, a1, a2, a3, a4, a5, a6, a7, a8) p0 := by
  unfold wpX_read
  refine zr_rngF (fun n => br_t rfl (H _ _ _ _ _ _ _ _ _ _ _ _ _ _ _ _ _ _ _ ht hA (fun d hd e => absurd e (n d hd)))) (fun d hd e => br_f (by decide) ?_)
  subst e
  refine ⟨t + 2, zr_rr ht (fun q M N D l h L G m b5 b6 b7 b8 k => br_t rfl (H _ _ _ _ _ _ _ _ _ _ _ _ _ _ _ _ _ _ _ ht hA (fun _ _ _ it => absurd it k))) (fun q M N D l h L G c b5 b6 b7 b8 Q k1 k2 => br_f (by decide) ?_) (t + 2) 1 0 0 (fun _ => False) _ _ _ _ _ _ _ _ _ _ _ (by omega) (Or.inr rfl) (by omega) (by omega) (fun _ => by omega) (zr_nil (fun _ z => z)) (fun _ => Or.inl ⟨rfl, rfl⟩)⟩
  refine zr_keep hd k1 k2 hA (fun b2 b3 b4 hB => zr_count hd hB ?_)
  have cl := zr_cdl (zr_set F d Q d) 1000
  exact H _ 0 _ _ _ _ _ _ _ _ _ _ _ _ _ _ _ _ _ (by omega) hB (fun _ _ _ _ => nI_pos' (by omega))
end
end
section
theorem zr_lc {L i : Nat} (hL : L < 1000) (hi : i < 1000) : nI L - 3 < nI i ↔ L < i + 3 := by
  rw [Int32.lt_iff_toInt_lt, show (3 : Int32) = nI 3 from rfl, pk_sub_toInt (by omega) (by omega), nI_toInt (by omega)]
  omega
section
variable {ft fa fM fN fD fl fh fL fH fm : Int32} {a1 a2 a3 a4 a5 a6 a7 a8 : Nat → Int32}
theorem zr_holdsE {post : Int32 → St1 → Prop} {a b : Nat} {p q : Int32} {F : Nat → Nat → Prop} (ha : a < 2) (hb : b < 2) (e : p = nI a) (e' : q = nI b) (hA : zr_A a2 a3 a4 F)
    (H : ∀ m b2 b3 b4 b5 b6 b7 b8 G, zr_A b2 b3 b4 G → post 1 (ft, fa, fM, fN, fD, fl, fh, fL, fH, m, a1, b2, b3, b4, b5, b6, b7, b8)) : wpL_holds post (ft, fa, fM, fN, fD, fl, fh, fL, fH, fm, a1, a2, a3, a4, a5, a6, a7, a8) p q := by
  subst e e'
  exact zr_holds ha hb hA H
theorem zr_joinE {post : Int32 → St1 → Prop} {d a b : Nat} {p q s : Int32} {F : Nat → Nat → Prop} (hd : d < 4) (ha : a < 4) (hb : b < 4) (e0 : p = nI d) (e1 : q = nI a) (e2 : s = nI b) (hA : zr_A a2 a3 a4 F)
    (H : ∀ r m b2 b3 b4 b5 b6 b7 b8 G, zr_A b2 b3 b4 G → post r (ft, fa, fM, fN, fD, fl, fh, fL, fH, m, a1, b2, b3, b4, b5, b6, b7, b8)) : wpX_join post (ft, fa, fM, fN, fD, fl, fh, fL, fH, fm, a1, a2, a3, a4, a5, a6, a7, a8) p q s := by
  subst e0 e1 e2
  exact zr_join hd ha hb hA (fun _ _ _ _ _ => H _ _ _ _ _ _ _ _ _ _ hA) (fun _ _ _ _ _ _ _ _ h => H _ _ _ _ _ _ _ _ _ _ h)
theorem zr_meetE {post : Int32 → St1 → Prop} {d a b : Nat} {p q s : Int32} {F : Nat → Nat → Prop} (hd : d < 4) (ha : a < 4) (hb : b < 4) (e0 : p = nI d) (e1 : q = nI a) (e2 : s = nI b) (hA : zr_A a2 a3 a4 F)
    (H : ∀ r m b2 b3 b4 b5 b6 b7 b8 G, zr_A b2 b3 b4 G → post r (ft, fa, fM, fN, fD, fl, fh, fL, fH, m, a1, b2, b3, b4, b5, b6, b7, b8)) : wpX_meet post (ft, fa, fM, fN, fD, fl, fh, fL, fH, fm, a1, a2, a3, a4, a5, a6, a7, a8) p q s := by
  subst e0 e1 e2
  exact zr_meet hd ha hb hA (fun _ _ _ => H _ _ _ _ _ _ _ _ _ _ hA) (fun _ _ _ _ _ _ h => H _ _ _ _ _ _ _ _ _ _ h)
theorem zr_invertE {post : Int32 → St1 → Prop} {d a : Nat} {p q : Int32} {F : Nat → Nat → Prop} (hd : d < 4) (ha : a < 4) (e0 : p = nI d) (e1 : q = nI a) (hA : zr_A a2 a3 a4 F)
    (H : ∀ r m b2 b3 b4 b5 b6 b7 b8 G, zr_A b2 b3 b4 G → post r (ft, fa, fM, fN, fD, fl, fh, fL, fH, m, a1, b2, b3, b4, b5, b6, b7, b8)) : wpX_invert post (ft, fa, fM, fN, fD, fl, fh, fL, fH, fm, a1, a2, a3, a4, a5, a6, a7, a8) p q := by
  subst e0 e1
  exact zr_invert hd ha hA (fun _ _ _ _ _ => H _ _ _ _ _ _ _ _ _ _ hA) (fun _ _ _ _ _ _ h => H _ _ _ _ _ _ _ _ _ _ h)
theorem zr_l238 {L : Nat} {xs : Nat → Int32} {J : Int32 → Int32 → Int32 → Int32 → Int32 → Int32 → Int32 → Int32 → Int32 → Int32 → Int32 → (Nat → Int32) → (Nat → Int32) → (Nat → Int32) → (Nat → Int32) → (Nat → Int32) → (Nat → Int32) → (Nat → Int32) → (Nat → Int32) → Prop} {x2 x3 : Int32} {kc ks : Nat} {F : Nat → Nat → Prop} (hA : zr_A a2 a3 a4 F)
    (H : ∀ m b2 b3 b4 b5 b6 b7 b8 G, zr_A b2 b3 b4 G → J (x2 + 3) ft fa fM fN fD fl fh fL fH m a1 b2 b3 b4 b5 b6 b7 b8) : wL_law_238 (fun r => r = 1) L xs J x2 x3 kc ks ft fa fM fN fD fl fh fL fH fm a1 a2 a3 a4 a5 a6 a7 a8 := by
  obtain ⟨a, ha, ea⟩ := zr_and x3 (m := 1) 1 2 (by decide) (by decide)
  obtain ⟨b, hb, eb⟩ := zr_and (x3 >>> ((1 : Int32) &&& 31)) (m := 1) 1 2 (by decide) (by decide)
  unfold wL_law_238
  refine zr_holdsE (a := 0) (b := 1) (by omega) (by omega) rfl rfl hA (fun m b2 b3 b4 b5 b6 b7 b8 G hG => br_f (by decide) ?_)
  exact zr_holdsE ha hb ea eb hG (fun m b2 b3 b4 b5 b6 b7 b8 G hG => br_f (by decide) (nm_e (H _ _ _ _ _ _ _ _ _ hG)))
/-- the default turn's rest, from the wiped text on -/
theorem zr_ldef {L : Nat} {xs : Nat → Int32} {J : Int32 → Int32 → Int32 → Int32 → Int32 → Int32 → Int32 → Int32 → Int32 → Int32 → Int32 → (Nat → Int32) → (Nat → Int32) → (Nat → Int32) → (Nat → Int32) → (Nat → Int32) → (Nat → Int32) → (Nat → Int32) → (Nat → Int32) → Prop} {x2 x3 x4 w : Int32} {kc ks : Nat} {F : Nat → Nat → Prop} (hA : zr_A a2 a3 a4 F)
    (H : ∀ t fa fM fN fD fl fh fL fH m b1 b2 b3 b4 b5 b6 b7 b8 G, t ≤ 40 → zr_A b2 b3 b4 G → J (x2 + 3) (nI t) fa fM fN fD fl fh fL fH m b1 b2 b3 b4 b5 b6 b7 b8) :
    wpL_item (fun u => match u with | (ft, fa, fM, fN, fD, fl, fh, fL, fH, fm, a1, a2, a3, a4, a5, a6, a7, a8) => wpX_read (fun r u => match u with | (ft, fa, fM, fN, fD, fl, fh, fL, fH, fm, a1, a2, a3, a4, a5, a6, a7, a8) => ((0 ≤ r → wpX_join (fun _ u => match u with | (ft, fa, fM, fN, fD, fl, fh, fL, fH, fm, a1, a2, a3, a4, a5, a6, a7, a8) => wL_law_238 (fun r => r = 1) L xs J x2 x3 kc ks ft fa fM fN fD fl fh fL fH fm a1 a2 a3 a4 a5 a6 a7 a8) (ft, fa, fM, fN, fD, fl, fh, fL, fH, fm, a1, a2, a3, a4, a5, a6, a7, a8) (x3 &&& 1) 0 1) ∧ (¬ 0 ≤ r → (0 : Int32) = 1))) (ft, fa, fM, fN, fD, fl, fh, fL, fH, fm, a1, a2, a3, a4, a5, a6, a7, a8) (x4 &&& 1)) (0, fa, fM, fN, fD, fl, fh, fL, fH, fm, a1, a2, a3, a4, a5, a6, a7, a8) w := by
  obtain ⟨a, ha, ea⟩ := zr_and x3 (m := 1) 1 2 (by decide) (by decide)
  obtain ⟨b, hb, eb⟩ := zr_and x4 (m := 1) 1 2 (by decide) (by decide)
  refine zr_itemW (t := 0) (by omega) (fun e b1 q1 q2 => ?_)
  refine zr_read (by omega) hA (fun r t' q M N D l h L' G m b2 b3 b4 b5 b6 b7 b8 F' k1 k2 k3 => br_t (k3 b (by omega) eb q2) ?_)
  exact zr_joinE (d := a) (a := 0) (b := 1) (by omega) (by omega) (by omega) ea rfl rfl k2 (fun r m b2 b3 b4 b5 b6 b7 b8 G hG => zr_l238 hG (fun m b2 b3 b4 b5 b6 b7 b8 G hG => H _ _ _ _ _ _ _ _ _ _ _ _ _ _ _ _ _ _ _ k1 hG))
theorem zr_l157 {L : Nat} {xs : Nat → Int32} {J : Int32 → Int32 → Int32 → Int32 → Int32 → Int32 → Int32 → Int32 → Int32 → Int32 → Int32 → (Nat → Int32) → (Nat → Int32) → (Nat → Int32) → (Nat → Int32) → (Nat → Int32) → (Nat → Int32) → (Nat → Int32) → (Nat → Int32) → Prop} {x2 x3 x4 z0 : Int32} {kc ks t : Nat} {F : Nat → Nat → Prop} (ht : t ≤ 12) (hA : zr_A a2 a3 a4 F)
    (H : ∀ t fa fM fN fD fl fh fL fH m b1 b2 b3 b4 b5 b6 b7 b8 G, t ≤ 40 → zr_A b2 b3 b4 G → J (x2 + 3) (nI t) fa fM fN fD fl fh fL fH m b1 b2 b3 b4 b5 b6 b7 b8) :
    wL_law_157 (fun r => r = 1) L xs J x2 x3 x4 z0 kc ks (nI t) fa fM fN fD fl fh fL fH fm a1 a2 a3 a4 a5 a6 a7 a8 := by
  unfold wL_law_157
  refine zr_typeW (by omega) (fun r t' b1 q1 q2 => ?_)
  refine zr_itemW (by omega) (fun e b1 q1 q2 => ?_)
  refine zr_read (by omega) hA (fun r t' q M N D l h L' G m b2 b3 b4 b5 b6 b7 b8 F' k1 k2 k3 => ?_)
  exact zr_l238 k2 (fun m b2 b3 b4 b5 b6 b7 b8 G hG => H _ _ _ _ _ _ _ _ _ _ _ _ _ _ _ _ _ _ _ k1 hG)
end
theorem zr_law10 {L : Nat} {xs : Nat → Int32} {kc ks : Nat} (hL : L ≤ 260) : ∀ n i t (F : Nat → Nat → Prop) (fa fM fN fD fl fh fL fH fm : Int32) (a1 a2 a3 a4 a5 a6 a7 a8 : Nat → Int32), t ≤ 40 → zr_A a2 a3 a4 F → i ≤ L → L - i < n →
    wL_law_10 (fun r => r = 1) L xs kc ks n (nI i) (nI t) fa fM fN fD fl fh fL fH fm a1 a2 a3 a4 a5 a6 a7 a8 := by
  intro n
  induction n with
  | zero =>
    intro i t F fa fM fN fD fl fh fL fH fm a1 a2 a3 a4 a5 a6 a7 a8 ht hA hi hn
    exact absurd hn (Nat.not_lt_zero _)
  | succ n ih =>
    intro i t F fa fM fN fD fl fh fL fH fm a1 a2 a3 a4 a5 a6 a7 a8 ht hA hi hn
    refine ek_if (zr_lc (by omega) (by omega)) (fun z => ?_) (fun z => ?_)
    · have fin : ∀ r : Int32, ∀ x2 : Int32, x2 = r &&& 1 → wpL_holds (fun r u => match u with | (ft, fa, fM, fN, fD, fl, fh, fL, fH, fm, a1, a2, a3, a4, a5, a6, a7, a8) => r = 1) (nI t, fa, fM, fN, fD, fl, fh, fL, fH, fm, a1, a2, a3, a4, a5, a6, a7, a8) x2 1 := by
        intro r
        obtain ⟨a, ha, ea⟩ := zr_and r (m := 1) 1 2 (by decide) (by decide)
        exact nm_r ea (zr_holdsE (b := 1) ha (by omega) rfl rfl hA (fun m b2 b3 b4 b5 b6 b7 b8 G hG => rfl))
      exact pk_le L 0 (fun _ => fin _) (fun q => ⟨pk_in 0 L q, fin _⟩)
    · have nxt : ∀ t fa fM fN fD fl fh fL fH m b1 b2 b3 b4 b5 b6 b7 b8 G, t ≤ 40 → zr_A b2 b3 b4 G → wL_law_10 (fun r => r = 1) L xs kc ks n (nI i + 3) (nI t) fa fM fN fD fl fh fL fH m b1 b2 b3 b4 b5 b6 b7 b8 := by
        intro t fa fM fN fD fl fh fL fH m b1 b2 b3 b4 b5 b6 b7 b8 G k1 k2
        rw [show nI i + 3 = nI (i + 3) from nI_add i 3]
        exact ih (i + 3) t G _ _ _ _ _ _ _ _ _ _ _ _ _ _ _ _ _ k1 k2 (by omega) (by omega)
      have nxt' : ∀ m b2 b3 b4 b5 b6 b7 b8 G, zr_A b2 b3 b4 G → wL_law_10 (fun r => r = 1) L xs kc ks n (nI i + 3) (nI t) fa fM fN fD fl fh fL fH m a1 b2 b3 b4 b5 b6 b7 b8 := fun m b2 b3 b4 b5 b6 b7 b8 G hG => nxt _ _ _ _ _ _ _ _ _ _ _ _ _ _ _ _ _ _ _ ht hG
      refine ⟨pk_in (i + 1) L (by omega) (nI_1 i), fun x3 _ => ⟨pk_in (i + 2) L (by omega) (nI_add i 2), fun x4 _ => ⟨pk_in i L (by omega), ?_⟩⟩⟩
      obtain ⟨k, k1, k2⟩ := zr_and (xs (nI i).toNatClampNeg) (m := 7) 3 8 (by decide) (by decide)
      obtain ⟨a, ha, ea⟩ := zr_and x3 (m := 1) 1 2 (by decide) (by decide)
      obtain ⟨b, hb, eb⟩ := zr_and x4 (m := 1) 1 2 (by decide) (by decide)
      obtain ⟨b3, hb3, eb3⟩ := zr_and x4 (m := 3) 2 4 (by decide) (by decide)
      obtain ⟨c, hc, ec⟩ := zr_and (x4 >>> ((2 : Int32) &&& 31)) (m := 1) 1 2 (by decide) (by decide)
      refine nm_r k2 (pk_lt k 0 (fun q => absurd q (by omega)) (fun _ => pk_lt 4 k (fun q => ?_) (fun q => ?_)))
      · exact zr_ldef hA nxt
      refine pk_eq k 0 (fun q => ?_) (fun q => pk_eq k 1 (fun q => ?_) (fun q => pk_eq k 2 (fun q => ?_) (fun q => pk_eq k 3 (fun q => ?_) (fun q => pk_eq k 4 (fun q => ?_) (fun q => trivial)))))
      · exact zr_invertE (by omega) (by omega) ea eb hA (fun r m b2 b3 b4 b5 b6 b7 b8 G hG => zr_l238 hG (fun m b2 b3 b4 b5 b6 b7 b8 G hG => nxt' _ _ _ _ _ _ _ _ _ hG))
      · exact zr_meetE (by omega) (by omega) (by omega) ea eb3 ec hA (fun r m b2 b3 b4 b5 b6 b7 b8 G hG => zr_l238 hG (fun m b2 b3 b4 b5 b6 b7 b8 G hG => nxt' _ _ _ _ _ _ _ _ _ hG))
      · exact zr_joinE (by omega) (by omega) (by omega) ea eb3 ec hA (fun r m b2 b3 b4 b5 b6 b7 b8 G hG => zr_l238 hG (fun m b2 b3 b4 b5 b6 b7 b8 G hG => nxt' _ _ _ _ _ _ _ _ _ hG))
      · refine zr_itemW (t := 0) (by omega) (fun e b1 q1 q2 => br_c (fun _ => zr_l157 (by omega) hA nxt) (fun _ => zr_l157 (by omega) hA nxt))
      · refine zr_typeW ht (fun r t' b1 q1 q2 => ?_)
        refine zr_read q1 hA (fun r t' q M N D l h L' G m b2 b3 b4 b5 b6 b7 b8 F' k1 k2 k3 => ?_)
        exact zr_l238 k2 (fun m b2 b3 b4 b5 b6 b7 b8 G hG => nxt _ _ _ _ _ _ _ _ _ _ _ _ _ _ _ _ _ _ _ k1 hG)
theorem i_vc (xs : Nat → Int32) (L : Nat) (hL : L ≤ 260) : wpL_law (fun r => r = 1) L xs := by
  refine ⟨8, 492, by omega, by omega, ?_⟩
  refine ⟨by omega, by omega, by omega, by omega, by omega, by omega, by omega, by omega, by omega, by omega, by omega, by omega, by omega, by omega, by omega, by omega, ?_⟩
  refine ⟨L + 1, zr_law10 hL (L + 1) 0 0 (fun _ _ => False) _ _ _ _ _ _ _ _ _ _ _ _ _ _ _ _ _ (by omega) (fun d _ => ⟨0, by omega, rfl, zr_nil (fun _ z => z)⟩) (by omega) (by omega)⟩
end
