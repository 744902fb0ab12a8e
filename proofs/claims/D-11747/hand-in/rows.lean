section
/-! ===== the plain law: periods, runs, next smaller endings ===== -/
/-- period p on the closed piece from s to e -/
def rn_P (T : Nat → Nat) (s e p : Nat) : Prop := ∀ k, s ≤ k → k + p ≤ e → T k = T (k + p)
/-- a run of the text of 8 symbols: as wide as its period goes, p its least period, two periods long -/
def rn_R (T : Nat → Nat) (s e p : Nat) : Prop :=
  1 ≤ p ∧ s + 2 * p ≤ e + 1 ∧ e < 8 ∧ rn_P T s e p ∧ (0 < s → T (s - 1) ≠ T (s - 1 + p)) ∧ (e < 7 → T (e + 1 - p) ≠ T (e + 1)) ∧ ∀ q, 1 ≤ q → q < p → ¬ rn_P T s e q
theorem rn_sub {T : Nat → Nat} {s e p a b : Nat} (h : rn_P T s e p) (ha : s ≤ a) (hb : b ≤ e) : rn_P T a b p :=
  fun k h1 h2 => h k (by omega) (by omega)
theorem rn_left {T : Nat → Nat} {s e p : Nat} (h : rn_P T s e p) (h0 : 0 < s) (he : T (s - 1) = T (s - 1 + p)) : rn_P T (s - 1) e p := by
  intro k h1 h2
  by_cases hk : k = s - 1
  · rw [hk]; exact he
  · exact h k (by omega) h2
theorem rn_right {T : Nat → Nat} {s e p : Nat} (h : rn_P T s e p) (he : T (e + 1 - p) = T (e + 1)) : rn_P T s (e + 1) p := by
  intro k h1 h2
  by_cases hk : k + p = e + 1
  · have : k = e + 1 - p := by omega
    rw [hk, this]; exact he
  · exact h k h1 (by omega)
/-- a second period of a long enough inner piece is one of the whole -/
theorem rn_ext {T : Nat → Nat} {s e p q : Nat} (hp : 1 ≤ p) (hq : 1 ≤ q) (h : rn_P T s e p) :
    ∀ (c a b : Nat), (a - s) + (e - b) = c → s ≤ a → b ≤ e → a + p + q ≤ b + 1 → rn_P T a b q → rn_P T s e q := by
  intro c
  induction c with
  | zero =>
    intro a b hc ha hb _ hab
    exact rn_sub hab (by omega) (by omega)
  | succ c ih =>
    intro a b hc ha hb hl hab
    by_cases hs : s < a
    · refine ih (a - 1) b (by omega) (by omega) hb (by omega) ?_
      refine rn_left hab (by omega) ?_
      have e1 := h (a - 1) (by omega) (by omega)
      have e2 := h (a - 1 + q) (by omega) (by omega)
      have e3 := hab (a - 1 + p) (by omega) (by omega)
      rw [show a - 1 + q + p = a - 1 + p + q by omega] at e2
      rw [e1, e3, e2]
    · refine ih a (b + 1) (by omega) ha (by omega) (by omega) ?_
      refine rn_right hab ?_
      have e1 := h (b + 1 - q - p) (by omega) (by omega)
      have e2 := h (b + 1 - p) (by omega) (by omega)
      have e3 := hab (b + 1 - q - p) (by omega) (by omega)
      rw [show b + 1 - q - p + p = b + 1 - q by omega] at e1
      rw [show b + 1 - p + p = b + 1 by omega] at e2
      rw [show b + 1 - q - p + q = b + 1 - p by omega] at e3
      rw [← e1, e3, e2]
/-- a piece with least period p, two periods long, lies in a run of period p -/
theorem rn_grow {T : Nat → Nat} {i j p : Nat} (hp : 1 ≤ p) (hl : i + 2 * p ≤ j + 1) (hj : j < 8) (h : rn_P T i j p) (hq : ∀ q, 1 ≤ q → q < p → ¬ rn_P T i j q) :
    ∃ s e, s ≤ i ∧ j ≤ e ∧ rn_R T s e p := by
  obtain ⟨s, hs, hmin⟩ := pk_least (fun s => rn_P T s j p) ⟨i, h⟩
  have hsi : s ≤ i := by
    rcases Nat.lt_or_ge i s with z | z
    · exact absurd h (hmin i z)
    · exact z
  obtain ⟨c, ⟨hc1, hc2⟩, cmin⟩ := pk_least (fun c => c ≤ 7 - j ∧ rn_P T s (7 - c) p) ⟨7 - j, Nat.le_refl _, by
    rw [show 7 - (7 - j) = j by omega]; exact hs⟩
  refine ⟨s, 7 - c, hsi, by omega, hp, by omega, by omega, hc2, fun h0 he => ?_, fun h7 he => ?_, fun q q1 q2 hP => ?_⟩
  · exact hmin (s - 1) (by omega) (rn_left hs h0 he)
  · have hr := rn_right hc2 he
    rw [show 7 - c + 1 = 7 - (c - 1) by omega] at hr
    exact cmin (c - 1) (by omega) ⟨by omega, hr⟩
  · exact hq q q1 q2 (rn_sub hP hsi (by omega))
theorem rn_uniqS {T : Nat → Nat} {s e s' e' p : Nat} (h : rn_R T s e p) (h' : rn_R T s' e' p) (h1 : s' + p ≤ e + 1) (h2 : s + p ≤ e' + 1) : s = s' := by
  obtain ⟨a1, a2, a3, a4, a5, a6, a7⟩ := h
  obtain ⟨b1, b2, b3, b4, b5, b6, b7⟩ := h'
  rcases Nat.lt_trichotomy s s' with z | z | z
  · exact absurd (a4 (s' - 1) (by omega) (by omega)) (b5 (by omega))
  · exact z
  · exact absurd (b4 (s - 1) (by omega) (by omega)) (a5 (by omega))
theorem rn_uniqE {T : Nat → Nat} {s e e' p : Nat} (h : rn_R T s e p) (h' : rn_R T s e' p) : e = e' := by
  obtain ⟨a1, a2, a3, a4, a5, a6, a7⟩ := h
  obtain ⟨b1, b2, b3, b4, b5, b6, b7⟩ := h'
  rcases Nat.lt_trichotomy e e' with z | z | z
  · have := b4 (e + 1 - p) (by omega) (by omega)
    rw [show e + 1 - p + p = e + 1 by omega] at this
    exact absurd this (a6 (by omega))
  · exact z
  · have := a4 (e' + 1 - p) (by omega) (by omega)
    rw [show e' + 1 - p + p = e' + 1 by omega] at this
    exact absurd this (b6 (by omega))
/-! == endings as numbers == -/
def rn_U (T : Nat → Nat) (b : Bool) (j : Nat) : Nat := if 8 ≤ j then 0 else if b = true then T j + 1 else 4 - T j
def rn_V (U : Nat → Nat) (i : Nat) : Nat := U i * 390625 + U (i + 1) * 78125 + U (i + 2) * 15625 + U (i + 3) * 3125 + U (i + 4) * 625 + U (i + 5) * 125 + U (i + 6) * 25 + U (i + 7) * 5
def rn_Uok (U : Nat → Nat) : Prop := (∀ j, U j < 5) ∧ (∀ j, 8 ≤ j → U j = 0) ∧ (∀ j, j < 8 → 0 < U j)
theorem rn_Uk {T : Nat → Nat} (hT : ∀ j, T j < 4) (b : Bool) : rn_Uok (rn_U T b) := by
  refine ⟨fun j => ?_, fun j h => ?_, fun j h => ?_⟩
  · have := hT j
    unfold rn_U
    split
    · omega
    · split <;> omega
  · unfold rn_U
    rw [if_pos h]
  · have := hT j
    unfold rn_U
    rw [if_neg (by omega)]
    split <;> omega
theorem rn_Ueq {T : Nat → Nat} {b : Bool} {i k : Nat} (hT : ∀ j, T j < 4) (hi : i < 8) (hk : k < 8) : rn_U T b i = rn_U T b k ↔ T i = T k := by
  have h1 := hT i
  have h2 := hT k
  unfold rn_U
  rw [if_neg (show ¬ 8 ≤ i by omega), if_neg (show ¬ 8 ≤ k by omega)]
  cases b
  · simp only [Bool.false_eq_true, if_false]; omega
  · simp only [if_true]; omega
theorem rn_Ult {T : Nat → Nat} {b : Bool} {i k : Nat} (hT : ∀ j, T j < 4) (hi : i < 8) (hk : k < 8) : rn_U T b i < rn_U T b k ↔ (if b = true then T i < T k else T k < T i) := by
  have h1 := hT i
  have h2 := hT k
  unfold rn_U
  rw [if_neg (show ¬ 8 ≤ i by omega), if_neg (show ¬ 8 ≤ k by omega)]
  cases b
  · simp only [Bool.false_eq_true, if_false]; omega
  · simp only [if_true]; omega
theorem rn_Vs {U : Nat → Nat} (h : rn_Uok U) (i : Nat) : 5 * rn_V U i = U i * 1953125 + rn_V U (i + 1) := by
  have h8 : U (i + 8) = 0 := h.2.1 (i + 8) (by omega)
  simp only [rn_V, Nat.add_assoc, Nat.reduceAdd]
  omega
theorem rn_Vb {U : Nat → Nat} (h : rn_Uok U) (i : Nat) : rn_V U i < 1953125 := by
  have h0 := h.1 i
  have h1 := h.1 (i + 1)
  have h2 := h.1 (i + 2)
  have h3 := h.1 (i + 3)
  have h4 := h.1 (i + 4)
  have h5 := h.1 (i + 5)
  have h6 := h.1 (i + 6)
  have h7 := h.1 (i + 7)
  unfold rn_V
  omega
theorem rn_Vlt {U : Nat → Nat} (h : rn_Uok U) {i k : Nat} (hu : U i < U k) : rn_V U i < rn_V U k := by
  have a := rn_Vs h i
  have b := rn_Vs h k
  have c := rn_Vb h (i + 1)
  omega
theorem rn_Veq {U : Nat → Nat} (h : rn_Uok U) {i k : Nat} (hu : U i = U k) : rn_V U i < rn_V U k ↔ rn_V U (i + 1) < rn_V U (k + 1) := by
  have a := rn_Vs h i
  have b := rn_Vs h k
  omega
theorem rn_Vsh {U : Nat → Nat} (h : rn_Uok U) {i k : Nat} : ∀ c, (∀ j, j < c → U (i + j) = U (k + j)) → (rn_V U i < rn_V U k ↔ rn_V U (i + c) < rn_V U (k + c)) := by
  intro c
  induction c with
  | zero => intro _; exact Iff.rfl
  | succ c ih =>
    intro hj
    rw [ih (fun j hc => hj j (by omega))]
    exact rn_Veq h (hj c (by omega))
theorem rn_Vd {U : Nat → Nat} (h : rn_Uok U) {i k : Nat} (c : Nat) (hj : ∀ j, j < c → U (i + j) = U (k + j)) (hc : U (i + c) < U (k + c)) : rn_V U i < rn_V U k :=
  (rn_Vsh h c hj).mpr (rn_Vlt h hc)
theorem rn_V8 {U : Nat → Nat} (h : rn_Uok U) {i : Nat} (hi : i < 8) : rn_V U 8 < rn_V U i := by
  refine rn_Vlt h ?_
  rw [h.2.1 8 (by omega)]
  exact h.2.2 i hi
/-- k is the next smaller ending of i -/
def rn_N (U : Nat → Nat) (i k : Nat) : Prop := i < k ∧ k ≤ 8 ∧ rn_V U k < rn_V U i ∧ ∀ m, i < m → m < k → rn_V U i ≤ rn_V U m
theorem rn_Nu {U : Nat → Nat} {i k k' : Nat} (h : rn_N U i k) (h' : rn_N U i k') : k = k' := by
  obtain ⟨a1, a2, a3, a4⟩ := h
  obtain ⟨b1, b2, b3, b4⟩ := h'
  rcases Nat.lt_trichotomy k k' with z | z | z
  · have := b4 k a1 z; omega
  · exact z
  · have := a4 k' b1 z; omega
/-- comparing two endings, i ahead of k, by their first difference d -/
theorem rn_cb {T : Nat → Nat} {b : Bool} {i k d : Nat} (hT : ∀ j, T j < 4) (hik : i < k) (hk : k + d ≤ 8) (hm : ∀ j, j < d → T (i + j) = T (k + j)) :
    (k + d = 8 → rn_V (rn_U T b) k < rn_V (rn_U T b) i) ∧ (k + d < 8 → T (i + d) ≠ T (k + d) → (rn_V (rn_U T b) k < rn_V (rn_U T b) i ↔ (if b = true then T (k + d) < T (i + d) else T (i + d) < T (k + d)))) := by
  have hU := rn_Uk hT b
  have hm' : ∀ j, j < d → rn_U T b (k + j) = rn_U T b (i + j) := fun j hj => (rn_Ueq hT (by omega) (by omega)).mpr (hm j hj).symm
  refine ⟨fun h8 => ?_, fun h8 hne => ?_⟩
  · refine rn_Vd hU d hm' ?_
    rw [hU.2.1 (k + d) (by omega)]
    exact hU.2.2 (i + d) (by omega)
  · rw [← rn_Ult (b := b) hT (show k + d < 8 by omega) (show i + d < 8 by omega)]
    constructor
    · intro hv
      rcases Nat.lt_trichotomy (rn_U T b (k + d)) (rn_U T b (i + d)) with z | z | z
      · exact z
      · exact absurd ((rn_Ueq hT (by omega) (by omega)).mp z).symm hne
      · have := rn_Vd hU d (fun j hj => (hm' j hj).symm) z
        omega
    · intro hu
      exact rn_Vd hU d hm' hu
/-! == widening a root == -/
def rn_fw (T : Nat → Nat) (i k r : Nat) : Prop := (∀ j, j < r → T (i + j) = T (k + j)) ∧ k + r ≤ 8 ∧ (k + r < 8 → T (i + r) ≠ T (k + r))
def rn_bw (T : Nat → Nat) (i k l : Nat) : Prop := (∀ j, j < l → T (i - 1 - j) = T (k - 1 - j)) ∧ l ≤ i ∧ (l < i → T (i - 1 - l) ≠ T (k - 1 - l))
/-- a root has no smaller period -/
theorem rn_unb {T : Nat → Nat} {b : Bool} {i k q : Nat} (hT : ∀ j, T j < 4) (hN : rn_N (rn_U T b) i k) (h1 : 1 ≤ q) (h2 : q < k - i) (hP : rn_P T i (k - 1) q) : False := by
  obtain ⟨a1, a2, a3, a4⟩ := hN
  have hU := rn_Uk hT b
  have hs := rn_Vsh hU (i := i + q) (k := i) (k - i - q) (fun j hj => by
    refine (rn_Ueq hT (by omega) (by omega)).mpr ?_
    have := hP (i + j) (by omega) (by omega)
    rw [show i + j + q = i + q + j by omega] at this
    exact this.symm)
  rw [show i + q + (k - i - q) = k by omega] at hs
  have c1 := a4 (i + q) (by omega) (by omega)
  have c2 := a4 (i + (k - i - q)) (by omega) (by omega)
  omega
theorem rn_sound {T : Nat → Nat} {b : Bool} {i k l r : Nat} (hT : ∀ j, T j < 4) (hN : rn_N (rn_U T b) i k) (hf : rn_fw T i k r) (hb : rn_bw T i k l) (hl : k - i ≤ l + r) :
    rn_R T (i - l) (k + r - 1) (k - i) := by
  have hN' := hN
  obtain ⟨a1, a2, a3, a4⟩ := hN'
  obtain ⟨f1, f2, f3⟩ := hf
  obtain ⟨b1, b2, b3⟩ := hb
  refine ⟨by omega, by omega, by omega, fun x h1 h2 => ?_, fun h0 => ?_, fun h7 => ?_, fun q q1 q2 hP => ?_⟩
  · by_cases hx : i ≤ x
    · have := f1 (x - i) (by omega)
      rw [show i + (x - i) = x by omega, show k + (x - i) = x + (k - i) by omega] at this
      exact this
    · have := b1 (i - 1 - x) (by omega)
      rw [show i - 1 - (i - 1 - x) = x by omega, show k - 1 - (i - 1 - x) = x + (k - i) by omega] at this
      exact this
  · have := b3 (by omega)
    rw [show i - 1 - l = i - l - 1 by omega, show k - 1 - l = i - l - 1 + (k - i) by omega] at this
    exact this
  · have := f3 (by omega)
    rw [show k + r - 1 + 1 - (k - i) = i + r by omega, show k + r - 1 + 1 = k + r by omega]
    exact this
  · exact rn_unb hT hN q1 q2 (rn_sub hP (by omega) (by omega))
/-- a root inside a run is widened to the run -/
theorem rn_wide {T : Nat → Nat} {s e p i l r : Nat} (hR : rn_R T s e p) (h1 : s ≤ i) (h2 : i + p ≤ e + 1) (hf : rn_fw T i (i + p) r) (hb : rn_bw T i (i + p) l) :
    l = i - s ∧ r = e + 1 - (i + p) := by
  obtain ⟨a1, a2, a3, a4, a5, a6, a7⟩ := hR
  obtain ⟨f1, f2, f3⟩ := hf
  obtain ⟨b1, b2, b3⟩ := hb
  constructor
  · rcases Nat.lt_trichotomy l (i - s) with z | z | z
    · have := a4 (i - 1 - l) (by omega) (by omega)
      rw [show i - 1 - l + p = i + p - 1 - l by omega] at this
      exact absurd this (b3 (by omega))
    · exact z
    · have := b1 (i - s) z
      rw [show i - 1 - (i - s) = s - 1 by omega, show i + p - 1 - (i - s) = s - 1 + p by omega] at this
      exact absurd this (a5 (by omega))
  · rcases Nat.lt_trichotomy r (e + 1 - (i + p)) with z | z | z
    · have := a4 (i + r) (by omega) (by omega)
      rw [show i + r + p = i + p + r by omega] at this
      exact absurd this (f3 (by omega))
    · exact z
    · have := f1 (e + 1 - (i + p)) z
      rw [show i + (e + 1 - (i + p)) = e + 1 - p by omega, show i + p + (e + 1 - (i + p)) = e + 1 by omega] at this
      exact absurd this (a6 (by omega))
/-! == every run has a root == -/
abbrev rn_ly (p : Nat) (w : Nat → Nat) : Prop :=
  (∃ q, q < p ∧ 1 ≤ q ∧ ∀ j, j < p → w j = w (j + q)) ∨ (∃ x, x < p ∧ ∀ t, t < p → t = 0 ∨ ∃ d, d < p ∧ t + d < p ∧ (∀ j, j < d → w (x + j) = w (x + t + j)) ∧ w (x + d) < w (x + t + d))
theorem rn_ly1 : ∀ n, n < 5 → rn_ly 1 (fun j => n / 5 ^ (j % 1) % 5) := by decide +kernel
theorem rn_ly2 : ∀ n, n < 25 → rn_ly 2 (fun j => n / 5 ^ (j % 2) % 5) := by decide +kernel
theorem rn_ly3 : ∀ n, n < 125 → rn_ly 3 (fun j => n / 5 ^ (j % 3) % 5) := by decide +kernel
theorem rn_ly4 : ∀ n, n < 625 → rn_ly 4 (fun j => n / 5 ^ (j % 4) % 5) := by decide +kernel
theorem rn_lyc {p : Nat} {w w' : Nat → Nat} (h : ∀ j, w j = w' j) (hw : rn_ly p w) : rn_ly p w' := by
  have : w = w' := funext h
  rw [← this]; exact hw
/-- the rotation: p at most 4 -/
theorem rn_lyU {U : Nat → Nat} (hU : ∀ j, U j < 5) (s p : Nat) (h1 : 1 ≤ p) (h4 : p ≤ 4) : rn_ly p (fun j => U (s + j % p)) := by
  have hp : p = 1 ∨ p = 2 ∨ p = 3 ∨ p = 4 := by omega
  have u0 := hU s
  have u1 := hU (s + 1)
  have u2 := hU (s + 2)
  have u3 := hU (s + 3)
  rcases hp with rfl | rfl | rfl | rfl
  · refine rn_lyc (fun j => ?_) (rn_ly1 (U s) (by omega))
    have : j % 1 = 0 := by omega
    rw [this]
    show U s / 1 % 5 = U s
    omega
  · refine rn_lyc (fun j => ?_) (rn_ly2 (U s + 5 * U (s + 1)) (by omega))
    have : j % 2 = 0 ∨ j % 2 = 1 := by omega
    rcases this with h | h <;> rw [h]
    · show (U s + 5 * U (s + 1)) / 1 % 5 = U s
      omega
    · show (U s + 5 * U (s + 1)) / 5 % 5 = U (s + 1)
      omega
  · refine rn_lyc (fun j => ?_) (rn_ly3 (U s + 5 * U (s + 1) + 25 * U (s + 2)) (by omega))
    have : j % 3 = 0 ∨ j % 3 = 1 ∨ j % 3 = 2 := by omega
    rcases this with h | h | h <;> rw [h]
    · show (U s + 5 * U (s + 1) + 25 * U (s + 2)) / 1 % 5 = U s
      omega
    · show (U s + 5 * U (s + 1) + 25 * U (s + 2)) / 5 % 5 = U (s + 1)
      omega
    · show (U s + 5 * U (s + 1) + 25 * U (s + 2)) / 25 % 5 = U (s + 2)
      omega
  · refine rn_lyc (fun j => ?_) (rn_ly4 (U s + 5 * U (s + 1) + 25 * U (s + 2) + 125 * U (s + 3)) (by omega))
    have : j % 4 = 0 ∨ j % 4 = 1 ∨ j % 4 = 2 ∨ j % 4 = 3 := by omega
    rcases this with h | h | h | h <;> rw [h]
    · show (U s + 5 * U (s + 1) + 25 * U (s + 2) + 125 * U (s + 3)) / 1 % 5 = U s
      omega
    · show (U s + 5 * U (s + 1) + 25 * U (s + 2) + 125 * U (s + 3)) / 5 % 5 = U (s + 1)
      omega
    · show (U s + 5 * U (s + 1) + 25 * U (s + 2) + 125 * U (s + 3)) / 25 % 5 = U (s + 2)
      omega
    · show (U s + 5 * U (s + 1) + 25 * U (s + 2) + 125 * U (s + 3)) / 125 % 5 = U (s + 3)
      omega
/-- a place of a periodic piece, read in its first period -/
theorem rn_mod {T : Nat → Nat} {s e p : Nat} (hp : 1 ≤ p) (h : rn_P T s e p) : ∀ j, s + j ≤ e → T (s + j) = T (s + j % p) := by
  intro j
  induction j using Nat.strongRecOn with
  | ind j ih =>
    intro hj
    by_cases hlt : j < p
    · rw [Nat.mod_eq_of_lt hlt]
    · have e1 := h (s + (j - p)) (by omega) (by omega)
      rw [show s + (j - p) + p = s + j by omega] at e1
      rw [← e1, ih (j - p) (by omega) (by omega), ← Nat.mod_eq_sub_mod (by omega)]
theorem rn_find {T : Nat → Nat} {s e p : Nat} (hT : ∀ j, T j < 4) (hR : rn_R T s e p) :
    ∃ b i, s ≤ i ∧ i + p ≤ e + 1 ∧ rn_N (rn_U T b) i (i + p) := by
  obtain ⟨a1, a2, a3, a4, a5, a6, a7⟩ := hR
  have hb : ∃ b, rn_U T b (e + 1) < rn_U T b (e + 1 - p) := by
    by_cases h7 : e < 7
    · have := a6 h7
      rcases Nat.lt_or_gt_of_ne this with z | z
      · exact ⟨false, (rn_Ult hT (by omega) (by omega)).mpr (by rw [if_neg (by decide)]; exact z)⟩
      · exact ⟨true, (rn_Ult hT (by omega) (by omega)).mpr (by rw [if_pos rfl]; exact z)⟩
    · refine ⟨true, ?_⟩
      have hU := rn_Uk hT true
      rw [hU.2.1 (e + 1) (by omega)]
      exact hU.2.2 _ (by omega)
  obtain ⟨b, hb⟩ := hb
  have hU := rn_Uk hT b
  have hm : ∀ j, s + j ≤ e → rn_U T b (s + j) = rn_U T b (s + j % p) := fun j hj => by
    have hlt : j % p < p := Nat.mod_lt _ (by omega)
    exact (rn_Ueq hT (by omega) (by omega)).mpr (rn_mod a1 a4 j hj)
  rcases rn_lyU hU.1 s p a1 (by omega) with ⟨q, hq, hq1, hw⟩ | ⟨x, hx, hw⟩
  · refine absurd ?_ (a7 q hq1 hq)
    intro k k1 k2
    have hlt : (k - s) % p < p := Nat.mod_lt _ (by omega)
    have e0 := hw ((k - s) % p) hlt
    dsimp only at e0
    rw [Nat.mod_mod, Nat.mod_add_mod] at e0
    have e1 := hm (k - s) (by omega)
    have e2 := hm (k - s + q) (by omega)
    rw [show s + (k - s) = k by omega] at e1
    rw [show s + (k - s + q) = k + q by omega] at e2
    exact (rn_Ueq (b := b) hT (by omega) (by omega)).mp (by rw [e1, e2, e0])
  · refine ⟨b, s + x, by omega, by omega, by omega, by omega, ?_, fun m m1 m2 => ?_⟩
    · refine rn_Vd hU (e + 1 - (s + x + p)) (fun j hj => ?_) ?_
      · refine (rn_Ueq hT (by omega) (by omega)).mpr ?_
        have := a4 (s + x + j) (by omega) (by omega)
        rw [show s + x + j + p = s + x + p + j by omega] at this
        exact this.symm
      · rw [show s + x + p + (e + 1 - (s + x + p)) = e + 1 by omega, show s + x + (e + 1 - (s + x + p)) = e + 1 - p by omega]
        exact hb
    · rcases hw (m - (s + x)) (by omega) with z | ⟨d, d1, d2, d3, d4⟩
      · omega
      · dsimp only at d3 d4
        refine Nat.le_of_lt (rn_Vd hU d (fun j hj => ?_) ?_)
        · have := d3 j hj
          rw [← hm (x + j) (by omega), ← hm (x + (m - (s + x)) + j) (by omega)] at this
          rw [show s + x + j = s + (x + j) by omega, show m + j = s + (x + (m - (s + x)) + j) by omega]
          exact this
        · rw [← hm (x + d) (by omega), ← hm (x + (m - (s + x)) + d) (by omega)] at d4
          rw [show s + x + d = s + (x + d) by omega, show m + d = s + (x + (m - (s + x)) + d) by omega]
          exact d4
/-! == listings == -/
/-- rows 0 .. m-1: runs, sorted by start and period -/
def rn_L (T : Nat → Nat) (m : Nat) (F E S : Nat → Nat) : Prop :=
  (∀ r, r < m → rn_R T (F r) (E r) (S r)) ∧ (∀ r r', r < r' → r' < m → 8 * F r + S r < 8 * F r' + S r')
def rn_M (m : Nat) (F E S : Nat → Nat) (s e p : Nat) : Prop := ∃ r, r < m ∧ F r = s ∧ E r = e ∧ S r = p
/-- every run is there -/
def rn_C (T : Nat → Nat) (m : Nat) (F E S : Nat → Nat) : Prop := ∀ s e p, rn_R T s e p → rn_M m F E S s e p
/-- what the roots up to i, in the order b, have brought -/
def rn_D (T : Nat → Nat) (b : Bool) (i m : Nat) (F E S : Nat → Nat) : Prop :=
  ∀ s e p x, rn_R T s e p → x < i → s ≤ x → x + p ≤ e + 1 → rn_N (rn_U T b) x (x + p) → rn_M m F E S s e p
theorem rn_DC {T : Nat → Nat} {m : Nat} {F E S : Nat → Nat} (hT : ∀ j, T j < 4) (h1 : rn_D T true 8 m F E S) (h0 : rn_D T false 8 m F E S) : rn_C T m F E S := by
  intro s e p hR
  obtain ⟨b, i, i1, i2, hN⟩ := rn_find hT hR
  have hlt : i < 8 := by
    have := hR.2.2.1
    have := hR.1
    omega
  cases b
  · exact h0 s e p i hR hlt i1 i2 hN
  · exact h1 s e p i hR hlt i1 i2 hN
theorem rn_key {T : Nat → Nat} {m : Nat} {F E S : Nat → Nat} (h : rn_L T m F E S) {r r' : Nat} (hr : r < m) (hr' : r' < m) (hF : F r = F r') (hS : S r = S r') : r = r' := by
  rcases Nat.lt_trichotomy r r' with z | z | z
  · have := h.2 r r' z hr'; omega
  · exact z
  · have := h.2 r' r z hr; omega
theorem rn_sz {T : Nat → Nat} {s e p : Nat} (h : rn_R T s e p) : 1 ≤ p ∧ p ≤ 4 ∧ s < 8 ∧ e < 8 ∧ s + 2 * p ≤ e + 1 := by
  have h1 := h.1
  have h2 := h.2.1
  have h3 := h.2.2.1
  omega
end
section
/-! ===== counting over a listing ===== -/
def rn_s (f : Nat → Nat) : Nat → Nat
  | 0 => 0
  | n + 1 => rn_s f n + f n
noncomputable def rn_i (c : Prop) : Nat := @ite Nat c (Classical.propDecidable c) 1 0
theorem rn_it {c : Prop} (h : c) : rn_i c = 1 := by
  unfold rn_i
  exact if_pos h
theorem rn_if {c : Prop} (h : ¬ c) : rn_i c = 0 := by
  unfold rn_i
  exact if_neg h
theorem rn_id {c : Prop} [Decidable c] : rn_i c = if c then 1 else 0 := by
  by_cases h : c
  · rw [rn_it h, if_pos h]
  · rw [rn_if h, if_neg h]
theorem rn_ic {c d : Prop} (h : c ↔ d) : rn_i c = rn_i d := by rw [propext h]
theorem rn_sc {f g : Nat → Nat} {n : Nat} (h : ∀ r, r < n → f r = g r) : rn_s f n = rn_s g n := by
  induction n with
  | zero => rfl
  | succ n ih =>
    show rn_s f n + f n = rn_s g n + g n
    rw [ih (fun r hr => h r (by omega)), h n (by omega)]
theorem rn_sz0 {f : Nat → Nat} {n : Nat} (h : ∀ r, r < n → f r = 0) : rn_s f n = 0 := by
  induction n with
  | zero => rfl
  | succ n ih =>
    show rn_s f n + f n = 0
    rw [ih (fun r hr => h r (by omega)), h n (by omega)]
theorem rn_sa (f g : Nat → Nat) (n : Nat) : rn_s (fun r => f r + g r) n = rn_s f n + rn_s g n := by
  induction n with
  | zero => rfl
  | succ n ih =>
    show rn_s (fun r => f r + g r) n + (f n + g n) = rn_s f n + f n + (rn_s g n + g n)
    rw [ih]
    omega
theorem rn_sw (f : Nat → Nat → Nat) (n m : Nat) : rn_s (fun i => rn_s (fun j => f i j) m) n = rn_s (fun j => rn_s (fun i => f i j) n) m := by
  induction n with
  | zero => exact (rn_sz0 (fun r _ => rfl)).symm
  | succ n ih =>
    show rn_s (fun i => rn_s (fun j => f i j) m) n + rn_s (fun j => f n j) m = rn_s (fun j => rn_s (fun i => f i j) n + f n j) m
    rw [ih, rn_sa]
theorem rn_one {c : Nat → Prop} : ∀ m, (∀ r r', r < m → r' < m → c r → c r' → r = r') → rn_s (fun r => rn_i (c r)) m = rn_i (∃ r, r < m ∧ c r) := by
  intro m
  induction m with
  | zero => intro _; exact (rn_if (fun ⟨r, h, _⟩ => absurd h (by omega))).symm
  | succ m ih =>
    intro hu
    show rn_s (fun r => rn_i (c r)) m + rn_i (c m) = _
    rw [ih (fun r r' h h' => hu r r' (by omega) (by omega))]
    by_cases hm : c m
    · rw [rn_it hm, rn_it (c := ∃ r, r < m + 1 ∧ c r) ⟨m, by omega, hm⟩, rn_if]
      rintro ⟨r, hr, hc⟩
      have := hu r m (by omega) (by omega) hc hm
      omega
    · rw [rn_if hm, Nat.add_zero]
      refine rn_ic ⟨fun ⟨r, hr, hc⟩ => ⟨r, by omega, hc⟩, fun ⟨r, hr, hc⟩ => ⟨r, ?_, hc⟩⟩
      rcases Nat.lt_or_ge r m with z | z
      · exact z
      · have : r = m := by omega
        rw [this] at hc
        exact absurd hc hm
/-! == squares of primitive root from a place == -/
def rn_ps (T : Nat → Nat) (i p : Nat) : Prop := i + 2 * p ≤ 8 ∧ rn_P T i (i + 2 * p - 1) p ∧ ∀ q, 1 ≤ q → q < p → ¬ rn_P T i (i + 2 * p - 1) q
theorem rn_cntP {T : Nat → Nat} {m : Nat} {F E S : Nat → Nat} (hL : rn_L T m F E S) (hC : rn_C T m F E S) (i : Nat) :
    rn_s (fun r => rn_i (F r ≤ i ∧ i + 2 * S r ≤ E r + 1)) m = rn_s (fun p => rn_i (rn_ps T i (p + 1))) 4 := by
  have h1 : rn_s (fun r => rn_i (F r ≤ i ∧ i + 2 * S r ≤ E r + 1)) m = rn_s (fun r => rn_s (fun p => rn_i ((F r ≤ i ∧ i + 2 * S r ≤ E r + 1) ∧ S r = p + 1)) 4) m := by
    refine rn_sc (fun r hr => ?_)
    have hz := rn_sz (hL.1 r hr)
    rw [rn_one (c := fun p => (F r ≤ i ∧ i + 2 * S r ≤ E r + 1) ∧ S r = p + 1) 4 (fun p p' _ _ h h' => by
      have a := h.2
      have b := h'.2
      omega)]
    exact rn_ic ⟨fun h => ⟨S r - 1, by omega, h, by omega⟩, fun ⟨_, _, h, _⟩ => h⟩
  rw [h1, rn_sw]
  refine rn_sc (fun p hp => ?_)
  rw [rn_one (c := fun r => (F r ≤ i ∧ i + 2 * S r ≤ E r + 1) ∧ S r = p + 1) m (fun r r' hr hr' h h' => ?_)]
  · refine rn_ic ⟨fun ⟨r, hr, ⟨c1, c2⟩, c3⟩ => ?_, fun ⟨s1, s2, s3⟩ => ?_⟩
    · have hR := hL.1 r hr
      have hz := rn_sz hR
      rw [← c3]
      refine ⟨by omega, rn_sub hR.2.2.2.1 c1 (by omega), fun q q1 q2 hP => ?_⟩
      exact hR.2.2.2.2.2.2 q q1 q2 (rn_ext hR.1 q1 hR.2.2.2.1 _ i (i + 2 * S r - 1) rfl c1 (by omega) (by omega) hP)
    · obtain ⟨s, e, e1, e2, hR⟩ := rn_grow (by omega) (by omega) (by omega) s2 s3
      obtain ⟨r, hr, rfl, rfl, hS⟩ := hC s e (p + 1) hR
      exact ⟨r, hr, ⟨e1, by omega⟩, hS⟩
  · obtain ⟨⟨c1, c2⟩, c3⟩ := h
    obtain ⟨⟨d1, d2⟩, d3⟩ := h'
    have hR := hL.1 r hr
    have hR' := hL.1 r' hr'
    rw [c3] at hR
    rw [d3] at hR'
    exact rn_key hL hr hr' (rn_uniqS hR hR' (by omega) (by omega)) (by omega)
/-! == all squares == -/
def rn_sq (T : Nat → Nat) (i q : Nat) : Prop := i + 2 * q ≤ 8 ∧ rn_P T i (i + 2 * q - 1) q
theorem rn_mul {T : Nat → Nat} {s e p : Nat} (h : rn_P T s e p) : ∀ c, rn_P T s e (p * c) := by
  intro c
  induction c with
  | zero => intro k _ _; rfl
  | succ c ih =>
    intro k h1 h2
    rw [Nat.mul_succ] at h2 ⊢
    have e1 := ih k h1 (by omega)
    have e2 := h (k + p * c) (by omega) (by omega)
    rw [e1, e2, Nat.add_assoc]
theorem rn_dif {T : Nat → Nat} {i q p : Nat} (hpq : p < q) (hq : rn_P T i (i + 2 * q - 1) q) (hp : rn_P T i (i + 2 * q - 1) p) : rn_P T i (i + 2 * q - 1) (q - p) := by
  intro k h1 h2
  by_cases hk : k + q ≤ i + 2 * q - 1
  · have e1 := hq k h1 hk
    have e2 := hp (k + (q - p)) (by omega) (by omega)
    rw [show k + (q - p) + p = k + q by omega] at e2
    rw [e1, e2]
  · have e1 := hp (k - p) (by omega) (by omega)
    have e2 := hq (k - p) (by omega) (by omega)
    rw [show k - p + p = k by omega] at e1
    rw [show k - p + q = k + (q - p) by omega] at e2
    rw [← e1, e2]
theorem rn_sq1 {T : Nat → Nat} {m : Nat} {F E S : Nat → Nat} (hL : rn_L T m F E S) (hC : rn_C T m F E S) (i q : Nat) (q1 : 1 ≤ q) (q4 : q ≤ 4) :
    rn_i (rn_sq T i q) = rn_s (fun r => rn_i (q % S r = 0 ∧ F r ≤ i ∧ i + 2 * q ≤ E r + 1)) m := by
  rw [rn_one (c := fun r => q % S r = 0 ∧ F r ≤ i ∧ i + 2 * q ≤ E r + 1) m (fun r r' hr hr' h h' => ?_)]
  · refine rn_ic ⟨fun ⟨s1, s2⟩ => ?_, fun ⟨r, hr, c0, c1, c2⟩ => ?_⟩
    · obtain ⟨p, ⟨p1, hp⟩, pmin⟩ := pk_least (fun p => 1 ≤ p ∧ rn_P T i (i + 2 * q - 1) p) ⟨q, q1, s2⟩
      have hpq : p ≤ q := by
        rcases Nat.lt_or_ge q p with z | z
        · exact absurd ⟨q1, s2⟩ (pmin q z)
        · exact z
      have hd : q % p = 0 := by
        rcases Nat.lt_or_ge p q with z | z
        · have h2 : p ≤ q - p := by
            rcases Nat.lt_or_ge (q - p) p with y | y
            · exact absurd ⟨by omega, rn_dif z s2 hp⟩ (pmin (q - p) y)
            · exact y
          have hc : p = 1 ∨ (p = 2 ∧ q = 4) := by omega
          rcases hc with rfl | ⟨rfl, rfl⟩
          · omega
          · rfl
        · have : p = q := by omega
          rw [this]; exact Nat.mod_self q
      obtain ⟨s, e, e1, e2, hR⟩ := rn_grow p1 (by omega) (by omega) hp (fun q' a b hP => pmin q' b ⟨a, hP⟩)
      obtain ⟨r, hr, rfl, rfl, rfl⟩ := hC s e p hR
      exact ⟨r, hr, hd, e1, by omega⟩
    · have hR := hL.1 r hr
      have hz := rn_sz hR
      refine ⟨by omega, ?_⟩
      obtain ⟨c, hc⟩ := Nat.dvd_of_mod_eq_zero c0
      have := rn_mul (rn_sub hR.2.2.2.1 c1 (show i + 2 * q - 1 ≤ E r by omega)) c
      rw [← hc] at this
      exact this
  · obtain ⟨c0, c1, c2⟩ := h
    obtain ⟨d0, d1, d2⟩ := h'
    have hR := hL.1 r hr
    have hR' := hL.1 r' hr'
    have hl : S r ≤ q := Nat.le_of_dvd (by omega) (Nat.dvd_of_mod_eq_zero c0)
    have hl' : S r' ≤ q := Nat.le_of_dvd (by omega) (Nat.dvd_of_mod_eq_zero d0)
    rcases Nat.lt_trichotomy (S r) (S r') with z | z | z
    · exact absurd (rn_ext hR'.1 hR.1 hR'.2.2.2.1 _ i (i + 2 * q - 1) rfl d1 (by omega) (by omega) (rn_sub hR.2.2.2.1 c1 (by omega))) (hR'.2.2.2.2.2.2 (S r) hR.1 z)
    · rw [← z] at hR'
      exact rn_key hL hr hr' (rn_uniqS hR hR' (by omega) (by omega)) z
    · exact absurd (rn_ext hR.1 hR'.1 hR.2.2.2.1 _ i (i + 2 * q - 1) rfl c1 (by omega) (by omega) (rn_sub hR'.2.2.2.1 d1 (by omega))) (hR.2.2.2.2.2.2 (S r') hR'.1 z)
/-- the component's inner sum: squares of one run -/
def rn_g (st sz : Nat) : Nat → Nat → Nat
  | 0, _ => 0
  | n + 1, tw => if sz < tw then 0 else (sz - tw + 1) + rn_g st sz n (tw + 2 * st)
theorem rn_gd : ∀ f, f < 8 → ∀ e, e < 8 → ∀ st, st < 5 → 1 ≤ st → f + 2 * st ≤ e + 1 →
    rn_s (fun i => rn_s (fun q => if (q + 1) % st = 0 ∧ f ≤ i ∧ i + 2 * (q + 1) ≤ e + 1 then 1 else 0) 4) 8 = rn_g st (e + 1 - f) 9 (2 * st) := by decide +kernel
theorem rn_cntS {T : Nat → Nat} {m : Nat} {F E S : Nat → Nat} (hL : rn_L T m F E S) (hC : rn_C T m F E S) :
    rn_s (fun r => rn_g (S r) (E r + 1 - F r) 9 (2 * S r)) m = rn_s (fun i => rn_s (fun q => rn_i (rn_sq T i (q + 1))) 4) 8 := by
  have h1 : rn_s (fun i => rn_s (fun q => rn_i (rn_sq T i (q + 1))) 4) 8 = rn_s (fun i => rn_s (fun r => rn_s (fun q => rn_i ((q + 1) % S r = 0 ∧ F r ≤ i ∧ i + 2 * (q + 1) ≤ E r + 1)) 4) m) 8 := by
    refine rn_sc (fun i _ => ?_)
    rw [← rn_sw]
    exact rn_sc (fun q hq => rn_sq1 hL hC i (q + 1) (by omega) (by omega))
  rw [h1, rn_sw]
  refine rn_sc (fun r hr => ?_)
  have hz := rn_sz (hL.1 r hr)
  rw [← rn_gd (F r) (by omega) (E r) (by omega) (S r) (by omega) (by omega) (by omega)]
  exact rn_sc (fun i _ => rn_sc (fun q _ => rn_id.symm))
/-! == the law's place in the listing == -/
def rn_mx (F E : Nat → Nat) : Nat → Nat
  | 0 => 0
  | n + 1 => if E n + 1 - F n ≤ rn_mx F E n then rn_mx F E n else E n + 1 - F n
/-- y rows of every listing lie ahead of the key k, the longest of them is w -/
def rn_I (T : Nat → Nat) (k y w : Nat) : Prop := ∀ m F E S, rn_L T m F E S → rn_C T m F E S →
  y ≤ m ∧ (∀ r, r < y → 8 * F r + S r < k) ∧ (∀ r, y ≤ r → r < m → k ≤ 8 * F r + S r) ∧ w = rn_mx F E y
theorem rn_I0 {T : Nat → Nat} : rn_I T 1 0 0 := by
  intro m F E S hL hC
  refine ⟨by omega, fun r hr => absurd hr (by omega), fun r _ hr => ?_, rfl⟩
  have hz := rn_sz (hL.1 r hr)
  omega
theorem rn_Iy {T : Nat → Nat} {i p e y w : Nat} (h : rn_I T (8 * i + p) y w) (hR : rn_R T i e p) {m : Nat} {F E S : Nat → Nat} (hL : rn_L T m F E S) (hC : rn_C T m F E S) :
    y < m ∧ F y = i ∧ E y = e ∧ S y = p := by
  obtain ⟨h1, h2, h3, h4⟩ := h m F E S hL hC
  obtain ⟨r, hr, r1, r2, r3⟩ := hC i e p hR
  have hyr : y = r := by
    rcases Nat.lt_trichotomy y r with z | z | z
    · have := h3 y (by omega) (by omega)
      have := hL.2 y r z hr
      omega
    · exact z
    · have := h2 r z
      omega
  rw [hyr]
  exact ⟨hr, r1, r2, r3⟩
theorem rn_Iyes {T : Nat → Nat} {i p e y w : Nat} (h : rn_I T (8 * i + p) y w) (hR : rn_R T i e p) : rn_I T (8 * i + (p + 1)) (y + 1) (if e + 1 - i ≤ w then w else e + 1 - i) := by
  intro m F E S hL hC
  obtain ⟨g1, g2, g3, g4⟩ := rn_Iy h hR hL hC
  obtain ⟨h1, h2, h3, h4⟩ := h m F E S hL hC
  refine ⟨g1, fun r hr => ?_, fun r hr hm => ?_, ?_⟩
  · rcases Nat.lt_or_ge r y with z | z
    · have := h2 r z; omega
    · have : r = y := by omega
      rw [this, g2, g4]; omega
  · have := hL.2 y r (by omega) hm
    rw [g2, g4] at this
    omega
  · show _ = if E y + 1 - F y ≤ rn_mx F E y then rn_mx F E y else E y + 1 - F y
    rw [g2, g3, ← h4]
theorem rn_Ino {T : Nat → Nat} {i p y w : Nat} (h : rn_I T (8 * i + p) y w) (hp : p ≤ 4) (hR : ∀ e, ¬ rn_R T i e p) : rn_I T (8 * i + (p + 1)) y w := by
  intro m F E S hL hC
  obtain ⟨h1, h2, h3, h4⟩ := h m F E S hL hC
  refine ⟨h1, fun r hr => ?_, fun r hr hm => ?_, h4⟩
  · have := h2 r hr; omega
  · have a := h3 r hr hm
    have hRr := hL.1 r hm
    have hz := rn_sz hRr
    rcases Nat.lt_or_ge (8 * i + p) (8 * F r + S r) with z | z
    · omega
    · have e1 : F r = i := by omega
      have e2 : S r = p := by omega
      rw [e1, e2] at hRr
      exact absurd hRr (hR (E r))
theorem rn_Inext {T : Nat → Nat} {i y w : Nat} (h : rn_I T (8 * i + 5) y w) : rn_I T (8 * (i + 1) + 1) y w := by
  intro m F E S hL hC
  obtain ⟨h1, h2, h3, h4⟩ := h m F E S hL hC
  refine ⟨h1, fun r hr => ?_, fun r hr hm => ?_, h4⟩
  · have := h2 r hr; omega
  · have a := h3 r hr hm
    have hz := rn_sz (hL.1 r hm)
    omega
theorem rn_Iend {T : Nat → Nat} {y w : Nat} (h : rn_I T 65 y w) {m : Nat} {F E S : Nat → Nat} (hL : rn_L T m F E S) (hC : rn_C T m F E S) : y = m ∧ w = rn_mx F E m := by
  obtain ⟨h1, h2, h3, h4⟩ := h m F E S hL hC
  have : y = m := by
    rcases Nat.lt_or_ge y m with z | z
    · have a := h3 y (by omega) z
      have hz := rn_sz (hL.1 y z)
      omega
    · omega
  rw [← this]
  exact ⟨rfl, h4⟩
end
section
/-! ===== the component's methods ===== -/
theorem rn_m1 {i l : Nat} (h : l < i) : nI i - 1 - nI l = nI (i - 1 - l) := by
  have e : nI i - 1 = nI (i - 1) := pk_sub (a := i) (b := 1) (by omega)
  rw [e, pk_sub (by omega)]
theorem rn_e2 {i p : Nat} (h : 1 ≤ p) : nI i + 2 * nI p - 1 = nI (i + 2 * p - 1) := by
  have e : (2 : Int32) * nI p = nI (2 * p) := pk_mul 2 p
  rw [e, nI_add]
  exact pk_sub (a := i + 2 * p) (b := 1) (by omega)
theorem rn_e3 {f e : Nat} (h : f ≤ e) : nI e - nI f + 1 = nI (e + 1 - f) := by
  rw [pk_sub h, nI_1]
  rw [show e - f + 1 = e + 1 - f by omega]
theorem rn_fwd2 {post : Int32 → Prop} {T : Nat → Nat} {rc cu : Int32} {a1 a2 a3 a4 a5 : Nat → Int32} {i k : Nat} (hT : ∀ j, T j < 4) (h1 : ∀ j, j < 8 → a1 j = nI (T j))
    (H : ∀ d, (∀ j, j < d → T (i + j) = T (k + j)) → i + d ≤ 8 → k + d ≤ 8 → (i + d < 8 → k + d < 8 → T (i + d) ≠ T (k + d)) → post (nI d)) :
    ∀ c d, 8 < d + c → (∀ j, j < d → T (i + j) = T (k + j)) → i + d ≤ 8 → k + d ≤ 8 → wX_forward_2 post (nI i) (nI k) (nI 8) rc cu a1 a2 a3 a4 a5 c (nI d) := by
  intro c
  induction c with
  | zero => intro d h _ h3 _; omega
  | succ c ih =>
    intro d h hm hid hkd
    have t1 := hT (i + d)
    have t2 := hT (k + d)
    refine pk_le 8 (i + d) (fun z => H d hm hid hkd (fun y => absurd y (by omega))) (fun z => ?_) rfl (nI_add i d)
    refine pk_le 8 (k + d) (fun z' => H d hm hid hkd (fun _ y => absurd y (by omega))) (fun z' => ?_) rfl (nI_add k d)
    refine ⟨pk_in (i + d) 48 (by omega) (nI_add i d), pk_in (k + d) 48 (by omega) (nI_add k d), ?_⟩
    rw [nI_add i d, nI_add k d, nI_clamp (show i + d < 2 ^ 31 by omega), nI_clamp (show k + d < 2 ^ 31 by omega), h1 _ z, h1 _ z']
    exact pk_eq (T (i + d)) (T (k + d)) (fun e => nm_r (nI_1 d) (ih (d + 1) (by omega) (lt_s hm e) (by omega) (by omega))) (fun ne => H d hm hid hkd (fun _ _ => ne))
theorem rn_fwd {post : Int32 → Prop} {T : Nat → Nat} {rc cu : Int32} {a1 a2 a3 a4 a5 : Nat → Int32} {i k : Nat} (hT : ∀ j, T j < 4) (h1 : ∀ j, j < 8 → a1 j = nI (T j)) (hi : i ≤ 8) (hk : k ≤ 8)
    (H : ∀ d, (∀ j, j < d → T (i + j) = T (k + j)) → i + d ≤ 8 → k + d ≤ 8 → (i + d < 8 → k + d < 8 → T (i + d) ≠ T (k + d)) → post (nI d)) :
    wpX_forward post (nI 8, rc, cu, a1, a2, a3, a4, a5) (nI i) (nI k) :=
  ⟨9, rn_fwd2 hT h1 H 9 0 (by omega) (fun j hj => absurd hj (by omega)) hi hk⟩
theorem rn_cmp {post : Int32 → Prop} {T : Nat → Nat} {b : Bool} {z rc cu : Int32} {a1 a2 a3 a4 a5 : Nat → Int32} {i k : Nat} (hT : ∀ j, T j < 4) (h1 : ∀ j, j < 8 → a1 j = nI (T j)) (hz : (b = true ∧ z = 1) ∨ (b = false ∧ z = 0)) (hik : i < k) (hk : k < 8)
    (H1 : rn_V (rn_U T b) k < rn_V (rn_U T b) i → post 1) (H0 : rn_V (rn_U T b) i ≤ rn_V (rn_U T b) k → post 0) :
    wpX_comesBefore post (nI 8, rc, cu, a1, a2, a3, a4, a5) (nI k) (nI i) z := by
  unfold wpX_comesBefore
  dsimp only
  refine rn_fwd hT h1 (by omega) (by omega) (fun d hm hid hkd hne => ?_)
  have hc := rn_cb (b := b) hT hik hkd hm
  refine pk_lt (k + d) 8 (fun h8 => ?_) (fun h8 => H1 (hc.1 (by omega))) (nI_add k d) rfl
  have hv := hc.2 h8 (hne (by omega) h8)
  have t1 := hT (k + d)
  have t2 := hT (i + d)
  rcases hz with ⟨rfl, rfl⟩ | ⟨rfl, rfl⟩
  · rw [if_pos rfl] at hv
    refine br_f (by decide) ⟨pk_in (k + d) 48 (by omega) (nI_add k d), pk_in (i + d) 48 (by omega) (nI_add i d), ?_⟩
    rw [nI_add k d, nI_add i d, nI_clamp (show k + d < 2 ^ 31 by omega), nI_clamp (show i + d < 2 ^ 31 by omega), h1 _ h8, h1 (i + d) (by omega)]
    exact pk_le (T (i + d)) (T (k + d)) (fun w => H0 (Nat.le_of_not_lt (fun y => absurd (hv.mp y) (by omega)))) (fun w => H1 (hv.mpr w))
  · rw [if_neg (by decide)] at hv
    refine br_t rfl ⟨pk_in (k + d) 48 (by omega) (nI_add k d), pk_in (i + d) 48 (by omega) (nI_add i d), ?_⟩
    rw [nI_add k d, nI_add i d, nI_clamp (show k + d < 2 ^ 31 by omega), nI_clamp (show i + d < 2 ^ 31 by omega), h1 _ h8, h1 (i + d) (by omega)]
    exact pk_le (T (k + d)) (T (i + d)) (fun w => H0 (Nat.le_of_not_lt (fun y => absurd (hv.mp y) (by omega)))) (fun w => H1 (hv.mpr w))
theorem rn_fe31 {post : St2 → Prop} {J : Int32 → (Nat → Int32) → (Nat → Int32) → (Nat → Int32) → (Nat → Int32) → (Nat → Int32) → Prop} {T : Nat → Nat} {b : Bool} {z rc cu : Int32} {a1 a2 a3 a4 a5 : Nat → Int32} {i : Nat} (hT : ∀ j, T j < 4) (h1 : ∀ j, j < 8 → a1 j = nI (T j)) (hz : (b = true ∧ z = 1) ∨ (b = false ∧ z = 0)) (hi : i < 8)
    (h2 : ∀ j, i < j → j < 8 → ∃ k, rn_N (rn_U T b) j k ∧ a2 j = nI k)
    (H : ∀ k, rn_N (rn_U T b) i k → J (nI i + (-1)) a1 (upd a2 i (nI k)) a3 a4 a5) :
    ∀ c k t, 8 < k + c → t + i + 1 ≤ k → k ≤ 8 → (∀ m, i < m → m < k → rn_V (rn_U T b) i ≤ rn_V (rn_U T b) m) → wX_findEndings_31 post J z (nI i) (nI 8) rc cu a1 a2 a3 a4 a5 c (nI k) (nI t) := by
  intro c
  induction c with
  | zero => intro k t h _ h3 _; omega
  | succ c ih =>
    intro k t hc ht hk hm
    refine pk_le 48 t (fun w => absurd w (by omega)) (fun _ => ?_)
    refine pk_le 8 k (fun w => ?_) (fun w => ?_)
    · have hk8 : k = 8 := by omega
      subst hk8
      refine ⟨pk_in i 49 (by omega), ?_⟩
      rw [nI_clamp (show i < 2 ^ 31 by omega)]
      exact nm_e (nm_e (H 8 ⟨by omega, by omega, rn_V8 (rn_Uk hT b) hi, hm⟩))
    · refine rn_cmp hT h1 hz (by omega) w (fun hv => ?_) (fun hv => ?_)
      · refine br_f (by decide) ⟨pk_in i 49 (by omega), ?_⟩
        rw [nI_clamp (show i < 2 ^ 31 by omega)]
        exact nm_e (nm_e (H k ⟨by omega, by omega, hv, hm⟩))
      · obtain ⟨k', hN, ha⟩ := h2 k (by omega) w
        have hN1 := hN.1
        have hN2 := hN.2.1
        refine br_t rfl ⟨pk_in k 49 (by omega), ?_⟩
        rw [nI_clamp (show k < 2 ^ 31 by omega), ha]
        refine nm_e (nm_r (nI_1 t) (ih k' (t + 1) (by omega) (by omega) (by omega) (fun m m1 m2 => ?_)))
        rcases Nat.lt_trichotomy m k with y | y | y
        · exact hm m m1 y
        · rw [y]; exact hv
        · have := hN.2.2.2 m y m2
          omega
theorem rn_fe20 {post : St2 → Prop} {T : Nat → Nat} {b : Bool} {z rc cu : Int32} {a1 a3 a4 a5 : Nat → Int32} (hT : ∀ j, T j < 4) (h1 : ∀ j, j < 8 → a1 j = nI (T j)) (hz : (b = true ∧ z = 1) ∨ (b = false ∧ z = 0))
    (H : ∀ a2, (∀ j, j < 8 → ∃ k, rn_N (rn_U T b) j k ∧ a2 j = nI k) → post (nI 8, rc, cu, a1, a2, a3, a4, a5)) :
    ∀ i a2, i ≤ 8 → (∀ j, i ≤ j → j < 8 → ∃ k, rn_N (rn_U T b) j k ∧ a2 j = nI k) → wX_findEndings_20 post z (nI 8) rc cu (i + 1) (nI i + (-1)) a1 a2 a3 a4 a5 := by
  intro i
  induction i with
  | zero =>
    intro a2 _ h2
    exact br_t (by decide) (H a2 (fun j hj => h2 j (by omega) hj))
  | succ i ih =>
    intro a2 hi h2
    rw [pk_m1]
    refine br_f (nI_pos (by omega)) (nm_r (nI_1 i) ⟨9, ?_⟩)
    refine rn_fe31 hT h1 hz (by omega) (fun j j1 j2 => h2 j (by omega) j2) (fun k hN => ?_) 9 (i + 1) 0 (by omega) (by omega) (by omega) (fun m m1 m2 => absurd m1 (by omega))
    refine ih (upd a2 i (nI k)) (by omega) (fun j j1 j2 => ?_)
    by_cases e : j = i
    · rw [e]
      exact ⟨k, hN, pk_us⟩
    · rw [pk_un e]
      exact h2 j (by omega) j2
theorem rn_fe {post : St2 → Prop} {T : Nat → Nat} {b : Bool} {z rc cu : Int32} {a1 a2 a3 a4 a5 : Nat → Int32} (hT : ∀ j, T j < 4) (h1 : ∀ j, j < 8 → a1 j = nI (T j)) (hz : (b = true ∧ z = 1) ∨ (b = false ∧ z = 0))
    (H : ∀ a2, (∀ j, j < 8 → ∃ k, rn_N (rn_U T b) j k ∧ a2 j = nI k) → post (nI 8, rc, cu, a1, a2, a3, a4, a5)) :
    wpX_findEndings post (nI 8, rc, cu, a1, a2, a3, a4, a5) z :=
  ⟨pk_in 8 49 (by omega), nm_e (nm_r (show nI 8 - 1 = nI 8 + (-1) by decide) ⟨9, rn_fe20 hT h1 hz H 8 _ (by omega) (fun j j1 j2 => absurd j1 (by omega))⟩)⟩
theorem rn_bwd2 {post : Int32 → Prop} {T : Nat → Nat} {l0 rc cu : Int32} {a1 a2 a3 a4 a5 : Nat → Int32} {i k : Nat} (hT : ∀ j, T j < 4) (h1 : ∀ j, j < 8 → a1 j = nI (T j)) (hik : i < k) (hk : k ≤ 8)
    (H : ∀ l, rn_bw T i k l → post (nI l)) :
    ∀ c l, 8 < l + c → l ≤ i → (∀ j, j < l → T (i - 1 - j) = T (k - 1 - j)) → wX_backward_2 post (nI i) (nI k) l0 rc cu a1 a2 a3 a4 a5 c (nI l) := by
  intro c
  induction c with
  | zero => intro l h h2 _; omega
  | succ c ih =>
    intro l h hl hm
    have t1 := hT (i - 1 - l)
    have t2 := hT (k - 1 - l)
    refine pk_le i l (fun z => H l ⟨hm, hl, fun y => absurd y (by omega)⟩) (fun z => ?_)
    refine pk_le k l (fun z' => absurd z' (by omega)) (fun _ => ?_)
    rw [rn_m1 z, rn_m1 (show l < k by omega), nI_clamp (show i - 1 - l < 2 ^ 31 by omega), nI_clamp (show k - 1 - l < 2 ^ 31 by omega), h1 (i - 1 - l) (by omega), h1 (k - 1 - l) (by omega)]
    refine ⟨pk_in (i - 1 - l) 48 (by omega), pk_in (k - 1 - l) 48 (by omega), ?_⟩
    exact pk_eq (T (i - 1 - l)) (T (k - 1 - l)) (fun e => nm_r (nI_1 l) (ih (l + 1) (by omega) (by omega) (lt_s hm e))) (fun ne => H l ⟨hm, hl, fun _ => ne⟩)
theorem rn_bwd {post : Int32 → Prop} {T : Nat → Nat} {l0 rc cu : Int32} {a1 a2 a3 a4 a5 : Nat → Int32} {i k : Nat} (hT : ∀ j, T j < 4) (h1 : ∀ j, j < 8 → a1 j = nI (T j)) (hik : i < k) (hk : k ≤ 8)
    (H : ∀ l, rn_bw T i k l → post (nI l)) : wpX_backward post (l0, rc, cu, a1, a2, a3, a4, a5) (nI i) (nI k) :=
  ⟨9, rn_bwd2 hT h1 hik hk H 9 0 (by omega) (by omega) (fun j hj => absurd hj (by omega))⟩
/-! == insert == -/
def rn_A (m : Nat) (F E S : Nat → Nat) (a3 a4 a5 : Nat → Int32) : Prop := ∀ r, r < m → a3 r = nI (F r) ∧ a4 r = nI (E r) ∧ a5 r = nI (S r)
/-- rows above r have gone one place up -/
def rn_Q (m r : Nat) (a b : Nat → Int32) : Prop := (∀ j, j ≤ r → b j = a j) ∧ (∀ j, r < j → j ≤ m → b j = a (j - 1))
theorem rn_Qs {m r : Nat} {a b : Nat → Int32} (h : rn_Q m (r + 1) a b) : rn_Q m r a (upd b (r + 1) (b r)) := by
  refine ⟨fun j hj => ?_, fun j hj hm => ?_⟩
  · rw [pk_un (by omega)]
    exact h.1 j (by omega)
  · by_cases e : j = r + 1
    · rw [e, pk_us]
      exact h.1 r (by omega)
    · rw [pk_un e]
      exact h.2 j (by omega) hm
theorem rn_103 {post : St2 → Prop} {x1 x2 x3 l0 cu : Int32} {a1 a2 a3 a4 a5 : Nat → Int32} {m v : Nat} (hm : m < 100)
    (H : ∀ b3 b4 b5, rn_Q m v a3 b3 → rn_Q m v a4 b4 → rn_Q m v a5 b5 → post (l0, nI (m + 1), cu, a1, a2, upd b3 v x1, upd b4 v x2, upd b5 v x3)) :
    ∀ c r b3 b4 b5, v ≤ r → r ≤ m → r < v + c → rn_Q m r a3 b3 → rn_Q m r a4 b4 → rn_Q m r a5 b5 → wX_insert_103 post x1 x2 x3 (nI v) l0 (nI m) cu c (nI r) a1 a2 b3 b4 b5 := by
  intro c
  induction c with
  | zero => intro r _ _ _ h _ h3; omega
  | succ c ih =>
    intro r b3 b4 b5 hv hr hc q3 q4 q5
    refine pk_le r v (fun z => ?_) (fun z => ?_)
    · have e : r = v := by omega
      subst e
      rw [nI_clamp (show r < 2 ^ 31 by omega)]
      exact ⟨pk_in r 100 (by omega), nm_e ⟨pk_in r 100 (by omega), nm_e ⟨pk_in r 100 (by omega), nm_e (nm_r (nI_1 m) (H b3 b4 b5 q3 q4 q5))⟩⟩⟩
    · obtain ⟨r, rfl⟩ : ∃ r', r = r' + 1 := ⟨r - 1, by omega⟩
      rw [nI_pred, nI_clamp (show r < 2 ^ 31 by omega), nI_clamp (show r + 1 < 2 ^ 31 by omega)]
      exact ⟨pk_in r 100 (by omega), pk_in (r + 1) 100 (by omega), nm_e ⟨pk_in r 100 (by omega), pk_in (r + 1) 100 (by omega), nm_e ⟨pk_in r 100 (by omega), pk_in (r + 1) 100 (by omega), nm_e (nm_r (pk_m1 r) (ih r _ _ _ (by omega) (by omega) (by omega) (rn_Qs q3) (rn_Qs q4) (rn_Qs q5)))⟩⟩⟩
def rn_put (F : Nat → Nat) (v s j : Nat) : Nat := if j < v then F j else if j = v then s else F (j - 1)
theorem rn_put_lo {F : Nat → Nat} {v s j : Nat} (h : j < v) : rn_put F v s j = F j := by
  unfold rn_put
  rw [if_pos h]
theorem rn_put_eq {F : Nat → Nat} {v s : Nat} : rn_put F v s v = s := by
  unfold rn_put
  rw [if_neg (by omega), if_pos rfl]
theorem rn_put_hi {F : Nat → Nat} {v s j : Nat} (h : v < j) : rn_put F v s j = F (j - 1) := by
  unfold rn_put
  rw [if_neg (by omega), if_neg (by omega)]
theorem rn_putA {m v s : Nat} {F : Nat → Nat} {a b : Nat → Int32} (h : ∀ r, r < m → a r = nI (F r)) (hq : rn_Q m v a b) (hv : v ≤ m) : ∀ r, r < m + 1 → upd b v (nI s) r = nI (rn_put F v s r) := by
  intro r hr
  rcases Nat.lt_trichotomy r v with z | z | z
  · rw [pk_un (by omega), rn_put_lo z, hq.1 r (by omega), h r (by omega)]
  · rw [z, pk_us, rn_put_eq]
  · rw [pk_un (by omega), rn_put_hi z, hq.2 r z (by omega), h (r - 1) (by omega)]
theorem rn_putL {T : Nat → Nat} {m v s e p : Nat} {F E S : Nat → Nat} (hL : rn_L T m F E S) (hR : rn_R T s e p) (hv : v ≤ m) (hhi : ∀ r, v ≤ r → r < m → 8 * s + p < 8 * F r + S r) (hlo : ∀ r, r < v → 8 * F r + S r < 8 * s + p) :
    rn_L T (m + 1) (rn_put F v s) (rn_put E v e) (rn_put S v p) := by
  refine ⟨fun r hr => ?_, fun r r' hr hr' => ?_⟩
  · rcases Nat.lt_trichotomy r v with z | z | z
    · rw [rn_put_lo z, rn_put_lo z, rn_put_lo z]
      exact hL.1 r (by omega)
    · rw [z, rn_put_eq, rn_put_eq, rn_put_eq]
      exact hR
    · rw [rn_put_hi z, rn_put_hi z, rn_put_hi z]
      exact hL.1 (r - 1) (by omega)
  · rcases Nat.lt_trichotomy r v with z | z | z
    · rw [rn_put_lo z, rn_put_lo z]
      rcases Nat.lt_trichotomy r' v with y | y | y
      · rw [rn_put_lo y, rn_put_lo y]
        exact hL.2 r r' hr (by omega)
      · rw [y, rn_put_eq, rn_put_eq]
        exact hlo r z
      · rw [rn_put_hi y, rn_put_hi y]
        exact hL.2 r (r' - 1) (by omega) (by omega)
    · have y : v < r' := by omega
      rw [z, rn_put_eq, rn_put_eq, rn_put_hi y, rn_put_hi y]
      exact hhi (r' - 1) (by omega) (by omega)
    · have y : v < r' := by omega
      rw [rn_put_hi z, rn_put_hi z, rn_put_hi y, rn_put_hi y]
      exact hL.2 (r - 1) (r' - 1) (by omega) (by omega)
theorem rn_putM {m v s e p : Nat} {F E S : Nat → Nat} (hv : v ≤ m) :
    (∀ s' e' p', rn_M m F E S s' e' p' → rn_M (m + 1) (rn_put F v s) (rn_put E v e) (rn_put S v p) s' e' p') ∧ rn_M (m + 1) (rn_put F v s) (rn_put E v e) (rn_put S v p) s e p := by
  refine ⟨fun s' e' p' ⟨r, hr, r1, r2, r3⟩ => ?_, ⟨v, by omega, rn_put_eq, rn_put_eq, rn_put_eq⟩⟩
  by_cases z : r < v
  · exact ⟨r, by omega, by rw [rn_put_lo z]; exact r1, by rw [rn_put_lo z]; exact r2, by rw [rn_put_lo z]; exact r3⟩
  · have y : v < r + 1 := by omega
    exact ⟨r + 1, by omega, by rw [rn_put_hi y]; exact r1, by rw [rn_put_hi y]; exact r2, by rw [rn_put_hi y]; exact r3⟩
section
variable {post : St2 → Prop} {T : Nat → Nat} {l0 cu : Int32} {a1 a2 a3 a4 a5 : Nat → Int32} {m s e p : Nat} {F E S : Nat → Nat}
theorem rn_i87 (hm : m < 100) (hA : rn_A m F E S a3 a4 a5) (hL : rn_L T m F E S) (hR : rn_R T s e p)
    (H : ∀ m' F' E' S' b3 b4 b5, m' ≤ m + 1 → rn_L T m' F' E' S' → rn_A m' F' E' S' b3 b4 b5 → (∀ s e p, rn_M m F E S s e p → rn_M m' F' E' S' s e p) → rn_M m' F' E' S' s e p → post (l0, nI m', cu, a1, a2, b3, b4, b5))
    {v : Nat} (hv : v ≤ m) (hhi : ∀ r, v ≤ r → r < m → 8 * s + p < 8 * F r + S r) (hlo : ∀ r, r < v → 8 * F r + S r < 8 * s + p) :
    wX_insert_87 post (nI s) (nI e) (nI p) (nI v) l0 (nI m) cu a1 a2 a3 a4 a5 := by
  unfold wX_insert_87
  refine pk_eq m 100 (fun z => absurd z (by omega)) (fun _ => ⟨m + 1, ?_⟩)
  refine rn_103 hm (fun b3 b4 b5 q3 q4 q5 => ?_) (m + 1) m a3 a4 a5 hv (by omega) (by omega) ⟨fun _ _ => rfl, fun j h1 h2 => absurd h1 (by omega)⟩ ⟨fun _ _ => rfl, fun j h1 h2 => absurd h1 (by omega)⟩ ⟨fun _ _ => rfl, fun j h1 h2 => absurd h1 (by omega)⟩
  refine H (m + 1) (rn_put F v s) (rn_put E v e) (rn_put S v p) _ _ _ (by omega) (rn_putL hL hR hv hhi hlo) (fun r hr => ?_) (rn_putM hv).1 (rn_putM hv).2
  exact ⟨rn_putA (fun r hr => (hA r hr).1) q3 hv r hr, rn_putA (fun r hr => (hA r hr).2.1) q4 hv r hr, rn_putA (fun r hr => (hA r hr).2.2) q5 hv r hr⟩
theorem rn_i56 (hm : m < 100) (hA : rn_A m F E S a3 a4 a5) (hL : rn_L T m F E S) (hR : rn_R T s e p)
    (H : ∀ m' F' E' S' b3 b4 b5, m' ≤ m + 1 → rn_L T m' F' E' S' → rn_A m' F' E' S' b3 b4 b5 → (∀ s e p, rn_M m F E S s e p → rn_M m' F' E' S' s e p) → rn_M m' F' E' S' s e p → post (l0, nI m', cu, a1, a2, b3, b4, b5))
    {v : Nat} (hv : v ≤ m) (hhi : ∀ r, v ≤ r → r < m → 8 * s + p < 8 * F r + S r) (hlo : 0 < v → 8 * F (v - 1) + S (v - 1) ≤ 8 * s + p) :
    wX_insert_56 post (nI s) (nI e) (nI p) (nI v) l0 (nI m) cu a1 a2 a3 a4 a5 := by
  unfold wX_insert_56
  have hzR := rn_sz hR
  cases v with
  | zero => exact br_t (by decide) (rn_i87 hm hA hL hR H hv hhi (fun r hr => absurd hr (by omega)))
  | succ v =>
    have hlo := hlo (by omega)
    rw [show v + 1 - 1 = v by omega] at hlo
    have hRv := hL.1 v (by omega)
    have hz := rn_sz hRv
    have hne : 8 * F v + S v ≠ 8 * s + p → ∀ r, r < v + 1 → 8 * F r + S r < 8 * s + p := by
      intro hn r hr
      rcases Nat.lt_or_ge r v with z | z
      · have := hL.2 r v z (by omega)
        omega
      · have e : r = v := by omega
        rw [e]; omega
    refine br_f (nI_nle (by omega) (by omega)) ?_
    rw [nI_pred, nI_clamp (show v < 2 ^ 31 by omega), (hA v (by omega)).1, (hA v (by omega)).2.2]
    refine ⟨pk_in v 100 (by omega), ?_⟩
    refine pk_eq (F v) s (fun z => ⟨pk_in v 100 (by omega), ?_⟩) (fun z => rn_i87 hm hA hL hR H hv hhi (hne (by omega)))
    refine pk_eq (S v) p (fun y => ?_) (fun y => rn_i87 hm hA hL hR H hv hhi (hne (by omega)))
    refine H m F E S a3 a4 a5 (by omega) hL hA (fun _ _ _ h => h) ⟨v, by omega, z, ?_, y⟩
    rw [z, y] at hRv
    exact rn_uniqE hRv hR
theorem rn_i6 (hm : m < 100) (hA : rn_A m F E S a3 a4 a5) (hL : rn_L T m F E S) (hR : rn_R T s e p)
    (H : ∀ m' F' E' S' b3 b4 b5, m' ≤ m + 1 → rn_L T m' F' E' S' → rn_A m' F' E' S' b3 b4 b5 → (∀ s e p, rn_M m F E S s e p → rn_M m' F' E' S' s e p) → rn_M m' F' E' S' s e p → post (l0, nI m', cu, a1, a2, b3, b4, b5)) :
    ∀ v, v ≤ m → (∀ r, v ≤ r → r < m → 8 * s + p < 8 * F r + S r) → wX_insert_6 post (nI s) (nI e) (nI p) l0 (nI m) cu a1 a2 a3 a4 a5 (v + 1) (nI v) := by
  have hzR := rn_sz hR
  intro v
  induction v with
  | zero =>
    intro hv hhi
    exact br_t (by decide) (rn_i56 hm hA hL hR H hv hhi (fun h => absurd h (by omega)))
  | succ v ih =>
    intro hv hhi
    have hz := rn_sz (hL.1 v (by omega))
    have down : 8 * s + p < 8 * F v + S v → wX_insert_6 post (nI s) (nI e) (nI p) l0 (nI m) cu a1 a2 a3 a4 a5 (v + 1) (nI v) := fun hk => ih (by omega) (fun r h1 h2 => by
      rcases Nat.lt_or_ge v r with z | z
      · exact hhi r (by omega) h2
      · have e : r = v := by omega
        rw [e]; exact hk)
    have stop : 8 * F v + S v ≤ 8 * s + p → wX_insert_56 post (nI s) (nI e) (nI p) (nI (v + 1)) l0 (nI m) cu a1 a2 a3 a4 a5 := fun hk => rn_i56 hm hA hL hR H hv hhi (fun _ => hk)
    refine br_f (nI_nle (by omega) (by omega)) ?_
    rw [nI_pred, nI_clamp (show v < 2 ^ 31 by omega), (hA v (by omega)).1, (hA v (by omega)).2.2]
    refine ⟨pk_in v 100 (by omega), ?_⟩
    refine pk_lt s (F v) (fun z => nm_r (pk_m1 v) (down (by omega))) (fun z => ⟨pk_in v 100 (by omega), ?_⟩)
    refine pk_eq (F v) s (fun y => ⟨pk_in v 100 (by omega), ?_⟩) (fun y => stop (by omega))
    exact pk_le (S v) p (fun x => stop (by omega)) (fun x => nm_r (pk_m1 v) (down (by omega)))
theorem rn_ins (hm : m < 100) (hA : rn_A m F E S a3 a4 a5) (hL : rn_L T m F E S) (hR : rn_R T s e p)
    (H : ∀ m' F' E' S' b3 b4 b5, m' ≤ m + 1 → rn_L T m' F' E' S' → rn_A m' F' E' S' b3 b4 b5 → (∀ s e p, rn_M m F E S s e p → rn_M m' F' E' S' s e p) → rn_M m' F' E' S' s e p → post (l0, nI m', cu, a1, a2, b3, b4, b5)) :
    wpX_insert post (l0, nI m, cu, a1, a2, a3, a4, a5) (nI s) (nI e) (nI p) :=
  ⟨m + 1, rn_i6 hm hA hL hR H m (by omega) (fun r h1 h2 => absurd h1 (by omega))⟩
end
end
section
/-! ===== widen, refresh, the answers ===== -/
theorem rn_wdn {post : St2 → Prop} {T : Nat → Nat} {b : Bool} {cu : Int32} {a1 a2 a3 a4 a5 : Nat → Int32} {m i k : Nat} {F E S : Nat → Nat} (hT : ∀ j, T j < 4) (h1 : ∀ j, j < 8 → a1 j = nI (T j)) (hN : rn_N (rn_U T b) i k) (hm : m < 100) (hA : rn_A m F E S a3 a4 a5) (hL : rn_L T m F E S)
    (H : ∀ m' F' E' S' b3 b4 b5, m' ≤ m + 1 → rn_L T m' F' E' S' → rn_A m' F' E' S' b3 b4 b5 → (∀ s e p, rn_M m F E S s e p → rn_M m' F' E' S' s e p) → (∀ s e p, rn_R T s e p → s ≤ i → i + p ≤ e + 1 → k = i + p → rn_M m' F' E' S' s e p) → post (nI 8, nI m', cu, a1, a2, b3, b4, b5)) :
    wpX_widen post (nI 8, nI m, cu, a1, a2, a3, a4, a5) (nI i) (nI k) := by
  have n1 := hN.1
  have n2 := hN.2.1
  have key : ∀ r, rn_fw T i k r → wX_widen_22 post (nI i) (nI k) (nI (k - i)) (nI r) (nI 8) (nI m) cu a1 a2 a3 a4 a5 := by
    intro r hf
    have f2 := hf.2.1
    unfold wX_widen_22
    refine rn_bwd hT h1 n1 n2 (fun l hb => ?_)
    have b2 := hb.2.1
    refine pk_lt (l + r) (k - i) (fun z => ?_) (fun z => ?_) (nI_add l r) rfl
    · refine H m F E S a3 a4 a5 (by omega) hL hA (fun _ _ _ h => h) (fun s e p hR s1 s2 hk => ?_)
      subst hk
      have hw := rn_wide hR s1 s2 hf hb
      have hz := rn_sz hR
      omega
    · have e1 : nI k + nI r - 1 = nI (k + r - 1) := by
        rw [nI_add]
        exact pk_sub (a := k + r) (b := 1) (by omega)
      rw [pk_sub b2, e1]
      refine rn_ins hm hA hL (rn_sound hT hN hf hb z) (fun m' F' E' S' b3 b4 b5 q1 q2 q3 q4 q5 => ?_)
      refine H m' F' E' S' b3 b4 b5 q1 q2 q3 q4 (fun s e p hR s1 s2 hk => ?_)
      subst hk
      have hw := rn_wide hR s1 s2 hf hb
      have hz := rn_sz hR
      rw [show i - l = s by omega, show i + p + r - 1 = e by omega, show i + p - i = p by omega] at q5
      exact q5
  unfold wpX_widen
  dsimp only
  refine nm_r (pk_sub (by omega)) ?_
  refine pk_le 8 k (fun z => ?_) (fun z => ?_)
  · exact key 0 ⟨fun j hj => absurd hj (by omega), by omega, fun h => absurd h (by omega)⟩
  · refine rn_fwd hT h1 (by omega) (by omega) (fun d d1 d2 d3 d4 => ?_)
    exact key d ⟨d1, d3, fun h => d4 (by omega) h⟩
theorem rn_r40 {post : St2 → Prop} {J : Int32 → Int32 → Int32 → Int32 → (Nat → Int32) → (Nat → Int32) → (Nat → Int32) → (Nat → Int32) → (Nat → Int32) → Prop} {T : Nat → Nat} {b : Bool} {x1 cu : Int32} {a1 a2 : Nat → Int32} {m0 : Nat} {F0 E0 S0 : Nat → Nat} (hT : ∀ j, T j < 4) (h1 : ∀ j, j < 8 → a1 j = nI (T j)) (h2 : ∀ j, j < 8 → ∃ k, rn_N (rn_U T b) j k ∧ a2 j = nI k) (hm0 : m0 ≤ 8)
    (H : ∀ m F E S a3 a4 a5, m ≤ m0 + 8 → rn_L T m F E S → rn_A m F E S a3 a4 a5 → rn_D T b 8 m F E S → (∀ s e p, rn_M m0 F0 E0 S0 s e p → rn_M m F E S s e p) → J (x1 + 1) (nI 8) (nI m) cu a1 a2 a3 a4 a5) :
    ∀ c i m F E S a3 a4 a5, i + c = 9 → i ≤ 8 → m ≤ m0 + i → rn_L T m F E S → rn_A m F E S a3 a4 a5 → rn_D T b i m F E S → (∀ s e p, rn_M m0 F0 E0 S0 s e p → rn_M m F E S s e p) → wX_refresh_40 post J x1 c (nI i) (nI 8) (nI m) cu a1 a2 a3 a4 a5 := by
  intro c
  induction c with
  | zero => intro i m F E S a3 a4 a5 hc hi; omega
  | succ c ih =>
    intro i m F E S a3 a4 a5 hc hi hm hL hA hD hK
    refine pk_le 8 i (fun z => ?_) (fun z => ?_)
    · have e : i = 8 := by omega
      subst e
      exact nm_e (H m F E S a3 a4 a5 hm hL hA hD hK)
    · refine ⟨pk_in i 49 (by omega), ?_⟩
      obtain ⟨k, hN, ha⟩ := h2 i z
      rw [nI_clamp (show i < 2 ^ 31 by omega), ha]
      refine rn_wdn hT h1 hN (by omega) hA hL (fun m' F' E' S' b3 b4 b5 q1 q2 q3 q4 q5 => ?_)
      refine nm_r (nI_1 i) (ih (i + 1) m' F' E' S' b3 b4 b5 (by omega) (by omega) (by omega) q2 q3 (fun s e p x hR hx s1 s2 hN' => ?_) (fun s e p h => q4 s e p (hK s e p h)))
      by_cases hxi : x = i
      · subst hxi
        exact q5 s e p hR s1 s2 (rn_Nu hN hN')
      · exact q4 s e p (hD s e p x hR (by omega) s1 s2 hN')
theorem rn_L0 {T : Nat → Nat} {F E S : Nat → Nat} : rn_L T 0 F E S := ⟨fun r h => absurd h (by omega), fun r r' _ h => absurd h (by omega)⟩
/-- the whole refresh of a stale state -/
theorem rn_ref0 {post : St2 → Prop} {T : Nat → Nat} {rc : Int32} {a1 a2 a3 a4 a5 : Nat → Int32} (hT : ∀ j, T j < 4) (h1 : ∀ j, j < 8 → a1 j = nI (T j))
    (H : ∀ m F E S a2 a3 a4 a5, m ≤ 16 → rn_L T m F E S → rn_C T m F E S → rn_A m F E S a3 a4 a5 → post (nI 8, nI m, 1, a1, a2, a3, a4, a5)) :
    wpX_refresh post (nI 8, rc, 0, a1, a2, a3, a4, a5) := by
  unfold wpX_refresh
  dsimp only
  refine br_t rfl ⟨3, ?_⟩
  refine br_f (by decide) (br_t rfl ?_)
  unfold wX_refresh_35
  refine rn_fe (b := true) hT h1 (Or.inl ⟨rfl, rfl⟩) (fun c2 g2 => ⟨9, ?_⟩)
  refine rn_r40 (b := true) (m0 := 0) (F0 := fun _ => 0) (E0 := fun _ => 0) (S0 := fun _ => 0) hT h1 g2 (by omega) (fun m F E S b3 b4 b5 hm hL hA hD hK => ?_) 9 0 0 (fun _ => 0) (fun _ => 0) (fun _ => 0) a3 a4 a5 (by omega) (by omega) (by omega) rn_L0 (fun r hr => absurd hr (by omega)) (fun s e p x _ hx => absurd hx (by omega)) (fun _ _ _ h => h)
  refine br_f (by decide) (br_f (by decide) ?_)
  unfold wX_refresh_35
  refine rn_fe (b := false) hT h1 (Or.inr ⟨rfl, rfl⟩) (fun c2' g2' => ⟨9, ?_⟩)
  refine rn_r40 (b := false) (m0 := m) (F0 := F) (E0 := E) (S0 := S) hT h1 g2' (by omega) (fun m' F' E' S' b3' b4' b5' hm' hL' hA' hD' hK' => ?_) 9 0 m F E S b3 b4 b5 (by omega) (by omega) (by omega) hL hA (fun s e p x _ hx => absurd hx (by omega)) (fun _ _ _ h => h)
  refine br_t (by decide) (H m' F' E' S' c2' b3' b4' b5' (by omega) hL' (rn_DC hT (fun s e p x hR hx s1 s2 hN => hK' s e p (hD s e p x hR hx s1 s2 hN)) hD') hA')
/-- a fresh state holds a listing -/
def rn_Fr (T : Nat → Nat) (m : Nat) (F E S : Nat → Nat) (l rc cu : Int32) (a1 a3 a4 a5 : Nat → Int32) : Prop :=
  l = nI 8 ∧ rc = nI m ∧ ¬ cu = 0 ∧ m ≤ 16 ∧ (∀ j, j < 8 → a1 j = nI (T j)) ∧ rn_L T m F E S ∧ rn_C T m F E S ∧ rn_A m F E S a3 a4 a5
/-- stale or fresh -/
def rn_St (T : Nat → Nat) (l rc cu : Int32) (a1 a3 a4 a5 : Nat → Int32) : Prop :=
  (l = nI 8 ∧ cu = 0 ∧ ∀ j, j < 8 → a1 j = nI (T j)) ∨ ∃ m F E S, rn_Fr T m F E S l rc cu a1 a3 a4 a5
theorem rn_ref {post : St2 → Prop} {T : Nat → Nat} {l rc cu : Int32} {a1 a2 a3 a4 a5 : Nat → Int32} (hT : ∀ j, T j < 4) (h : rn_St T l rc cu a1 a3 a4 a5)
    (H : ∀ m F E S l rc cu a1 a2 a3 a4 a5, rn_Fr T m F E S l rc cu a1 a3 a4 a5 → post (l, rc, cu, a1, a2, a3, a4, a5)) :
    wpX_refresh post (l, rc, cu, a1, a2, a3, a4, a5) := by
  rcases h with ⟨rfl, rfl, h1⟩ | ⟨m, F, E, S, hF⟩
  · refine rn_ref0 hT h1 (fun m F E S b2 b3 b4 b5 hm hL hC hA => ?_)
    exact H m F E S (nI 8) (nI m) 1 a1 b2 b3 b4 b5 ⟨rfl, rfl, by decide, hm, h1, hL, hC, hA⟩
  · unfold wpX_refresh
    dsimp only
    exact br_f hF.2.2.1 (H m F E S l rc cu a1 a2 a3 a4 a5 hF)
section
variable {post : Int32 → St2 → Prop} {T : Nat → Nat} {l rc cu : Int32} {a1 a2 a3 a4 a5 : Nat → Int32}
theorem rn_start (hT : ∀ j, T j < 4) (h : rn_St T l rc cu a1 a3 a4 a5) (r : Nat)
    (H : ∀ m F E S l rc cu a1 a2 a3 a4 a5, rn_Fr T m F E S l rc cu a1 a3 a4 a5 → r < m ∧ post (nI (F r)) (l, rc, cu, a1, a2, a3, a4, a5)) :
    wpX_start post (l, rc, cu, a1, a2, a3, a4, a5) (nI r) := by
  unfold wpX_start
  dsimp only
  refine rn_ref hT h (fun m F E S l rc cu a1 a2 a3 a4 a5 hF => ?_)
  obtain ⟨hr, hp⟩ := H m F E S l rc cu a1 a2 a3 a4 a5 hF
  obtain ⟨rfl, rfl, f3, f4, f5, f6, f7, f8⟩ := hF
  dsimp only
  unfold wpX_isRun
  dsimp only
  refine br_f (nI_pos (by omega)) (pk_le m r (fun z => absurd z (by omega)) (fun z => br_f (by decide) ⟨pk_in r 100 (by omega), ?_⟩))
  rw [nI_clamp (show r < 2 ^ 31 by omega), (f8 r hr).1]
  exact hp
theorem rn_end (hT : ∀ j, T j < 4) (h : rn_St T l rc cu a1 a3 a4 a5) (r : Nat)
    (H : ∀ m F E S l rc cu a1 a2 a3 a4 a5, rn_Fr T m F E S l rc cu a1 a3 a4 a5 → r < m ∧ post (nI (E r)) (l, rc, cu, a1, a2, a3, a4, a5)) :
    wpX_end post (l, rc, cu, a1, a2, a3, a4, a5) (nI r) := by
  unfold wpX_end
  dsimp only
  refine rn_ref hT h (fun m F E S l rc cu a1 a2 a3 a4 a5 hF => ?_)
  obtain ⟨hr, hp⟩ := H m F E S l rc cu a1 a2 a3 a4 a5 hF
  obtain ⟨rfl, rfl, f3, f4, f5, f6, f7, f8⟩ := hF
  dsimp only
  unfold wpX_isRun
  dsimp only
  refine br_f (nI_pos (by omega)) (pk_le m r (fun z => absurd z (by omega)) (fun z => br_f (by decide) ⟨pk_in r 100 (by omega), ?_⟩))
  rw [nI_clamp (show r < 2 ^ 31 by omega), (f8 r hr).2.1]
  exact hp
theorem rn_period (hT : ∀ j, T j < 4) (h : rn_St T l rc cu a1 a3 a4 a5) (r : Nat)
    (H : ∀ m F E S l rc cu a1 a2 a3 a4 a5, rn_Fr T m F E S l rc cu a1 a3 a4 a5 → r < m ∧ post (nI (S r)) (l, rc, cu, a1, a2, a3, a4, a5)) :
    wpX_period post (l, rc, cu, a1, a2, a3, a4, a5) (nI r) := by
  unfold wpX_period
  dsimp only
  refine rn_ref hT h (fun m F E S l rc cu a1 a2 a3 a4 a5 hF => ?_)
  obtain ⟨hr, hp⟩ := H m F E S l rc cu a1 a2 a3 a4 a5 hF
  obtain ⟨rfl, rfl, f3, f4, f5, f6, f7, f8⟩ := hF
  dsimp only
  unfold wpX_isRun
  dsimp only
  refine br_f (nI_pos (by omega)) (pk_le m r (fun z => absurd z (by omega)) (fun z => br_f (by decide) ⟨pk_in r 100 (by omega), ?_⟩))
  rw [nI_clamp (show r < 2 ^ 31 by omega), (f8 r hr).2.2]
  exact hp
theorem rn_runs (hT : ∀ j, T j < 4) (h : rn_St T l rc cu a1 a3 a4 a5)
    (H : ∀ m F E S l rc cu a1 a2 a3 a4 a5, rn_Fr T m F E S l rc cu a1 a3 a4 a5 → post (nI m) (l, rc, cu, a1, a2, a3, a4, a5)) :
    wpX_runs post (l, rc, cu, a1, a2, a3, a4, a5) := by
  unfold wpX_runs
  dsimp only
  refine rn_ref hT h (fun m F E S l rc cu a1 a2 a3 a4 a5 hF => ?_)
  have hp := H m F E S l rc cu a1 a2 a3 a4 a5 hF
  obtain ⟨rfl, rfl, f3, f4, f5, f6, f7, f8⟩ := hF
  exact hp
end
theorem rn_sf18 {post : Int32 → St2 → Prop} {l cu : Int32} {a1 a2 a3 a4 a5 : Nat → Int32} {m i : Nat} {F E S : Nat → Nat} (hm : m ≤ 16) (hi : i < 8) (hb : ∀ r, r < m → F r < 8 ∧ E r < 8 ∧ 1 ≤ S r ∧ S r ≤ 4) (hA : rn_A m F E S a3 a4 a5)
    (H : post (nI (rn_s (fun r => rn_i (F r ≤ i ∧ i + 2 * S r ≤ E r + 1)) m)) (l, nI m, cu, a1, a2, a3, a4, a5)) :
    ∀ c r, r + c = m + 1 → r ≤ m → wX_squaresFrom_18 post (nI i) l (nI m) cu a1 a2 a3 a4 a5 c (nI (rn_s (fun r => rn_i (F r ≤ i ∧ i + 2 * S r ≤ E r + 1)) r)) (nI r) := by
  intro c
  induction c with
  | zero => intro r h h2; omega
  | succ c ih =>
    intro r hc hr
    refine pk_le m r (fun z => ?_) (fun z => ⟨pk_in r 100 (by omega), ?_⟩)
    · have e : r = m := by omega
      subst e
      exact H
    · obtain ⟨b1, b2, b3, b4⟩ := hb r z
      have nx := ih (r + 1) (by omega) (by omega)
      rw [show rn_s (fun r => rn_i (F r ≤ i ∧ i + 2 * S r ≤ E r + 1)) (r + 1) = rn_s (fun r => rn_i (F r ≤ i ∧ i + 2 * S r ≤ E r + 1)) r + rn_i (F r ≤ i ∧ i + 2 * S r ≤ E r + 1) from rfl] at nx
      rw [nI_clamp (show r < 2 ^ 31 by omega), (hA r z).1, (hA r z).2.1, (hA r z).2.2, rn_e2 b3]
      refine pk_lt i (F r) (fun y => ?_) (fun y => ⟨pk_in r 100 (by omega), pk_in r 100 (by omega), ?_⟩)
      · rw [rn_if (fun h => absurd h.1 (by omega)), Nat.add_zero] at nx
        exact nm_r (nI_1 r) nx
      · refine pk_lt (E r) (i + 2 * S r - 1) (fun x => ?_) (fun x => ?_)
        · rw [rn_if (fun h => absurd h.2 (by omega)), Nat.add_zero] at nx
          exact nm_r (nI_1 r) nx
        · rw [rn_it ⟨y, by omega⟩] at nx
          exact nm_r (nI_1 _) (nm_r (nI_1 r) nx)
theorem rn_bnd {T : Nat → Nat} {m : Nat} {F E S : Nat → Nat} (hL : rn_L T m F E S) : ∀ r, r < m → F r < 8 ∧ E r < 8 ∧ 1 ≤ S r ∧ S r ≤ 4 := fun r hr => by
  have hz := rn_sz (hL.1 r hr)
  omega
theorem rn_sqFrom {post : Int32 → St2 → Prop} {T : Nat → Nat} {l rc cu : Int32} {a1 a2 a3 a4 a5 : Nat → Int32} {i : Nat} (hi : i < 8) (hT : ∀ j, T j < 4) (h : rn_St T l rc cu a1 a3 a4 a5)
    (H : ∀ m F E S l rc cu a1 a2 a3 a4 a5, rn_Fr T m F E S l rc cu a1 a3 a4 a5 → post (nI (rn_s (fun p => rn_i (rn_ps T i (p + 1))) 4)) (l, rc, cu, a1, a2, a3, a4, a5)) :
    wpX_squaresFrom post (l, rc, cu, a1, a2, a3, a4, a5) (nI i) := by
  have hl : l = nI 8 := by
    rcases h with h | ⟨_, _, _, _, h⟩
    · exact h.1
    · exact h.1
  unfold wpX_squaresFrom
  dsimp only
  unfold wpX_isPlace
  dsimp only
  refine br_f (nI_pos (by omega)) (pk_le 8 i (fun z => absurd z (by omega)) (fun z => br_f (by decide) ?_) hl)
  refine rn_ref hT h (fun m F E S l rc cu a1 a2 a3 a4 a5 hF => ?_)
  have hp := H m F E S l rc cu a1 a2 a3 a4 a5 hF
  obtain ⟨rfl, rfl, f3, f4, f5, f6, f7, f8⟩ := hF
  rw [← rn_cntP f6 f7 i] at hp
  exact ⟨m + 1, rn_sf18 f4 hi (rn_bnd f6) f8 hp (m + 1) 0 (by omega) (by omega)⟩
theorem rn_mxb {F E : Nat → Nat} {m : Nat} (h : ∀ r, r < m → E r < 8) : ∀ r, r ≤ m → rn_mx F E r ≤ 8 := by
  intro r
  induction r with
  | zero => intro _; exact Nat.zero_le 8
  | succ r ih =>
    intro hr
    have := ih (by omega)
    have := h r (by omega)
    show (if E r + 1 - F r ≤ rn_mx F E r then rn_mx F E r else E r + 1 - F r) ≤ 8
    split <;> omega
theorem rn_lg8 {post : Int32 → St2 → Prop} {l cu : Int32} {a1 a2 a3 a4 a5 : Nat → Int32} {m : Nat} {F E S : Nat → Nat} (hm : m ≤ 16) (hb : ∀ r, r < m → F r ≤ E r ∧ E r < 8) (hA : rn_A m F E S a3 a4 a5)
    (H : post (nI (rn_mx F E m)) (l, nI m, cu, a1, a2, a3, a4, a5)) :
    ∀ c r, r + c = m + 1 → r ≤ m → wX_longest_8 post l (nI m) cu a1 a2 a3 a4 a5 c (nI (rn_mx F E r)) (nI r) := by
  intro c
  induction c with
  | zero => intro r h h2; omega
  | succ c ih =>
    intro r hc hr
    refine pk_le m r (fun z => ?_) (fun z => ⟨pk_in r 100 (by omega), pk_in r 100 (by omega), ?_⟩)
    · have e : r = m := by omega
      subst e
      exact H
    · obtain ⟨b1, b2⟩ := hb r z
      have hx := rn_mxb (F := F) (fun r hr => (hb r hr).2) r (by omega)
      have nx := ih (r + 1) (by omega) (by omega)
      rw [show rn_mx F E (r + 1) = (if E r + 1 - F r ≤ rn_mx F E r then rn_mx F E r else E r + 1 - F r) from rfl] at nx
      rw [nI_clamp (show r < 2 ^ 31 by omega), (hA r z).1, (hA r z).2.1, rn_e3 b1]
      refine nm_e (pk_le (E r + 1 - F r) (rn_mx F E r) (fun y => ?_) (fun y => ?_))
      · rw [if_pos y] at nx
        exact nm_r (nI_1 r) nx
      · rw [if_neg (by omega)] at nx
        exact nm_r (nI_1 r) nx
theorem rn_longest {post : Int32 → St2 → Prop} {T : Nat → Nat} {l rc cu : Int32} {a1 a2 a3 a4 a5 : Nat → Int32} (hT : ∀ j, T j < 4) (h : rn_St T l rc cu a1 a3 a4 a5)
    (H : ∀ m F E S l rc cu a1 a2 a3 a4 a5, rn_Fr T m F E S l rc cu a1 a3 a4 a5 → post (nI (rn_mx F E m)) (l, rc, cu, a1, a2, a3, a4, a5)) :
    wpX_longest post (l, rc, cu, a1, a2, a3, a4, a5) := by
  unfold wpX_longest
  dsimp only
  refine rn_ref hT h (fun m F E S l rc cu a1 a2 a3 a4 a5 hF => ?_)
  have hp := H m F E S l rc cu a1 a2 a3 a4 a5 hF
  obtain ⟨rfl, rfl, f3, f4, f5, f6, f7, f8⟩ := hF
  exact ⟨m + 1, rn_lg8 f4 (fun r hr => by have hz := rn_sz (f6.1 r hr); omega) f8 hp (m + 1) 0 (by omega) (by omega)⟩
theorem rn_s42 {post : Int32 → St2 → Prop} {J : Int32 → Int32 → Prop} {l rc cu : Int32} {a1 a2 a3 a4 a5 : Nat → Int32} {r st sz : Nat} (hr : r < 100) (h5 : a5 r = nI st) (h1 : 1 ≤ st) (hsz : sz ≤ 8) :
    ∀ n acc tw, sz < tw + n → tw ≤ 100 → st ≤ 4 → J (nI (acc + rn_g st sz n tw)) (nI (r + 1)) → wX_squares_42 post J (nI r) (nI sz) l rc cu a1 a2 a3 a4 a5 (n + 1) (nI acc) (nI tw) := by
  intro n
  induction n with
  | zero =>
    intro acc tw h ht hs HJ
    exact pk_lt sz tw (fun _ => nm_r (nI_1 r) HJ) (fun z => absurd z (by omega))
  | succ n ih =>
    intro acc tw h ht hs HJ
    rw [show rn_g st sz (n + 1) tw = (if sz < tw then 0 else (sz - tw + 1) + rn_g st sz n (tw + 2 * st)) from rfl] at HJ
    refine pk_lt sz tw (fun z => ?_) (fun z => ?_)
    · rw [if_pos z] at HJ
      exact nm_r (nI_1 r) HJ
    · rw [if_neg (by omega)] at HJ
      have e1 : nI acc + (nI sz - nI tw + 1) = nI (acc + (sz - tw + 1)) := by
        rw [pk_sub z, nI_1, nI_add]
      have e2 : nI tw + 2 * nI st = nI (tw + 2 * st) := by
        rw [show (2 : Int32) * nI st = nI (2 * st) from pk_mul 2 st, nI_add]
      refine nm_r e1 ⟨pk_in r 100 (by omega), ?_⟩
      rw [nI_clamp (show r < 2 ^ 31 by omega), h5]
      refine nm_r e2 (ih (acc + (sz - tw + 1)) (tw + 2 * st) (by omega) (by omega) hs ?_)
      rw [show acc + (sz - tw + 1) + rn_g st sz n (tw + 2 * st) = acc + (sz - tw + 1 + rn_g st sz n (tw + 2 * st)) by omega]
      exact HJ
theorem rn_sq8 {post : Int32 → St2 → Prop} {l cu : Int32} {a1 a2 a3 a4 a5 : Nat → Int32} {m : Nat} {F E S : Nat → Nat} (hm : m ≤ 16) (hb : ∀ r, r < m → F r ≤ E r ∧ E r < 8 ∧ 1 ≤ S r ∧ S r ≤ 4) (hA : rn_A m F E S a3 a4 a5)
    (H : post (nI (rn_s (fun r => rn_g (S r) (E r + 1 - F r) 9 (2 * S r)) m)) (l, nI m, cu, a1, a2, a3, a4, a5)) :
    ∀ c r, r + c = m + 1 → r ≤ m → wX_squares_8 post l (nI m) cu a1 a2 a3 a4 a5 c (nI (rn_s (fun r => rn_g (S r) (E r + 1 - F r) 9 (2 * S r)) r)) (nI r) := by
  intro c
  induction c with
  | zero => intro r h h2; omega
  | succ c ih =>
    intro r hc hr
    refine pk_le m r (fun z => ?_) (fun z => ⟨pk_in r 100 (by omega), pk_in r 100 (by omega), ?_⟩)
    · have e : r = m := by omega
      subst e
      exact H
    · obtain ⟨b1, b2, b3, b4⟩ := hb r z
      have nx := ih (r + 1) (by omega) (by omega)
      rw [show rn_s (fun r => rn_g (S r) (E r + 1 - F r) 9 (2 * S r)) (r + 1) = rn_s (fun r => rn_g (S r) (E r + 1 - F r) 9 (2 * S r)) r + rn_g (S r) (E r + 1 - F r) 9 (2 * S r) from rfl] at nx
      rw [nI_clamp (show r < 2 ^ 31 by omega), (hA r z).1, (hA r z).2.1, (hA r z).2.2, rn_e3 b1]
      refine nm_e ⟨pk_in r 100 (by omega), nm_r (pk_mul 2 (S r)) ⟨10, ?_⟩⟩
      exact rn_s42 (by omega) (hA r z).2.2 b3 (by omega) 9 _ (2 * S r) (by omega) (by omega) b4 nx
theorem rn_squares {post : Int32 → St2 → Prop} {T : Nat → Nat} {l rc cu : Int32} {a1 a2 a3 a4 a5 : Nat → Int32} (hT : ∀ j, T j < 4) (h : rn_St T l rc cu a1 a3 a4 a5)
    (H : ∀ m F E S l rc cu a1 a2 a3 a4 a5, rn_Fr T m F E S l rc cu a1 a3 a4 a5 → post (nI (rn_s (fun i => rn_s (fun q => rn_i (rn_sq T i (q + 1))) 4) 8)) (l, rc, cu, a1, a2, a3, a4, a5)) :
    wpX_squares post (l, rc, cu, a1, a2, a3, a4, a5) := by
  unfold wpX_squares
  dsimp only
  refine rn_ref hT h (fun m F E S l rc cu a1 a2 a3 a4 a5 hF => ?_)
  have hp := H m F E S l rc cu a1 a2 a3 a4 a5 hF
  obtain ⟨rfl, rfl, f3, f4, f5, f6, f7, f8⟩ := hF
  rw [← rn_cntS f6 f7] at hp
  exact ⟨m + 1, rn_sq8 f4 (fun r hr => by have hz := rn_sz (f6.1 r hr); omega) f8 hp (m + 1) 0 (by omega) (by omega)⟩
end
section
/-! ===== the law's own methods ===== -/
/-- the symbol at j of the text that the code spells -/
def rn_T (code : Int32) (j : Nat) : Nat := (code >>> ((2 * nI j) &&& 31)).toBitVec.toNat % 2 ^ 2
theorem rn_T4 (code : Int32) (j : Nat) : rn_T code j < 4 := Nat.mod_lt _ (by decide)
theorem rn_sym {post : Int32 → Prop} {code : Int32} {j : Nat} (h : post (nI (rn_T code j))) : wpL_sym post () code (nI j) := by
  unfold wpL_sym
  rw [pk_and _ 2 (by decide)]
  exact h
def rn_Pr (T : Nat → Nat) (i j p : Nat) : Prop := (∀ k, k < 8 → i ≤ k → k + p ≤ j → T k = T (k + p)) ∧ i + p ≤ j + 1
theorem rn_per3 {post : Int32 → Prop} {code : Int32} {i j p : Nat} (hij : i ≤ j) (hj : j < 1000) (hp : p < 1000) (H1 : rn_Pr (rn_T code) i j p → post 1) (H0 : ¬ rn_Pr (rn_T code) i j p → post 0) :
    ∀ c k, k + c = 9 → k ≤ 8 → (∀ k', k' < k → i ≤ k' → k' + p ≤ j → rn_T code k' = rn_T code (k' + p)) → wL_period_3 post code (nI i) (nI j) (nI p) c (nI k) := by
  intro c
  induction c with
  | zero => intro k h h2; omega
  | succ c ih =>
    intro k hc hk hm
    refine pk_le 8 k (fun z => ?_) (fun z => ?_)
    · have e : k = 8 := by omega
      subst e
      exact pk_lt (j + 1 - i) p (fun y => H0 (fun h => absurd h.2 (by omega))) (fun y => H1 ⟨hm, by omega⟩) (rn_e3 hij) rfl
    · refine pk_lt k i (fun y => nm_r (nI_1 k) (ih (k + 1) (by omega) (by omega) (lt_s hm (fun h => absurd h (by omega))))) (fun y => ?_)
      refine pk_lt j (k + p) (fun x => nm_r (nI_1 k) (ih (k + 1) (by omega) (by omega) (lt_s hm (fun _ h => absurd h (by omega))))) (fun x => ?_) rfl (nI_add k p)
      refine rn_sym ?_
      rw [nI_add k p]
      refine rn_sym ?_
      have t1 := rn_T4 code k
      have t2 := rn_T4 code (k + p)
      exact pk_eq (rn_T code k) (rn_T code (k + p)) (fun e => nm_r (nI_1 k) (ih (k + 1) (by omega) (by omega) (lt_s hm (fun _ _ => e)))) (fun ne => H0 (fun h => ne (h.1 k z y x)))
theorem rn_per {post : Int32 → Prop} {code : Int32} {i j p : Nat} (hij : i ≤ j) (hj : j < 1000) (hp : p < 1000) (H1 : rn_Pr (rn_T code) i j p → post 1) (H0 : ¬ rn_Pr (rn_T code) i j p → post 0) :
    wpL_period post () code (nI i) (nI j) (nI p) :=
  ⟨9, rn_per3 hij hj hp H1 H0 9 0 (by omega) (by omega) (fun k' h => absurd h (by omega))⟩
theorem rn_PrP {T : Nat → Nat} {i j p : Nat} (hj : j < 8) (h : rn_Pr T i j p) : rn_P T i j p := fun k h1 h2 => h.1 k (by omega) h1 h2
theorem rn_PPr {T : Nat → Nat} {i j p : Nat} (h : rn_P T i j p) (hl : i + p ≤ j + 1) : rn_Pr T i j p := ⟨fun k _ h1 h2 => h k h1 h2, hl⟩
theorem rn_lst2 {post : Int32 → Prop} {code : Int32} {i j : Nat} (hij : i ≤ j) (hj : j < 8)
    (H : ∀ q, 1 ≤ q → q ≤ 8 → (q < 8 → rn_Pr (rn_T code) i j q) → (∀ q', 1 ≤ q' → q' < q → ¬ rn_Pr (rn_T code) i j q') → post (nI q)) :
    ∀ c q, q + c = 9 → 1 ≤ q → q ≤ 8 → (∀ q', q' < q → 1 ≤ q' → ¬ rn_Pr (rn_T code) i j q') → wL_least_2 post code (nI i) (nI j) c (nI q) := by
  intro c
  induction c with
  | zero => intro q h _ h2; omega
  | succ c ih =>
    intro q hc q1 q8 hm
    refine pk_le 8 q (fun z => ?_) (fun z => ?_)
    · have e : q = 8 := by omega
      subst e
      exact H 8 q1 q8 (fun h => absurd h (by omega)) (fun q' a b => hm q' b a)
    · refine rn_per hij (by omega) (by omega) (fun h => br_f (by decide) (H q q1 q8 (fun _ => h) (fun q' a b => hm q' b a))) (fun h => br_t rfl (nm_r (nI_1 q) ?_))
      exact ih (q + 1) (by omega) (by omega) (by omega) (lt_s hm (fun _ => h))
theorem rn_lst {post : Int32 → Prop} {code : Int32} {i j : Nat} (hij : i ≤ j) (hj : j < 8)
    (H : ∀ q, 1 ≤ q → q ≤ 8 → (q < 8 → rn_Pr (rn_T code) i j q) → (∀ q', 1 ≤ q' → q' < q → ¬ rn_Pr (rn_T code) i j q') → post (nI q)) :
    wpL_least post () code (nI i) (nI j) :=
  ⟨8, rn_lst2 hij hj H 8 1 (by omega) (by omega) (by omega) (fun q' a b => absurd a (by omega))⟩
/-- where the law's run loop stands -/
def rn_V29 (T : Nat → Nat) (i p j : Nat) (x : Int32) : Prop :=
  (x = -1 ∧ ∀ j', j' < j → i + 2 * p ≤ j' + 1 → ¬ rn_P T i j' p) ∨ (∃ e, x = nI e ∧ e < j ∧ i + 2 * p ≤ e + 1 ∧ rn_P T i e p ∧ ∀ j', e < j' → j' < j → ¬ rn_P T i j' p)
theorem rn_r29 {post : Int32 → Prop} {code : Int32} {i p : Nat} (hi : i < 8) (p1 : 1 ≤ p) (p4 : p ≤ 4)
    (hl : 0 < i → i + 2 * p ≤ 8 → rn_P (rn_T code) i (i + 2 * p - 1) p → rn_T code (i - 1) ≠ rn_T code (i - 1 + p))
    (H1 : ∀ e, rn_R (rn_T code) i e p → post (nI e)) (H0 : (∀ e, ¬ rn_R (rn_T code) i e p) → post (-1)) :
    ∀ c j x, j + c = 9 → j ≤ 8 → rn_V29 (rn_T code) i p j x → wL_run_29 post code (nI i) (nI p) c x (nI j) := by
  intro c
  induction c with
  | zero => intro j x h h2; omega
  | succ c ih =>
    intro j x hc hj hv
    refine pk_le 8 j (fun z => ?_) (fun z => ?_)
    · have e8 : j = 8 := by omega
      subst e8
      rcases hv with ⟨rfl, hno⟩ | ⟨e, rfl, he, hl2, hP, hmax⟩
      · refine br_t (by decide) (H0 (fun e hR => ?_))
        exact hno e hR.2.2.1 hR.2.1 hR.2.2.2.1
      · refine br_f (nI_pos (by omega)) (rn_lst (by omega) he (fun q q1 q8 hq hmin => ?_))
        refine pk_eq q p (fun y => H1 e ?_) (fun y => H0 (fun e' hR => ?_))
        · subst y
          refine ⟨q1, hl2, he, hP, fun h0 => hl h0 (by omega) (rn_sub hP (by omega) (by omega)), fun h7 heq => ?_, fun q' a b hP' => ?_⟩
          · exact hmax (e + 1) (by omega) (by omega) (rn_right hP heq)
          · exact hmin q' a b (rn_PPr hP' (by omega))
        · have ee : e' = e := by
            rcases Nat.lt_trichotomy e' e with w | w | w
            · have h2 := hR.2.1
              have a := hP (e' + 1 - p) (by omega) (by omega)
              rw [show e' + 1 - p + p = e' + 1 by omega] at a
              exact absurd a (hR.2.2.2.2.2.1 (by omega))
            · exact w
            · exact absurd hR.2.2.2.1 (hmax e' w hR.2.2.1)
          subst ee
          rcases Nat.lt_or_ge q p with w | w
          · exact hR.2.2.2.2.2.2 q q1 w (rn_PrP he (hq (by omega)))
          · exact hmin p p1 (by omega) (rn_PPr hP (by omega))
    · have no : ¬ rn_P (rn_T code) i j p → rn_V29 (rn_T code) i p (j + 1) x := fun hn => by
        rcases hv with ⟨rfl, hno⟩ | ⟨e, rfl, he, hl2, hP, hmax⟩
        · exact Or.inl ⟨rfl, lt_s hno (fun _ => hn)⟩
        · refine Or.inr ⟨e, rfl, by omega, hl2, hP, fun j' a b => ?_⟩
          by_cases w : j' = j
          · rw [w]; exact hn
          · exact hmax j' a (by omega)
      refine pk_lt j (i + 2 * p - 1) (fun y => nm_r (nI_1 j) (ih (j + 1) x (by omega) (by omega) ?_)) (fun y => ?_) rfl (rn_e2 p1)
      · rcases hv with ⟨rfl, hno⟩ | ⟨e, rfl, he, hl2, hP, hmax⟩
        · exact Or.inl ⟨rfl, lt_s hno (fun h => absurd h (by omega))⟩
        · omega
      · refine rn_per (by omega) (by omega) (by omega) (fun h => br_f (by decide) (nm_r (nI_1 j) (ih (j + 1) (nI j) (by omega) (by omega) ?_))) (fun h => br_t rfl (nm_r (nI_1 j) (ih (j + 1) x (by omega) (by omega) ?_)))
        · exact Or.inr ⟨j, rfl, by omega, by omega, rn_PrP z h, fun j' a b => absurd a (by omega)⟩
        · exact no (fun hP => h (rn_PPr hP (by omega)))
theorem rn_run {post : Int32 → Prop} {code : Int32} {i p : Nat} (hi : i < 8) (p1 : 1 ≤ p) (p4 : p ≤ 4)
    (H1 : ∀ e, rn_R (rn_T code) i e p → post (nI e)) (H0 : (∀ e, ¬ rn_R (rn_T code) i e p) → post (-1)) :
    wpL_run post () code (nI i) (nI p) := by
  have start : rn_V29 (rn_T code) i p 0 (-1) := Or.inl ⟨rfl, fun j' h => absurd h (by omega)⟩
  unfold wpL_run
  refine pk_le i 0 (fun z => ⟨9, ?_⟩) (fun z => ?_)
  · exact rn_r29 hi p1 p4 (fun h => absurd h (by omega)) H1 H0 9 0 (-1) (by omega) (by omega) start
  · have e1 : nI i - 1 = nI (i - 1) := pk_sub (a := i) (b := 1) (by omega)
    rw [e1, rn_e2 p1]
    refine rn_per (by omega) (by omega) (by omega) (fun h => br_f (by decide) (H0 (fun e hR => ?_))) (fun h => br_t rfl ⟨9, ?_⟩)
    · have h5 := hR.2.2.2.2.1 z
      exact h5 (h.1 (i - 1) (by omega) (by omega) (by omega))
    · refine rn_r29 hi p1 p4 (fun h0 h8 hP he => h ⟨fun k k8 k1 k2 => ?_, by omega⟩) H1 H0 9 0 (-1) (by omega) (by omega) start
      by_cases w : k = i - 1
      · rw [w]; exact he
      · exact hP k (by omega) (by omega)
/-! ===== the law's loops ===== -/
section
variable {post : Int32 → St0 → Prop} {mc ms kc ks : Nat} {J51 : Int32 → Int32 → Int32 → Int32 → Int32 → Int32 → Int32 → (Nat → Int32) → (Nat → Int32) → (Nat → Int32) → (Nat → Int32) → (Nat → Int32) → Prop} {J64 : Int32 → Int32 → Int32 → Int32 → Int32 → Int32 → Int32 → Int32 → (Nat → Int32) → (Nat → Int32) → (Nat → Int32) → (Nat → Int32) → (Nat → Int32) → Prop} {code : Int32}
theorem rn_137 {x3 x6 : Int32} {i p y w : Nat} {l rc cu : Int32} {a1 a2 a3 a4 a5 : Nat → Int32} (hi : i < 8) (p1 : 1 ≤ p) (p4 : p ≤ 4) (hI : rn_I (rn_T code) (8 * i + p) y w) (hw : w ≤ 8) (hS : rn_St (rn_T code) l rc cu a1 a3 a4 a5)
    (H : ∀ y w l rc cu a1 a2 a3 a4 a5, rn_I (rn_T code) (8 * i + (p + 1)) y w → w ≤ 8 → rn_St (rn_T code) l rc cu a1 a3 a4 a5 → J64 (nI y) x3 (nI w) x6 (nI (p + 1)) l rc cu a1 a2 a3 a4 a5) :
    wL_lawOf_137 post mc ms J51 J64 code (nI y) x3 (nI w) (nI i) x6 (nI p) kc ks l rc cu a1 a2 a3 a4 a5 := by
  have hT := rn_T4 code
  unfold wL_lawOf_137
  refine rn_run hi p1 p4 (fun e hR => ?_) (fun hno => ?_)
  · have hz := rn_sz hR
    refine br_f (nI_pos (by omega)) ?_
    refine rn_start hT hS y (fun m F E S l rc cu a1 a2 a3 a4 a5 hF => ?_)
    obtain ⟨g1, g2, g3, g4⟩ := rn_Iy hI hR hF.2.2.2.2.2.1 hF.2.2.2.2.2.2.1
    refine ⟨g1, ?_⟩
    dsimp only
    refine br_t (by rw [g2]) ?_
    refine rn_end hT (Or.inr ⟨m, F, E, S, hF⟩) y (fun m F E S l rc cu a1 a2 a3 a4 a5 hF => ?_)
    obtain ⟨g1, g2, g3, g4⟩ := rn_Iy hI hR hF.2.2.2.2.2.1 hF.2.2.2.2.2.2.1
    refine ⟨g1, ?_⟩
    dsimp only
    refine br_t (by rw [g3]) ?_
    refine rn_period hT (Or.inr ⟨m, F, E, S, hF⟩) y (fun m F E S l rc cu a1 a2 a3 a4 a5 hF => ?_)
    obtain ⟨g1, g2, g3, g4⟩ := rn_Iy hI hR hF.2.2.2.2.2.1 hF.2.2.2.2.2.2.1
    refine ⟨g1, ?_⟩
    dsimp only
    refine br_t (by rw [g4]) (nm_r (nI_1 y) ?_)
    have nx := rn_Iyes hI hR
    rw [rn_e3 (show i ≤ e by omega)]
    refine pk_le (e + 1 - i) w (fun z => nm_r (nI_1 p) ?_) (fun z => nm_e (nm_r (nI_1 p) ?_))
    · rw [if_pos z] at nx
      exact H (y + 1) w l rc cu a1 a2 a3 a4 a5 nx hw (Or.inr ⟨m, F, E, S, hF⟩)
    · rw [if_neg (by omega)] at nx
      exact H (y + 1) (e + 1 - i) l rc cu a1 a2 a3 a4 a5 nx (by omega) (Or.inr ⟨m, F, E, S, hF⟩)
  · exact br_t (by decide) (nm_r (nI_1 p) (H y w l rc cu a1 a2 a3 a4 a5 (rn_Ino hI p4 hno) hw hS))
theorem rn_106 {z0 : Int32} {Q N : Nat} {i p y w : Nat} {l rc cu : Int32} {a1 a2 a3 a4 a5 : Nat → Int32} (hi : i < 8) (p1 : 1 ≤ p) (p4 : p ≤ 4) (hI : rn_I (rn_T code) (8 * i + p) y w) (hw : w ≤ 8) (hS : rn_St (rn_T code) l rc cu a1 a3 a4 a5)
    (hz : (z0 = 0 ∧ ¬ rn_sq (rn_T code) i p) ∨ (z0 = 1 ∧ rn_sq (rn_T code) i p))
    (H : ∀ y w l rc cu a1 a2 a3 a4 a5, rn_I (rn_T code) (8 * i + (p + 1)) y w → w ≤ 8 → rn_St (rn_T code) l rc cu a1 a3 a4 a5 → J64 (nI y) (nI (Q + rn_i (rn_sq (rn_T code) i p))) (nI w) (nI (N + rn_i (rn_ps (rn_T code) i p))) (nI (p + 1)) l rc cu a1 a2 a3 a4 a5) :
    wL_lawOf_106 post mc ms J51 J64 code (nI y) (nI Q) (nI w) (nI i) (nI N) (nI p) (nI (i + 2 * p - 1)) z0 kc ks l rc cu a1 a2 a3 a4 a5 := by
  unfold wL_lawOf_106
  rcases hz with ⟨rfl, hn⟩ | ⟨rfl, hs⟩
  · rw [rn_if hn, rn_if (fun h : rn_ps (rn_T code) i p => hn ⟨h.1, h.2.1⟩)] at H
    refine br_t rfl ?_
    unfold wL_lawOf_116
    exact br_t rfl (rn_137 hi p1 p4 hI hw hS H)
  · rw [rn_it hs] at H
    refine br_f (by decide) (nm_r (nI_1 Q) ?_)
    unfold wL_lawOf_116
    refine br_f (by decide) ?_
    have h8 := hs.1
    refine rn_lst (by omega) (by omega) (fun q q1 q8 hq hmin => ?_)
    refine pk_eq q p (fun z => nm_r (nI_1 N) ?_) (fun z => ?_)
    · subst z
      rw [rn_it ⟨hs.1, hs.2, fun q' a b hP => hmin q' a b (rn_PPr hP (by omega))⟩] at H
      exact rn_137 hi p1 p4 hI hw hS H
    · rw [rn_if (fun h : rn_ps (rn_T code) i p => ?_)] at H
      · exact rn_137 hi p1 p4 hI hw hS H
      · rcases Nat.lt_or_ge q p with g | g
        · exact h.2.2 q q1 g (rn_PrP (by omega) (hq (by omega)))
        · exact hmin p p1 (by omega) (rn_PPr hs.2 (by omega))
end
end
section
/-! ===== the law ===== -/
section
variable {post : Int32 → St0 → Prop} {mc ms kc ks : Nat} {code : Int32}
theorem rn_64 {J51 : Int32 → Int32 → Int32 → Int32 → Int32 → Int32 → Int32 → (Nat → Int32) → (Nat → Int32) → (Nat → Int32) → (Nat → Int32) → (Nat → Int32) → Prop} {i Q : Nat} (hi : i < 8)
    (H : ∀ y w l rc cu a1 a2 a3 a4 a5, rn_I (rn_T code) (8 * (i + 1) + 1) y w → w ≤ 8 → rn_St (rn_T code) l rc cu a1 a3 a4 a5 → J51 (nI y) (nI (Q + rn_s (fun q => rn_i (rn_sq (rn_T code) i (q + 1))) 4)) (nI w) (nI (i + 1)) l rc cu a1 a2 a3 a4 a5) :
    ∀ c p y w l rc cu a1 a2 a3 a4 a5, p + c = 5 → p ≤ 4 → rn_I (rn_T code) (8 * i + (p + 1)) y w → w ≤ 8 → rn_St (rn_T code) l rc cu a1 a3 a4 a5 →
      wL_lawOf_64 post mc ms J51 code (nI i) kc ks c (nI y) (nI (Q + rn_s (fun q => rn_i (rn_sq (rn_T code) i (q + 1))) p)) (nI w) (nI (rn_s (fun q => rn_i (rn_ps (rn_T code) i (q + 1))) p)) (nI (p + 1)) l rc cu a1 a2 a3 a4 a5 := by
  have hT := rn_T4 code
  intro c
  induction c with
  | zero => intro p y w l rc cu a1 a2 a3 a4 a5 h h2; omega
  | succ c ih =>
    intro p y w l rc cu a1 a2 a3 a4 a5 hc hp hI hw hS
    refine pk_le 5 (p + 1) (fun z => ?_) (fun z => ?_)
    · have e : p = 4 := by omega
      subst e
      refine rn_sqFrom hi hT hS (fun m F E S l rc cu a1 a2 a3 a4 a5 hF => ?_)
      dsimp only
      exact br_t rfl (nm_r (nI_1 i) (H y w l rc cu a1 a2 a3 a4 a5 (rn_Inext hI) hw (Or.inr ⟨m, F, E, S, hF⟩)))
    · have nx : ∀ y w l rc cu a1 a2 a3 a4 a5, rn_I (rn_T code) (8 * i + (p + 1 + 1)) y w → w ≤ 8 → rn_St (rn_T code) l rc cu a1 a3 a4 a5 → wL_lawOf_64 post mc ms J51 code (nI i) kc ks c (nI y) (nI (Q + rn_s (fun q => rn_i (rn_sq (rn_T code) i (q + 1))) p + rn_i (rn_sq (rn_T code) i (p + 1)))) (nI w) (nI (rn_s (fun q => rn_i (rn_ps (rn_T code) i (q + 1))) p + rn_i (rn_ps (rn_T code) i (p + 1)))) (nI (p + 1 + 1)) l rc cu a1 a2 a3 a4 a5 :=
        fun y w l rc cu a1 a2 a3 a4 a5 g1 g2 g3 => by
          rw [Nat.add_assoc Q]
          exact ih (p + 1) y w l rc cu a1 a2 a3 a4 a5 (by omega) (by omega) g1 g2 g3
      refine nm_r (rn_e2 (by omega)) ?_
      refine pk_le 8 (i + 2 * (p + 1) - 1) (fun x => ?_) (fun x => ?_)
      · unfold wL_lawOf_105
        exact rn_106 hi (by omega) (by omega) hI hw hS (Or.inl ⟨rfl, fun h => absurd h.1 (by omega)⟩) nx
      · refine rn_per (by omega) (by omega) (by omega) (fun h => br_f (by decide) ?_) (fun h => br_t rfl ?_)
        · exact rn_106 hi (by omega) (by omega) hI hw hS (Or.inr ⟨rfl, by omega, rn_PrP x h⟩) nx
        · unfold wL_lawOf_105
          exact rn_106 hi (by omega) (by omega) hI hw hS (Or.inl ⟨rfl, fun g => h (rn_PPr g.2 (by omega))⟩) nx
theorem rn_51 (H : post 1 ()) :
    ∀ c i y w l rc cu a1 a2 a3 a4 a5, i + c = 9 → i ≤ 8 → rn_I (rn_T code) (8 * i + 1) y w → w ≤ 8 → rn_St (rn_T code) l rc cu a1 a3 a4 a5 →
      wL_lawOf_51 post mc ms code kc ks c (nI y) (nI (rn_s (fun i => rn_s (fun q => rn_i (rn_sq (rn_T code) i (q + 1))) 4) i)) (nI w) (nI i) l rc cu a1 a2 a3 a4 a5 := by
  have hT := rn_T4 code
  intro c
  induction c with
  | zero => intro i y w l rc cu a1 a2 a3 a4 a5 h h2; omega
  | succ c ih =>
    intro i y w l rc cu a1 a2 a3 a4 a5 hc hi hI hw hS
    refine pk_le 8 i (fun z => ?_) (fun z => ⟨5, ?_⟩)
    · have e : i = 8 := by omega
      subst e
      refine rn_runs hT hS (fun m F E S l rc cu a1 a2 a3 a4 a5 hF => ?_)
      have g := rn_Iend hI hF.2.2.2.2.2.1 hF.2.2.2.2.2.2.1
      dsimp only
      refine br_t (by rw [g.1]) ?_
      refine rn_squares hT (Or.inr ⟨m, F, E, S, hF⟩) (fun m F E S l rc cu a1 a2 a3 a4 a5 hF => ?_)
      dsimp only
      refine br_t rfl ?_
      refine rn_longest hT (Or.inr ⟨m, F, E, S, hF⟩) (fun m F E S l rc cu a1 a2 a3 a4 a5 hF => ?_)
      have g := rn_Iend hI hF.2.2.2.2.2.1 hF.2.2.2.2.2.2.1
      exact br_t (by rw [g.2]) H
    · exact rn_64 z (fun y w l rc cu a1 a2 a3 a4 a5 g1 g2 g3 => ih (i + 1) y w l rc cu a1 a2 a3 a4 a5 (by omega) (by omega) g1 g2 g3) 5 0 y w l rc cu a1 a2 a3 a4 a5 (by omega) (by omega) hI hw hS
theorem rn_10 (H : post 1 ()) :
    ∀ c i rc a1 a2 a3 a4 a5, i + c = 9 → i ≤ 8 → (∀ j, j < i → a1 j = nI (rn_T code j)) →
      wL_lawOf_10 post mc ms code kc ks c (nI i) (nI i) rc 0 a1 a2 a3 a4 a5 := by
  intro c
  induction c with
  | zero => intro i rc a1 a2 a3 a4 a5 h h2; omega
  | succ c ih =>
    intro i rc a1 a2 a3 a4 a5 hc hi h1
    refine pk_le 8 i (fun z => ⟨9, ?_⟩) (fun z => ?_)
    · have e : i = 8 := by omega
      subst e
      exact rn_51 H 9 0 0 0 (nI 8) rc 0 a1 a2 a3 a4 a5 (by omega) (by omega) rn_I0 (by omega) (Or.inl ⟨rfl, rfl, h1⟩)
    · refine rn_sym ?_
      have t := rn_T4 code i
      dsimp only
      unfold wpX_push
      dsimp only
      refine br_f (nI_pos (by omega)) ?_
      refine pk_le (rn_T code i) 3 (fun _ => ?_) (fun y => absurd y (by omega))
      refine pk_eq i 48 (fun y => absurd y (by omega)) (fun _ => ⟨pk_in i 48 (by omega), ?_⟩)
      rw [nI_clamp (show i < 2 ^ 31 by omega)]
      refine nm_e (nm_e (br_t rfl ?_))
      rw [nI_1]
      refine nm_e (ih (i + 1) rc (upd a1 i (nI (rn_T code i))) a2 a3 a4 a5 (by omega) (by omega) (fun j hj => ?_))
      by_cases e : j = i
      · rw [e, pk_us]
      · rw [pk_un e]
        exact h1 j (by omega)
end
theorem rn_law (code : Int32) : ∃ mc_3 ms_4 : Nat, 0 + mc_3 ≤ 216 ∧ 0 + ms_4 ≤ 3440 ∧ (wpL_lawOf (fun r_2 _ => r_2 = 1) mc_3 ms_4 () code) := by
  refine ⟨216, 3440, by omega, by omega, ?_⟩
  unfold wpL_lawOf
  refine ⟨by omega, by omega, 5, 397, by omega, by omega, ?_⟩
  unfold wpX_init
  dsimp only
  refine ⟨by omega, by omega, by omega, by omega, by omega, by omega, by omega, by omega, by omega, by omega, 9, ?_⟩
  exact rn_10 rfl 9 0 0 (fun _ => 0) (fun _ => 0) (fun _ => 0) (fun _ => 0) (fun _ => 0) (by omega) (by omega) (fun j hj => absurd hj (by omega))
theorem i_vc (xs : Nat → Int32) (L : Nat) (hL : L ≤ 1) : wpL_law (fun r => r = 1) L xs := by
  unfold wpL_law
  unfold wpL_cellAt
  refine br_c (fun _ => rn_law 0) (fun h => ⟨?_, rn_law _⟩)
  have h0 : 0 < L := by
    rcases Nat.eq_zero_or_pos L with z | z
    · subst z
      exact absurd (by decide) h
    · exact z
  exact pk_in 0 L h0
end
