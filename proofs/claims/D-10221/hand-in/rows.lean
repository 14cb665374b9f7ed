section
/-- how many of the first n numbers have P -/
def pm_ct (P : Nat → Bool) : Nat → Nat
  | 0 => 0
  | n + 1 => pm_ct P n + (if P n = true then 1 else 0)
theorem pm_ct_congr {P Q : Nat → Bool} {n : Nat} (h : ∀ i, i < n → P i = Q i) : pm_ct P n = pm_ct Q n := by
  induction n with
  | zero => rfl
  | succ n ih =>
    simp only [pm_ct]
    rw [ih (fun i hi => h i (by omega)), h n (by omega)]
theorem pm_ct_le (P : Nat → Bool) (n : Nat) : pm_ct P n ≤ n := by
  induction n with
  | zero => exact Nat.le_refl 0
  | succ n ih =>
    simp only [pm_ct]
    split <;> omega
/-- one place changes -/
theorem pm_ct_upd {P Q : Nat → Bool} {n p : Nat} (hp : p < n) (h : ∀ i, i < n → i ≠ p → P i = Q i) :
    pm_ct P n + (if Q p = true then 1 else 0) = pm_ct Q n + (if P p = true then 1 else 0) := by
  induction n with
  | zero => omega
  | succ n ih =>
    simp only [pm_ct]
    by_cases e : p = n
    · subst e
      rw [pm_ct_congr (fun i hi => h i (by omega) (by omega))]
      generalize (if Q p = true then 1 else 0) = x
      generalize (if P p = true then 1 else 0) = y
      omega
    · have t := ih (by omega) (fun i hi hne => h i (by omega) hne)
      rw [h n (by omega) (by omega)]
      generalize (if Q p = true then 1 else 0) = x at *
      generalize (if P p = true then 1 else 0) = y at *
      generalize (if Q n = true then 1 else 0) = z at *
      omega
theorem pm_ct_zero {P : Nat → Bool} {n : Nat} (h : pm_ct P n = 0) : ∀ i, i < n → P i = false := by
  induction n with
  | zero => intro i hi; omega
  | succ n ih =>
    simp only [pm_ct] at h
    intro i hi
    by_cases e : i = n
    · subst e
      cases hP : P i with
      | false => rfl
      | true => rw [hP] at h; simp at h
    · exact ih (by omega) i (by omega)
theorem pm_ct_nz {P : Nat → Bool} {n : Nat} (h : pm_ct P n ≠ 0) : ∃ i, i < n ∧ P i = true := by
  induction n with
  | zero => exact absurd rfl h
  | succ n ih =>
    cases hP : P n with
    | true => exact ⟨n, by omega, hP⟩
    | false =>
      have : pm_ct P n ≠ 0 := by
        simp only [pm_ct, hP] at h
        simpa using h
      obtain ⟨i, hi, hx⟩ := ih this
      exact ⟨i, by omega, hx⟩
theorem pm_ct_one {P : Nat → Bool} {n : Nat} (h : pm_ct P n = 1) {p q : Nat} (hp : p < n) (hq : q < n) (h1 : P p = true) (h2 : P q = true) : p = q := by
  apply Classical.byContradiction
  intro hne
  have t := pm_ct_upd (P := P) (Q := fun i => if i = p then false else P i) (n := n) hp (fun i _ hi => by simp [hi])
  rw [h] at t
  simp [h1] at t
  have z := pm_ct_zero t q hq
  have hqp : ¬ q = p := fun e => hne e.symm
  simp [hqp, h2] at z
theorem pm_ct_pos {P : Nat → Bool} {n p : Nat} (hp : p < n) (h1 : P p = true) : pm_ct P n ≠ 0 := by
  intro h
  have z := pm_ct_zero h p hp
  rw [h1] at z
  exact absurd z (by decide)
/-- the number splits -/
theorem pm_ct_split (P Q : Nat → Bool) (n : Nat) : pm_ct (fun i => P i && !Q i) n + pm_ct (fun i => P i && Q i) n = pm_ct P n := by
  induction n with
  | zero => rfl
  | succ n ih =>
    simp only [pm_ct]
    rcases Bool.eq_false_or_eq_true (P n) with hP | hP <;> rcases Bool.eq_false_or_eq_true (Q n) with hQ | hQ <;> simp [hP, hQ] <;> omega
theorem pm_ct_mono {P Q : Nat → Bool} {n : Nat} (h : ∀ i, i < n → P i = true → Q i = true) : pm_ct P n ≤ pm_ct Q n := by
  induction n with
  | zero => exact Nat.le_refl 0
  | succ n ih =>
    have t := ih (fun i hi => h i (by omega))
    simp only [pm_ct]
    cases hP : P n with
    | false => simp; omega
    | true => rw [h n (by omega) hP]; simp; omega
/-- no n + 1 places go apart into n -/
theorem pm_pig : ∀ (n : Nat) (g : Nat → Nat), (∀ i, i < n + 1 → g i < n) → (∀ i j, i < n + 1 → j < n + 1 → g i = g j → i = j) → False := by
  intro n
  induction n with
  | zero => intro g h _; exact absurd (h 0 (by omega)) (by omega)
  | succ n ih =>
    intro g h inj
    have hx := h (n + 1) (by omega)
    refine ih (fun i => if g i = n then g (n + 1) else g i) (fun i hi => ?_) (fun i j hi hj e => ?_)
    · have a := h i (by omega)
      have b : g i ≠ g (n + 1) := fun e => by have := inj i (n + 1) (by omega) (by omega) e; omega
      split <;> omega
    · have bi : g i ≠ g (n + 1) := fun e => by have := inj i (n + 1) (by omega) (by omega) e; omega
      have bj : g j ≠ g (n + 1) := fun e => by have := inj j (n + 1) (by omega) (by omega) e; omega
      have ij := inj i j (by omega) (by omega)
      split at e <;> split at e <;> first | exact ij (by omega) | (exfalso; omega)
theorem pm_uu (f : Nat → Int32) (k : Nat) (x y : Int32) : upd (upd f k x) k y = upd f k y := by
  funext j
  by_cases e : j = k
  · rw [e, pk_us, pk_us]
  · rw [pk_un e, pk_un e, pk_un e]
theorem pm_self (f : Nat → Int32) (k : Nat) (x : Int32) (h : f k = x) : upd f k x = f := by
  funext j
  by_cases e : j = k
  · rw [e, pk_us, h]
  · rw [pk_un e]
theorem pm_ix (r w : Nat) : nI r * 4 + nI w = nI (4 * r + w) := by
  rw [show (4 : Int32) = nI 4 from rfl, pk_mul, nI_add, Nat.mul_comm]
theorem pm_ne {a b : Nat} (ha : a < 100) (hb : b < 100) (h : a ≠ b) : nI a ≠ nI b := fun e => h ((nI_eq (by omega) (by omega)).mp e)
/-- forms and places lie in their ranges -/
def pm_RG (F : Nat) (a1 a2 : Nat → Int32) : Prop := ∀ p, p < 24 → ∃ k w, k ≤ 3 ∧ w < 24 ∧ a1 p = nI k ∧ a2 p = nI w ∧ (k = 1 → w < F)
/-- page p is in frame f -/
def pm_at (a1 a2 : Nat → Int32) (f : Nat) (p : Nat) : Bool := decide (a1 p = 1 ∧ a2 p = nI f)
/-- holders are counted -/
def pm_HO (a1 a2 a4 : Nat → Int32) : Prop := ∀ f, f < 16 → a4 f = nI (pm_ct (pm_at a1 a2 f) 24)
/-- of form k: the marks b are those of the pages' places, and no two share -/
def pm_RU (k : Int32) (a1 a2 b : Nat → Int32) : Prop :=
  (∀ p, p < 24 → a1 p = k → b (a2 p).toNatClampNeg ≠ 0) ∧ (∀ r, r < 24 → b r ≠ 0 → ∃ p, p < 24 ∧ a1 p = k ∧ a2 p = nI r) ∧ (∀ p q, p < 24 → q < 24 → a1 p = k → a1 q = k → a2 p = a2 q → p = q)
/-- a word of a page -/
def pm_pk (a1 a2 a5 a7 a8 a9 a11 : Nat → Int32) (p w : Nat) : Int32 :=
  if a1 p = 1 then a5 (4 * (a2 p).toNatClampNeg + w) else if a1 p = 2 then (if a7 (a2 p).toNatClampNeg ≤ nI w then a9 (a2 p).toNatClampNeg else a8 (a2 p).toNatClampNeg) else if a1 p = 3 then a11 (4 * (a2 p).toNatClampNeg + w) else 0
/-- what letGo leaves of the holders, of the marks -/
def pm_lg4 (a1 a2 a4 : Nat → Int32) (p : Nat) : Nat → Int32 := if a1 p = 1 then upd a4 (a2 p).toNatClampNeg (a4 (a2 p).toNatClampNeg - 1) else a4
def pm_lgb (k : Int32) (a1 a2 b : Nat → Int32) (p : Nat) : Nat → Int32 := if a1 p = k then upd b (a2 p).toNatClampNeg 0 else b
section
variable {F p f r : Nat} {k j x : Int32} {a1 a2 a4 a5 a7 a8 a9 a11 b c1 c2 c5 c7 c8 c9 c11 : Nat → Int32}
theorem pm_atT (h : pm_at a1 a2 f p = true) : a1 p = 1 ∧ a2 p = nI f := of_decide_eq_true h
theorem pm_atI (h1 : a1 p = 1) (h2 : a2 p = nI f) : pm_at a1 a2 f p = true := decide_eq_true ⟨h1, h2⟩
theorem pm_atF (h : ¬ (a1 p = 1 ∧ a2 p = nI f)) : pm_at a1 a2 f p = false := decide_eq_false h
theorem pm_atC {p' : Nat} (h1 : a1 p = c1 p') (h2 : a2 p = c2 p') : pm_at a1 a2 f p = pm_at c1 c2 f p' := by
  unfold pm_at
  rw [h1, h2]
theorem pm_hz (h : pm_HO a1 a2 a4) (hf : f < 16) (h0 : a4 f = 0) {q : Nat} (hq : q < 24) (h1 : a1 q = 1) : a2 q ≠ nI f := by
  intro e
  have t := h f hf
  have l := pm_ct_le (pm_at a1 a2 f) 24
  rw [h0] at t
  have z := (nI_eq (a := 0) (by omega) (by omega)).mp t
  have y := pm_ct_zero z.symm q hq
  rw [pm_atI h1 e] at y
  exact absurd y (by decide)
theorem pm_hnz (h : pm_HO a1 a2 a4) (hf : f < 16) (h0 : a4 f ≠ 0) : ∃ q, q < 24 ∧ a1 q = 1 ∧ a2 q = nI f := by
  have t := h f hf
  by_cases e : pm_ct (pm_at a1 a2 f) 24 = 0
  · rw [e] at t
    exact absurd t h0
  · obtain ⟨q, hq, hx⟩ := pm_ct_nz e
    exact ⟨q, hq, pm_atT hx⟩
theorem pm_h1 (h : pm_HO a1 a2 a4) (hf : f < 16) (h0 : a4 f = 1) {q : Nat} (hp : p < 24) (hq : q < 24) (p1 : a1 p = 1) (q1 : a1 q = 1) (p2 : a2 p = nI f) (q2 : a2 q = nI f) : q = p := by
  have t := h f hf
  have l := pm_ct_le (pm_at a1 a2 f) 24
  rw [h0] at t
  have z := (nI_eq (a := 1) (by omega) (by omega)).mp t
  exact pm_ct_one z.symm hq hp (pm_atI q1 q2) (pm_atI p1 p2)
/-- a page goes -/
theorem pm_HO_let (h : pm_HO a1 a2 a4) (hG : pm_RG F a1 a2) (hF : F ≤ 16) (hp : p < 24) : pm_HO (upd a1 p 0) a2 (pm_lg4 a1 a2 a4 p) := by
  intro f hf
  have t := pm_ct_upd (P := pm_at (upd a1 p 0) a2 f) (Q := pm_at a1 a2 f) (n := 24) hp (fun i _ hi => pm_atC (pk_un hi) rfl)
  have e0 : pm_at (upd a1 p 0) a2 f p = false := pm_atF (fun z => by rw [pk_us] at z; exact absurd z.1 (by decide))
  rw [e0] at t
  have l := pm_ct_le (pm_at a1 a2 f) 24
  unfold pm_lg4
  obtain ⟨k, w, hk, hw, e1, e2, e3⟩ := hG p hp
  by_cases c : a1 p = 1
  · rw [if_pos c, e2, nI_clamp (by omega)]
    by_cases cf : f = w
    · subst cf
      rw [pk_us, h f hf]
      rw [pm_atI c e2] at t
      simp at t
      rw [← t]
      exact nI_pred _
    · rw [pk_un cf, h f hf]
      have hk1 : k = 1 := (nI_eq (b := 1) (by omega) (by omega)).mp (e1.symm.trans c)
      have hwF := e3 hk1
      rw [pm_atF (fun z => cf ((nI_eq (by omega) (by omega)).mp (z.2.symm.trans e2)))] at t
      simp at t
      rw [t]
  · rw [if_neg c, h f hf]
    rw [pm_atF (fun z => c z.1)] at t
    simp at t
    rw [t]
theorem pm_RU_let (h : pm_RU k a1 a2 b) (h0 : k ≠ 0) (hG : pm_RG F a1 a2) (hp : p < 24) : pm_RU k (upd a1 p 0) a2 (pm_lgb k a1 a2 b p) := by
  obtain ⟨hA, hB, hC⟩ := h
  have ne : ∀ q, upd a1 p 0 q = k → q ≠ p ∧ a1 q = k := by
    intro q hq
    by_cases e : q = p
    · rw [e, pk_us] at hq
      exact absurd hq.symm h0
    · rw [pk_un e] at hq
      exact ⟨e, hq⟩
  obtain ⟨kk, w, hk, hw, e1, e2, e3⟩ := hG p hp
  refine ⟨fun q hq hx => ?_, fun r hr hx => ?_, fun q s hq hs hx hy e => hC q s hq hs (ne q hx).2 (ne s hy).2 e⟩
  · obtain ⟨n1, n2⟩ := ne q hx
    have t := hA q hq n2
    unfold pm_lgb
    split
    next c =>
      obtain ⟨kq, wq, _, hwq, _, e2q, _⟩ := hG q hq
      have d : (a2 q).toNatClampNeg ≠ (a2 p).toNatClampNeg := by
        intro z
        rw [e2q, e2, nI_clamp (by omega), nI_clamp (by omega)] at z
        exact n1 (hC q p hq hp n2 c (by rw [e2q, e2, z]))
      rw [pk_un d]
      exact t
    next c => exact t
  · unfold pm_lgb at hx
    split at hx
    next c =>
      by_cases z : r = (a2 p).toNatClampNeg
      · rw [z, pk_us] at hx
        exact absurd rfl hx
      · rw [pk_un z] at hx
        obtain ⟨q, hq, q1, q2⟩ := hB r hr hx
        refine ⟨q, hq, ?_, q2⟩
        have : q ≠ p := fun e => z (by rw [← e, q2, nI_clamp (by omega)])
        rw [pk_un this]
        exact q1
    next c =>
      obtain ⟨q, hq, q1, q2⟩ := hB r hr hx
      refine ⟨q, hq, ?_, q2⟩
      have : q ≠ p := fun e => c (by rw [← e]; exact q1)
      rw [pk_un this]
      exact q1
theorem pm_RG_let (hG : pm_RG F a1 a2) : pm_RG F (upd a1 p 0) a2 := by
  intro q hq
  obtain ⟨k, w, hk, hw, e1, e2, e3⟩ := hG q hq
  by_cases e : q = p
  · exact ⟨0, w, by omega, hw, by rw [e, pk_us]; rfl, e2, fun z => absurd z (by omega)⟩
  · exact ⟨k, w, hk, hw, by rw [pk_un e]; exact e1, e2, e3⟩
/-- a page comes -/
theorem pm_HO_in (h : pm_HO a1 a2 a4) (hn : a1 p ≠ 1) (hp : p < 24) (hf : f < 16) : pm_HO (upd a1 p 1) (upd a2 p (nI f)) (upd a4 f (a4 f + 1)) := by
  intro g hg
  have t := pm_ct_upd (P := pm_at (upd a1 p 1) (upd a2 p (nI f)) g) (Q := pm_at a1 a2 g) (n := 24) hp (fun i _ hi => pm_atC (pk_un hi) (pk_un hi))
  rw [pm_atF (a1 := a1) (a2 := a2) (f := g) (p := p) (fun z => hn z.1)] at t
  by_cases e : g = f
  · subst e
    rw [pk_us, h g hg]
    rw [pm_atI (a1 := upd a1 p 1) (a2 := upd a2 p (nI g)) (f := g) pk_us pk_us] at t
    simp at t
    rw [t]
    exact nI_1 _
  · rw [pk_un e, h g hg]
    rw [pm_atF (a1 := upd a1 p 1) (a2 := upd a2 p (nI f)) (f := g) (fun z => e (by have y := z.2; rw [pk_us] at y; exact ((nI_eq (by omega) (by omega)).mp y).symm))] at t
    simp at t
    rw [t]
theorem pm_HO_ot (h : pm_HO a1 a2 a4) (hn : a1 p ≠ 1) (hj : j ≠ 1) (hp : p < 24) : pm_HO (upd a1 p j) (upd a2 p x) a4 := by
  intro g hg
  have t := pm_ct_upd (P := pm_at (upd a1 p j) (upd a2 p x) g) (Q := pm_at a1 a2 g) (n := 24) hp (fun i _ hi => pm_atC (pk_un hi) (pk_un hi))
  rw [pm_atF (a1 := a1) (a2 := a2) (f := g) (p := p) (fun z => hn z.1), pm_atF (a1 := upd a1 p j) (a2 := upd a2 p x) (f := g) (fun z => by have y := z.1; rw [pk_us] at y; exact hj y)] at t
  simp at t
  rw [h g hg, t]
theorem pm_RU_in (h : pm_RU k a1 a2 b) (hG : pm_RG F a1 a2) (hn : a1 p ≠ k) (hp : p < 24) (hr : r < 24) (h0 : b r = 0) : pm_RU k (upd a1 p k) (upd a2 p (nI r)) (upd b r 1) := by
  obtain ⟨hA, hB, hC⟩ := h
  have old : ∀ q, q < 24 → a1 q = k → a2 q ≠ nI r := by
    intro q hq hk e
    have t := hA q hq hk
    rw [e, nI_clamp (by omega)] at t
    exact t h0
  have cl : ∀ q, q < 24 → a1 q = k → (a2 q).toNatClampNeg ≠ r := by
    intro q hq hk e
    obtain ⟨kq, wq, _, hwq, _, e2q, _⟩ := hG q hq
    rw [e2q, nI_clamp (by omega)] at e
    exact old q hq hk (by rw [e2q, e])
  refine ⟨fun q hq hx => ?_, fun s hs hx => ?_, fun q s hq hs hx hy e => ?_⟩
  · by_cases c : q = p
    · rw [c, pk_us, nI_clamp (by omega), pk_us]
      decide
    · rw [pk_un c] at hx
      rw [pk_un c, pk_un (cl q hq hx)]
      exact hA q hq hx
  · by_cases c : s = r
    · exact ⟨p, hp, pk_us, by rw [pk_us, c]⟩
    · rw [pk_un c] at hx
      obtain ⟨q, hq, q1, q2⟩ := hB s hs hx
      have : q ≠ p := fun z => hn (by rw [← z]; exact q1)
      exact ⟨q, hq, by rw [pk_un this]; exact q1, by rw [pk_un this]; exact q2⟩
  · by_cases c : q = p <;> by_cases d : s = p
    · rw [c, d]
    · rw [c, pk_us, pk_un d] at e
      rw [pk_un d] at hy
      exact absurd e.symm (old s hs hy)
    · rw [d, pk_us, pk_un c] at e
      rw [pk_un c] at hx
      exact absurd e (old q hq hx)
    · rw [pk_un c, pk_un d] at e
      rw [pk_un c] at hx
      rw [pk_un d] at hy
      exact hC q s hq hs hx hy e
theorem pm_RU_ot (h : pm_RU k a1 a2 b) (hn : a1 p ≠ k) (hj : j ≠ k) : pm_RU k (upd a1 p j) (upd a2 p x) b := by
  obtain ⟨hA, hB, hC⟩ := h
  have ne : ∀ q, upd a1 p j q = k → q ≠ p ∧ a1 q = k := by
    intro q hq
    by_cases e : q = p
    · rw [e, pk_us] at hq
      exact absurd hq hj
    · rw [pk_un e] at hq
      exact ⟨e, hq⟩
  refine ⟨fun q hq hx => ?_, fun s hs hx => ?_, fun q s hq hs hx hy e => ?_⟩
  · obtain ⟨n1, n2⟩ := ne q hx
    rw [pk_un n1]
    exact hA q hq n2
  · obtain ⟨q, hq, q1, q2⟩ := hB s hs hx
    have : q ≠ p := fun z => hn (by rw [← z]; exact q1)
    exact ⟨q, hq, by rw [pk_un this]; exact q1, by rw [pk_un this]; exact q2⟩
  · obtain ⟨n1, n2⟩ := ne q hx
    obtain ⟨m1, m2⟩ := ne s hy
    rw [pk_un n1, pk_un m1] at e
    exact hC q s hq hs n2 m2 e
theorem pm_RG_in {kk : Nat} (hG : pm_RG F a1 a2) (hk : kk ≤ 3) (hr : r < 24) (hf : kk = 1 → r < F) : pm_RG F (upd a1 p (nI kk)) (upd a2 p (nI r)) := by
  intro q hq
  by_cases e : q = p
  · exact ⟨kk, r, hk, hr, by rw [e, pk_us], by rw [e, pk_us], hf⟩
  · rw [pk_un e, pk_un e]
    exact hG q hq
/-- a free mark -/
theorem pm_RU_free (h : pm_RU k a1 a2 b) (hp : p < 24) (hn : a1 p ≠ k) : ∃ r, r < 24 ∧ b r = 0 := by
  apply Classical.byContradiction
  intro H
  have H' : ∀ r, ∃ q, r < 24 → q < 24 ∧ a1 q = k ∧ a2 q = nI r := by
    intro r
    by_cases hr : r < 24
    · by_cases z : b r = 0
      · exact absurd ⟨r, hr, z⟩ H
      · obtain ⟨q, hq, q1, q2⟩ := h.2.1 r hr z
        exact ⟨q, fun _ => ⟨hq, q1, q2⟩⟩
    · exact ⟨0, fun z => absurd z hr⟩
  obtain ⟨g, hg⟩ := Classical.skolem.mp H'
  refine pm_pig 24 (fun i => if i < 24 then g i else p) (fun i hi => ?_) (fun i j hi hj e => ?_)
  · split
    next c => exact (hg i c).1
    next c => exact hp
  · split at e <;> split at e
    next c d =>
      have u := (hg i c).2.2
      have v := (hg j d).2.2
      rw [e] at u
      exact (nI_eq (by omega) (by omega)).mp (u.symm.trans v)
    next c d => exact absurd (by rw [← e]; exact (hg i c).2.1) hn
    next c d => exact absurd (by rw [e]; exact (hg j d).2.1) hn
    next c d => omega
/-- peek by form -/
theorem pm_pk0 {w : Nat} (h : a1 p = 0) : pm_pk a1 a2 a5 a7 a8 a9 a11 p w = 0 := by
  unfold pm_pk
  rw [h, if_neg (by decide), if_neg (by decide), if_neg (by decide)]
theorem pm_pk1 {w : Nat} (h : a1 p = 1) (h2 : a2 p = nI r) (hr : r < 24) : pm_pk a1 a2 a5 a7 a8 a9 a11 p w = a5 (4 * r + w) := by
  unfold pm_pk
  rw [if_pos h, h2, nI_clamp (by omega)]
theorem pm_pk2 {w : Nat} (h : a1 p = 2) (h2 : a2 p = nI r) (hr : r < 24) : pm_pk a1 a2 a5 a7 a8 a9 a11 p w = if a7 r ≤ nI w then a9 r else a8 r := by
  unfold pm_pk
  rw [h, if_neg (by decide), if_pos rfl, h2, nI_clamp (by omega)]
theorem pm_pk3 {w : Nat} (h : a1 p = 3) (h2 : a2 p = nI r) (hr : r < 24) : pm_pk a1 a2 a5 a7 a8 a9 a11 p w = a11 (4 * r + w) := by
  unfold pm_pk
  rw [h, if_neg (by decide), if_neg (by decide), if_pos rfl, h2, nI_clamp (by omega)]
/-- nothing that the page stands on changed -/
theorem pm_pkC {w : Nat} (hG : pm_RG F a1 a2) (hp : p < 24) (h1 : c1 p = a1 p) (h2 : c2 p = a2 p)
    (m1 : ∀ r, r < F → a1 p = 1 → a2 p = nI r → c5 (4 * r + w) = a5 (4 * r + w))
    (m2 : ∀ r, r < 24 → a1 p = 2 → a2 p = nI r → c7 r = a7 r ∧ c8 r = a8 r ∧ c9 r = a9 r)
    (m3 : ∀ r, r < 24 → a1 p = 3 → a2 p = nI r → c11 (4 * r + w) = a11 (4 * r + w)) :
    pm_pk c1 c2 c5 c7 c8 c9 c11 p w = pm_pk a1 a2 a5 a7 a8 a9 a11 p w := by
  obtain ⟨k, r, hk, hr, e1, e2, e3⟩ := hG p hp
  obtain rfl | rfl | rfl | rfl : k = 0 ∨ k = 1 ∨ k = 2 ∨ k = 3 := by omega
  · rw [pm_pk0 e1, pm_pk0 (h1.trans e1)]
  · rw [pm_pk1 e1 e2 hr, pm_pk1 (h1.trans e1) (h2.trans e2) hr]
    exact m1 r (e3 rfl) e1 e2
  · obtain ⟨x, y, z⟩ := m2 r hr e1 e2
    rw [pm_pk2 e1 e2 hr, pm_pk2 (h1.trans e1) (h2.trans e2) hr, x, y, z]
  · rw [pm_pk3 e1 e2 hr, pm_pk3 (h1.trans e1) (h2.trans e2) hr]
    exact m3 r hr e1 e2
end
end
section
abbrev pm_hd (u : St1) : Int32 := u.2.1
abbrev pm_f1 (u : St1) : Nat → Int32 := u.2.2.2.1
abbrev pm_f2 (u : St1) : Nat → Int32 := u.2.2.2.2.1
abbrev pm_f3 (u : St1) : Nat → Int32 := u.2.2.2.2.2.1
abbrev pm_f4 (u : St1) : Nat → Int32 := u.2.2.2.2.2.2.1
/-- the object's state stands for the pages' words C and for who is held, G -/
def pm_I (F : Nat) (C : Nat → Nat → Int32) (G : Nat → Bool) (u : St1) : Prop := match u with
  | (fr, hd, sc, a1, a2, a3, a4, a5, a6, a7, a8, a9, a10, a11) => (4 ≤ F ∧ F ≤ 16 ∧ fr = nI F) ∧ (∃ h, h < 24 ∧ hd = nI h) ∧ (∃ s, s < 24 ∧ sc = nI s) ∧ pm_RG F a1 a2 ∧ pm_HO a1 a2 a4 ∧ pm_RU 2 a1 a2 a6 ∧ pm_RU 3 a1 a2 a10 ∧ (∀ p, p < 24 → (a1 p = 0 ↔ G p = false)) ∧ (∀ p w, p < 24 → w < 4 → pm_pk a1 a2 a5 a7 a8 a9 a11 p w = C p w)
/-- one page's words, one page's mark set -/
def pm_up (C : Nat → Nat → Int32) (p : Nat) (v : Nat → Int32) : Nat → Nat → Int32 := fun q w => if q = p then v w else C q w
def pm_ug (G : Nat → Bool) (p : Nat) (b : Bool) : Nat → Bool := fun q => if q = p then b else G q
theorem pm_upS {C : Nat → Nat → Int32} {p w : Nat} {v : Nat → Int32} : pm_up C p v p w = v w := if_pos rfl
theorem pm_upN {C : Nat → Nat → Int32} {p q w : Nat} {v : Nat → Int32} (h : q ≠ p) : pm_up C p v q w = C q w := if_neg h
theorem pm_ugS {G : Nat → Bool} {p : Nat} {b : Bool} : pm_ug G p b p = b := if_pos rfl
theorem pm_ugN {G : Nat → Bool} {p q : Nat} {b : Bool} (h : q ≠ p) : pm_ug G p b q = G q := if_neg h
theorem pm_uc {X : Nat → Int32} {f : Nat} {y : Int32} (h : f < 100) : upd X (nI f).toNatClampNeg y = upd X f y := by rw [nI_clamp (by omega)]
section
variable {F p f r w n : Nat} {C C' : Nat → Nat → Int32} {G G' : Nat → Bool} {fr hd sc : Int32} {a1 a2 a3 a4 a5 a6 a7 a8 a9 a10 a11 : Nat → Int32} {c3 c5 c11 v : Nat → Int32}
theorem pm_mk (h1 : 4 ≤ F ∧ F ≤ 16 ∧ fr = nI F) (h2 : ∃ h, h < 24 ∧ hd = nI h) (h3 : ∃ s, s < 24 ∧ sc = nI s) (h4 : pm_RG F a1 a2) (h5 : pm_HO a1 a2 a4) (h6 : pm_RU 2 a1 a2 a6) (h7 : pm_RU 3 a1 a2 a10)
    (h8 : ∀ p, p < 24 → (a1 p = 0 ↔ G p = false)) (h9 : ∀ p w, p < 24 → w < 4 → pm_pk a1 a2 a5 a7 a8 a9 a11 p w = C p w) : pm_I F C G (fr, hd, sc, a1, a2, a3, a4, a5, a6, a7, a8, a9, a10, a11) :=
  And.intro h1 (And.intro h2 (And.intro h3 (And.intro h4 (And.intro h5 (And.intro h6 (And.intro h7 (And.intro h8 h9)))))))
theorem pm_I_congr {u : St1} (hI : pm_I F C G u) (hC : ∀ q w, q < 24 → w < 4 → C q w = C' q w) (hG : ∀ q, q < 24 → G q = G' q) : pm_I F C' G' u := by
  obtain ⟨fr, hd, sc, a1, a2, a3, a4, a5, a6, a7, a8, a9, a10, a11⟩ := u
  obtain ⟨h1, h2, h3, h4, h5, h6, h7, h8, h9⟩ := hI
  exact pm_mk h1 h2 h3 h4 h5 h6 h7 (fun q hq => by rw [← hG q hq]; exact h8 q hq) (fun q w hq hw => by rw [← hC q w hq hw]; exact h9 q w hq hw)
theorem pm_I_a3 (hI : pm_I F C G (fr, hd, sc, a1, a2, a3, a4, a5, a6, a7, a8, a9, a10, a11)) : pm_I F C G (fr, hd, sc, a1, a2, c3, a4, a5, a6, a7, a8, a9, a10, a11) := hI
theorem pm_I_hd {h : Nat} (hI : pm_I F C G (fr, hd, sc, a1, a2, a3, a4, a5, a6, a7, a8, a9, a10, a11)) (hh : h < 24) : pm_I F C G (fr, nI h, sc, a1, a2, c3, a4, a5, a6, a7, a8, a9, a10, a11) := by
  obtain ⟨h1, h2, h3, h4, h5, h6, h7, h8, h9⟩ := hI
  exact pm_mk h1 ⟨h, hh, rfl⟩ h3 h4 h5 h6 h7 h8 h9
theorem pm_I_sc {h : Nat} (hI : pm_I F C G (fr, hd, sc, a1, a2, a3, a4, a5, a6, a7, a8, a9, a10, a11)) (hh : h < 24) : pm_I F C G (fr, hd, nI h, a1, a2, c3, a4, a5, a6, a7, a8, a9, a10, a11) := by
  obtain ⟨h1, h2, h3, h4, h5, h6, h7, h8, h9⟩ := hI
  exact pm_mk h1 h2 ⟨h, hh, rfl⟩ h4 h5 h6 h7 h8 h9
theorem pm_lgb_n {k : Int32} {b : Nat → Int32} (h : a1 p ≠ k) : pm_lgb k a1 a2 b p = b := if_neg h
theorem pm_lg4_n (h : a1 p ≠ 1) : pm_lg4 a1 a2 a4 p = a4 := if_neg h
theorem pm_lg4_y (h : a1 p = 1) (h2 : a2 p = nI r) (hr : r < 24) : pm_lg4 a1 a2 a4 p = upd a4 r (a4 r - 1) := by
  unfold pm_lg4
  rw [if_pos h, h2, nI_clamp (by omega)]
theorem pm_I_let (hI : pm_I F C G (fr, hd, sc, a1, a2, a3, a4, a5, a6, a7, a8, a9, a10, a11)) (hp : p < 24) : pm_I F (pm_up C p (fun _ => 0)) (pm_ug G p false) (fr, hd, sc, upd a1 p 0, a2, a3, pm_lg4 a1 a2 a4 p, a5, pm_lgb 2 a1 a2 a6 p, a7, a8, a9, pm_lgb 3 a1 a2 a10 p, a11) := by
  obtain ⟨⟨hF4, hF, e⟩, hh, hs, hG, hHO, h2, h3, hg, hc⟩ := hI
  refine pm_mk ⟨hF4, hF, e⟩ hh hs (pm_RG_let hG) (pm_HO_let hHO hG hF hp) (pm_RU_let h2 (by decide) hG hp) (pm_RU_let h3 (by decide) hG hp) (fun q hq => ?_) (fun q w hq hw => ?_)
  · by_cases c : q = p
    · rw [c, pk_us, pm_ugS]
      exact ⟨fun _ => rfl, fun _ => rfl⟩
    · rw [pk_un c, pm_ugN c]
      exact hg q hq
  · by_cases c : q = p
    · rw [c, pm_upS]
      exact pm_pk0 pk_us
    · rw [pm_upN c, ← hc q w hq hw]
      exact pm_pkC hG hq (pk_un c) rfl (fun _ _ _ _ => rfl) (fun _ _ _ _ => ⟨rfl, rfl, rfl⟩) (fun _ _ _ _ => rfl)
theorem pm_gT {k : Int32} (hk : k ≠ 0) (hg : ∀ p, p < 24 → (a1 p = 0 ↔ G p = false)) : ∀ q, q < 24 → (upd a1 p k q = 0 ↔ pm_ug G p true q = false) := by
  intro q hq
  by_cases c : q = p
  · rw [c, pk_us, pm_ugS]
    exact ⟨fun z => absurd z hk, fun z => absurd z (by decide)⟩
  · rw [pk_un c, pm_ugN c]
    exact hg q hq
theorem pm_I_in1 (hI : pm_I F C G (fr, hd, sc, a1, a2, a3, a4, a5, a6, a7, a8, a9, a10, a11)) (hp : p < 24) (h0 : a1 p = 0) (hf : f < F) (hv : ∀ w, w < 4 → c5 (4 * f + w) = v w)
    (ho : ∀ q g w, q < 24 → g < F → w < 4 → a1 q = 1 → a2 q = nI g → c5 (4 * g + w) = a5 (4 * g + w)) :
    pm_I F (pm_up C p v) (pm_ug G p true) (fr, hd, sc, upd a1 p 1, upd a2 p (nI f), a3, upd a4 f (a4 f + 1), c5, a6, a7, a8, a9, a10, a11) := by
  obtain ⟨⟨hF4, hF, e⟩, hh, hs, hG, hHO, h2, h3, hg, hc⟩ := hI
  refine pm_mk ⟨hF4, hF, e⟩ hh hs (pm_RG_in (kk := 1) hG (by omega) (by omega) (fun _ => hf)) (pm_HO_in hHO (by rw [h0]; decide) hp (by omega)) (pm_RU_ot h2 (by rw [h0]; decide) (by decide)) (pm_RU_ot h3 (by rw [h0]; decide) (by decide)) (pm_gT (by decide) hg) (fun q w hq hw => ?_)
  by_cases c : q = p
  · rw [c, pm_upS, pm_pk1 (r := f) pk_us pk_us (by omega)]
    exact hv w hw
  · rw [pm_upN c, ← hc q w hq hw]
    exact pm_pkC hG hq (pk_un c) (pk_un c) (fun r hr h1 h2 => ho q r w hq hr hw h1 h2) (fun _ _ _ _ => ⟨rfl, rfl, rfl⟩) (fun _ _ _ _ => rfl)
theorem pm_I_in2 {x y : Int32} (hI : pm_I F C G (fr, hd, sc, a1, a2, a3, a4, a5, a6, a7, a8, a9, a10, a11)) (hp : p < 24) (h0 : a1 p = 0) (hr : r < 24) (hu : a6 r = 0) (hn : n ≤ 4) (hv : ∀ w, w < 4 → v w = if n ≤ w then y else x) :
    pm_I F (pm_up C p v) (pm_ug G p true) (fr, hd, sc, upd a1 p 2, upd a2 p (nI r), a3, a4, a5, upd a6 r 1, upd a7 r (nI n), upd a8 r x, upd a9 r y, a10, a11) := by
  obtain ⟨⟨hF4, hF, e⟩, hh, hs, hG, hHO, h2, h3, hg, hc⟩ := hI
  refine pm_mk ⟨hF4, hF, e⟩ hh hs (pm_RG_in (kk := 2) hG (by omega) (by omega) (fun z => absurd z (by omega))) (pm_HO_ot hHO (by rw [h0]; decide) (by decide) hp) (pm_RU_in h2 hG (by rw [h0]; decide) hp hr hu) (pm_RU_ot h3 (by rw [h0]; decide) (by decide)) (pm_gT (by decide) hg) (fun q w hq hw => ?_)
  by_cases c : q = p
  · rw [c, pm_upS, pm_pk2 (r := r) pk_us pk_us (by omega), pk_us, pk_us, pk_us, hv w hw]
    by_cases d : n ≤ w
    · rw [if_pos d, if_pos (nI_le d (by omega))]
    · rw [if_neg d, if_neg (nI_ge (by omega) (by omega))]
  · rw [pm_upN c, ← hc q w hq hw]
    refine pm_pkC hG hq (pk_un c) (pk_un c) (fun _ _ _ _ => rfl) (fun r' hr' h1 e2 => ?_) (fun _ _ _ _ => rfl)
    have t := h2.1 q hq h1
    rw [e2, nI_clamp (by omega)] at t
    have d : r' ≠ r := fun z => t (by rw [z]; exact hu)
    exact ⟨pk_un d, pk_un d, pk_un d⟩
theorem pm_I_in3 (hI : pm_I F C G (fr, hd, sc, a1, a2, a3, a4, a5, a6, a7, a8, a9, a10, a11)) (hp : p < 24) (h0 : a1 p = 0) (hr : r < 24) (hu : a10 r = 0) (hv : ∀ w, w < 4 → c11 (4 * r + w) = v w) (ho : ∀ j, (j < 4 * r ∨ 4 * r + 4 ≤ j) → c11 j = a11 j) :
    pm_I F (pm_up C p v) (pm_ug G p true) (fr, hd, sc, upd a1 p 3, upd a2 p (nI r), a3, a4, a5, a6, a7, a8, a9, upd a10 r 1, c11) := by
  obtain ⟨⟨hF4, hF, e⟩, hh, hs, hG, hHO, h2, h3, hg, hc⟩ := hI
  refine pm_mk ⟨hF4, hF, e⟩ hh hs (pm_RG_in (kk := 3) hG (by omega) (by omega) (fun z => absurd z (by omega))) (pm_HO_ot hHO (by rw [h0]; decide) (by decide) hp) (pm_RU_ot h2 (by rw [h0]; decide) (by decide)) (pm_RU_in h3 hG (by rw [h0]; decide) hp hr hu) (pm_gT (by decide) hg) (fun q w hq hw => ?_)
  by_cases c : q = p
  · rw [c, pm_upS, pm_pk3 (r := r) pk_us pk_us (by omega)]
    exact hv w hw
  · rw [pm_upN c, ← hc q w hq hw]
    refine pm_pkC hG hq (pk_un c) (pk_un c) (fun _ _ _ _ => rfl) (fun _ _ _ _ => ⟨rfl, rfl, rfl⟩) (fun r' hr' h1 e2 => ?_)
    have t := h3.1 q hq h1
    rw [e2, nI_clamp (by omega)] at t
    have d : r' ≠ r := fun z => t (by rw [z]; exact hu)
    exact ho _ (by omega)
/-- a page in a frame goes to another frame -/
theorem pm_I_mv {g : Nat} (hI : pm_I F C G (fr, hd, sc, a1, a2, a3, a4, a5, a6, a7, a8, a9, a10, a11)) (hp : p < 24) (h1 : a1 p = 1) (h2 : a2 p = nI g) (hg : g < 24) (hf : f < F) (hv : ∀ w, w < 4 → c5 (4 * f + w) = C p w)
    (ho : ∀ q h w, q < 24 → h < F → w < 4 → q ≠ p → a1 q = 1 → a2 q = nI h → c5 (4 * h + w) = a5 (4 * h + w)) :
    pm_I F C G (fr, hd, sc, a1, upd a2 p (nI f), a3, upd (upd a4 g (a4 g - 1)) f (upd a4 g (a4 g - 1) f + 1), c5, a6, a7, a8, a9, a10, a11) := by
  have t := pm_I_let hI hp
  rw [pm_lg4_y h1 h2 hg, pm_lgb_n (k := 2) (by rw [h1]; decide), pm_lgb_n (k := 3) (by rw [h1]; decide)] at t
  have s := pm_I_in1 (v := C p) (c5 := c5) t hp pk_us hf hv (fun q h w hq hh hw x1 x2 => by
    have hqp : q ≠ p := fun z => by
      rw [z, pk_us] at x1
      exact absurd x1 (by decide)
    rw [pk_un hqp] at x1
    exact ho q h w hq hh hw hqp x1 x2)
  rw [pm_uu, pm_self a1 p 1 h1] at s
  have gp : G p = true := by
    obtain ⟨_, _, _, _, _, _, _, z, _⟩ := hI
    cases hG : G p with
    | true => rfl
    | false =>
      have y := (z p hp).mpr hG
      rw [h1] at y
      exact absurd y (by decide)
  refine pm_I_congr s (fun q w hq hw => ?_) (fun q hq => ?_)
  · by_cases c : q = p
    · rw [c, pm_upS]
    · rw [pm_upN c, pm_upN c]
  · by_cases c : q = p
    · rw [c, pm_ugS, gp]
    · rw [pm_ugN c, pm_ugN c]
end
end
section
section
variable {F p f r w n : Nat} {C C' : Nat → Nat → Int32} {G G' : Nat → Bool} {fr hd sc : Int32} {a1 a2 a3 a4 a5 a6 a7 a8 a9 a10 a11 : Nat → Int32} {c3 c5 c11 v : Nat → Int32}
theorem pm_bad {post : Int32 → Prop} (hp : p < 24) (H : post 0) : wpX_bad post () (nI p) :=
  pk_lt p 0 (fun z => absurd z (by omega)) (fun _ => pk_lt p 24 (fun _ => H) (fun z => absurd z (by omega)))
theorem pm_peek {post : Int32 → Prop} (hF : F ≤ 16) (hG : pm_RG F a1 a2) (hp : p < 24) (hw : w < 4) (H : post (pm_pk a1 a2 a5 a7 a8 a9 a11 p w)) : wpX_peek post (fr, hd, sc, a1, a2, a3, a4, a5, a6, a7, a8, a9, a10, a11) (nI p) (nI w) := by
  obtain ⟨k, r, hk, hr, e1, e2, e3⟩ := hG p hp
  unfold wpX_peek
  dsimp only
  rw [nI_clamp (show p < 2 ^ 31 by omega)]
  refine ⟨pk_in p 24 hp, nm_r e2 ⟨pk_in p 24 hp, nm_r e1 ?_⟩⟩
  obtain rfl | rfl | rfl | rfl : k = 0 ∨ k = 1 ∨ k = 2 ∨ k = 3 := by omega
  · rw [pm_pk0 e1] at H
    exact pk_lt 0 1 (fun _ => H) (fun z => absurd z (by omega))
  · rw [pm_pk1 e1 e2 hr] at H
    have e4 := e3 rfl
    refine pk_lt 1 1 (fun z => absurd z (by omega)) (fun _ => pk_lt 3 1 (fun z => absurd z (by omega)) (fun _ => br_t rfl ⟨?_, ?_⟩))
    · rw [pm_ix]
      exact vp_in_nI (by omega) (by omega)
    · rw [pm_ix, nI_clamp (by omega)]
      exact H
  · rw [pm_pk2 e1 e2 hr] at H
    refine pk_lt 2 1 (fun z => absurd z (by omega)) (fun _ => pk_lt 3 2 (fun z => absurd z (by omega)) (fun _ => br_f (by decide) (br_t rfl ⟨pk_in r 24 hr, ?_⟩)))
    rw [nI_clamp (show r < 2 ^ 31 by omega)]
    refine br_c (fun c => ⟨pk_in r 24 hr, ?_⟩) (fun c => ⟨pk_in r 24 hr, ?_⟩)
    · rw [if_pos c] at H
      exact H
    · rw [if_neg c] at H
      exact H
  · rw [pm_pk3 e1 e2 hr] at H
    refine pk_lt 3 1 (fun z => absurd z (by omega)) (fun _ => pk_lt 3 3 (fun z => absurd z (by omega)) (fun _ => br_f (by decide) (br_f (by decide) (br_t rfl ⟨?_, ?_⟩))))
    · rw [pm_ix]
      exact vp_in_nI (by omega) (by omega)
    · rw [pm_ix, nI_clamp (by omega)]
      exact H
theorem pm_lg44 {post : St1 → Prop} (hp : p < 24) (e2 : a2 p = nI r) (hr : r < 24) (H : post (fr, hd, sc, upd a1 p 0, a2, a3, a4, a5, a6, a7, a8, a9, pm_lgb 3 a1 a2 a10 p, a11)) : wX_letGo_44 post (nI p) (nI r) fr hd sc a1 a2 a3 a4 a5 a6 a7 a8 a9 a10 a11 := by
  unfold wX_letGo_44
  rw [nI_clamp (show p < 2 ^ 31 by omega), nI_clamp (show r < 2 ^ 31 by omega)]
  unfold pm_lgb at H
  rw [e2, nI_clamp (show r < 2 ^ 31 by omega)] at H
  refine ⟨pk_in p 24 hp, br_c (fun c => ⟨pk_in r 24 hr, nm_e ⟨pk_in p 24 hp, nm_e ?_⟩⟩) (fun c => ⟨pk_in p 24 hp, nm_e ?_⟩)⟩
  · rw [if_pos c] at H
    exact H
  · rw [if_neg c] at H
    exact H
theorem pm_lg27 {post : St1 → Prop} (hp : p < 24) (e2 : a2 p = nI r) (hr : r < 24) (H : post (fr, hd, sc, upd a1 p 0, a2, a3, a4, a5, pm_lgb 2 a1 a2 a6 p, a7, a8, a9, pm_lgb 3 a1 a2 a10 p, a11)) : wX_letGo_27 post (nI p) (nI r) fr hd sc a1 a2 a3 a4 a5 a6 a7 a8 a9 a10 a11 := by
  unfold wX_letGo_27
  rw [nI_clamp (show p < 2 ^ 31 by omega), nI_clamp (show r < 2 ^ 31 by omega)]
  refine ⟨pk_in p 24 hp, br_c (fun c => ⟨pk_in r 24 hr, nm_e (pm_lg44 hp e2 hr ?_)⟩) (fun c => pm_lg44 hp e2 hr ?_)⟩
  · have e : pm_lgb 2 a1 a2 a6 p = upd a6 r 0 := by
      unfold pm_lgb
      rw [if_pos c, e2, nI_clamp (by omega)]
    rw [e] at H
    exact H
  · rw [pm_lgb_n c] at H
    exact H
theorem pm_letGo {post : St1 → Prop} (hF : F ≤ 16) (hG : pm_RG F a1 a2) (hp : p < 24) (H : post (fr, hd, sc, upd a1 p 0, a2, a3, pm_lg4 a1 a2 a4 p, a5, pm_lgb 2 a1 a2 a6 p, a7, a8, a9, pm_lgb 3 a1 a2 a10 p, a11)) : wpX_letGo post (fr, hd, sc, a1, a2, a3, a4, a5, a6, a7, a8, a9, a10, a11) (nI p) := by
  obtain ⟨k, r, hk, hr, e1, e2, e3⟩ := hG p hp
  unfold wpX_letGo
  dsimp only
  rw [nI_clamp (show p < 2 ^ 31 by omega)]
  refine ⟨pk_in p 24 hp, nm_r e2 ⟨pk_in p 24 hp, br_c (fun c => ?_) (fun c => pm_lg27 hp e2 hr ?_)⟩⟩
  · have hk1 : k = 1 := (nI_eq (b := 1) (by omega) (by omega)).mp (e1.symm.trans c)
    have e4 := e3 hk1
    rw [nI_clamp (show r < 2 ^ 31 by omega)]
    refine ⟨pk_in r 16 (by omega), pk_in r 16 (by omega), nm_e (pm_lg27 hp e2 hr ?_)⟩
    rw [pm_lg4_y c e2 hr] at H
    exact H
  · rw [pm_lg4_n c] at H
    exact H
theorem pm_free {post : Int32 → Prop} (hF : F ≤ 16) (hfr : fr = nI F) (H1 : ∀ f, f < F → a4 f = 0 → post (nI f)) (H2 : (∀ f, f < F → a4 f ≠ 0) → post (-1)) : wpX_freeFrame post (fr, hd, sc, a1, a2, a3, a4, a5, a6, a7, a8, a9, a10, a11) := by
  subst hfr
  exact pk_loop (σ := Unit) (fun n i _ => wX_freeFrame_2 post (nI F) hd sc a1 a2 a3 a4 a5 a6 a7 a8 a9 a10 a11 n (nI i)) (fun i _ => ∀ j, j < i → a4 j ≠ 0) F 0 () (by omega) (fun j h => absurd h (by omega))
    (fun n _ h => pk_le F F (fun _ => H2 h) (fun z => absurd z (by omega)))
    (fun n i _ hi h hw => pk_le F i (fun z => absurd z (by omega)) (fun _ => ⟨pk_in i 16 (by omega), br_c (fun c => H1 i hi (by rw [nI_clamp (by omega)] at c; exact c)) (fun c => nm_r (nI_1 i) (hw () (lt_s h (by rw [nI_clamp (by omega)] at c; exact c))))⟩))
theorem pm_r35 {post : Int32 → Prop} {w0 : Nat} (hpk : ∀ (ψ : Int32 → Prop) w, w < 4 → ψ (v w) → wpX_peek ψ (fr, hd, sc, a1, a2, a3, a4, a5, a6, a7, a8, a9, a10, a11) (nI p) (nI w)) (hn : n < 4) (hw : w0 ≤ 4)
    (H1 : (∀ j, w0 ≤ j → j < 4 → v j = v n) → post (nI n)) (H0 : post 0) : ∃ fu, wX_runsOf_35 post (nI p) (nI n) fr hd sc a1 a2 a3 a4 a5 a6 a7 a8 a9 a10 a11 fu (nI w0) :=
  pk_loop (σ := Unit) (fun m i _ => wX_runsOf_35 post (nI p) (nI n) fr hd sc a1 a2 a3 a4 a5 a6 a7 a8 a9 a10 a11 m (nI i)) (fun i _ => ∀ j, w0 ≤ j → j < i → v j = v n) 4 w0 () hw (fun j h1 h2 => absurd h1 (by omega))
    (fun m _ h => pk_le 4 4 (fun _ => H1 h) (fun z => absurd z (by omega)))
    (fun m i _ hi h hs => pk_le 4 i (fun z => absurd z (by omega)) (fun _ => hpk _ i hi (hpk _ n hn (br_c (fun c => nm_r (nI_1 i) (hs () (fun j h1 h2 => by
      by_cases e : j = i
      · rw [e]; exact c
      · exact h j h1 (by omega)))) (fun c => H0)))))
theorem pm_runs {post : Int32 → Prop} (hpk : ∀ (ψ : Int32 → Prop) w, w < 4 → ψ (v w) → wpX_peek ψ (fr, hd, sc, a1, a2, a3, a4, a5, a6, a7, a8, a9, a10, a11) (nI p) (nI w))
    (H : ∀ n, n ≤ 4 → (1 ≤ n → (∀ j, j < n → v j = v 0) ∧ (∀ j, n ≤ j → j < 4 → v j = v n)) → ((∀ j, j < 4 → v j = v 0) → n = 4) → post (nI n)) : wpX_runsOf post (fr, hd, sc, a1, a2, a3, a4, a5, a6, a7, a8, a9, a10, a11) (nI p) := by
  unfold wpX_runsOf
  dsimp only
  refine hpk _ 0 (by omega) ?_
  exact pk_loop (σ := Unit) (fun m i _ => wX_runsOf_9 post (nI p) (v 0) fr hd sc a1 a2 a3 a4 a5 a6 a7 a8 a9 a10 a11 m (nI i)) (fun i _ => 1 ≤ i ∧ ∀ j, j < i → v j = v 0) 4 1 () (by omega) ⟨by omega, fun j hj => by rw [show j = 0 by omega]⟩
    (fun m _ h => pk_le 4 4 (fun _ => nm_r (nI_1 4) ⟨0 + 1, pk_le 4 5 (fun _ => H 4 (by omega) (fun _ => ⟨h.2, fun j h1 h2 => absurd h1 (by omega)⟩) (fun _ => rfl)) (fun z => absurd z (by omega))⟩) (fun z => absurd z (by omega)))
    (fun m i _ hi h hs => pk_le 4 i (fun z => absurd z (by omega)) (fun _ => hpk _ i hi (br_c (fun c => nm_r (nI_1 i) (hs () ⟨by omega, lt_s h.2 c⟩)) (fun c => nm_r (nI_1 i) (pm_r35 hpk hi (by omega)
      (fun z => H i (by omega) (fun _ => ⟨h.2, fun j h1 h2 => by
        by_cases e : j = i
        · rw [e]
        · exact z j (by omega) h2⟩) (fun all => absurd (all i hi) c))
      (H 0 (by omega) (fun z => absurd z (by omega)) (fun all => absurd (all i hi) c)))))))
end
end
section
/-- what evict leaves -/
def pm_EV (F : Nat) (C : Nat → Nat → Int32) (G : Nat → Bool) (u : St1) (p : Nat) (post : St1 → Prop) : Prop :=
  ∀ u', pm_I F C G u' → pm_f1 u' p ≠ 1 → (∀ q, q ≠ p → pm_f1 u' q = pm_f1 u q ∧ pm_f2 u' q = pm_f2 u q) → pm_f3 u' = pm_f3 u → pm_hd u' = pm_hd u → post u'
theorem pm_fill {s v : Nat → Int32} {i k b : Nat} {x : Int32} (hk : k = b + i) (h : ∀ w, w < i → s (b + w) = v w) (hx : x = v i) : ∀ w, w < i + 1 → upd s k x (b + w) = v w := by
  intro w hw
  rw [hk]
  by_cases e : w = i
  · rw [e, pk_us, hx]
  · rw [pk_un (by omega)]
    exact h w (by omega)
theorem pm_out {s a : Nat → Int32} {i k b : Nat} {x : Int32} (hk : k = b + i) (hi : i < 4) (h : ∀ j, (j < b ∨ b + 4 ≤ j) → s j = a j) : ∀ j, (j < b ∨ b + 4 ≤ j) → upd s k x j = a j := by
  intro j hj
  rw [pk_un (by omega)]
  exact h j hj
theorem pm_ixc {r i : Nat} (hr : r < 100) (hi : i < 100) : (nI r * 4 + nI i).toNatClampNeg = 4 * r + i := by rw [pm_ix, nI_clamp (by omega)]
theorem pm_ixi {r i N : Nat} (h : 4 * r + i < N) (hN : N < 2 ^ 31) : vp_in (nI r * 4 + nI i) N := by
  rw [pm_ix]
  exact vp_in_nI h hN
section
variable {F p f r w n : Nat} {C C' : Nat → Nat → Int32} {G G' : Nat → Bool} {fr hd sc : Int32} {a1 a2 a3 a4 a5 a6 a7 a8 a9 a10 a11 : Nat → Int32} {c3 c5 c11 v : Nat → Int32}
theorem pm_held1 {u : St1} (hI : pm_I F C G u) (hp : p < 24) (h1 : pm_f1 u p ≠ 0) : G p = true := by
  obtain ⟨fr, hd, sc, a1, a2, a3, a4, a5, a6, a7, a8, a9, a10, a11⟩ := u
  obtain ⟨_, _, _, _, _, _, _, z, _⟩ := hI
  cases hG : G p with
  | true => rfl
  | false => exact absurd ((z p hp).mpr hG) h1
theorem pm_back {b : Bool} {v0 : Nat → Int32} {u : St1} (hI : pm_I F (pm_up (pm_up C p v0) p (C p)) (pm_ug (pm_ug G p b) p true) u) : pm_I F C (pm_ug G p true) u := by
  refine pm_I_congr hI (fun q w hq hw => ?_) (fun q hq => ?_)
  · by_cases c : q = p
    · rw [c, pm_upS]
    · rw [pm_upN c, pm_upN c]
  · by_cases c : q = p
    · rw [c, pm_ugS, pm_ugS]
    · rw [pm_ugN c, pm_ugN c, pm_ugN c]
theorem pm_gsame {u : St1} (hI : pm_I F C (pm_ug G p true) u) (hg : G p = true) : pm_I F C G u := by
  refine pm_I_congr hI (fun q w hq hw => rfl) (fun q hq => ?_)
  by_cases c : q = p
  · rw [c, pm_ugS, hg]
  · rw [pm_ugN c]
theorem pm_sq2 {post : St1 → Prop} {x1 x2 : Int32} (hfree : ∃ r, r < 24 ∧ a6 r = 0) (H : ∀ r, r < 24 → a6 r = 0 → wX_squeeze_23 post x1 x2 (nI r) fr hd sc a1 a2 a3 a4 a5 a6 a7 a8 a9 a10 a11) : ∃ n, wX_squeeze_2 post x1 x2 fr hd sc a1 a2 a3 a4 a5 a6 a7 a8 a9 a10 a11 n 0 :=
  pk_loop (σ := Unit) (fun n i _ => wX_squeeze_2 post x1 x2 fr hd sc a1 a2 a3 a4 a5 a6 a7 a8 a9 a10 a11 n (nI i)) (fun i _ => ∀ j, j < i → a6 j ≠ 0) 23 0 () (by omega) (fun j h => absurd h (by omega))
    (fun n _ h => pk_le 23 23 (fun _ => H 23 (by omega) (by
        obtain ⟨r, hr, e⟩ := hfree
        by_cases z : r = 23
        · rw [← z]; exact e
        · exact absurd e (h r (by omega)))) (fun z => absurd z (by omega)))
    (fun n i _ hi h hw => pk_le 23 i (fun z => absurd z (by omega)) (fun _ => ⟨pk_in i 24 (by omega), br_c (fun c => H i (by omega) (by rw [nI_clamp (by omega)] at c; exact c)) (fun c => nm_r (nI_1 i) (hw () (lt_s h (by rw [nI_clamp (by omega)] at c; exact c))))⟩))
theorem pm_sq69 {post : St1 → Prop} {z0 : Int32} (hF : F ≤ 16) (hG : pm_RG F a1 a2) (hp : p < 24) (hr : r < 24) (H : post (fr, hd, sc, upd (upd a1 p 0) p 2, upd a2 p (nI r), a3, pm_lg4 a1 a2 a4 p, a5, pm_lgb 2 a1 a2 a6 p, a7, a8, upd a9 r z0, pm_lgb 3 a1 a2 a10 p, a11)) : wX_squeeze_69 post (nI p) (nI r) z0 (nI r) fr hd sc a1 a2 a3 a4 a5 a6 a7 a8 a9 a10 a11 := by
  unfold wX_squeeze_69
  refine ⟨pk_in r 24 hr, nm_r (pm_uc (by omega)) (pm_letGo hF hG hp ?_)⟩
  dsimp only
  exact ⟨pk_in p 24 hp, nm_r (pm_uc (by omega)) ⟨pk_in p 24 hp, nm_r (pm_uc (by omega)) H⟩⟩
theorem pm_squeeze {post : St1 → Prop} (hI : pm_I F C G (fr, hd, sc, a1, a2, a3, a4, a5, a6, a7, a8, a9, a10, a11)) (hp : p < 24) (h1 : a1 p = 1) (hn1 : 1 ≤ n) (hn : n ≤ 4) (hr1 : ∀ j, j < n → C p j = C p 0) (hr2 : ∀ j, n ≤ j → j < 4 → C p j = C p n) (H : pm_EV F C G (fr, hd, sc, a1, a2, a3, a4, a5, a6, a7, a8, a9, a10, a11) p post) : wpX_squeeze post (fr, hd, sc, a1, a2, a3, a4, a5, a6, a7, a8, a9, a10, a11) (nI p) (nI n) := by
  have hI' := hI
  obtain ⟨⟨hF4, hF, e⟩, hh, hs, hG, hHO, h2, h3, hg, hc⟩ := hI'
  obtain ⟨k, g, hk, hgr, e1, e2, e3⟩ := hG p hp
  have gp : G p = true := pm_held1 hI hp (by show a1 p ≠ 0; rw [h1]; decide)
  have ev : ∀ c7 c8 w, w < 4 → pm_pk a1 a2 a5 c7 c8 a9 a11 p w = C p w := fun c7 c8 w hw => by rw [← hc p w hp hw, pm_pk1 h1 e2 hgr, pm_pk1 h1 e2 hgr]
  unfold wpX_squeeze
  dsimp only
  refine pm_sq2 (pm_RU_free h2 hp (by rw [h1]; decide)) (fun r hr hu => ?_)
  have fin : ∀ y, (∀ w, w < 4 → C p w = if n ≤ w then y else C p 0) → post (fr, hd, sc, upd (upd a1 p 0) p 2, upd a2 p (nI r), a3, pm_lg4 a1 a2 a4 p, a5, pm_lgb 2 a1 a2 (upd a6 r 1) p, upd a7 r (nI n), upd a8 r (C p 0), upd a9 r y, pm_lgb 3 a1 a2 a10 p, a11) := by
    intro y hy
    refine H _ ?_ ?_ ?_ rfl rfl
    · have t := pm_I_let hI hp
      rw [pm_lgb_n (k := 2) (b := a6) (by rw [h1]; decide)] at t
      rw [pm_lgb_n (k := 2) (b := upd a6 r 1) (by rw [h1]; decide)]
      exact pm_gsame (pm_back (pm_I_in2 (v := C p) (x := C p 0) (y := y) t hp pk_us hr hu hn hy)) gp
    · show upd (upd a1 p 0) p 2 p ≠ 1
      rw [pk_us]
      decide
    · intro q hq
      exact ⟨by show upd (upd a1 p 0) p 2 q = a1 q; rw [pk_un hq, pk_un hq], pk_un hq⟩
  unfold wX_squeeze_23
  refine ⟨pk_in r 24 hr, nm_r (pm_uc (by omega)) ⟨pk_in r 24 hr, nm_r (pm_uc (by omega)) (pm_peek (w := 0) hF hG hp (by omega) ?_)⟩⟩
  rw [ev _ _ 0 (by omega)]
  refine ⟨pk_in r 24 hr, nm_r (pm_uc (by omega)) (pk_le 4 n (fun z => ?_) (fun z => ?_))⟩
  · refine pm_sq69 hF hG hp hr (fin 0 (fun w hw => ?_))
    rw [if_neg (by omega)]
    exact hr1 w (by omega)
  · refine pm_peek (w := n) hF hG hp z ?_
    rw [ev _ _ n z]
    refine pm_sq69 hF hG hp hr (fin (C p n) (fun w hw => ?_))
    by_cases d : n ≤ w
    · rw [if_pos d]
      exact hr2 w d hw
    · rw [if_neg d]
      exact hr1 w (by omega)
theorem pm_pa2 {post : St1 → Prop} {x1 : Int32} (hfree : ∃ r, r < 24 ∧ a10 r = 0) (H : ∀ r, r < 24 → a10 r = 0 → ∃ m, wX_putAside_32 post x1 (nI r) fr hd sc m 0 a1 a2 a3 a4 a5 a6 a7 a8 a9 (upd a10 r 1) a11) : ∃ n, wX_putAside_2 post x1 fr hd sc a1 a2 a3 a4 a5 a6 a7 a8 a9 a10 a11 n 0 :=
  pk_loop (σ := Unit) (fun n i _ => wX_putAside_2 post x1 fr hd sc a1 a2 a3 a4 a5 a6 a7 a8 a9 a10 a11 n (nI i)) (fun i _ => ∀ j, j < i → a10 j ≠ 0) 23 0 () (by omega) (fun j h => absurd h (by omega))
    (fun n _ h => pk_le 23 23 (fun _ => ⟨pk_in 23 24 (by omega), nm_r (pm_uc (by omega)) (H 23 (by omega) (by
        obtain ⟨r, hr, e⟩ := hfree
        by_cases z : r = 23
        · rw [← z]; exact e
        · exact absurd e (h r (by omega))))⟩) (fun z => absurd z (by omega)))
    (fun n i _ hi h hw => pk_le 23 i (fun z => absurd z (by omega)) (fun _ => ⟨pk_in i 24 (by omega), br_c (fun c => ⟨pk_in i 24 (by omega), nm_r (pm_uc (by omega)) (H i (by omega) (by rw [nI_clamp (by omega)] at c; exact c))⟩) (fun c => nm_r (nI_1 i) (hw () (lt_s h (by rw [nI_clamp (by omega)] at c; exact c))))⟩))
theorem pm_pa32 {post : St1 → Prop} (hF : F ≤ 16) (hG : pm_RG F a1 a2) (hp : p < 24) (hr : r < 24) (hpk : ∀ (s : Nat → Int32) (ψ : Int32 → Prop) w, w < 4 → ψ (v w) → wpX_peek ψ (fr, hd, sc, a1, a2, a3, a4, a5, a6, a7, a8, a9, a10, s) (nI p) (nI w))
    (H : ∀ c11, (∀ w, w < 4 → c11 (4 * r + w) = v w) → (∀ j, (j < 4 * r ∨ 4 * r + 4 ≤ j) → c11 j = a11 j) → post (fr, hd, sc, upd (upd a1 p 0) p 3, upd a2 p (nI r), a3, pm_lg4 a1 a2 a4 p, a5, pm_lgb 2 a1 a2 a6 p, a7, a8, a9, pm_lgb 3 a1 a2 a10 p, c11)) :
    ∃ m, wX_putAside_32 post (nI p) (nI r) fr hd sc m 0 a1 a2 a3 a4 a5 a6 a7 a8 a9 a10 a11 :=
  pk_loop (fun m i s => wX_putAside_32 post (nI p) (nI r) fr hd sc m (nI i) a1 a2 a3 a4 a5 a6 a7 a8 a9 a10 s) (fun i s => (∀ w, w < i → s (4 * r + w) = v w) ∧ (∀ j, (j < 4 * r ∨ 4 * r + 4 ≤ j) → s j = a11 j)) 4 0 a11 (by omega) ⟨fun w hw => absurd hw (by omega), fun j _ => rfl⟩
    (fun m s h => pk_le 4 4 (fun _ => pm_letGo hF hG hp (And.intro (pk_in p 24 hp) (nm_r (pm_uc (by omega)) (And.intro (pk_in p 24 hp) (nm_r (pm_uc (by omega)) (H s h.1 h.2)))))) (fun z => absurd z (by omega)))
    (fun m i s hi h hs => pk_le 4 i (fun z => absurd z (by omega)) (fun _ => hpk s _ i hi (And.intro (pm_ixi (by omega) (by omega)) (nm_r (by rw [pm_ixc (by omega) (by omega)]) (nm_r (nI_1 i) (hs _ ⟨pm_fill rfl h.1 rfl, pm_out rfl hi h.2⟩))))))
theorem pm_putAside {post : St1 → Prop} (hI : pm_I F C G (fr, hd, sc, a1, a2, a3, a4, a5, a6, a7, a8, a9, a10, a11)) (hp : p < 24) (h1 : a1 p = 1) (H : pm_EV F C G (fr, hd, sc, a1, a2, a3, a4, a5, a6, a7, a8, a9, a10, a11) p post) : wpX_putAside post (fr, hd, sc, a1, a2, a3, a4, a5, a6, a7, a8, a9, a10, a11) (nI p) := by
  have hI' := hI
  obtain ⟨⟨hF4, hF, e⟩, hh, hs, hG, hHO, h2, h3, hg, hc⟩ := hI'
  obtain ⟨k, g, hk, hgr, e1, e2, e3⟩ := hG p hp
  have gp : G p = true := pm_held1 hI hp (by show a1 p ≠ 0; rw [h1]; decide)
  unfold wpX_putAside
  dsimp only
  refine pm_pa2 (pm_RU_free h3 hp (by rw [h1]; decide)) (fun r hr hu => ?_)
  refine pm_pa32 (v := C p) hF hG hp hr (fun s ψ w hw hψ => pm_peek hF hG hp hw (by rw [pm_pk1 h1 e2 hgr, ← pm_pk1 (a5 := a5) (a7 := a7) (a8 := a8) (a9 := a9) (a11 := a11) (w := w) h1 e2 hgr, hc p w hp hw]; exact hψ)) (fun c11 hv ho => ?_)
  refine H _ ?_ ?_ ?_ rfl rfl
  · have t := pm_I_let hI hp
    rw [pm_lgb_n (k := 3) (b := a10) (by rw [h1]; decide)] at t
    rw [pm_lgb_n (k := 3) (b := upd a10 r 1) (by rw [h1]; decide)]
    exact pm_gsame (pm_back (pm_I_in3 (v := C p) t hp pk_us hr hu hv ho)) gp
  · show upd (upd a1 p 0) p 3 p ≠ 1
    rw [pk_us]
    decide
  · intro q hq
    exact ⟨by show upd (upd a1 p 0) p 3 q = a1 q; rw [pk_un hq, pk_un hq], pk_un hq⟩
theorem pm_evict {post : St1 → Prop} {u : St1} (hI : pm_I F C G u) (hp : p < 24) (h1 : pm_f1 u p = 1) (H : pm_EV F C G u p post) : wpX_evict post u (nI p) := by
  obtain ⟨fr, hd, sc, a1, a2, a3, a4, a5, a6, a7, a8, a9, a10, a11⟩ := u
  have hI' := hI
  obtain ⟨⟨hF4, hF, e⟩, hh, hs, hG, hHO, h2, h3, hg, hc⟩ := hI'
  unfold wpX_evict
  dsimp only
  refine pm_runs (v := C p) (fun ψ w hw hψ => pm_peek hF hG hp hw (by rw [hc p w hp hw]; exact hψ)) (fun n hn hr _ => ?_)
  refine pk_le n 0 (fun z => ?_) (fun z => ?_)
  · refine pm_putAside hI hp h1 (fun u' x1 x2 x3 x4 x5 => ?_)
    obtain ⟨gr, he, sd, b1, b2, b3, b4, b5, b6, b7, b8, b9, b10, b11⟩ := u'
    exact H _ x1 x2 x3 x4 x5
  · refine pm_squeeze hI hp h1 (by omega) hn (hr (by omega)).1 (hr (by omega)).2 (fun u' x1 x2 x3 x4 x5 => ?_)
    obtain ⟨gr, he, sd, b1, b2, b3, b4, b5, b6, b7, b8, b9, b10, b11⟩ := u'
    exact H _ x1 x2 x3 x4 x5
end
end
section
/-- how far page q lies ahead of the hand's first place -/
def pm_d (h0 q : Nat) : Nat := (q + 24 - h0) % 24
/-- after s steps of the hand -/
def pm_TK (kA kB h0 s : Nat) (a1 a3 : Nat → Int32) : Prop := ∀ q, q < 24 → q ≠ kA → q ≠ kB → a1 q = 1 → s ≤ pm_d h0 q + 24 ∧ (a3 q ≠ 0 → s ≤ pm_d h0 q)
def pm_X3 (F : Nat) (a4 : Nat → Int32) (x : Int32) : Prop := (∃ f, f < F ∧ x = nI f ∧ a4 f = 0) ∨ (x = -1 ∧ ∀ f, f < F → a4 f ≠ 0)
theorem pm_dN {h0 s q : Nat} (hh : h0 < 24) (hq : q < 24) (hn : q ≠ (h0 + s) % 24) : s ≠ pm_d h0 q ∧ s ≠ pm_d h0 q + 24 := by
  unfold pm_d
  omega
theorem pm_dL {h0 q : Nat} : pm_d h0 q < 24 := by
  unfold pm_d
  omega
theorem pm_tkN {kA kB h0 s q : Nat} {a1 a3 b1 b3 : Nat → Int32} (hT : pm_TK kA kB h0 s a1 a3) (hh : h0 < 24) (hq : q < 24) (hn : q ≠ (h0 + s) % 24) (nA : q ≠ kA) (nB : q ≠ kB) (e1 : b1 q = a1 q) (e3 : b3 q = a3 q) (x1 : b1 q = 1) :
    s + 1 ≤ pm_d h0 q + 24 ∧ (b3 q ≠ 0 → s + 1 ≤ pm_d h0 q) := by
  obtain ⟨t1, t2⟩ := hT q hq nA nB (e1 ▸ x1)
  obtain ⟨d1, d2⟩ := pm_dN hh hq hn
  refine ⟨by omega, fun z => ?_⟩
  rw [e3] at z
  have := t2 z
  omega
theorem pm_tk48 {F kA kB h0 s : Nat} {a1 a2 a3 a4 : Nat → Int32} (hF4 : 4 ≤ F) (hF : F ≤ 16) (hHO : pm_HO a1 a2 a4) (hT : pm_TK kA kB h0 s a1 a3) (hall : ∀ f, f < F → a4 f ≠ 0) : s < 48 := by
  apply Classical.byContradiction
  intro hs
  have K : ∀ q, q < 24 → a1 q = 1 → q = kA ∨ q = kB := by
    intro q hq h1
    by_cases nA : q = kA
    · exact Or.inl nA
    · by_cases nB : q = kB
      · exact Or.inr nB
      · have t := (hT q hq nA nB h1).1
        have l := @pm_dL h0 q
        omega
  obtain ⟨q0, l0, x0, y0⟩ := pm_hnz hHO (f := 0) (by omega) (hall 0 (by omega))
  obtain ⟨q1, l1, x1, y1⟩ := pm_hnz hHO (f := 1) (by omega) (hall 1 (by omega))
  obtain ⟨q2, l2, x2, y2⟩ := pm_hnz hHO (f := 2) (by omega) (hall 2 (by omega))
  have n01 : q0 ≠ q1 := fun z => by
    rw [z, y1] at y0
    exact absurd y0 (by decide)
  have n02 : q0 ≠ q2 := fun z => by
    rw [z, y2] at y0
    exact absurd y0 (by decide)
  have n12 : q1 ≠ q2 := fun z => by
    rw [z, y2] at y1
    exact absurd y1 (by decide)
  have k0 := K q0 l0 x0
  have k1 := K q1 l1 x1
  have k2 := K q2 l2 x2
  omega
section
variable {F p f r w n : Nat} {C C' : Nat → Nat → Int32} {G G' : Nat → Bool} {fr hd sc : Int32} {a1 a2 a3 a4 a5 a6 a7 a8 a9 a10 a11 : Nat → Int32} {c3 c5 c11 v : Nat → Int32}
theorem pm_tk8 {post : Int32 → St1 → Prop} {kA kB h0 : Nat} {v1 v2 : Int32} (hkA : kA < 24) (hkB : kB < 24) (hh0 : h0 < 24)
    (H : ∀ u' f, f < F → pm_I F C G u' → pm_f4 u' f = 0 → pm_f1 u' kA = v1 → pm_f2 u' kA = v2 → post (nI f) u') :
    ∀ n s x3 fr hd sc a1 a2 a3 a4 a5 a6 a7 a8 a9 a10 a11, 72 < n + s → s ≤ 72 → pm_I F C G (fr, hd, sc, a1, a2, a3, a4, a5, a6, a7, a8, a9, a10, a11) → hd = nI ((h0 + s) % 24) → pm_TK kA kB h0 s a1 a3 → pm_X3 F a4 x3 → a1 kA = v1 → a2 kA = v2 → wX_takeFrame_8 post (nI kA) (nI kB) n x3 (nI s) fr hd sc a1 a2 a3 a4 a5 a6 a7 a8 a9 a10 a11 := by
  intro n
  induction n with
  | zero =>
    intro s x3 fr hd sc a1 a2 a3 a4 a5 a6 a7 a8 a9 a10 a11 hn hs
    omega
  | succ n ih =>
    intro s x3 fr hd sc a1 a2 a3 a4 a5 a6 a7 a8 a9 a10 a11 hn hs hI hhd hT hX hv1 hv2
    have hI' := hI
    obtain ⟨⟨hF4, hF, e⟩, hh, hsc, hG, hHO, h2, h3, hg, hc⟩ := hI'
    rcases hX with ⟨f, hf, rfl, hf0⟩ | ⟨rfl, hall⟩
    · have fin : wX_takeFrame_111 post (nI f) fr hd sc a1 a2 a3 a4 a5 a6 a7 a8 a9 a10 a11 := by
        unfold wX_takeFrame_111
        exact br_t (nI_pos' (by omega)) (H _ f hf hI hf0 hv1 hv2)
      exact pk_le 72 s (fun _ => fin) (fun _ => br_t (nI_pos' (by omega)) fin)
    · have hs48 : s < 48 := pm_tk48 hF4 hF hHO hT hall
      have hp : (h0 + s) % 24 < 24 := by omega
      have hp1 : (h0 + (s + 1)) % 24 < 24 := by omega
      have cont : ∀ gr he sd b1 b2 b3 b4 b5 b6 b7 b8 b9 b10 b11, pm_I F C G (gr, he, sd, b1, b2, b3, b4, b5, b6, b7, b8, b9, b10, b11) → he = nI ((h0 + (s + 1)) % 24) → pm_TK kA kB h0 (s + 1) b1 b3 → b1 kA = v1 → b2 kA = v2 → wX_takeFrame_100 post (wX_takeFrame_8 post (nI kA) (nI kB) n) (nI kA) (nI kB) (nI s) gr he sd b1 b2 b3 b4 b5 b6 b7 b8 b9 b10 b11 := by
        intro gr he sd b1 b2 b3 b4 b5 b6 b7 b8 b9 b10 b11 jI jh jT j1 j2
        unfold wX_takeFrame_100
        have jI' := jI
        obtain ⟨⟨_, jF, je⟩, _⟩ := jI'
        exact pm_free jF je (fun f hf hf0 => nm_r (nI_1 s) (ih (s + 1) _ gr he sd b1 b2 b3 b4 b5 b6 b7 b8 b9 b10 b11 (by omega) (by omega) jI jh jT (Or.inl ⟨f, hf, rfl, hf0⟩) j1 j2)) (fun ha => nm_r (nI_1 s) (ih (s + 1) _ gr he sd b1 b2 b3 b4 b5 b6 b7 b8 b9 b10 b11 (by omega) (by omega) jI jh jT (Or.inr ⟨rfl, ha⟩) j1 j2))
      have key : ∀ z0, z0 = nI ((h0 + (s + 1)) % 24) → wX_takeFrame_47 post (wX_takeFrame_8 post (nI kA) (nI kB) n) (nI kA) (nI kB) (nI s) hd z0 fr hd sc a1 a2 a3 a4 a5 a6 a7 a8 a9 a10 a11 := by
        intro z0 hz
        subst hz
        have hI1 : ∀ c3, pm_I F C G (fr, nI ((h0 + (s + 1)) % 24), sc, a1, a2, c3, a4, a5, a6, a7, a8, a9, a10, a11) := fun c3 => pm_I_hd hI hp1
        rw [hhd]
        unfold wX_takeFrame_47
        rw [nI_clamp (show (h0 + s) % 24 < 2 ^ 31 by omega)]
        have same : ¬ (a1 ((h0 + s) % 24) = 1 ∧ (h0 + s) % 24 ≠ kA ∧ (h0 + s) % 24 ≠ kB) → pm_TK kA kB h0 (s + 1) a1 a3 := by
          intro hno q hq nA nB x1
          by_cases z : q = (h0 + s) % 24
          · exact absurd ⟨z ▸ x1, z ▸ nA, z ▸ nB⟩ hno
          · exact pm_tkN hT hh0 hq z nA nB rfl rfl x1
        refine ⟨pk_in _ 24 hp, br_c (fun c1 => ?_) (fun c1 => cont _ _ _ _ _ _ _ _ _ _ _ _ _ _ (hI1 a3) rfl (same (fun z => c1 z.1)) hv1 hv2)⟩
        refine pk_eq ((h0 + s) % 24) kA (fun z => cont _ _ _ _ _ _ _ _ _ _ _ _ _ _ (hI1 a3) rfl (same (fun y => y.2.1 z)) hv1 hv2) (fun zA => ?_)
        refine pk_eq ((h0 + s) % 24) kB (fun z => cont _ _ _ _ _ _ _ _ _ _ _ _ _ _ (hI1 a3) rfl (same (fun y => y.2.2 z)) hv1 hv2) (fun zB => ?_)
        refine ⟨pk_in _ 24 hp, br_c (fun c3 => ?_) (fun c3 => ⟨pk_in _ 24 hp, nm_e (cont _ _ _ _ _ _ _ _ _ _ _ _ _ _ (hI1 _) rfl ?_ hv1 hv2)⟩)⟩
        · refine pm_evict (hI1 a3) hp c1 (fun u' i1 i2 i3 i4 i5 => ?_)
          obtain ⟨gr, he, sd, b1, b2, b3, b4, b5, b6, b7, b8, b9, b10, b11⟩ := u'
          refine cont gr he sd b1 b2 b3 b4 b5 b6 b7 b8 b9 b10 b11 i1 i5 (fun q hq nA nB x1 => ?_) ((i3 kA (Ne.symm zA)).1.trans hv1) ((i3 kA (Ne.symm zA)).2.trans hv2)
          by_cases z : q = (h0 + s) % 24
          · exact absurd (z ▸ x1) i2
          · exact pm_tkN hT hh0 hq z nA nB (i3 q z).1 (by rw [show b3 = a3 from i4]) x1
        · intro q hq nA nB x1
          by_cases z : q = (h0 + s) % 24
          · subst z
            obtain ⟨t1, t2⟩ := hT _ hq nA nB x1
            have t3 := t2 c3
            refine ⟨by omega, fun y => ?_⟩
            rw [pk_us] at y
            exact absurd rfl y
          · exact pm_tkN hT hh0 hq z nA nB rfl (pk_un z) x1
      refine pk_le 72 s (fun z => absurd z (by omega)) (fun _ => br_f (by decide) ?_)
      refine pk_le 24 ((h0 + s) % 24 + 1) (fun z => key 0 ?_) (fun z => key _ ?_) rfl (by rw [hhd]; exact nI_1 _)
      · rw [show (h0 + (s + 1)) % 24 = 0 by omega]
        rfl
      · rw [hhd, nI_1, show (h0 + (s + 1)) % 24 = (h0 + s) % 24 + 1 by omega]
theorem pm_take {post : Int32 → St1 → Prop} {kA kB : Nat} {u : St1} (hI : pm_I F C G u) (hkA : kA < 24) (hkB : kB < 24)
    (H : ∀ u' f, f < F → pm_I F C G u' → pm_f4 u' f = 0 → pm_f1 u' kA = pm_f1 u kA → pm_f2 u' kA = pm_f2 u kA → post (nI f) u') : wpX_takeFrame post u (nI kA) (nI kB) := by
  obtain ⟨fr, hd, sc, a1, a2, a3, a4, a5, a6, a7, a8, a9, a10, a11⟩ := u
  have hI' := hI
  obtain ⟨⟨hF4, hF, e⟩, ⟨h0, hh0, ehd⟩, hsc, hG, hHO, h2, h3, hg, hc⟩ := hI'
  have hT : pm_TK kA kB h0 0 a1 a3 := fun q _ _ _ _ => ⟨by omega, fun _ => by omega⟩
  have eh : hd = nI ((h0 + 0) % 24) := by rw [ehd, show (h0 + 0) % 24 = h0 by omega]
  unfold wpX_takeFrame
  dsimp only
  exact pm_free hF e (fun f hf hf0 => ⟨73, pm_tk8 hkA hkB hh0 H 73 0 _ fr hd sc a1 a2 a3 a4 a5 a6 a7 a8 a9 a10 a11 (by omega) (by omega) hI eh hT (Or.inl ⟨f, hf, rfl, hf0⟩) rfl rfl⟩) (fun ha => ⟨73, pm_tk8 hkA hkB hh0 H 73 0 _ fr hd sc a1 a2 a3 a4 a5 a6 a7 a8 a9 a10 a11 (by omega) (by omega) hI eh hT (Or.inr ⟨rfl, ha⟩) rfl rfl⟩)
end
end
section
/-- the two pages change places -/
def pm_sw (p q x : Nat) : Nat := if x = q then p else if x = p then q else x
theorem pm_sw_lt {p q x : Nat} (hp : p < 24) (hq : q < 24) (hx : x < 24) : pm_sw p q x < 24 := by
  unfold pm_sw
  split
  · exact hp
  · split
    · exact hq
    · exact hx
theorem pm_sw_sw {p q x : Nat} : pm_sw p q (pm_sw p q x) = x := by
  unfold pm_sw
  by_cases c : x = q
  · rw [if_pos c]
    by_cases d : p = q
    · rw [if_pos d]; omega
    · rw [if_neg d, if_pos rfl]; omega
  · rw [if_neg c]
    by_cases d : x = p
    · rw [if_pos d, if_pos rfl]; omega
    · rw [if_neg d, if_neg c, if_neg d]
theorem pm_sw_u {a : Nat → Int32} {p q x : Nat} : upd (upd a p (a q)) q (a p) x = a (pm_sw p q x) := by
  unfold pm_sw
  by_cases c : x = q
  · rw [if_pos c, c, pk_us]
  · rw [if_neg c, pk_un c]
    by_cases d : x = p
    · rw [if_pos d, d, pk_us]
    · rw [if_neg d, pk_un d]
theorem pm_sw_C {C : Nat → Nat → Int32} {p q x w : Nat} : pm_up (pm_up C p (C q)) q (C p) x w = C (pm_sw p q x) w := by
  unfold pm_sw
  by_cases c : x = q
  · rw [if_pos c, c, pm_upS]
  · rw [if_neg c, pm_upN c]
    by_cases d : x = p
    · rw [if_pos d, d, pm_upS]
    · rw [if_neg d, pm_upN d]
theorem pm_sw_G {G : Nat → Bool} {p q x : Nat} : pm_ug (pm_ug G p (G q)) q (G p) x = G (pm_sw p q x) := by
  unfold pm_sw
  by_cases c : x = q
  · rw [if_pos c, c, pm_ugS]
  · rw [if_neg c, pm_ugN c]
    by_cases d : x = p
    · rw [if_pos d, d, pm_ugS]
    · rw [if_neg d, pm_ugN d]
theorem pm_ct_sw {P : Nat → Bool} {n p q : Nat} (hp : p < n) (hq : q < n) : pm_ct (fun x => P (pm_sw p q x)) n = pm_ct P n := by
  by_cases e : p = q
  · refine pm_ct_congr (fun i _ => ?_)
    have : pm_sw p q i = i := by
      unfold pm_sw
      split
      · omega
      · split
        · omega
        · rfl
    show P (pm_sw p q i) = P i
    rw [this]
  · have t1 := pm_ct_upd (P := fun x => if x = p then P q else P x) (Q := P) (n := n) hp (fun i _ hi => if_neg hi)
    have t2 := pm_ct_upd (P := fun x => P (pm_sw p q x)) (Q := fun x => if x = p then P q else P x) (n := n) hq (fun i _ hi => by
      show P (pm_sw p q i) = if i = p then P q else P i
      unfold pm_sw
      rw [if_neg hi]
      by_cases d : i = p
      · rw [if_pos d, if_pos d]
      · rw [if_neg d, if_neg d])
    have e1 : pm_sw p q q = p := if_pos rfl
    have e2 : (if q = p then P q else P q) = P q := by split <;> rfl
    rw [if_pos rfl] at t1
    rw [e1, e2] at t2
    generalize (if P q = true then 1 else 0) = x at *
    generalize (if P p = true then 1 else 0) = y at *
    omega
section
variable {F p q f r w n : Nat} {C C' : Nat → Nat → Int32} {G G' : Nat → Bool} {fr hd sc : Int32} {a1 a2 a3 a4 a5 a6 a7 a8 a9 a10 a11 : Nat → Int32} {c3 c5 c11 v : Nat → Int32}
theorem pm_I_sw (hI : pm_I F C G (fr, hd, sc, a1, a2, a3, a4, a5, a6, a7, a8, a9, a10, a11)) (hp : p < 24) (hq : q < 24) : pm_I F (pm_up (pm_up C p (C q)) q (C p)) (pm_ug (pm_ug G p (G q)) q (G p)) (fr, hd, sc, upd (upd a1 p (a1 q)) q (a1 p), upd (upd a2 p (a2 q)) q (a2 p), a3, a4, a5, a6, a7, a8, a9, a10, a11) := by
  obtain ⟨h1, hh, hs, hG, hHO, h2, h3, hg, hc⟩ := hI
  have RU : ∀ (k : Int32) (b : Nat → Int32), pm_RU k a1 a2 b → pm_RU k (upd (upd a1 p (a1 q)) q (a1 p)) (upd (upd a2 p (a2 q)) q (a2 p)) b := by
    intro k b h
    obtain ⟨hA, hB, hC⟩ := h
    refine ⟨fun x hx e => ?_, fun r hr e => ?_, fun x y hx hy ex ey e => ?_⟩
    · rw [pm_sw_u] at e ⊢
      exact hA _ (pm_sw_lt hp hq hx) e
    · obtain ⟨x, hx, x1, x2⟩ := hB r hr e
      exact ⟨pm_sw p q x, pm_sw_lt hp hq hx, by rw [pm_sw_u, pm_sw_sw]; exact x1, by rw [pm_sw_u, pm_sw_sw]; exact x2⟩
    · rw [pm_sw_u] at ex ey
      rw [pm_sw_u, pm_sw_u] at e
      have t := hC _ _ (pm_sw_lt hp hq hx) (pm_sw_lt hp hq hy) ex ey e
      have t2 := congrArg (pm_sw p q) t
      rw [pm_sw_sw, pm_sw_sw] at t2
      exact t2
  refine pm_mk h1 hh hs (fun x hx => ?_) (fun f hf => ?_) (RU 2 a6 h2) (RU 3 a10 h3) (fun x hx => ?_) (fun x w hx hw => ?_)
  · rw [pm_sw_u, pm_sw_u]
    exact hG _ (pm_sw_lt hp hq hx)
  · rw [hHO f hf, ← pm_ct_sw (P := pm_at a1 a2 f) hp hq]
    rw [pm_ct_congr (fun i hi => (pm_atC pm_sw_u pm_sw_u).symm)]
  · rw [pm_sw_u, pm_sw_G]
    exact hg _ (pm_sw_lt hp hq hx)
  · rw [pm_sw_C, ← hc _ w (pm_sw_lt hp hq hx) hw]
    unfold pm_pk
    rw [pm_sw_u, pm_sw_u]
theorem pm_zero {u : St1} (hI : pm_I F C G u) (hp : p < 24) (h : G p = false) : ∀ w, w < 4 → C p w = 0 := by
  obtain ⟨fr, hd, sc, a1, a2, a3, a4, a5, a6, a7, a8, a9, a10, a11⟩ := u
  obtain ⟨_, _, _, _, _, _, _, hg, hc⟩ := hI
  intro w hw
  rw [← hc p w hp hw]
  exact pm_pk0 ((hg p hp).mpr h)
theorem pm_b28 {post : St1 → Prop} (hF : F ≤ 16) (hG : pm_RG F a1 a2) (hp : p < 24) (hf : f < 16) (hpk : ∀ (s : Nat → Int32) (ψ : Int32 → Prop) w, w < 4 → ψ (v w) → wpX_peek ψ (fr, hd, sc, a1, a2, a3, a4, s, a6, a7, a8, a9, a10, a11) (nI p) (nI w))
    (H : ∀ c5, (∀ w, w < 4 → c5 (4 * f + w) = v w) → (∀ j, (j < 4 * f ∨ 4 * f + 4 ≤ j) → c5 j = a5 j) → post (fr, hd, sc, upd (upd a1 p 0) p 1, upd a2 p (nI f), a3, upd (pm_lg4 a1 a2 a4 p) f 1, c5, pm_lgb 2 a1 a2 a6 p, a7, a8, a9, pm_lgb 3 a1 a2 a10 p, a11)) :
    ∃ m, wX_bringIn_28 post (nI p) (nI f) fr hd sc m 0 a1 a2 a3 a4 a5 a6 a7 a8 a9 a10 a11 :=
  pk_loop (fun m i s => wX_bringIn_28 post (nI p) (nI f) fr hd sc m (nI i) a1 a2 a3 a4 s a6 a7 a8 a9 a10 a11) (fun i s => (∀ w, w < i → s (4 * f + w) = v w) ∧ (∀ j, (j < 4 * f ∨ 4 * f + 4 ≤ j) → s j = a5 j)) 4 0 a5 (by omega) ⟨fun w hw => absurd hw (by omega), fun j _ => rfl⟩
    (fun m s h => pk_le 4 4 (fun _ => pm_letGo hF hG hp (And.intro (pk_in f 16 hf) (nm_r (pm_uc (by omega)) (And.intro (pk_in p 24 hp) (nm_r (pm_uc (by omega)) (And.intro (pk_in p 24 hp) (nm_r (pm_uc (by omega)) (H s h.1 h.2)))))))) (fun z => absurd z (by omega)))
    (fun m i s hi h hs => pk_le 4 i (fun z => absurd z (by omega)) (fun _ => hpk s _ i hi (And.intro (pm_ixi (by omega) (by omega)) (nm_r (by rw [pm_ixc (by omega) (by omega)]) (nm_r (nI_1 i) (hs _ ⟨pm_fill rfl h.1 rfl, pm_out rfl hi h.2⟩))))))
theorem pm_bringIn {post : St1 → Prop} {u : St1} {kp : Nat} (hI : pm_I F C G u) (hp : p < 24) (hkp : kp < 24) (H : ∀ u', pm_I F C (pm_ug G p true) u' → pm_f1 u' p = 1 → post u') : wpX_bringIn post u (nI p) (nI kp) := by
  obtain ⟨fr, hd, sc, a1, a2, a3, a4, a5, a6, a7, a8, a9, a10, a11⟩ := u
  unfold wpX_bringIn
  dsimp only
  rw [nI_clamp (show p < 2 ^ 31 by omega)]
  refine ⟨pk_in p 24 hp, nm_e ⟨pk_in p 24 hp, br_c (fun c => ?_) (fun c => ?_)⟩⟩
  · have gp : G p = true := pm_held1 hI hp (by show a1 p ≠ 0; rw [c]; decide)
    refine H _ (pm_I_congr (pm_I_a3 hI) (fun _ _ _ _ => rfl) (fun x hx => ?_)) c
    by_cases d : x = p
    · rw [d, pm_ugS, gp]
    · rw [pm_ugN d]
  · refine pm_take (pm_I_a3 hI) hp hkp (fun u' f hf jI j4 j1 j2 => ?_)
    obtain ⟨gr, he, sd, b1, b2, b3, b4, b5, b6, b7, b8, b9, b10, b11⟩ := u'
    have jI' := jI
    obtain ⟨⟨hF4, hF, e⟩, hh, hs, hG, hHO, h2, h3, hg, hc⟩ := jI'
    have c' : b1 p ≠ 1 := fun z => c (by rw [← z]; exact j1.symm)
    have pkn : ∀ s w, w < 4 → pm_pk b1 b2 s b7 b8 b9 b11 p w = C p w := by
      intro s w hw
      rw [← hc p w hp hw]
      exact pm_pkC hG hp rfl rfl (fun r hr x1 _ => absurd x1 c') (fun _ _ _ _ => ⟨rfl, rfl, rfl⟩) (fun _ _ _ _ => rfl)
    refine pm_b28 (v := C p) hF hG hp (by omega) (fun s ψ w hw hψ => pm_peek hF hG hp hw (by rw [pkn s w hw]; exact hψ)) (fun c5 hv ho => ?_)
    refine H _ ?_ pk_us
    have t := pm_I_let jI hp
    rw [pm_lg4_n c'] at t ⊢
    have s := pm_I_in1 (v := C p) (c5 := c5) t hp pk_us hf hv (fun x g w hx hg hw x1 x2 => by
      have hxp : x ≠ p := fun z => by
        rw [z, pk_us] at x1
        exact absurd x1 (by decide)
      rw [pk_un hxp] at x1
      have hgf : g ≠ f := fun z => pm_hz hHO (by omega) j4 hx x1 (by rw [x2, z])
      exact ho _ (by omega))
    rw [show b4 f = 0 from j4, show (0 : Int32) + 1 = 1 from rfl] at s
    exact pm_back s
theorem pm_o34 {post : St1 → Prop} {g : Nat} (hp : p < 24) (hf : f < 16) (hg : g < 16) (hfg : f ≠ g)
    (H : ∀ c5, (∀ w, w < 4 → c5 (4 * f + w) = a5 (4 * g + w)) → (∀ j, (j < 4 * f ∨ 4 * f + 4 ≤ j) → c5 j = a5 j) → post (fr, hd, sc, a1, upd a2 p (nI f), a3, upd (upd a4 g (a4 g - 1)) f 1, c5, a6, a7, a8, a9, a10, a11)) :
    ∃ m, wX_own_34 post (nI p) (nI g) (nI f) fr hd sc m 0 a1 a2 a3 a4 a5 a6 a7 a8 a9 a10 a11 :=
  pk_loop (fun m i s => wX_own_34 post (nI p) (nI g) (nI f) fr hd sc m (nI i) a1 a2 a3 a4 s a6 a7 a8 a9 a10 a11) (fun i s => (∀ w, w < i → s (4 * f + w) = a5 (4 * g + w)) ∧ (∀ j, (j < 4 * f ∨ 4 * f + 4 ≤ j) → s j = a5 j)) 4 0 a5 (by omega) ⟨fun w hw => absurd hw (by omega), fun j _ => rfl⟩
    (fun m s h => pk_le 4 4 (fun _ => And.intro (pk_in g 16 hg) (And.intro (pk_in g 16 hg) (nm_r (by rw [nI_clamp (by omega)]) (And.intro (pk_in f 16 hf) (nm_r (pm_uc (by omega)) (And.intro (pk_in p 24 hp) (nm_r (pm_uc (by omega)) (H s h.1 h.2)))))))) (fun z => absurd z (by omega)))
    (fun m i s hi h hs => pk_le 4 i (fun z => absurd z (by omega)) (fun _ => And.intro (pm_ixi (by omega) (by omega)) (And.intro (pm_ixi (by omega) (by omega)) (nm_r (by rw [pm_ixc (by omega) (by omega), pm_ixc (by omega) (by omega)]) (nm_r (nI_1 i) (hs _ ⟨pm_fill (v := fun w => a5 (4 * g + w)) rfl h.1 (h.2 _ (by omega)), pm_out rfl hi h.2⟩))))))
theorem pm_own {post : St1 → Prop} {u : St1} (hI : pm_I F C G u) (hp : p < 24) (H : ∀ u', pm_I F C (pm_ug G p true) u' → pm_f1 u' p = 1 → pm_f4 u' (pm_f2 u' p).toNatClampNeg = 1 → post u') : wpX_own post u (nI p) := by
  obtain ⟨fr, hd, sc, a1, a2, a3, a4, a5, a6, a7, a8, a9, a10, a11⟩ := u
  unfold wpX_own
  dsimp only
  refine pm_bringIn hI hp hp (fun u' i1 i2 => ?_)
  obtain ⟨gr, he, sd, b1, b2, b3, b4, b5, b6, b7, b8, b9, b10, b11⟩ := u'
  have i1' := i1
  obtain ⟨⟨hF4, hF, e⟩, hh, hs, hG, hHO, h2, h3, hg, hc⟩ := i1'
  obtain ⟨k, g, hk, hgr, e1, e2, e3⟩ := hG p hp
  have hk1 : k = 1 := (nI_eq (b := 1) (by omega) (by omega)).mp (e1.symm.trans i2)
  have hgF := e3 hk1
  dsimp only
  rw [nI_clamp (show p < 2 ^ 31 by omega)]
  refine ⟨pk_in p 24 hp, nm_r e2 ⟨pk_in g 16 (by omega), br_c (fun c => ?_) (fun c => ?_)⟩⟩
  · refine H _ i1 i2 ?_
    show b4 (b2 p).toNatClampNeg = 1
    rw [e2]
    exact c
  · refine pm_take i1 hp hp (fun u' f hf jI j4 j1 j2 => ?_)
    obtain ⟨fr, hd, sc, a1, a2, a3, a4, a5, a6, a7, a8, a9, a10, a11⟩ := u'
    have jI' := jI
    obtain ⟨⟨hF4, hF, e⟩, hh, hs, hG, hHO, h2, h3, hg, hc⟩ := jI'
    have x1 : a1 p = 1 := Eq.trans j1 i2
    have x2 : a2 p = nI g := Eq.trans j2 e2
    have hfg : f ≠ g := fun z => pm_hz hHO (by omega) j4 hp x1 (by rw [x2, z])
    refine pm_o34 hp (by omega) (by omega) hfg (fun c5 hv ho => ?_)
    refine H _ ?_ x1 ?_
    · have s := pm_I_mv (c5 := c5) (f := f) jI hp x1 x2 (by omega) hf (fun w hw => by rw [hv w hw, ← hc p w hp hw, pm_pk1 x1 x2 (by omega)]) (fun x h w hx hh hw hxp y1 y2 => by
        have hhf : h ≠ f := fun z => pm_hz hHO (by omega) j4 hx y1 (by rw [y2, z])
        exact ho _ (by omega))
      rw [show upd a4 g (a4 g - 1) f = 0 from (by rw [pk_un hfg]; exact j4), show (0 : Int32) + 1 = 1 from rfl] at s
      exact s
    · show upd (upd a4 g (a4 g - 1)) f 1 (upd a2 p (nI f) p).toNatClampNeg = 1
      rw [pk_us, nI_clamp (by omega), pk_us]
theorem pm_I_wr (hI : pm_I F C G (fr, hd, sc, a1, a2, a3, a4, a5, a6, a7, a8, a9, a10, a11)) (hp : p < 24) (h1 : a1 p = 1) (h2 : a2 p = nI f) (hf : f < F) (h4 : a4 f = 1) (hv : ∀ w, w < 4 → c5 (4 * f + w) = v w) (ho : ∀ j, (j < 4 * f ∨ 4 * f + 4 ≤ j) → c5 j = a5 j) :
    pm_I F (pm_up C p v) G (fr, hd, sc, a1, a2, a3, a4, c5, a6, a7, a8, a9, a10, a11) := by
  obtain ⟨⟨hF4, hF, e⟩, hh, hs, hG, hHO, hu2, hu3, hg, hc⟩ := hI
  refine pm_mk ⟨hF4, hF, e⟩ hh hs hG hHO hu2 hu3 hg (fun q w hq hw => ?_)
  by_cases c : q = p
  · rw [c, pm_upS, pm_pk1 h1 h2 (by omega)]
    exact hv w hw
  · rw [pm_upN c, ← hc q w hq hw]
    refine pm_pkC hG hq rfl rfl (fun r hr x1 x2 => ?_) (fun _ _ _ _ => ⟨rfl, rfl, rfl⟩) (fun _ _ _ _ => rfl)
    have : r ≠ f := fun z => c (pm_h1 hHO (by omega) h4 hp hq h1 x1 h2 (by rw [x2, z]))
    exact ho _ (by omega)
/-- where an own page lies -/
theorem pm_ownF {u : St1} (hI : pm_I F C G u) (hp : p < 24) (h1 : pm_f1 u p = 1) : ∃ g, g < F ∧ g < 16 ∧ pm_f2 u p = nI g := by
  obtain ⟨fr, hd, sc, a1, a2, a3, a4, a5, a6, a7, a8, a9, a10, a11⟩ := u
  obtain ⟨⟨hF4, hF, e⟩, hh, hs, hG, hHO, h2, h3, hg, hc⟩ := hI
  obtain ⟨k, g, hk, hgr, e1, e2, e3⟩ := hG p hp
  have hk1 : k = 1 := (nI_eq (b := 1) (by omega) (by omega)).mp (e1.symm.trans h1)
  exact ⟨g, e3 hk1, by have := e3 hk1; omega, e2⟩
theorem pm_word {g : Nat} (hI : pm_I F C G (fr, hd, sc, a1, a2, a3, a4, a5, a6, a7, a8, a9, a10, a11)) (hp : p < 24) (hw : w < 4) (h1 : a1 p = 1) (h2 : a2 p = nI g) (hg : g < 24) : a5 (4 * g + w) = C p w := by
  obtain ⟨_, _, _, _, _, _, _, _, hc⟩ := hI
  rw [← hc p w hp hw, pm_pk1 h1 h2 hg]
theorem pm_write {post : Int32 → St1 → Prop} {u : St1} {x : Int32} (hI : pm_I F C G u) (hp : p < 24) (hw : w < 4) (H : ∀ u', pm_I F (pm_up C p (fun z => if z = w then x else C p z)) (pm_ug G p true) u' → post (C p w) u') : wpX_write post u (nI p) (nI w) x := by
  obtain ⟨fr, hd, sc, a1, a2, a3, a4, a5, a6, a7, a8, a9, a10, a11⟩ := u
  unfold wpX_write
  dsimp only
  refine pm_bad hp (br_t rfl (pk_lt w 0 (fun z => absurd z (by omega)) (fun _ => pk_lt w 4 (fun _ => ?_) (fun z => absurd z (by omega)))))
  refine pm_own hI hp (fun u' i1 i2 i4 => ?_)
  obtain ⟨g, hgF, hg16, e2⟩ := pm_ownF i1 hp i2
  obtain ⟨gr, he, sd, b1, b2, b3, b4, b5, b6, b7, b8, b9, b10, b11⟩ := u'
  have e4 : b4 g = 1 := by
    have t : b4 (b2 p).toNatClampNeg = 1 := i4
    rw [show b2 p = nI g from e2, nI_clamp (by omega)] at t
    exact t
  dsimp only
  rw [nI_clamp (show p < 2 ^ 31 by omega)]
  refine ⟨pk_in p 24 hp, nm_r (by rw [show b2 p = nI g from e2, pm_ix]) ⟨vp_in_nI (by omega) (by omega), ?_⟩⟩
  rw [nI_clamp (show 4 * g + w < 2 ^ 31 by omega), pm_word i1 hp hw i2 e2 (by omega)]
  refine nm_e ⟨vp_in_nI (by omega) (by omega), nm_e (H _ ?_)⟩
  refine pm_I_wr i1 hp i2 e2 hgF e4 (fun z hz => ?_) (fun j hj => pk_un (by omega))
  by_cases c : z = w
  · rw [c, pk_us, if_pos rfl]
  · rw [pk_un (by omega), if_neg c]
    exact pm_word i1 hp hz i2 e2 (by omega)
theorem pm_f16 {post : Int32 → St1 → Prop} {g : Nat} {x : Int32} (hp : p < 24) (hg : g < 16) (e2 : a2 p = nI g) (H : ∀ c5, (∀ w, w < 4 → c5 (4 * g + w) = x) → (∀ j, (j < 4 * g ∨ 4 * g + 4 ≤ j) → c5 j = a5 j) → post 0 (fr, hd, sc, a1, a2, a3, a4, c5, a6, a7, a8, a9, a10, a11)) :
    ∃ m, wX_fill_16 post (nI p) x fr hd sc m 0 a1 a2 a3 a4 a5 a6 a7 a8 a9 a10 a11 :=
  pk_loop (fun m i s => wX_fill_16 post (nI p) x fr hd sc m (nI i) a1 a2 a3 a4 s a6 a7 a8 a9 a10 a11) (fun i s => (∀ w, w < i → s (4 * g + w) = x) ∧ (∀ j, (j < 4 * g ∨ 4 * g + 4 ≤ j) → s j = a5 j)) 4 0 a5 (by omega) ⟨fun w hw => absurd hw (by omega), fun j _ => rfl⟩
    (fun m s h => pk_le 4 4 (fun _ => H s h.1 h.2) (fun z => absurd z (by omega)))
    (fun m i s hi h hs => pk_le 4 i (fun z => absurd z (by omega)) (fun _ => And.intro (pk_in p 24 hp) (And.intro (by rw [nI_clamp (by omega), e2]; exact pm_ixi (by omega) (by omega)) (nm_r (by rw [nI_clamp (show p < 2 ^ 31 by omega), e2, pm_ixc (by omega) (by omega)]) (nm_r (nI_1 i) (hs _ ⟨pm_fill (v := fun _ => x) rfl h.1 rfl, pm_out rfl hi h.2⟩))))))
theorem pm_fillP {post : Int32 → St1 → Prop} {u : St1} {x : Int32} (hI : pm_I F C G u) (hp : p < 24) (H : ∀ u', pm_I F (pm_up C p (fun _ => x)) (pm_ug G p true) u' → post 0 u') : wpX_fill post u (nI p) x := by
  obtain ⟨fr, hd, sc, a1, a2, a3, a4, a5, a6, a7, a8, a9, a10, a11⟩ := u
  unfold wpX_fill
  dsimp only
  refine pm_bad hp (br_t rfl ?_)
  refine pm_own hI hp (fun u' i1 i2 i4 => ?_)
  obtain ⟨g, hgF, hg16, e2⟩ := pm_ownF i1 hp i2
  obtain ⟨gr, he, sd, b1, b2, b3, b4, b5, b6, b7, b8, b9, b10, b11⟩ := u'
  have e4 : b4 g = 1 := by
    have t : b4 (b2 p).toNatClampNeg = 1 := i4
    rw [show b2 p = nI g from e2, nI_clamp (by omega)] at t
    exact t
  exact pm_f16 hp hg16 e2 (fun c5 hv ho => H _ (pm_I_wr i1 hp i2 e2 hgF e4 hv ho))
theorem pm_copy {post : Int32 → St1 → Prop} {u : St1} (hI : pm_I F C G u) (hp : p < 24) (hq : q < 24) (H : ∀ u', pm_I F (pm_up C q (C p)) (pm_ug G q (G p)) u' → post 0 u') : wpX_copy post u (nI p) (nI q) := by
  obtain ⟨fr, hd, sc, a1, a2, a3, a4, a5, a6, a7, a8, a9, a10, a11⟩ := u
  have hI' := hI
  obtain ⟨⟨hF4, hF, e⟩, hh, hs, hG, hHO, h2, h3, hg, hc⟩ := hI'
  unfold wpX_copy
  dsimp only
  refine pm_bad hp (br_t rfl (pm_bad hq (br_t rfl (pk_eq p q (fun z => H _ (pm_I_congr hI (fun x w hx hw => ?_) (fun x hx => ?_))) (fun zn => ?_)))))
  · by_cases c : x = q
    · rw [c, pm_upS, z]
    · rw [pm_upN c]
  · by_cases c : x = q
    · rw [c, pm_ugS, z]
    · rw [pm_ugN c]
  · rw [nI_clamp (show p < 2 ^ 31 by omega)]
    refine ⟨pk_in p 24 hp, br_c (fun c => ?_) (fun c => ?_)⟩
    · have gp : G p = false := (hg p hp).mp c
      refine pm_letGo hF hG hq (H _ (pm_I_congr (pm_I_let hI hq) (fun x w hx hw => ?_) (fun x hx => ?_)))
      · by_cases d : x = q
        · rw [d, pm_upS, pm_upS, pm_zero hI hp gp w hw]
        · rw [pm_upN d, pm_upN d]
      · by_cases d : x = q
        · rw [d, pm_ugS, pm_ugS, gp]
        · rw [pm_ugN d, pm_ugN d]
    · have gp : G p = true := pm_held1 hI hp c
      refine pm_bringIn hI hp hq (fun u' i1' i2 => ?_)
      have i1 := pm_gsame i1' gp
      obtain ⟨g, hgF, hg16, e2⟩ := pm_ownF i1 hp i2
      obtain ⟨gr, he, sd, b1, b2, b3, b4, b5, b6, b7, b8, b9, b10, b11⟩ := u'
      have j1 := i1
      obtain ⟨⟨hF4, hF, e⟩, hh, hs, hG, hHO, h2, h3, hg, hc⟩ := j1
      have e2' : b2 p = nI g := e2
      have e5 : upd b2 q (nI g) p = nI g := by rw [pk_un zn, e2']
      dsimp only
      refine pm_letGo hF hG hq ?_
      dsimp only
      rw [e2', pm_uc (show q < 100 by omega)]
      refine ⟨pk_in q 24 hq, nm_e ⟨pk_in p 24 hp, pk_in q 24 hq, nm_r (pm_uc (by omega)) ⟨pk_in p 24 hp, ?_⟩⟩⟩
      rw [e5, nI_clamp (show g < 2 ^ 31 by omega)]
      refine ⟨pk_in g 16 hg16, pk_in g 16 hg16, nm_e ⟨pk_in q 24 hq, nm_e (H _ ?_)⟩⟩
      have t := pm_I_let i1 hq
      have s := pm_I_in1 (v := C p) (c5 := b5) t hq pk_us hgF (fun w hw => pm_word i1 hp hw i2 e2' (by omega)) (fun _ _ _ _ _ _ _ _ => rfl)
      refine pm_I_congr (pm_I_a3 s) (fun x w hx hw => ?_) (fun x hx => ?_)
      · by_cases d : x = q
        · rw [d, pm_upS, pm_upS]
        · rw [pm_upN d, pm_upN d, pm_upN d]
      · by_cases d : x = q
        · rw [d, pm_ugS, pm_ugS, gp]
        · rw [pm_ugN d, pm_ugN d, pm_ugN d]
theorem pm_swap {post : Int32 → St1 → Prop} {u : St1} (hI : pm_I F C G u) (hp : p < 24) (hq : q < 24) (H : ∀ u', pm_I F (pm_up (pm_up C p (C q)) q (C p)) (pm_ug (pm_ug G p (G q)) q (G p)) u' → post 0 u') : wpX_swap post u (nI p) (nI q) := by
  obtain ⟨fr, hd, sc, a1, a2, a3, a4, a5, a6, a7, a8, a9, a10, a11⟩ := u
  unfold wpX_swap
  dsimp only
  rw [nI_clamp (show p < 2 ^ 31 by omega), nI_clamp (show q < 2 ^ 31 by omega)]
  exact pm_bad hp (br_t rfl (pm_bad hq (br_t rfl ⟨pk_in p 24 hp, nm_e ⟨pk_in p 24 hp, nm_e ⟨pk_in q 24 hq, pk_in p 24 hp, nm_e ⟨pk_in q 24 hq, pk_in p 24 hp, nm_e ⟨pk_in q 24 hq, nm_e ⟨pk_in q 24 hq, nm_e (H _ (pm_I_sw hI hp hq))⟩⟩⟩⟩⟩⟩)))
theorem pm_release {post : Int32 → St1 → Prop} {u : St1} (hI : pm_I F C G u) (hp : p < 24) (H : ∀ u', pm_I F (pm_up C p (fun _ => 0)) (pm_ug G p false) u' → post (if G p = true then 0 else -3) u') : wpX_release post u (nI p) := by
  obtain ⟨fr, hd, sc, a1, a2, a3, a4, a5, a6, a7, a8, a9, a10, a11⟩ := u
  have hI' := hI
  obtain ⟨⟨hF4, hF, e⟩, hh, hs, hG, hHO, h2, h3, hg, hc⟩ := hI'
  unfold wpX_release
  dsimp only
  rw [nI_clamp (show p < 2 ^ 31 by omega)]
  refine pm_bad hp (br_t rfl ⟨pk_in p 24 hp, br_c (fun c => ?_) (fun c => ?_)⟩)
  · have gp : G p = false := (hg p hp).mp c
    rw [gp] at H
    refine H _ (pm_I_congr hI (fun x w hx hw => ?_) (fun x hx => ?_))
    · by_cases d : x = p
      · rw [d, pm_upS, pm_zero hI hp gp w hw]
      · rw [pm_upN d]
    · by_cases d : x = p
      · rw [d, pm_ugS, gp]
      · rw [pm_ugN d]
  · have gp : G p = true := pm_held1 hI hp c
    rw [if_pos gp] at H
    exact pm_letGo hF hG hp (H _ (pm_I_let hI hp))
theorem pm_read {post : Int32 → St1 → Prop} {u : St1} (hI : pm_I F C G u) (hp : p < 24) (hw : w < 4) (H : ∀ u', pm_I F C G u' → post (C p w) u') : wpX_read post u (nI p) (nI w) := by
  obtain ⟨fr, hd, sc, a1, a2, a3, a4, a5, a6, a7, a8, a9, a10, a11⟩ := u
  have hI' := hI
  obtain ⟨⟨hF4, hF, e⟩, hh, hs, hG, hHO, h2, h3, hg, hc⟩ := hI'
  unfold wpX_read
  dsimp only
  rw [nI_clamp (show p < 2 ^ 31 by omega)]
  refine pm_bad hp (br_t rfl (pk_lt w 0 (fun z => absurd z (by omega)) (fun _ => pk_lt w 4 (fun _ => ?_) (fun z => absurd z (by omega)))))
  refine ⟨pk_in p 24 hp, br_c (fun c => ?_) (fun c => ?_)⟩
  · have t := H _ hI
    rw [pm_zero hI hp ((hg p hp).mp c) w hw] at t
    exact t
  · have gp : G p = true := pm_held1 hI hp c
    refine pm_bringIn hI hp hp (fun u' i1' i2 => ?_)
    have i1 := pm_gsame i1' gp
    obtain ⟨g, hgF, hg16, e2⟩ := pm_ownF i1 hp i2
    obtain ⟨gr, he, sd, b1, b2, b3, b4, b5, b6, b7, b8, b9, b10, b11⟩ := u'
    have e2' : b2 p = nI g := e2
    dsimp only
    rw [e2', pm_ix, nI_clamp (show 4 * g + w < 2 ^ 31 by omega), pm_word i1 hp hw i2 e2' (by omega)]
    exact ⟨pk_in p 24 hp, vp_in_nI (by omega) (by omega), H _ i1⟩
end
end
section
section
variable {F p q f r w n : Nat} {C C' : Nat → Nat → Int32} {G G' : Nat → Bool} {fr hd sc : Int32} {a1 a2 a3 a4 a5 a6 a7 a8 a9 a10 a11 : Nat → Int32} {c3 c5 c11 v : Nat → Int32}
theorem pm_hash {post : Int32 → Prop} (hf : f < 16) (H : ∀ h, post h) : wpX_hashOf post (fr, hd, sc, a1, a2, a3, a4, a5, a6, a7, a8, a9, a10, a11) (nI f) := by
  unfold wpX_hashOf
  dsimp only
  exact pk_loop (fun n i s => wX_hashOf_5 post (nI f) fr hd sc a1 a2 a3 a4 a5 a6 a7 a8 a9 a10 a11 n s (nI i)) (fun _ _ => True) 4 0 (7 : Int32) (by omega) trivial
    (fun n s _ => pk_le 4 4 (fun _ => H s) (fun z => absurd z (by omega)))
    (fun n i s hi _ hs => pk_le 4 i (fun z => absurd z (by omega)) (fun _ => And.intro (pm_ixi (by omega) (by omega)) (nm_r (nI_1 i) (hs _ trivial))))
theorem pm_eqF {post : Int32 → Prop} {g : Nat} (hf : f < 16) (hg : g < 16) (H1 : (∀ w, w < 4 → a5 (4 * f + w) = a5 (4 * g + w)) → post 1) (H0 : post 0) : wpX_equalFrames post (fr, hd, sc, a1, a2, a3, a4, a5, a6, a7, a8, a9, a10, a11) (nI f) (nI g) := by
  unfold wpX_equalFrames
  dsimp only
  exact pk_loop (σ := Unit) (fun n i _ => wX_equalFrames_2 post (nI f) (nI g) fr hd sc a1 a2 a3 a4 a5 a6 a7 a8 a9 a10 a11 n (nI i)) (fun i _ => ∀ w, w < i → a5 (4 * f + w) = a5 (4 * g + w)) 4 0 () (by omega) (fun w hw => absurd hw (by omega))
    (fun n _ h => pk_le 4 4 (fun _ => H1 h) (fun z => absurd z (by omega)))
    (fun n i _ hi h hs => pk_le 4 i (fun z => absurd z (by omega)) (fun _ => And.intro (pm_ixi (by omega) (by omega)) (And.intro (pm_ixi (by omega) (by omega)) (by
      rw [pm_ixc (by omega) (by omega), pm_ixc (by omega) (by omega)]
      exact br_c (fun c => nm_r (nI_1 i) (hs () (lt_s h c))) (fun _ => H0)))))
theorem pm_m53 {post : St1 → Prop} {J : Int32 → (Nat → Int32) → (Nat → Int32) → (Nat → Int32) → (Nat → Int32) → (Nat → Int32) → (Nat → Int32) → (Nat → Int32) → (Nat → Int32) → (Nat → Int32) → (Nat → Int32) → (Nat → Int32) → Prop}
    {g : Nat} {x3 z0 : Int32} (hI : pm_I F C G (fr, hd, sc, a1, a2, a3, a4, a5, a6, a7, a8, a9, a10, a11)) (hp : p < 24) (h1 : a1 p = 1) (hg : g < F) (hf : f < F)
    (hJ : ∀ c2 c4, pm_I F C G (fr, hd, sc, a1, c2, a3, c4, a5, a6, a7, a8, a9, a10, a11) → J (nI (f + 1)) a1 c2 a3 c4 a5 a6 a7 a8 a9 a10 a11) : wX_merge_53 post J (nI p) (nI g) x3 (nI f) z0 fr hd sc a1 a2 a3 a4 a5 a6 a7 a8 a9 a10 a11 := by
  have hI' := hI
  obtain ⟨⟨hF4, hF, e⟩, hh, hs, hG, hHO, h2, h3, hgg, hc⟩ := hI'
  have go := hJ a2 a4 hI
  unfold wX_merge_53
  rw [nI_clamp (show p < 2 ^ 31 by omega), nI_clamp (show g < 2 ^ 31 by omega), nI_clamp (show f < 2 ^ 31 by omega)]
  refine br_c (fun _ => ⟨pk_in p 24 hp, br_c (fun c => ?_) (fun _ => nm_r (nI_1 f) go)⟩) (fun _ => nm_r (nI_1 f) go)
  refine pm_eqF (by omega) (by omega) (fun hq => br_f (by decide) ?_) (br_t rfl (nm_r (nI_1 f) go))
  refine ⟨pk_in g 16 (by omega), pk_in g 16 (by omega), nm_e ⟨pk_in f 16 (by omega), pk_in f 16 (by omega), nm_e ⟨pk_in p 24 hp, nm_e (nm_r (nI_1 f) (hJ _ _ ?_))⟩⟩⟩
  exact pm_I_mv hI hp h1 c (by omega) hf (fun w hw => by rw [← hq w hw]; exact pm_word hI hp hw h1 c (by omega)) (fun _ _ _ _ _ _ _ _ _ => rfl)
theorem pm_merge {post : St1 → Prop} {u : St1} (hI : pm_I F C G u) (hp : p < 24) (h1 : pm_f1 u p = 1) (H : ∀ u', pm_I F C G u' → pm_f1 u' p = 1 → post u') : wpX_merge post u (nI p) := by
  obtain ⟨g, hgF, hg16, e2⟩ := pm_ownF hI hp h1
  obtain ⟨fr, hd, sc, a1, a2, a3, a4, a5, a6, a7, a8, a9, a10, a11⟩ := u
  have e2' : a2 p = nI g := e2
  have hI' := hI
  obtain ⟨⟨hF4, hF, e⟩, hh, hs, hG, hHO, h2, h3, hgg, hc⟩ := hI'
  subst e
  unfold wpX_merge
  dsimp only
  refine ⟨pk_in p 24 hp, nm_r (by rw [nI_clamp (by omega), e2']) (pm_hash hg16 (fun h => ?_))⟩
  exact pk_loop (σ := (Nat → Int32) × (Nat → Int32)) (fun n i s => wX_merge_16 post (nI p) (nI g) h (nI F) hd sc n (nI i) a1 s.1 a3 s.2 a5 a6 a7 a8 a9 a10 a11) (fun _ s => pm_I F C G (nI F, hd, sc, a1, s.1, a3, s.2, a5, a6, a7, a8, a9, a10, a11)) F 0 (a2, a4) (by omega) hI
    (fun n s j => pk_le F F (fun _ => H _ j h1) (fun z => absurd z (by omega)))
    (fun n i s hi j hs => pk_le F i (fun z => absurd z (by omega)) (fun _ => br_c (fun _ => pm_m53 j hp h1 hgF hi (fun c2 c4 k => hs (c2, c4) k)) (fun _ => And.intro (pk_in i 16 (by omega)) (br_c (fun _ => pm_m53 j hp h1 hgF hi (fun c2 c4 k => hs (c2, c4) k)) (fun _ => pm_hash (by omega) (fun h' => pm_m53 j hp h1 hgF hi (fun c2 c4 k => hs (c2, c4) k)))))))
theorem pm_s40 {post : St1 → Prop} {J : Int32 → Int32 → Int32 → Int32 → (Nat → Int32) → (Nat → Int32) → (Nat → Int32) → (Nat → Int32) → (Nat → Int32) → (Nat → Int32) → (Nat → Int32) → (Nat → Int32) → (Nat → Int32) → (Nat → Int32) → (Nat → Int32) → Prop}
    {i z : Nat} {x1 : Int32} (hI : pm_I F C G (fr, hd, sc, a1, a2, a3, a4, a5, a6, a7, a8, a9, a10, a11)) (hp : p < 24) (hz : z < 24) (hJ : ∀ u, pm_I F C G u → J (nI (i + 1)) u.1 u.2.1 u.2.2.1 u.2.2.2.1 u.2.2.2.2.1 u.2.2.2.2.2.1 u.2.2.2.2.2.2.1 u.2.2.2.2.2.2.2.1 u.2.2.2.2.2.2.2.2.1 u.2.2.2.2.2.2.2.2.2.1 u.2.2.2.2.2.2.2.2.2.2.1 u.2.2.2.2.2.2.2.2.2.2.2.1 u.2.2.2.2.2.2.2.2.2.2.2.2.1 u.2.2.2.2.2.2.2.2.2.2.2.2.2) : wX_scan_40 post J x1 (nI i) (nI p) (nI z) fr hd sc a1 a2 a3 a4 a5 a6 a7 a8 a9 a10 a11 := by
  have hI1 : pm_I F C G (fr, hd, nI z, a1, a2, a3, a4, a5, a6, a7, a8, a9, a10, a11) := pm_I_sc hI hz
  unfold wX_scan_40
  rw [nI_clamp (show p < 2 ^ 31 by omega)]
  refine ⟨pk_in p 24 hp, br_c (fun c => ?_) (fun _ => nm_r (nI_1 i) (hJ (fr, hd, nI z, a1, a2, a3, a4, a5, a6, a7, a8, a9, a10, a11) hI1))⟩
  refine pm_merge hI1 hp c (fun u' i1 i2 => ?_)
  obtain ⟨gr, he, sd, b1, b2, b3, b4, b5, b6, b7, b8, b9, b10, b11⟩ := u'
  refine ⟨pk_in p 24 hp, br_c (fun _ => ?_) (fun _ => ⟨pk_in p 24 hp, nm_e (nm_r (nI_1 i) (hJ (gr, he, sd, b1, b2, upd b3 p 0, b4, b5, b6, b7, b8, b9, b10, b11) (pm_I_a3 i1)))⟩)⟩
  refine pm_evict i1 hp i2 (fun u' j1 _ _ _ _ => ?_)
  obtain ⟨fr, hd, sc, a1, a2, a3, a4, a5, a6, a7, a8, a9, a10, a11⟩ := u'
  exact ⟨pk_in p 24 hp, nm_e (nm_r (nI_1 i) (hJ (fr, hd, sc, a1, a2, upd a3 p 0, a4, a5, a6, a7, a8, a9, a10, a11) (pm_I_a3 j1)))⟩
theorem pm_scan {post : St1 → Prop} {u : St1} {x : Int32} (hI : pm_I F C G u) (H : ∀ u', pm_I F C G u' → post u') : wpX_scan post u x := by
  obtain ⟨fr, hd, sc, a1, a2, a3, a4, a5, a6, a7, a8, a9, a10, a11⟩ := u
  unfold wpX_scan
  dsimp only
  refine pk_loop (fun n i s => wX_scan_2 post x n (nI i) s.1 s.2.1 s.2.2.1 s.2.2.2.1 s.2.2.2.2.1 s.2.2.2.2.2.1 s.2.2.2.2.2.2.1 s.2.2.2.2.2.2.2.1 s.2.2.2.2.2.2.2.2.1 s.2.2.2.2.2.2.2.2.2.1 s.2.2.2.2.2.2.2.2.2.2.1 s.2.2.2.2.2.2.2.2.2.2.2.1 s.2.2.2.2.2.2.2.2.2.2.2.2.1 s.2.2.2.2.2.2.2.2.2.2.2.2.2) (fun _ s => pm_I F C G s) 24 0 (fr, hd, sc, a1, a2, a3, a4, a5, a6, a7, a8, a9, a10, a11) (by omega) hI (fun n s j => ?_) (fun n i s hi j hs => ?_)
  · obtain ⟨fr, hd, sc, a1, a2, a3, a4, a5, a6, a7, a8, a9, a10, a11⟩ := s
    exact br_c (fun _ => H _ j) (fun _ => pk_le 24 24 (fun _ => H _ j) (fun z => absurd z (by omega)))
  · obtain ⟨fr, hd, sc, a1, a2, a3, a4, a5, a6, a7, a8, a9, a10, a11⟩ := s
    have j' := j
    obtain ⟨_, _, ⟨y, hy, ey⟩, _⟩ := j'
    subst ey
    refine br_c (fun _ => H _ j) (fun _ => pk_le 24 i (fun z => absurd z (by omega)) (fun _ => pk_le 24 (y + 1) (fun z => ?_) (fun z => ?_) rfl (nI_1 y)))
    · exact pm_s40 (z := 0) j hy (by omega) (fun u k => hs u k)
    · dsimp only
      rw [nI_1]
      exact pm_s40 (z := y + 1) j hy (by omega) (fun u k => hs u k)
end
/-- one turn: the words, the held, the answer -/
def pm_tC (op p q w : Nat) (x : Int32) (C : Nat → Nat → Int32) : Nat → Nat → Int32 :=
  if op ≤ 4 then pm_up C p (fun z => if z = w then x else C p z) else if op ≤ 6 then pm_up C p (fun _ => x) else if op ≤ 10 then pm_up C q (C p) else if op ≤ 12 then pm_up (pm_up C p (C q)) q (C p) else if op ≤ 14 then pm_up C p (fun _ => 0) else C
def pm_tG (op p q : Nat) (G : Nat → Bool) : Nat → Bool :=
  if op ≤ 4 then pm_ug G p true else if op ≤ 6 then pm_ug G p true else if op ≤ 10 then pm_ug G q (G p) else if op ≤ 12 then pm_ug (pm_ug G p (G q)) q (G p) else if op ≤ 14 then pm_ug G p false else G
def pm_tr (op p w : Nat) (C : Nat → Nat → Int32) (G : Nat → Bool) : Int32 :=
  if op ≤ 4 then C p w else if op ≤ 6 then 0 else if op ≤ 10 then 0 else if op ≤ 12 then 0 else if op ≤ 14 then (if G p = true then 0 else -3) else C p w
section
variable {F p q f r w n : Nat} {C C' : Nat → Nat → Int32} {G G' : Nat → Bool} {fr hd sc : Int32} {a1 a2 a3 a4 a5 a6 a7 a8 a9 a10 a11 : Nat → Int32} {c3 c5 c11 v : Nat → Int32}
theorem pm_turn {post : Int32 → St1 → Prop} {u : St1} {op : Nat} {x : Int32} (hI : pm_I F C G u) (hop : op < 16) (hp : p < 24) (hq : q < 24) (hw : w < 4)
    (H : ∀ u', pm_I F (pm_tC op p q w x C) (pm_tG op p q G) u' → post (pm_tr op p w C G) u') : wpL_turn post u (nI op) (nI p) (nI q) (nI w) x := by
  obtain ⟨fr, hd, sc, a1, a2, a3, a4, a5, a6, a7, a8, a9, a10, a11⟩ := u
  unfold wpL_turn
  dsimp only
  unfold pm_tC pm_tG pm_tr at H
  refine pk_lt 4 op (fun z4 => ?_) (fun z4 => ?_)
  · simp only [if_neg (show ¬ op ≤ 4 by omega)] at H
    refine pk_lt 6 op (fun z6 => ?_) (fun z6 => ?_)
    · simp only [if_neg (show ¬ op ≤ 6 by omega)] at H
      refine pk_lt 10 op (fun z10 => ?_) (fun z10 => ?_)
      · simp only [if_neg (show ¬ op ≤ 10 by omega)] at H
        refine pk_lt 12 op (fun z12 => ?_) (fun z12 => ?_)
        · simp only [if_neg (show ¬ op ≤ 12 by omega)] at H
          refine pk_lt 14 op (fun z14 => ?_) (fun z14 => ?_)
          · simp only [if_neg (show ¬ op ≤ 14 by omega)] at H
            refine pm_read hI hp hw (fun u' j => ?_)
            obtain ⟨gr, he, sd, b1, b2, b3, b4, b5, b6, b7, b8, b9, b10, b11⟩ := u'
            exact H _ j
          · simp only [if_pos z14] at H
            refine pm_release hI hp (fun u' j => ?_)
            obtain ⟨gr, he, sd, b1, b2, b3, b4, b5, b6, b7, b8, b9, b10, b11⟩ := u'
            exact H _ j
        · simp only [if_pos z12] at H
          refine pm_swap hI hp hq (fun u' j => ?_)
          obtain ⟨gr, he, sd, b1, b2, b3, b4, b5, b6, b7, b8, b9, b10, b11⟩ := u'
          exact H _ j
      · simp only [if_pos z10] at H
        refine pm_copy hI hp hq (fun u' j => ?_)
        obtain ⟨gr, he, sd, b1, b2, b3, b4, b5, b6, b7, b8, b9, b10, b11⟩ := u'
        exact H _ j
    · simp only [if_pos z6] at H
      refine pm_fillP hI hp (fun u' j => ?_)
      obtain ⟨gr, he, sd, b1, b2, b3, b4, b5, b6, b7, b8, b9, b10, b11⟩ := u'
      exact H _ j
  · simp only [if_pos z4] at H
    refine pm_write hI hp hw (fun u' j => ?_)
    obtain ⟨gr, he, sd, b1, b2, b3, b4, b5, b6, b7, b8, b9, b10, b11⟩ := u'
    exact H _ j
end
end
section
def pm_b (b : Bool) : Int32 := if b = true then 1 else 0
/-- two pages have the same words -/
def pm_eq (C : Nat → Nat → Int32) (p q : Nat) : Bool := decide (C p 0 = C q 0 ∧ C p 1 = C q 1 ∧ C p 2 = C q 2 ∧ C p 3 = C q 3)
def pm_flat (C : Nat → Nat → Int32) (p : Nat) : Bool := decide (C p 1 = C p 0 ∧ C p 2 = C p 0 ∧ C p 3 = C p 0)
/-- some held page ahead of n is like p -/
def pm_rep (C : Nat → Nat → Int32) (G : Nat → Bool) (p : Nat) : Nat → Bool
  | 0 => false
  | n + 1 => pm_rep C G p n || (G n && pm_eq C n p)
def pm_si (C : Nat → Nat → Int32) (p : Nat) (s : Int32) : Nat → Int32
  | 0 => s
  | n + 1 => pm_si C p s n + C p n
def pm_so (C : Nat → Nat → Int32) (b : Nat) : Nat → Int32
  | 0 => 0
  | n + 1 => pm_si C (b + n) (pm_so C b n) 4
theorem pm_4 {P : Nat → Prop} (h0 : P 0) (h1 : P 1) (h2 : P 2) (h3 : P 3) : ∀ w, w < 4 → P w := by
  intro w hw
  obtain rfl | rfl | rfl | rfl : w = 0 ∨ w = 1 ∨ w = 2 ∨ w = 3 := by omega
  · exact h0
  · exact h1
  · exact h2
  · exact h3
theorem pm_eqT {C : Nat → Nat → Int32} {p q : Nat} (h : ∀ w, w < 4 → C p w = C q w) : pm_eq C p q = true := decide_eq_true ⟨h 0 (by omega), h 1 (by omega), h 2 (by omega), h 3 (by omega)⟩
theorem pm_eqE {C : Nat → Nat → Int32} {p q : Nat} (h : pm_eq C p q = true) : ∀ w, w < 4 → C p w = C q w := by
  obtain ⟨h0, h1, h2, h3⟩ := of_decide_eq_true h
  exact pm_4 h0 h1 h2 h3
theorem pm_eqN {C : Nat → Nat → Int32} {p q w : Nat} (hw : w < 4) (h : C p w ≠ C q w) : pm_eq C p q = false := by
  cases e : pm_eq C p q with
  | false => rfl
  | true => exact absurd (pm_eqE e w hw) h
theorem pm_flT {C : Nat → Nat → Int32} {p : Nat} (h : ∀ w, w < 4 → C p w = C p 0) : pm_flat C p = true := decide_eq_true ⟨h 1 (by omega), h 2 (by omega), h 3 (by omega)⟩
theorem pm_flE {C : Nat → Nat → Int32} {p : Nat} (h : pm_flat C p = true) : ∀ w, w < 4 → C p w = C p 0 := by
  obtain ⟨h1, h2, h3⟩ := of_decide_eq_true h
  exact pm_4 rfl h1 h2 h3
theorem pm_rep_up {C : Nat → Nat → Int32} {G : Nat → Bool} {p i n : Nat} (h : pm_rep C G p i = true) (hi : i ≤ n) : pm_rep C G p n = true := by
  induction n with
  | zero =>
    rw [show i = 0 by omega] at h
    exact h
  | succ n ih =>
    by_cases e : i = n + 1
    · rw [← e]; exact h
    · simp only [pm_rep]
      rw [ih (by omega)]
      rfl
section
variable {F p q f r w n : Nat} {C C' : Nat → Nat → Int32} {G G' : Nat → Bool} {fr hd sc : Int32} {a1 a2 a3 a4 a5 a6 a7 a8 a9 a10 a11 : Nat → Int32} {c3 c5 c11 v : Nat → Int32}
theorem pm_look {post : Int32 → Prop} (hI : pm_I F C G (fr, hd, sc, a1, a2, a3, a4, a5, a6, a7, a8, a9, a10, a11)) (hp : p < 24) (hw : w < 4) (H : post (C p w)) : wpX_peek post (fr, hd, sc, a1, a2, a3, a4, a5, a6, a7, a8, a9, a10, a11) (nI p) (nI w) := by
  obtain ⟨⟨hF4, hF, e⟩, hh, hs, hG, hHO, h2, h3, hg, hc⟩ := hI
  exact pm_peek hF hG hp hw (by rw [hc p w hp hw]; exact H)
theorem pm_gz {u : St1} (hI : pm_I F C G u) (hp : p < 24) : (pm_f1 u p = 0 → G p = false) ∧ (¬ pm_f1 u p = 0 → G p = true) := by
  refine ⟨fun c => ?_, fun c => pm_held1 hI hp c⟩
  obtain ⟨fr, hd, sc, a1, a2, a3, a4, a5, a6, a7, a8, a9, a10, a11⟩ := u
  obtain ⟨_, _, _, _, _, _, _, hg, _⟩ := hI
  exact (hg p hp).mp c
theorem pm_heldW {post : Int32 → Prop} {u : St1} (hI : pm_I F C G u) (hp : p < 24) (H : post (pm_b (G p))) : wpX_held post u (nI p) := by
  have gz := pm_gz hI hp
  obtain ⟨fr, hd, sc, a1, a2, a3, a4, a5, a6, a7, a8, a9, a10, a11⟩ := u
  unfold wpX_held
  dsimp only
  rw [nI_clamp (show p < 2 ^ 31 by omega)]
  refine pm_bad hp (br_t rfl ⟨pk_in p 24 hp, br_c (fun c => ?_) (fun c => ?_)⟩)
  · rw [gz.1 c] at H
    exact H
  · rw [gz.2 c] at H
    exact H
theorem pm_e39 {post : Int32 → Prop} (hI : pm_I F C G (fr, hd, sc, a1, a2, a3, a4, a5, a6, a7, a8, a9, a10, a11)) (hp : p < 24) (hq : q < 24) (H : post (pm_b (pm_eq C p q))) : ∃ n, wX_equalPages_39 post (nI p) (nI q) fr hd sc a1 a2 a3 a4 a5 a6 a7 a8 a9 a10 a11 n 0 :=
  pk_loop (σ := Unit) (fun n i _ => wX_equalPages_39 post (nI p) (nI q) fr hd sc a1 a2 a3 a4 a5 a6 a7 a8 a9 a10 a11 n (nI i)) (fun i _ => ∀ w, w < i → C p w = C q w) 4 0 () (by omega) (fun w hw => absurd hw (by omega))
    (fun n _ h => pk_le 4 4 (fun _ => by rw [pm_eqT h] at H; exact H) (fun z => absurd z (by omega)))
    (fun n i _ hi h hs => pk_le 4 i (fun z => absurd z (by omega)) (fun _ => pm_look hI hp hi (pm_look hI hq hi (br_c (fun c => nm_r (nI_1 i) (hs () (lt_s h c))) (fun c => by rw [pm_eqN hi c] at H; exact H)))))
theorem pm_eqP {post : Int32 → Prop} {u : St1} (hI : pm_I F C G u) (hp : p < 24) (hq : q < 24) (H : post (pm_b (pm_eq C p q))) : wpX_equalPages post u (nI p) (nI q) := by
  obtain ⟨fr, hd, sc, a1, a2, a3, a4, a5, a6, a7, a8, a9, a10, a11⟩ := u
  unfold wpX_equalPages
  dsimp only
  rw [nI_clamp (show p < 2 ^ 31 by omega), nI_clamp (show q < 2 ^ 31 by omega)]
  refine ⟨pk_in p 24 hp, br_c (fun c => ⟨pk_in q 24 hq, br_c (fun d => ⟨pk_in p 24 hp, pk_in q 24 hq, br_c (fun e => ?_) (fun _ => pm_e39 hI hp hq H)⟩) (fun _ => pm_e39 hI hp hq H)⟩) (fun _ => pm_e39 hI hp hq H)⟩
  obtain ⟨g, hgF, hg16, e2⟩ := pm_ownF hI hp c
  have e2' : a2 p = nI g := e2
  have t : pm_eq C p q = true := pm_eqT (fun w hw => by rw [← pm_word hI hp hw c e2' (by omega), ← pm_word hI hq hw d (e.symm.trans e2') (by omega)])
  rw [t] at H
  exact H
theorem pm_nar (b : Bool) : narrow .boolean (.int (pm_b b)) = .int (pm_b b) := by cases b <;> rfl
theorem pm_same {post : Int32 → Prop} {u : St1} (hI : pm_I F C G u) (hp : p < 24) (hq : q < 24) (H : post (pm_b (pm_eq C p q))) : wpX_same post u (nI p) (nI q) := by
  obtain ⟨fr, hd, sc, a1, a2, a3, a4, a5, a6, a7, a8, a9, a10, a11⟩ := u
  unfold wpX_same
  dsimp only
  exact pm_bad hp (br_t rfl (pm_bad hq (br_t rfl (pm_eqP hI hp hq ⟨pm_nar _, H⟩))))
theorem pm_reps {post : Int32 → Prop} (hI : pm_I F C G (fr, hd, sc, a1, a2, a3, a4, a5, a6, a7, a8, a9, a10, a11)) (hp : p < 24) (H : post (pm_b (pm_rep C G p p))) : wpX_repeats post (fr, hd, sc, a1, a2, a3, a4, a5, a6, a7, a8, a9, a10, a11) (nI p) := by
  unfold wpX_repeats
  dsimp only
  refine pk_loop (σ := Unit) (fun n i _ => wX_repeats_2 post (nI p) fr hd sc a1 a2 a3 a4 a5 a6 a7 a8 a9 a10 a11 n (nI i)) (fun i _ => pm_rep C G p i = false) p 0 () (by omega) rfl
    (fun n _ h => pk_le p p (fun _ => by rw [h] at H; exact H) (fun z => absurd z (by omega)))
    (fun n i _ hi h hs => pk_le p i (fun z => absurd z (by omega)) (fun _ => And.intro (pk_in i 24 (by omega)) ?_))
  rw [nI_clamp (show i < 2 ^ 31 by omega)]
  have gz := pm_gz hI (p := i) (by omega)
  refine br_c (fun c => nm_r (nI_1 i) (hs () ?_)) (fun c => pm_eqP hI (by omega) hp ?_)
  · simp only [pm_rep]
    rw [h, gz.1 c]
    rfl
  · cases e : pm_eq C i p with
    | false =>
      refine br_t rfl (nm_r (nI_1 i) (hs () ?_))
      simp only [pm_rep]
      rw [h, e, gz.2 c]
      rfl
    | true =>
      refine br_f (by decide) ?_
      have t : pm_rep C G p (i + 1) = true := by
        simp only [pm_rep]
        rw [e, gz.2 c]
        cases pm_rep C G p i <;> rfl
      rw [pm_rep_up t (by omega)] at H
      exact H
theorem pm_ctS {P : Nat → Bool} {i : Nat} (h : P i = true) : nI (pm_ct P i) + 1 = nI (pm_ct P (i + 1)) := by
  simp only [pm_ct]
  rw [h, nI_1]
  rfl
theorem pm_ctN {P : Nat → Bool} {i : Nat} (h : P i = false) : pm_ct P (i + 1) = pm_ct P i := by
  simp only [pm_ct]
  rw [h]
  rfl
def pm_con (C : Nat → Nat → Int32) (G : Nat → Bool) : Nat := pm_ct (fun p => G p && !pm_rep C G p p) 24
def pm_dup (C : Nat → Nat → Int32) (G : Nat → Bool) : Nat := pm_ct (fun p => G p && pm_rep C G p p) 24
def pm_pla (C : Nat → Nat → Int32) (G : Nat → Bool) : Nat := pm_ct (fun p => G p && pm_flat C p) 24
theorem pm_contents {post : Int32 → Prop} {u : St1} (hI : pm_I F C G u) (H : post (nI (pm_con C G))) : wpX_contents post u := by
  obtain ⟨fr, hd, sc, a1, a2, a3, a4, a5, a6, a7, a8, a9, a10, a11⟩ := u
  unfold wpX_contents
  dsimp only
  refine pk_loop (fun n i s => wX_contents_4 post fr hd sc a1 a2 a3 a4 a5 a6 a7 a8 a9 a10 a11 n s (nI i)) (fun i s => s = nI (pm_ct (fun p => G p && !pm_rep C G p p) i)) 24 0 (0 : Int32) (by omega) rfl
    (fun n s h => pk_le 24 24 (fun _ => by subst h; exact H) (fun z => absurd z (by omega)))
    (fun n i s hi h hs => pk_le 24 i (fun z => absurd z (by omega)) (fun _ => And.intro (pk_in i 24 (by omega)) ?_))
  rw [nI_clamp (show i < 2 ^ 31 by omega)]
  have gz := pm_gz hI hi
  refine br_c (fun c => nm_r (nI_1 i) (hs s ?_)) (fun c => pm_reps hI hi ?_)
  · rw [h, pm_ctN (by show (G i && !pm_rep C G i i) = false; rw [gz.1 c]; rfl)]
  · cases e : pm_rep C G i i with
    | false => exact br_t rfl (nm_e (nm_r (nI_1 i) (hs _ (by rw [h, pm_ctS (by show (G i && !pm_rep C G i i) = true; rw [gz.2 c, e]; rfl)]))))
    | true => exact br_f (by decide) (nm_r (nI_1 i) (hs s (by rw [h, pm_ctN (by show (G i && !pm_rep C G i i) = false; rw [gz.2 c, e]; rfl)])))
theorem pm_duplicates {post : Int32 → Prop} {u : St1} (hI : pm_I F C G u) (H : post (nI (pm_dup C G))) : wpX_duplicates post u := by
  obtain ⟨fr, hd, sc, a1, a2, a3, a4, a5, a6, a7, a8, a9, a10, a11⟩ := u
  unfold wpX_duplicates
  dsimp only
  refine pk_loop (fun n i s => wX_duplicates_4 post fr hd sc a1 a2 a3 a4 a5 a6 a7 a8 a9 a10 a11 n s (nI i)) (fun i s => s = nI (pm_ct (fun p => G p && pm_rep C G p p) i)) 24 0 (0 : Int32) (by omega) rfl
    (fun n s h => pk_le 24 24 (fun _ => by subst h; exact H) (fun z => absurd z (by omega)))
    (fun n i s hi h hs => pk_le 24 i (fun z => absurd z (by omega)) (fun _ => And.intro (pk_in i 24 (by omega)) ?_))
  rw [nI_clamp (show i < 2 ^ 31 by omega)]
  have gz := pm_gz hI hi
  refine br_c (fun c => nm_r (nI_1 i) (hs s ?_)) (fun c => pm_reps hI hi ?_)
  · rw [h, pm_ctN (by show (G i && pm_rep C G i i) = false; rw [gz.1 c]; rfl)]
  · cases e : pm_rep C G i i with
    | false => exact br_t rfl (nm_r (nI_1 i) (hs s (by rw [h, pm_ctN (by show (G i && pm_rep C G i i) = false; rw [gz.2 c, e]; rfl)])))
    | true => exact br_f (by decide) (nm_e (nm_r (nI_1 i) (hs _ (by rw [h, pm_ctS (by show (G i && pm_rep C G i i) = true; rw [gz.2 c, e]; rfl)]))))
theorem pm_plain {post : Int32 → Prop} {u : St1} (hI : pm_I F C G u) (H : post (nI (pm_pla C G))) : wpX_plain post u := by
  obtain ⟨fr, hd, sc, a1, a2, a3, a4, a5, a6, a7, a8, a9, a10, a11⟩ := u
  unfold wpX_plain
  dsimp only
  refine pk_loop (fun n i s => wX_plain_4 post fr hd sc a1 a2 a3 a4 a5 a6 a7 a8 a9 a10 a11 n s (nI i)) (fun i s => s = nI (pm_ct (fun p => G p && pm_flat C p) i)) 24 0 (0 : Int32) (by omega) rfl
    (fun n s h => pk_le 24 24 (fun _ => by subst h; exact H) (fun z => absurd z (by omega)))
    (fun n i s hi h hs => pk_le 24 i (fun z => absurd z (by omega)) (fun _ => And.intro (pk_in i 24 (by omega)) ?_))
  rw [nI_clamp (show i < 2 ^ 31 by omega)]
  have gz := pm_gz hI hi
  refine br_c (fun c => nm_r (nI_1 i) (hs s ?_)) (fun c => pm_runs (v := C i) (fun ψ w hw hψ => pm_look hI hi hw hψ) (fun m hm hr hall => ?_))
  · rw [h, pm_ctN (by show (G i && pm_flat C i) = false; rw [gz.1 c]; rfl)]
  · refine pk_eq m 4 (fun z => ?_) (fun z => ?_)
    · have e : pm_flat C i = true := pm_flT (fun w hw => (hr (by omega)).1 w (by omega))
      exact nm_e (nm_r (nI_1 i) (hs _ (by rw [h, pm_ctS (by show (G i && pm_flat C i) = true; rw [gz.2 c, e]; rfl)])))
    · have e : pm_flat C i = false := by
        cases e : pm_flat C i with
        | false => rfl
        | true => exact absurd (hall (pm_flE e)) z
      exact nm_r (nI_1 i) (hs s (by rw [h, pm_ctN (by show (G i && pm_flat C i) = false; rw [gz.2 c, e]; rfl)]))
theorem pm_sum {post : Int32 → Prop} {u : St1} {g : Nat} (hI : pm_I F C G u) (hg : g ≤ 2) (H : post (pm_so C (8 * g) 8)) : wpX_sum post u (nI g) := by
  obtain ⟨fr, hd, sc, a1, a2, a3, a4, a5, a6, a7, a8, a9, a10, a11⟩ := u
  have e8 : nI g * 8 = nI (8 * g) := by rw [show (8 : Int32) = nI 8 from rfl, pk_mul, Nat.mul_comm]
  have e88 : nI g * 8 + 8 = nI (8 * g + 8) := by
    rw [e8]
    exact nI_add (8 * g) 8
  unfold wpX_sum
  dsimp only
  refine pk_lt g 0 (fun z => absurd z (by omega)) (fun _ => pk_le g 2 (fun _ => nm_r e8 ?_) (fun z => absurd z (by omega)))
  exact pk_loop (fun n i s => wX_sum_18 post (nI g) fr hd sc a1 a2 a3 a4 a5 a6 a7 a8 a9 a10 a11 n s (nI i)) (fun i s => 8 * g ≤ i ∧ s = pm_so C (8 * g) (i - 8 * g)) (8 * g + 8) (8 * g) (0 : Int32) (by omega) ⟨by omega, by rw [Nat.sub_self]; rfl⟩
    (fun n s h => pk_le (8 * g + 8) (8 * g + 8) (fun _ => by
      have t := h.2
      rw [show 8 * g + 8 - 8 * g = 8 by omega] at t
      rw [t]
      exact H) (fun z => absurd z (by omega)) e88)
    (fun n i s hi h hs => pk_le (8 * g + 8) i (fun z => absurd z (by omega)) (fun _ => pk_loop (fun m j t => wX_sum_32 post (wX_sum_18 post (nI g) fr hd sc a1 a2 a3 a4 a5 a6 a7 a8 a9 a10 a11 n) (nI g) (nI i) fr hd sc a1 a2 a3 a4 a5 a6 a7 a8 a9 a10 a11 m t (nI j)) (fun j t => t = pm_si C i s j) 4 0 s (by omega) rfl
      (fun m t ht => pk_le 4 4 (fun _ => nm_r (nI_1 i) (hs t ⟨by omega, by
        rw [ht, h.2, show i + 1 - 8 * g = (i - 8 * g) + 1 by omega]
        show _ = pm_si C (8 * g + (i - 8 * g)) (pm_so C (8 * g) (i - 8 * g)) 4
        rw [show 8 * g + (i - 8 * g) = i by omega]⟩)) (fun z => absurd z (by omega)))
      (fun m j t hj ht hw => pk_le 4 j (fun z => absurd z (by omega)) (fun _ => pm_look hI (by omega) hj (nm_e (nm_r (nI_1 j) (hw _ (by rw [ht]; rfl))))) )) e88)
end
end
section
section
variable {F F' p q f r w n : Nat} {C C' : Nat → Nat → Int32} {G G' : Nat → Bool} {fr hd sc : Int32} {a1 a2 a3 a4 a5 a6 a7 a8 a9 a10 a11 : Nat → Int32} {gr he sd : Int32} {b1 b2 b3 b4 b5 b6 b7 b8 b9 b10 b11 : Nat → Int32}
theorem pm_al54 {post : Int32 → St3 → Prop} {J : Int32 → Int32 → Int32 → Int32 → Int32 → (Nat → Int32) → (Nat → Int32) → (Nat → Int32) → (Nat → Int32) → (Nat → Int32) → (Nat → Int32) → (Nat → Int32) → (Nat → Int32) → (Nat → Int32) → (Nat → Int32) → (Nat → Int32) → Int32 → Int32 → Int32 → (Nat → Int32) → (Nat → Int32) → (Nat → Int32) → (Nat → Int32) → (Nat → Int32) → (Nat → Int32) → (Nat → Int32) → (Nat → Int32) → (Nat → Int32) → (Nat → Int32) → (Nat → Int32) → Prop} {x2 : Int32} {u v : St1} (hp : p < 24)
    (hJ : ∀ u v, pm_I F C G u → pm_I F' C G v → J x2 (nI (p + 1)) u.1 u.2.1 u.2.2.1 u.2.2.2.1 u.2.2.2.2.1 u.2.2.2.2.2.1 u.2.2.2.2.2.2.1 u.2.2.2.2.2.2.2.1 u.2.2.2.2.2.2.2.2.1 u.2.2.2.2.2.2.2.2.2.1 u.2.2.2.2.2.2.2.2.2.2.1 u.2.2.2.2.2.2.2.2.2.2.2.1 u.2.2.2.2.2.2.2.2.2.2.2.2.1 u.2.2.2.2.2.2.2.2.2.2.2.2.2 v.1 v.2.1 v.2.2.1 v.2.2.2.1 v.2.2.2.2.1 v.2.2.2.2.2.1 v.2.2.2.2.2.2.1 v.2.2.2.2.2.2.2.1 v.2.2.2.2.2.2.2.2.1 v.2.2.2.2.2.2.2.2.2.1 v.2.2.2.2.2.2.2.2.2.2.1 v.2.2.2.2.2.2.2.2.2.2.2.1 v.2.2.2.2.2.2.2.2.2.2.2.2.1 v.2.2.2.2.2.2.2.2.2.2.2.2.2) (hu : pm_I F C G u) (hv : pm_I F' C G v) : ∃ n, wL_alike_54 post J x2 (nI p) n 0 u.1 u.2.1 u.2.2.1 u.2.2.2.1 u.2.2.2.2.1 u.2.2.2.2.2.1 u.2.2.2.2.2.2.1 u.2.2.2.2.2.2.2.1 u.2.2.2.2.2.2.2.2.1 u.2.2.2.2.2.2.2.2.2.1 u.2.2.2.2.2.2.2.2.2.2.1 u.2.2.2.2.2.2.2.2.2.2.2.1 u.2.2.2.2.2.2.2.2.2.2.2.2.1 u.2.2.2.2.2.2.2.2.2.2.2.2.2 v.1 v.2.1 v.2.2.1 v.2.2.2.1 v.2.2.2.2.1 v.2.2.2.2.2.1 v.2.2.2.2.2.2.1 v.2.2.2.2.2.2.2.1 v.2.2.2.2.2.2.2.2.1 v.2.2.2.2.2.2.2.2.2.1 v.2.2.2.2.2.2.2.2.2.2.1 v.2.2.2.2.2.2.2.2.2.2.2.1 v.2.2.2.2.2.2.2.2.2.2.2.2.1 v.2.2.2.2.2.2.2.2.2.2.2.2.2 := by
  refine pk_loop (σ := St1 × St1) (fun m i s => wL_alike_54 post J x2 (nI p) m (nI i) s.1.1 s.1.2.1 s.1.2.2.1 s.1.2.2.2.1 s.1.2.2.2.2.1 s.1.2.2.2.2.2.1 s.1.2.2.2.2.2.2.1 s.1.2.2.2.2.2.2.2.1 s.1.2.2.2.2.2.2.2.2.1 s.1.2.2.2.2.2.2.2.2.2.1 s.1.2.2.2.2.2.2.2.2.2.2.1 s.1.2.2.2.2.2.2.2.2.2.2.2.1 s.1.2.2.2.2.2.2.2.2.2.2.2.2.1 s.1.2.2.2.2.2.2.2.2.2.2.2.2.2 s.2.1 s.2.2.1 s.2.2.2.1 s.2.2.2.2.1 s.2.2.2.2.2.1 s.2.2.2.2.2.2.1 s.2.2.2.2.2.2.2.1 s.2.2.2.2.2.2.2.2.1 s.2.2.2.2.2.2.2.2.2.1 s.2.2.2.2.2.2.2.2.2.2.1 s.2.2.2.2.2.2.2.2.2.2.2.1 s.2.2.2.2.2.2.2.2.2.2.2.2.1 s.2.2.2.2.2.2.2.2.2.2.2.2.2.1 s.2.2.2.2.2.2.2.2.2.2.2.2.2.2) (fun _ s => pm_I F C G s.1 ∧ pm_I F' C G s.2) 4 0 (u, v) (by omega) ⟨hu, hv⟩
    (fun m s h => pk_le 4 4 (fun _ => nm_r (nI_1 p) (hJ s.1 s.2 h.1 h.2)) (fun z => absurd z (by omega))) (fun m i s hi h hs => ?_)
  obtain ⟨⟨fr, hd, sc, a1, a2, a3, a4, a5, a6, a7, a8, a9, a10, a11⟩, ⟨gr, he, sd, b1, b2, b3, b4, b5, b6, b7, b8, b9, b10, b11⟩⟩ := s
  refine pk_le 4 i (fun z => absurd z (by omega)) (fun _ => pm_read h.1 hp hi (fun u' j1 => ?_))
  obtain ⟨fr, hd, sc, a1, a2, a3, a4, a5, a6, a7, a8, a9, a10, a11⟩ := u'
  refine pm_read h.2 hp hi (fun v' j2 => ?_)
  obtain ⟨gr, he, sd, b1, b2, b3, b4, b5, b6, b7, b8, b9, b10, b11⟩ := v'
  exact br_t rfl (nm_r (nI_1 i) (hs ((fr, hd, sc, a1, a2, a3, a4, a5, a6, a7, a8, a9, a10, a11), (gr, he, sd, b1, b2, b3, b4, b5, b6, b7, b8, b9, b10, b11)) ⟨j1, j2⟩))
theorem pm_al {post : Int32 → St3 → Prop} (hu : pm_I F C G (fr, hd, sc, a1, a2, a3, a4, a5, a6, a7, a8, a9, a10, a11)) (hv : pm_I F' C G (gr, he, sd, b1, b2, b3, b4, b5, b6, b7, b8, b9, b10, b11)) (H : ∀ fr hd sc a1 a2 a3 a4 a5 a6 a7 a8 a9 a10 a11 gr he sd b1 b2 b3 b4 b5 b6 b7 b8 b9 b10 b11, pm_I F C G (fr, hd, sc, a1, a2, a3, a4, a5, a6, a7, a8, a9, a10, a11) → pm_I F' C G (gr, he, sd, b1, b2, b3, b4, b5, b6, b7, b8, b9, b10, b11) → post 1 (fr, hd, sc, a1, a2, a3, a4, a5, a6, a7, a8, a9, a10, a11, gr, he, sd, b1, b2, b3, b4, b5, b6, b7, b8, b9, b10, b11)) : wpL_alike post (fr, hd, sc, a1, a2, a3, a4, a5, a6, a7, a8, a9, a10, a11, gr, he, sd, b1, b2, b3, b4, b5, b6, b7, b8, b9, b10, b11) := by
  unfold wpL_alike
  dsimp only
  refine pk_loop (σ := St1 × St1) (fun m i s => wL_alike_4 post m (nI (pm_ct G i)) (nI i) s.1.1 s.1.2.1 s.1.2.2.1 s.1.2.2.2.1 s.1.2.2.2.2.1 s.1.2.2.2.2.2.1 s.1.2.2.2.2.2.2.1 s.1.2.2.2.2.2.2.2.1 s.1.2.2.2.2.2.2.2.2.1 s.1.2.2.2.2.2.2.2.2.2.1 s.1.2.2.2.2.2.2.2.2.2.2.1 s.1.2.2.2.2.2.2.2.2.2.2.2.1 s.1.2.2.2.2.2.2.2.2.2.2.2.2.1 s.1.2.2.2.2.2.2.2.2.2.2.2.2.2 s.2.1 s.2.2.1 s.2.2.2.1 s.2.2.2.2.1 s.2.2.2.2.2.1 s.2.2.2.2.2.2.1 s.2.2.2.2.2.2.2.1 s.2.2.2.2.2.2.2.2.1 s.2.2.2.2.2.2.2.2.2.1 s.2.2.2.2.2.2.2.2.2.2.1 s.2.2.2.2.2.2.2.2.2.2.2.1 s.2.2.2.2.2.2.2.2.2.2.2.2.1 s.2.2.2.2.2.2.2.2.2.2.2.2.2.1 s.2.2.2.2.2.2.2.2.2.2.2.2.2.2) (fun _ s => pm_I F C G s.1 ∧ pm_I F' C G s.2) 24 0 ((fr, hd, sc, a1, a2, a3, a4, a5, a6, a7, a8, a9, a10, a11), (gr, he, sd, b1, b2, b3, b4, b5, b6, b7, b8, b9, b10, b11)) (by omega) ⟨hu, hv⟩ (fun m s h => ?_) (fun m i s hi h hs => ?_)
  · obtain ⟨⟨fr, hd, sc, a1, a2, a3, a4, a5, a6, a7, a8, a9, a10, a11⟩, ⟨gr, he, sd, b1, b2, b3, b4, b5, b6, b7, b8, b9, b10, b11⟩⟩ := s
    have h1 : pm_I F C G (fr, hd, sc, a1, a2, a3, a4, a5, a6, a7, a8, a9, a10, a11) := h.1
    have h2 : pm_I F' C G (gr, he, sd, b1, b2, b3, b4, b5, b6, b7, b8, b9, b10, b11) := h.2
    have e : nI (pm_con C G) + nI (pm_dup C G) = nI (pm_ct G 24) := by
      rw [nI_add]
      exact congrArg nI (pm_ct_split G (fun p => pm_rep C G p p) 24)
    have l : pm_pla C G ≤ pm_ct G 24 := pm_ct_mono (fun i _ hx => by
      cases hG : G i with
      | true => rfl
      | false =>
        have hx' : (G i && pm_flat C i) = true := hx
        rw [hG] at hx'
        exact absurd hx' (by simp))
    have b := pm_ct_le G 24
    refine pk_le 24 24 (fun _ => ?_) (fun z => absurd z (by omega))
    refine pm_contents h1 (pm_contents h2 (br_t rfl ?_))
    refine pm_duplicates h1 (pm_duplicates h2 (br_t rfl ?_))
    refine pm_plain h1 (pm_plain h2 (br_t rfl ?_))
    refine pm_sum (g := 0) h1 (by omega) (pm_sum (g := 0) h2 (by omega) (br_t rfl ?_))
    refine pm_sum (g := 1) h1 (by omega) (pm_sum (g := 1) h2 (by omega) (br_t rfl ?_))
    refine pm_sum (g := 2) h1 (by omega) (pm_sum (g := 2) h2 (by omega) (br_t rfl ?_))
    refine pm_contents h1 (pm_duplicates h1 (br_t e (pm_plain h1 ?_)))
    exact pk_lt (pm_ct G 24) (pm_pla C G) (fun z => absurd z (by omega)) (fun _ => H _ _ _ _ _ _ _ _ _ _ _ _ _ _ _ _ _ _ _ _ _ _ _ _ _ _ _ _ h1 h2)
  · obtain ⟨⟨fr, hd, sc, a1, a2, a3, a4, a5, a6, a7, a8, a9, a10, a11⟩, ⟨gr, he, sd, b1, b2, b3, b4, b5, b6, b7, b8, b9, b10, b11⟩⟩ := s
    have h1 : pm_I F C G (fr, hd, sc, a1, a2, a3, a4, a5, a6, a7, a8, a9, a10, a11) := h.1
    have h2 : pm_I F' C G (gr, he, sd, b1, b2, b3, b4, b5, b6, b7, b8, b9, b10, b11) := h.2
    refine pk_le 24 i (fun z => absurd z (by omega)) (fun _ => pm_heldW h1 hi (pm_heldW h2 hi (br_t rfl (pm_same (q := 0) h1 hi (by omega) (pm_same (q := 0) h2 hi (by omega) (br_t rfl (pm_heldW h1 hi ?_)))))))
    cases e : G i with
    | false =>
      refine br_t rfl (pm_al54 (u := (fr, hd, sc, a1, a2, a3, a4, a5, a6, a7, a8, a9, a10, a11)) (v := (gr, he, sd, b1, b2, b3, b4, b5, b6, b7, b8, b9, b10, b11)) hi (fun u v j1 j2 => ?_) h1 h2)
      have t : wL_alike_4 post m (nI (pm_ct G (i + 1))) (nI (i + 1)) u.1 u.2.1 u.2.2.1 u.2.2.2.1 u.2.2.2.2.1 u.2.2.2.2.2.1 u.2.2.2.2.2.2.1 u.2.2.2.2.2.2.2.1 u.2.2.2.2.2.2.2.2.1 u.2.2.2.2.2.2.2.2.2.1 u.2.2.2.2.2.2.2.2.2.2.1 u.2.2.2.2.2.2.2.2.2.2.2.1 u.2.2.2.2.2.2.2.2.2.2.2.2.1 u.2.2.2.2.2.2.2.2.2.2.2.2.2 v.1 v.2.1 v.2.2.1 v.2.2.2.1 v.2.2.2.2.1 v.2.2.2.2.2.1 v.2.2.2.2.2.2.1 v.2.2.2.2.2.2.2.1 v.2.2.2.2.2.2.2.2.1 v.2.2.2.2.2.2.2.2.2.1 v.2.2.2.2.2.2.2.2.2.2.1 v.2.2.2.2.2.2.2.2.2.2.2.1 v.2.2.2.2.2.2.2.2.2.2.2.2.1 v.2.2.2.2.2.2.2.2.2.2.2.2.2 := hs (u, v) ⟨j1, j2⟩
      rw [pm_ctN e] at t
      exact t
    | true => exact br_f (by decide) (nm_r (pm_ctS e) (pm_al54 (u := (fr, hd, sc, a1, a2, a3, a4, a5, a6, a7, a8, a9, a10, a11)) (v := (gr, he, sd, b1, b2, b3, b4, b5, b6, b7, b8, b9, b10, b11)) hi (fun u v j1 j2 => hs (u, v) ⟨j1, j2⟩) h1 h2))
theorem pm_I_new {s1 s2 s6 s7 : Nat → Int32} (h4 : 4 ≤ F) (h16 : F ≤ 16) (h : ∀ p, p < 24 → s1 p = 2 ∧ s2 p = nI p ∧ s6 p = 1 ∧ s7 p = 4) :
    pm_I F (fun _ _ => 0) (fun _ => true) (nI F, 0, 0, s1, s2, (fun _ => 0), (fun _ => 0), (fun _ => 0), s6, s7, (fun _ => 0), (fun _ => 0), (fun _ => 0), (fun _ => 0)) := by
  refine pm_mk ⟨h4, h16, rfl⟩ ⟨0, by omega, rfl⟩ ⟨0, by omega, rfl⟩ (fun p hp => ⟨2, p, by omega, hp, (h p hp).1, (h p hp).2.1, fun z => absurd z (by omega)⟩) (fun f hf => ?_) ⟨fun p hp _ => ?_, fun r hr _ => ⟨r, hr, (h r hr).1, (h r hr).2.1⟩, fun p q hp hq _ _ e => ?_⟩
    ⟨fun p hp e => ?_, fun r hr z => absurd rfl z, fun p q hp hq e _ _ => ?_⟩ (fun p hp => ?_) (fun p w hp hw => ?_)
  · rw [pm_ct_congr (Q := fun _ => false) (fun i hi => pm_atF (fun z => by rw [(h i hi).1] at z; exact absurd z.1 (by decide)))]
    rfl
  · rw [(h p hp).2.1, nI_clamp (by omega), (h p hp).2.2.1]
    decide
  · rw [(h p hp).2.1, (h q hq).2.1] at e
    exact (nI_eq (by omega) (by omega)).mp e
  · rw [(h p hp).1] at e
    exact absurd e (by decide)
  · rw [(h p hp).1] at e
    exact absurd e (by decide)
  · rw [(h p hp).1]
    exact ⟨fun z => absurd z (by decide), fun z => absurd z (by decide)⟩
  · rw [pm_pk2 (h p hp).1 (h p hp).2.1 hp]
    split <;> rfl
theorem pm_i117 {post : St1 → Prop} {mc ms kc ks : Nat} (h4 : 4 ≤ F) (h16 : F ≤ 16) (H : ∀ u, pm_I F (fun _ _ => 0) (fun _ => true) u → post u) :
    ∃ n, wX_init_117 post mc ms kc ks (nI F) 0 0 n 0 (fun _ => 0) (fun _ => 0) (fun _ => 0) (fun _ => 0) (fun _ => 0) (fun _ => 0) (fun _ => 0) (fun _ => 0) (fun _ => 0) (fun _ => 0) (fun _ => 0) :=
  pk_loop (σ := (Nat → Int32) × (Nat → Int32) × (Nat → Int32) × (Nat → Int32)) (fun n i s => wX_init_117 post mc ms kc ks (nI F) 0 0 n (nI i) s.1 s.2.1 (fun _ => 0) (fun _ => 0) (fun _ => 0) s.2.2.1 s.2.2.2 (fun _ => 0) (fun _ => 0) (fun _ => 0) (fun _ => 0))
    (fun i s => ∀ p, p < i → s.1 p = 2 ∧ s.2.1 p = nI p ∧ s.2.2.1 p = 1 ∧ s.2.2.2 p = 4) 24 0 ((fun _ => 0), (fun _ => 0), (fun _ => 0), (fun _ => 0)) (by omega) (fun p hp => absurd hp (by omega))
    (fun n s h => pk_le 24 24 (fun _ => H _ (pm_I_new h4 h16 h)) (fun z => absurd z (by omega)))
    (fun n i s hi h hs => pk_le 24 i (fun z => absurd z (by omega)) (fun _ => And.intro (pk_in i 24 hi) (nm_r (pm_uc (by omega)) (And.intro (pk_in i 24 hi) (nm_r (pm_uc (by omega)) (And.intro (pk_in i 24 hi) (nm_r (pm_uc (by omega)) (And.intro (pk_in i 24 hi) (nm_r (pm_uc (by omega)) (nm_r (nI_1 i)
      (hs (upd s.1 i 2, upd s.2.1 i (nI i), upd s.2.2.1 i 1, upd s.2.2.2 i 4) (fun p hp => by
        by_cases e : p = i
        · rw [e]
          exact ⟨pk_us, pk_us, pk_us, pk_us⟩
        · obtain ⟨x1, x2, x3, x4⟩ := h p (by omega)
          exact ⟨(pk_un e).trans x1, (pk_un e).trans x2, (pk_un e).trans x3, (pk_un e).trans x4⟩))))))))))))
theorem pm_i101 {post : St1 → Prop} {mc ms kc ks : Nat} {x a b c : Int32} (hx : 4 ≤ x) (hb : b = 0) (hc : c = 0) (H : ∀ F u, pm_I F (fun _ _ => 0) (fun _ => true) u → post u) :
    wX_init_101 post mc ms x kc ks a b c (fun _ => 0) (fun _ => 0) (fun _ => 0) (fun _ => 0) (fun _ => 0) (fun _ => 0) (fun _ => 0) (fun _ => 0) (fun _ => 0) (fun _ => 0) (fun _ => 0) := by
  subst hb hc
  unfold wX_init_101
  refine br_c (fun h => ?_) (fun _ => pm_i117 (F := 16) (by omega) (by omega) (H 16))
  have h0 : ¬ x < 0 := by
    rw [Int32.lt_iff_toInt_lt]
    have t := Int32.le_iff_toInt_le.mp hx
    have e4 : (4 : Int32).toInt = 4 := by decide
    have e0 : (0 : Int32).toInt = 0 := by decide
    omega
  obtain ⟨j, hj, rfl⟩ := nI_of2 (n := 16) (M := 16) (by decide) h0 h
  have h4 : 4 ≤ j := (nI_leI (a := 4) (by omega) (by omega)).mp hx
  exact pm_i117 h4 hj (H j)
theorem pm_init {post : St1 → Prop} {x : Int32} (H : ∀ F u, pm_I F (fun _ _ => 0) (fun _ => true) u → post u) : wpX_init post 11 368 (0, 0, 0) x := by
  unfold wpX_init
  dsimp only
  refine ⟨by omega, by omega, by omega, by omega, by omega, by omega, by omega, by omega, by omega, by omega, by omega, by omega, by omega, by omega, by omega, by omega, by omega, by omega, by omega, by omega, by omega, by omega, ?_⟩
  exact br_c (fun h => pm_i101 h rfl rfl H) (fun _ => pm_i101 (by decide) rfl rfl H)
end
end
section
/-- the two pages of the last copy; the page, word and value of the last write -/
def pm_A (C : Nat → Nat → Int32) (G : Nat → Bool) (a b : Int32) : Prop := a = -1 ∨ ∃ p q, p < 24 ∧ q < 24 ∧ a = nI p ∧ b = nI q ∧ pm_eq C p q = true ∧ G p = G q
def pm_P (C : Nat → Nat → Int32) (G : Nat → Bool) (a b x : Int32) : Prop := a = -1 ∨ ∃ p w, p < 24 ∧ w < 4 ∧ a = nI p ∧ b = nI w ∧ C p w = x ∧ G p = true
def pm_JJ (F F' : Nat) (C : Nat → Nat → Int32) (G : Nat → Bool) (J : Int32 → Int32 → Int32 → Int32 → Int32 → Int32 → Int32 → Int32 → Int32 → (Nat → Int32) → (Nat → Int32) → (Nat → Int32) → (Nat → Int32) → (Nat → Int32) → (Nat → Int32) → (Nat → Int32) → (Nat → Int32) → (Nat → Int32) → (Nat → Int32) → (Nat → Int32) → Int32 → Int32 → Int32 → (Nat → Int32) → (Nat → Int32) → (Nat → Int32) → (Nat → Int32) → (Nat → Int32) → (Nat → Int32) → (Nat → Int32) → (Nat → Int32) → (Nat → Int32) → (Nat → Int32) → (Nat → Int32) → Prop) (x8 : Int32) : Prop :=
  ∀ y3 y4 y5 y6 y7 u v, pm_A C G y3 y4 → pm_P C G y5 y6 y7 → pm_I F C G u → pm_I F' C G v → J y3 y4 y5 y6 y7 (x8 + 3) u.1 u.2.1 u.2.2.1 u.2.2.2.1 u.2.2.2.2.1 u.2.2.2.2.2.1 u.2.2.2.2.2.2.1 u.2.2.2.2.2.2.2.1 u.2.2.2.2.2.2.2.2.1 u.2.2.2.2.2.2.2.2.2.1 u.2.2.2.2.2.2.2.2.2.2.1 u.2.2.2.2.2.2.2.2.2.2.2.1 u.2.2.2.2.2.2.2.2.2.2.2.2.1 u.2.2.2.2.2.2.2.2.2.2.2.2.2 v.1 v.2.1 v.2.2.1 v.2.2.2.1 v.2.2.2.2.1 v.2.2.2.2.2.1 v.2.2.2.2.2.2.1 v.2.2.2.2.2.2.2.1 v.2.2.2.2.2.2.2.2.1 v.2.2.2.2.2.2.2.2.2.1 v.2.2.2.2.2.2.2.2.2.2.1 v.2.2.2.2.2.2.2.2.2.2.2.1 v.2.2.2.2.2.2.2.2.2.2.2.2.1 v.2.2.2.2.2.2.2.2.2.2.2.2.2
section
variable {F F' p q f r w n op L kc ks : Nat} {C C' : Nat → Nat → Int32} {G G' : Nat → Bool} {fr hd sc : Int32} {a1 a2 a3 a4 a5 a6 a7 a8 a9 a10 a11 : Nat → Int32} {gr he sd : Int32} {b1 b2 b3 b4 b5 b6 b7 b8 b9 b10 b11 : Nat → Int32} {xs : Nat → Int32} {post : Int32 → Prop} {J : Int32 → Int32 → Int32 → Int32 → Int32 → Int32 → Int32 → Int32 → Int32 → (Nat → Int32) → (Nat → Int32) → (Nat → Int32) → (Nat → Int32) → (Nat → Int32) → (Nat → Int32) → (Nat → Int32) → (Nat → Int32) → (Nat → Int32) → (Nat → Int32) → (Nat → Int32) → Int32 → Int32 → Int32 → (Nat → Int32) → (Nat → Int32) → (Nat → Int32) → (Nat → Int32) → (Nat → Int32) → (Nat → Int32) → (Nat → Int32) → (Nat → Int32) → (Nat → Int32) → (Nat → Int32) → (Nat → Int32) → Prop}
  {x3 x4 x5 x6 x7 x8 x10 x11 x12 x13 x14 x15 x : Int32}
theorem pm_444 (hu : pm_I F C G (fr, hd, sc, a1, a2, a3, a4, a5, a6, a7, a8, a9, a10, a11)) (hv : pm_I F' C G (gr, he, sd, b1, b2, b3, b4, b5, b6, b7, b8, b9, b10, b11)) (hA : pm_A C G x3 x4) (hP : pm_P C G x5 x6 x7) (hJ : pm_JJ F F' C G J x8) : wL_law_444 post L xs J x3 x4 x5 x6 x7 x8 kc ks fr hd sc a1 a2 a3 a4 a5 a6 a7 a8 a9 a10 a11 gr he sd b1 b2 b3 b4 b5 b6 b7 b8 b9 b10 b11 := by
  have hP' := hP
  unfold wL_law_444
  rcases hP with rfl | ⟨p, w, hp, hw, rfl, rfl, hc, hg⟩
  · exact br_t (by decide) (nm_e (hJ x3 x4 (-1) x6 x7 (fr, hd, sc, a1, a2, a3, a4, a5, a6, a7, a8, a9, a10, a11) (gr, he, sd, b1, b2, b3, b4, b5, b6, b7, b8, b9, b10, b11) hA hP' hu hv))
  · refine br_f (nI_pos (by omega)) (pm_read hu hp hw (fun u' j => ?_))
    obtain ⟨fr, hd, sc, a1, a2, a3, a4, a5, a6, a7, a8, a9, a10, a11⟩ := u'
    refine br_t hc (pm_heldW j hp ?_)
    rw [hg]
    exact br_f (by decide) (nm_e (hJ x3 x4 (nI p) (nI w) x7 (fr, hd, sc, a1, a2, a3, a4, a5, a6, a7, a8, a9, a10, a11) (gr, he, sd, b1, b2, b3, b4, b5, b6, b7, b8, b9, b10, b11) hA hP' j hv))
theorem pm_402 (hu : pm_I F C G (fr, hd, sc, a1, a2, a3, a4, a5, a6, a7, a8, a9, a10, a11)) (hv : pm_I F' C G (gr, he, sd, b1, b2, b3, b4, b5, b6, b7, b8, b9, b10, b11)) (hA : pm_A C G x3 x4) (hP : pm_P C G x5 x6 x7) (hJ : pm_JJ F F' C G J x8) : wL_law_402 post L xs J x3 x4 x5 x6 x7 x8 kc ks fr hd sc a1 a2 a3 a4 a5 a6 a7 a8 a9 a10 a11 gr he sd b1 b2 b3 b4 b5 b6 b7 b8 b9 b10 b11 := by
  unfold wL_law_402
  refine pm_al hu hv (fun fr hd sc a1 a2 a3 a4 a5 a6 a7 a8 a9 a10 a11 gr he sd b1 b2 b3 b4 b5 b6 b7 b8 b9 b10 b11 j1 j2 => ?_)
  have hA' := hA
  refine br_f (by decide) ?_
  rcases hA with rfl | ⟨p, q, hp, hq, rfl, rfl, he, hg⟩
  · exact br_t (by decide) (pm_444 j1 j2 hA' hP hJ)
  · refine br_f (nI_pos (by omega)) (pm_same j1 hp hq ?_)
    rw [he]
    exact br_f (by decide) (pm_heldW j1 hp (pm_heldW j1 hq (br_t (by rw [hg]) (pm_444 j1 j2 hA' hP hJ))))
theorem pm_372 (hop : op < 16) (hu : pm_I F C G (fr, hd, sc, a1, a2, a3, a4, a5, a6, a7, a8, a9, a10, a11)) (hv : pm_I F' C G (gr, he, sd, b1, b2, b3, b4, b5, b6, b7, b8, b9, b10, b11)) (hA : pm_A C G x3 x4) (hP1 : op ≤ 4 → pm_P C G x10 x12 x13) (hP2 : 4 < op → pm_P C G x5 x6 x7) (hJ : pm_JJ F F' C G J x8) : wL_law_372 post L xs J x3 x4 x5 x6 x7 x8 (nI op) x10 x12 x13 kc ks fr hd sc a1 a2 a3 a4 a5 a6 a7 a8 a9 a10 a11 gr he sd b1 b2 b3 b4 b5 b6 b7 b8 b9 b10 b11 := by
  unfold wL_law_372
  by_cases c : 4 < op
  · have c' : (4 : Int32) < nI op := nI_lt (a := 4) c (by omega)
    refine br_t c' ?_
    unfold wL_law_382
    refine br_t c' ?_
    unfold wL_law_392
    exact br_t c' (pm_402 hu hv hA (hP2 c) hJ)
  · have c' : ¬ (4 : Int32) < nI op := nI_nlt (a := 4) (by omega) (by omega)
    refine br_f c' ?_
    unfold wL_law_382
    refine br_f c' ?_
    unfold wL_law_392
    exact br_f c' (pm_402 hu hv hA (hP1 (by omega)) hJ)
theorem pm_354 (hop : op < 16) (hu : pm_I F C G (fr, hd, sc, a1, a2, a3, a4, a5, a6, a7, a8, a9, a10, a11)) (hv : pm_I F' C G (gr, he, sd, b1, b2, b3, b4, b5, b6, b7, b8, b9, b10, b11)) (hA1 : 7 ≤ op → op ≤ 10 → pm_A C G x3 x11) (hA2 : ¬ (7 ≤ op ∧ op ≤ 10) → pm_A C G x3 x4) (hP1 : op ≤ 4 → pm_P C G x10 x12 x13) (hP2 : 4 < op → pm_P C G x5 x6 x7) (hJ : pm_JJ F F' C G J x8) : wL_law_354 post L xs J x3 x4 x5 x6 x7 x8 (nI op) x10 x11 x12 x13 kc ks fr hd sc a1 a2 a3 a4 a5 a6 a7 a8 a9 a10 a11 gr he sd b1 b2 b3 b4 b5 b6 b7 b8 b9 b10 b11 := by
  unfold wL_law_354
  exact pk_lt op 7 (fun z => pm_372 hop hu hv (hA2 (by omega)) hP1 hP2 hJ) (fun z => pk_lt 10 op (fun y => pm_372 hop hu hv (hA2 (by omega)) hP1 hP2 hJ) (fun y => pm_372 hop hu hv (hA1 z y) hP1 hP2 hJ))
theorem pm_337 (hop : op < 16) (hu : pm_I F C G (fr, hd, sc, a1, a2, a3, a4, a5, a6, a7, a8, a9, a10, a11)) (hv : pm_I F' C G (gr, he, sd, b1, b2, b3, b4, b5, b6, b7, b8, b9, b10, b11)) (hA1 : 7 ≤ op → op ≤ 10 → pm_A C G x10 x11) (hA2 : ¬ (7 ≤ op ∧ op ≤ 10) → pm_A C G x3 x4) (hP1 : op ≤ 4 → pm_P C G x10 x12 x13) (hP2 : 4 < op → pm_P C G x5 x6 x7) (hJ : pm_JJ F F' C G J x8) : wL_law_337 post L xs J x3 x4 x5 x6 x7 x8 (nI op) x10 x11 x12 x13 kc ks fr hd sc a1 a2 a3 a4 a5 a6 a7 a8 a9 a10 a11 gr he sd b1 b2 b3 b4 b5 b6 b7 b8 b9 b10 b11 := by
  unfold wL_law_337
  exact pk_lt op 7 (fun z => pm_354 hop hu hv (fun a b => absurd a (by omega)) hA2 hP1 hP2 hJ) (fun z => pk_lt 10 op (fun y => pm_354 hop hu hv (fun a b => absurd b (by omega)) hA2 hP1 hP2 hJ) (fun y => pm_354 hop hu hv hA1 (fun a => absurd ⟨z, y⟩ a) hP1 hP2 hJ))
theorem pm_322 (hop : op < 16) (hu : pm_I F C G (fr, hd, sc, a1, a2, a3, a4, a5, a6, a7, a8, a9, a10, a11)) (hv : pm_I F' C G (gr, he, sd, b1, b2, b3, b4, b5, b6, b7, b8, b9, b10, b11)) (hA1 : 7 ≤ op → op ≤ 10 → pm_A C G x10 x11) (hA2 : ¬ (7 ≤ op ∧ op ≤ 10) → pm_A C G x3 x4) (hP1 : op ≤ 4 → pm_P C G x10 x12 x13) (hP2 : (x15 = 0 ∨ ¬ x11 = x5) → 4 < op → pm_P C G x5 x6 x7) (hJ : pm_JJ F F' C G J x8) : wL_law_322 post L xs J x3 x4 x5 x6 x7 x8 (nI op) x10 x11 x12 x13 x15 kc ks fr hd sc a1 a2 a3 a4 a5 a6 a7 a8 a9 a10 a11 gr he sd b1 b2 b3 b4 b5 b6 b7 b8 b9 b10 b11 := by
  unfold wL_law_322
  refine br_c (fun c => pm_337 hop hu hv hA1 hA2 hP1 (hP2 (Or.inl c)) hJ) (fun _ => br_c (fun _ => ?_) (fun c => pm_337 hop hu hv hA1 hA2 hP1 (hP2 (Or.inr c)) hJ))
  unfold wL_law_334
  exact pm_337 hop hu hv hA1 hA2 hP1 (fun _ => Or.inl rfl) hJ
theorem pm_310 (hop : op < 16) (hu : pm_I F C G (fr, hd, sc, a1, a2, a3, a4, a5, a6, a7, a8, a9, a10, a11)) (hv : pm_I F' C G (gr, he, sd, b1, b2, b3, b4, b5, b6, b7, b8, b9, b10, b11)) (hA1 : 7 ≤ op → op ≤ 10 → pm_A C G x10 x11) (hA2 : ¬ (7 ≤ op ∧ op ≤ 10) → pm_A C G x3 x4) (hP1 : op ≤ 4 → pm_P C G x10 x12 x13) (hP2 : (x14 = 0 ∨ ¬ x10 = x5) → (x15 = 0 ∨ ¬ x11 = x5) → 4 < op → pm_P C G x5 x6 x7) (hJ : pm_JJ F F' C G J x8) : wL_law_310 post L xs J x3 x4 x5 x6 x7 x8 (nI op) x10 x11 x12 x13 x14 x15 kc ks fr hd sc a1 a2 a3 a4 a5 a6 a7 a8 a9 a10 a11 gr he sd b1 b2 b3 b4 b5 b6 b7 b8 b9 b10 b11 := by
  unfold wL_law_310
  refine br_c (fun c => pm_322 hop hu hv hA1 hA2 hP1 (hP2 (Or.inl c)) hJ) (fun _ => br_c (fun _ => ?_) (fun c => pm_322 hop hu hv hA1 hA2 hP1 (hP2 (Or.inr c)) hJ))
  unfold wL_law_334
  exact pm_337 hop hu hv hA1 hA2 hP1 (fun _ => Or.inl rfl) hJ
theorem pm_308 (hop : op < 16) (hu : pm_I F C G (fr, hd, sc, a1, a2, a3, a4, a5, a6, a7, a8, a9, a10, a11)) (hv : pm_I F' C G (gr, he, sd, b1, b2, b3, b4, b5, b6, b7, b8, b9, b10, b11)) (hA1 : 7 ≤ op → op ≤ 10 → pm_A C G x10 x11) (hP1 : op ≤ 4 → pm_P C G x10 x12 x13) (hP2 : (x14 = 0 ∨ ¬ x10 = x5) → (x15 = 0 ∨ ¬ x11 = x5) → 4 < op → pm_P C G x5 x6 x7) (hJ : pm_JJ F F' C G J x8) : wL_law_308 post L xs J x4 x5 x6 x7 x8 (nI op) x10 x11 x12 x13 x14 x15 kc ks fr hd sc a1 a2 a3 a4 a5 a6 a7 a8 a9 a10 a11 gr he sd b1 b2 b3 b4 b5 b6 b7 b8 b9 b10 b11 := by
  unfold wL_law_308
  exact pm_310 hop hu hv hA1 (fun _ => Or.inl rfl) hP1 hP2 hJ
theorem pm_290 (hop : op < 16) (hu : pm_I F C G (fr, hd, sc, a1, a2, a3, a4, a5, a6, a7, a8, a9, a10, a11)) (hv : pm_I F' C G (gr, he, sd, b1, b2, b3, b4, b5, b6, b7, b8, b9, b10, b11)) (hA1 : 7 ≤ op → op ≤ 10 → pm_A C G x10 x11) (hA2 : (x15 = 0 ∨ (¬ x11 = x3 ∧ ¬ x11 = x4)) → ¬ (7 ≤ op ∧ op ≤ 10) → pm_A C G x3 x4) (hP1 : op ≤ 4 → pm_P C G x10 x12 x13) (hP2 : (x14 = 0 ∨ ¬ x10 = x5) → (x15 = 0 ∨ ¬ x11 = x5) → 4 < op → pm_P C G x5 x6 x7) (hJ : pm_JJ F F' C G J x8) : wL_law_290 post L xs J x3 x4 x5 x6 x7 x8 (nI op) x10 x11 x12 x13 x14 x15 kc ks fr hd sc a1 a2 a3 a4 a5 a6 a7 a8 a9 a10 a11 gr he sd b1 b2 b3 b4 b5 b6 b7 b8 b9 b10 b11 := by
  unfold wL_law_290
  exact br_c (fun c => pm_310 hop hu hv hA1 (hA2 (Or.inl c)) hP1 hP2 hJ) (fun _ => br_c (fun _ => pm_308 hop hu hv hA1 hP1 hP2 hJ) (fun c => br_c (fun _ => pm_308 hop hu hv hA1 hP1 hP2 hJ) (fun d => pm_310 hop hu hv hA1 (hA2 (Or.inr ⟨c, d⟩)) hP1 hP2 hJ)))
theorem pm_270 (hop : op < 16) (hu : pm_I F C G (fr, hd, sc, a1, a2, a3, a4, a5, a6, a7, a8, a9, a10, a11)) (hv : pm_I F' C G (gr, he, sd, b1, b2, b3, b4, b5, b6, b7, b8, b9, b10, b11)) (hA1 : 7 ≤ op → op ≤ 10 → pm_A C G x10 x11) (hA2 : (x14 = 0 ∨ (¬ x10 = x3 ∧ ¬ x10 = x4)) → (x15 = 0 ∨ (¬ x11 = x3 ∧ ¬ x11 = x4)) → ¬ (7 ≤ op ∧ op ≤ 10) → pm_A C G x3 x4) (hP1 : op ≤ 4 → pm_P C G x10 x12 x13) (hP2 : (x14 = 0 ∨ ¬ x10 = x5) → (x15 = 0 ∨ ¬ x11 = x5) → 4 < op → pm_P C G x5 x6 x7) (hJ : pm_JJ F F' C G J x8) : wL_law_270 post L xs J x3 x4 x5 x6 x7 x8 (nI op) x10 x11 x12 x13 x14 x15 kc ks fr hd sc a1 a2 a3 a4 a5 a6 a7 a8 a9 a10 a11 gr he sd b1 b2 b3 b4 b5 b6 b7 b8 b9 b10 b11 := by
  unfold wL_law_270
  exact br_c (fun c => pm_290 hop hu hv hA1 (hA2 (Or.inl c)) hP1 hP2 hJ) (fun _ => br_c (fun _ => pm_308 hop hu hv hA1 hP1 hP2 hJ) (fun c => br_c (fun _ => pm_308 hop hu hv hA1 hP1 hP2 hJ) (fun d => pm_290 hop hu hv hA1 (hA2 (Or.inr ⟨c, d⟩)) hP1 hP2 hJ)))
theorem pm_249 (hop : op < 16) (hu : pm_I F C G (fr, hd, sc, a1, a2, a3, a4, a5, a6, a7, a8, a9, a10, a11)) (hv : pm_I F' C G (gr, he, sd, b1, b2, b3, b4, b5, b6, b7, b8, b9, b10, b11)) (hA1 : 7 ≤ op → op ≤ 10 → pm_A C G x10 x11) (hA2 : (x14 = 0 ∨ (¬ x10 = x3 ∧ ¬ x10 = x4)) → (¬ (7 ≤ op ∧ op ≤ 12) ∨ (¬ x11 = x3 ∧ ¬ x11 = x4)) → ¬ (7 ≤ op ∧ op ≤ 10) → pm_A C G x3 x4) (hP1 : op ≤ 4 → pm_P C G x10 x12 x13) (hP2 : (x14 = 0 ∨ ¬ x10 = x5) → (¬ (7 ≤ op ∧ op ≤ 12) ∨ ¬ x11 = x5) → 4 < op → pm_P C G x5 x6 x7) (hJ : pm_JJ F F' C G J x8) : wL_law_249 post L xs J x3 x4 x5 x6 x7 x8 (nI op) x10 x11 x12 x13 x14 kc ks fr hd sc a1 a2 a3 a4 a5 a6 a7 a8 a9 a10 a11 gr he sd b1 b2 b3 b4 b5 b6 b7 b8 b9 b10 b11 := by
  unfold wL_law_249
  have Z : ∀ hn : ¬ (7 ≤ op ∧ op ≤ 12), wL_law_269 post L xs J x3 x4 x5 x6 x7 x8 (nI op) x10 x11 x12 x13 x14 kc ks fr hd sc a1 a2 a3 a4 a5 a6 a7 a8 a9 a10 a11 gr he sd b1 b2 b3 b4 b5 b6 b7 b8 b9 b10 b11 := fun hn => by
    unfold wL_law_269
    exact pm_270 hop hu hv hA1 (fun a _ => hA2 a (Or.inl hn)) hP1 (fun a _ => hP2 a (Or.inl hn)) hJ
  exact pk_lt op 7 (fun z => Z (by omega)) (fun z => pk_lt 12 op (fun y => Z (by omega)) (fun y => pm_270 hop hu hv hA1 (fun a b => hA2 a (b.elim (fun t => absurd t (by decide)) Or.inr)) hP1 (fun a b => hP2 a (b.elim (fun t => absurd t (by decide)) Or.inr)) hJ))
theorem pm_223a (hop : op < 16) (hu : pm_I F C G (fr, hd, sc, a1, a2, a3, a4, a5, a6, a7, a8, a9, a10, a11)) (hv : pm_I F' C G (gr, he, sd, b1, b2, b3, b4, b5, b6, b7, b8, b9, b10, b11)) (hA1 : 7 ≤ op → op ≤ 10 → pm_A C G x10 x11) (hA2 : (¬ (op ≤ 6 ∨ (11 ≤ op ∧ op ≤ 14)) ∨ (¬ x10 = x3 ∧ ¬ x10 = x4)) → (¬ (7 ≤ op ∧ op ≤ 12) ∨ (¬ x11 = x3 ∧ ¬ x11 = x4)) → ¬ (7 ≤ op ∧ op ≤ 10) → pm_A C G x3 x4) (hP1 : op ≤ 4 → pm_P C G x10 x12 x13) (hP2 : (¬ (op ≤ 6 ∨ (11 ≤ op ∧ op ≤ 14)) ∨ ¬ x10 = x5) → (¬ (7 ≤ op ∧ op ≤ 12) ∨ ¬ x11 = x5) → 4 < op → pm_P C G x5 x6 x7) (hJ : pm_JJ F F' C G J x8) : wL_law_223 post L xs J x3 x4 x5 x6 x7 x8 (nI op) x10 x11 x12 x13 kc ks fr hd sc a1 a2 a3 a4 a5 a6 a7 a8 a9 a10 a11 gr he sd b1 b2 b3 b4 b5 b6 b7 b8 b9 b10 b11 := by
  unfold wL_law_223
  have Z0 : ∀ hn : ¬ (op ≤ 6 ∨ (11 ≤ op ∧ op ≤ 14)), wL_law_248 post L xs J x3 x4 x5 x6 x7 x8 (nI op) x10 x11 x12 x13 kc ks fr hd sc a1 a2 a3 a4 a5 a6 a7 a8 a9 a10 a11 gr he sd b1 b2 b3 b4 b5 b6 b7 b8 b9 b10 b11 := fun hn => by
    unfold wL_law_248
    exact pm_249 hop hu hv hA1 (fun _ => hA2 (Or.inl hn)) hP1 (fun _ => hP2 (Or.inl hn)) hJ
  have Z1 : wL_law_244 post L xs J x3 x4 x5 x6 x7 x8 (nI op) x10 x11 x12 x13 kc ks fr hd sc a1 a2 a3 a4 a5 a6 a7 a8 a9 a10 a11 gr he sd b1 b2 b3 b4 b5 b6 b7 b8 b9 b10 b11 := by
    unfold wL_law_244
    exact pm_249 hop hu hv hA1 (fun b => hA2 (b.elim (fun t => absurd t (by decide)) Or.inr)) hP1 (fun b => hP2 (b.elim (fun t => absurd t (by decide)) Or.inr)) hJ
  exact pk_le op 6 (fun _ => Z1) (fun z => pk_lt op 11 (fun y => Z0 (by omega)) (fun y => pk_lt 14 op (fun k => Z0 (by omega)) (fun _ => Z1)))
end
/-- what a turn doesn't name stays -/
theorem pm_stay {op p q w y : Nat} {x : Int32} {C : Nat → Nat → Int32} {G : Nat → Bool} (h1 : ¬ (op ≤ 6 ∨ (11 ≤ op ∧ op ≤ 14)) ∨ y ≠ p) (h2 : ¬ (7 ≤ op ∧ op ≤ 12) ∨ y ≠ q) :
    (∀ z, pm_tC op p q w x C y z = C y z) ∧ pm_tG op p q G y = G y := by
  unfold pm_tC pm_tG
  by_cases c4 : op ≤ 4
  · have hy : y ≠ p := h1.elim (fun t => absurd (Or.inl (by omega)) t) id
    simp only [if_pos c4]
    exact ⟨fun z => pm_upN hy, pm_ugN hy⟩
  · simp only [if_neg c4]
    by_cases c6 : op ≤ 6
    · have hy : y ≠ p := h1.elim (fun t => absurd (Or.inl (by omega)) t) id
      simp only [if_pos c6]
      exact ⟨fun z => pm_upN hy, pm_ugN hy⟩
    · simp only [if_neg c6]
      by_cases c10 : op ≤ 10
      · have hy : y ≠ q := h2.elim (fun t => absurd ⟨by omega, by omega⟩ t) id
        simp only [if_pos c10]
        exact ⟨fun z => pm_upN hy, pm_ugN hy⟩
      · simp only [if_neg c10]
        by_cases c12 : op ≤ 12
        · have hy : y ≠ q := h2.elim (fun t => absurd ⟨by omega, by omega⟩ t) id
          have hz : y ≠ p := h1.elim (fun t => absurd (Or.inr ⟨by omega, by omega⟩) t) id
          simp only [if_pos c12]
          exact ⟨fun z => by rw [pm_upN hy, pm_upN hz], by rw [pm_ugN hy, pm_ugN hz]⟩
        · simp only [if_neg c12]
          by_cases c14 : op ≤ 14
          · have hz : y ≠ p := h1.elim (fun t => absurd (Or.inr ⟨by omega, by omega⟩) t) id
            simp only [if_pos c14]
            exact ⟨fun z => pm_upN hz, pm_ugN hz⟩
          · simp only [if_neg c14]
            exact ⟨fun z => trivial, trivial⟩
theorem pm_nn {a b : Nat} (ha : a < 24) (hb : b < 24) {x : Int32} (hx : x = nI b) (h : ¬ nI a = x) : b ≠ a := fun e => h (by rw [hx, e])
section
variable {F F' p q f r w n op L kc ks i : Nat} {C C' : Nat → Nat → Int32} {G G' : Nat → Bool} {fr hd sc : Int32} {a1 a2 a3 a4 a5 a6 a7 a8 a9 a10 a11 : Nat → Int32} {gr he sd : Int32} {b1 b2 b3 b4 b5 b6 b7 b8 b9 b10 b11 : Nat → Int32} {xs : Nat → Int32} {post : Int32 → Prop} {J : Int32 → Int32 → Int32 → Int32 → Int32 → Int32 → Int32 → Int32 → Int32 → (Nat → Int32) → (Nat → Int32) → (Nat → Int32) → (Nat → Int32) → (Nat → Int32) → (Nat → Int32) → (Nat → Int32) → (Nat → Int32) → (Nat → Int32) → (Nat → Int32) → (Nat → Int32) → Int32 → Int32 → Int32 → (Nat → Int32) → (Nat → Int32) → (Nat → Int32) → (Nat → Int32) → (Nat → Int32) → (Nat → Int32) → (Nat → Int32) → (Nat → Int32) → (Nat → Int32) → (Nat → Int32) → (Nat → Int32) → Prop}
  {x3 x4 x5 x6 x7 x8 x10 x11 x12 x13 x14 x15 x : Int32}
theorem pm_223 (hop : op < 16) (hp : p < 24) (hq : q < 24) (hw : w < 4) (hu : pm_I F (pm_tC op p q w x C) (pm_tG op p q G) (fr, hd, sc, a1, a2, a3, a4, a5, a6, a7, a8, a9, a10, a11)) (hv : pm_I F' (pm_tC op p q w x C) (pm_tG op p q G) (gr, he, sd, b1, b2, b3, b4, b5, b6, b7, b8, b9, b10, b11)) (hA : pm_A C G x3 x4) (hP : pm_P C G x5 x6 x7) (hJ : pm_JJ F F' (pm_tC op p q w x C) (pm_tG op p q G) J x8) :
    wL_law_223 post L xs J x3 x4 x5 x6 x7 x8 (nI op) (nI p) (nI q) (nI w) x kc ks fr hd sc a1 a2 a3 a4 a5 a6 a7 a8 a9 a10 a11 gr he sd b1 b2 b3 b4 b5 b6 b7 b8 b9 b10 b11 := by
  refine pm_223a hop hu hv (fun h7 h10 => ?_) (fun h1 h2 _ => ?_) (fun h4 => ?_) (fun h1 h2 _ => ?_) hJ
  · refine Or.inr ⟨p, q, hp, hq, rfl, rfl, ?_, ?_⟩
    · refine pm_eqT (fun z hz => ?_)
      unfold pm_tC
      rw [if_neg (by omega), if_neg (by omega), if_pos h10, pm_upS]
      by_cases c : p = q
      · rw [c, pm_upS]
      · rw [pm_upN c]
    · unfold pm_tG
      rw [if_neg (by omega), if_neg (by omega), if_pos h10, pm_ugS]
      by_cases c : p = q
      · rw [c, pm_ugS]
      · rw [pm_ugN c]
  · rcases hA with rfl | ⟨y, z, hy, hz, e1, e2, he, hg⟩
    · exact Or.inl rfl
    · have s1 := pm_stay (op := op) (p := p) (q := q) (w := w) (y := y) (x := x) (C := C) (G := G) (h1.elim Or.inl (fun t => Or.inr (pm_nn hp hy e1 t.1))) (h2.elim Or.inl (fun t => Or.inr (pm_nn hq hy e1 t.1)))
      have s2 := pm_stay (op := op) (p := p) (q := q) (w := w) (y := z) (x := x) (C := C) (G := G) (h1.elim Or.inl (fun t => Or.inr (pm_nn hp hz e2 t.2))) (h2.elim Or.inl (fun t => Or.inr (pm_nn hq hz e2 t.2)))
      exact Or.inr ⟨y, z, hy, hz, e1, e2, pm_eqT (fun k hk => by rw [s1.1, s2.1]; exact pm_eqE he k hk), by rw [s1.2, s2.2]; exact hg⟩
  · refine Or.inr ⟨p, w, hp, hw, rfl, rfl, ?_, ?_⟩
    · unfold pm_tC
      rw [if_pos h4, pm_upS, if_pos rfl]
    · unfold pm_tG
      rw [if_pos h4, pm_ugS]
  · rcases hP with rfl | ⟨y, z, hy, hz, e1, e2, hc, hg⟩
    · exact Or.inl rfl
    · have s1 := pm_stay (op := op) (p := p) (q := q) (w := w) (y := y) (x := x) (C := C) (G := G) (h1.elim Or.inl (fun t => Or.inr (pm_nn hp hy e1 t))) (h2.elim Or.inl (fun t => Or.inr (pm_nn hq hy e1 t)))
      exact Or.inr ⟨y, z, hy, hz, e1, e2, by rw [s1.1]; exact hc, by rw [s1.2]; exact hg⟩
theorem pm_194 (hi : i + 2 < L) (hL : L ≤ 260) (hop : op < 16) (hp : p < 24) (hq : q < 24) (hw : w < 4) (hu : pm_I F (pm_tC op p q w x C) (pm_tG op p q G) (fr, hd, sc, a1, a2, a3, a4, a5, a6, a7, a8, a9, a10, a11)) (hv : pm_I F' (pm_tC op p q w x C) (pm_tG op p q G) (gr, he, sd, b1, b2, b3, b4, b5, b6, b7, b8, b9, b10, b11)) (hA : pm_A C G x3 x4) (hP : pm_P C G x5 x6 x7) (hJ : pm_JJ F F' (pm_tC op p q w x C) (pm_tG op p q G) J (nI i)) :
    wL_law_194 post L xs J x3 x4 x5 x6 x7 (nI i) (nI op) (nI p) (nI q) (nI w) x kc ks fr hd sc a1 a2 a3 a4 a5 a6 a7 a8 a9 a10 a11 gr he sd b1 b2 b3 b4 b5 b6 b7 b8 b9 b10 b11 := by
  unfold wL_law_194
  refine ⟨pk_in (i + 1) L (by omega) (nI_1 i), br_c (fun _ => pm_223 hop hp hq hw hu hv hA hP hJ) (fun _ => ⟨pk_in (i + 1) L (by omega) (nI_1 i), pm_scan hv (fun v' j => ?_)⟩)⟩
  obtain ⟨gr, he, sd, b1, b2, b3, b4, b5, b6, b7, b8, b9, b10, b11⟩ := v'
  exact pm_223 hop hp hq hw hu j hA hP hJ
theorem pm_137 (hi : i + 2 < L) (hL : L ≤ 260) (hop : op < 16) (hp : p < 24) (hq : q < 24) (hw : w < 4) (hu : pm_I F C G (fr, hd, sc, a1, a2, a3, a4, a5, a6, a7, a8, a9, a10, a11)) (hv : pm_I F' C G (gr, he, sd, b1, b2, b3, b4, b5, b6, b7, b8, b9, b10, b11)) (hA : pm_A C G x3 x4) (hP : pm_P C G x5 x6 x7) (hJ : pm_JJ F F' (pm_tC op p q w x C) (pm_tG op p q G) J (nI i)) :
    wL_law_137 post L xs J x3 x4 x5 x6 x7 (nI i) (nI op) (nI p) (nI q) (nI w) x kc ks fr hd sc a1 a2 a3 a4 a5 a6 a7 a8 a9 a10 a11 gr he sd b1 b2 b3 b4 b5 b6 b7 b8 b9 b10 b11 := by
  unfold wL_law_137
  refine pm_turn hu hop hp hq hw (fun u' j1 => ?_)
  obtain ⟨fr, hd, sc, a1, a2, a3, a4, a5, a6, a7, a8, a9, a10, a11⟩ := u'
  refine pm_turn hv hop hp hq hw (fun v' j2 => ?_)
  obtain ⟨gr, he, sd, b1, b2, b3, b4, b5, b6, b7, b8, b9, b10, b11⟩ := v'
  refine br_t rfl ⟨pk_in (i + 1) L (by omega) (nI_1 i), br_c (fun _ => pm_194 hi hL hop hp hq hw j1 j2 hA hP hJ) (fun _ => ⟨pk_in (i + 2) L (by omega) (nI_add i 2), pm_scan j1 (fun u' j => ?_)⟩)⟩
  obtain ⟨fr, hd, sc, a1, a2, a3, a4, a5, a6, a7, a8, a9, a10, a11⟩ := u'
  exact pm_194 hi hL hop hp hq hw j j2 hA hP hJ
theorem pm_lc {k : Nat} (hL : L ≤ 260) (hk : k ≤ 300) : (Int32.ofNat L - 3 < nI (3 * k + 1)) ↔ L < 3 * k + 4 := by
  have e : (Int32.ofNat L - 3).toInt = (L : Int) - (3 : Nat) := pk_sub_toInt (a := L) (b := 3) (by omega) (by omega)
  rw [Int32.lt_iff_toInt_lt, nI_toInt (by omega), e]
  omega
theorem pm_pg (y : Int32) : ∃ p : Nat, p < 24 ∧ (y &&& 255) - (y &&& 255) / 24 * 24 = nI p := by
  obtain ⟨j, hj, e⟩ := pk_andE y (m := 255) 8 (by decide)
  refine ⟨j % 24, by omega, ?_⟩
  rw [e]
  exact pk_rem (a := j) (d := 24) (by omega) (by omega) (by omega)
theorem pm_47 {ux uy : St1} (hL : L ≤ 260) (h1 : post 1) (hu : pm_I F C G ux) (hv : pm_I F' C G uy) : ∃ n, wL_law_47 post L xs kc ks n (-1) (-1) (-1) 0 0 1 ux.1 ux.2.1 ux.2.2.1 ux.2.2.2.1 ux.2.2.2.2.1 ux.2.2.2.2.2.1 ux.2.2.2.2.2.2.1 ux.2.2.2.2.2.2.2.1 ux.2.2.2.2.2.2.2.2.1 ux.2.2.2.2.2.2.2.2.2.1 ux.2.2.2.2.2.2.2.2.2.2.1 ux.2.2.2.2.2.2.2.2.2.2.2.1 ux.2.2.2.2.2.2.2.2.2.2.2.2.1 ux.2.2.2.2.2.2.2.2.2.2.2.2.2 uy.1 uy.2.1 uy.2.2.1 uy.2.2.2.1 uy.2.2.2.2.1 uy.2.2.2.2.2.1 uy.2.2.2.2.2.2.1 uy.2.2.2.2.2.2.2.1 uy.2.2.2.2.2.2.2.2.1 uy.2.2.2.2.2.2.2.2.2.1 uy.2.2.2.2.2.2.2.2.2.2.1 uy.2.2.2.2.2.2.2.2.2.2.2.1 uy.2.2.2.2.2.2.2.2.2.2.2.2.1 uy.2.2.2.2.2.2.2.2.2.2.2.2.2 := by
  refine pk_loop (σ := Int32 × Int32 × Int32 × Int32 × Int32 × St1 × St1) (fun n k s => wL_law_47 post L xs kc ks n s.1 s.2.1 s.2.2.1 s.2.2.2.1 s.2.2.2.2.1 (nI (3 * k + 1)) s.2.2.2.2.2.1.1 s.2.2.2.2.2.1.2.1 s.2.2.2.2.2.1.2.2.1 s.2.2.2.2.2.1.2.2.2.1 s.2.2.2.2.2.1.2.2.2.2.1 s.2.2.2.2.2.1.2.2.2.2.2.1 s.2.2.2.2.2.1.2.2.2.2.2.2.1 s.2.2.2.2.2.1.2.2.2.2.2.2.2.1 s.2.2.2.2.2.1.2.2.2.2.2.2.2.2.1 s.2.2.2.2.2.1.2.2.2.2.2.2.2.2.2.1 s.2.2.2.2.2.1.2.2.2.2.2.2.2.2.2.2.1 s.2.2.2.2.2.1.2.2.2.2.2.2.2.2.2.2.2.1 s.2.2.2.2.2.1.2.2.2.2.2.2.2.2.2.2.2.2.1 s.2.2.2.2.2.1.2.2.2.2.2.2.2.2.2.2.2.2.2 s.2.2.2.2.2.2.1 s.2.2.2.2.2.2.2.1 s.2.2.2.2.2.2.2.2.1 s.2.2.2.2.2.2.2.2.2.1 s.2.2.2.2.2.2.2.2.2.2.1 s.2.2.2.2.2.2.2.2.2.2.2.1 s.2.2.2.2.2.2.2.2.2.2.2.2.1 s.2.2.2.2.2.2.2.2.2.2.2.2.2.1 s.2.2.2.2.2.2.2.2.2.2.2.2.2.2.1 s.2.2.2.2.2.2.2.2.2.2.2.2.2.2.2.1 s.2.2.2.2.2.2.2.2.2.2.2.2.2.2.2.2.1 s.2.2.2.2.2.2.2.2.2.2.2.2.2.2.2.2.2.1 s.2.2.2.2.2.2.2.2.2.2.2.2.2.2.2.2.2.2.1 s.2.2.2.2.2.2.2.2.2.2.2.2.2.2.2.2.2.2.2)
    (fun _ s => ∃ C G, pm_I F C G s.2.2.2.2.2.1 ∧ pm_I F' C G s.2.2.2.2.2.2 ∧ pm_A C G s.1 s.2.1 ∧ pm_P C G s.2.2.1 s.2.2.2.1 s.2.2.2.2.1) ((L - 1) / 3) 0 (-1, -1, -1, 0, 0, ux, uy) (by omega) ⟨C, G, hu, hv, Or.inl rfl, Or.inl rfl⟩
    (fun n s h => br_t ((pm_lc hL (by omega)).mpr (by omega)) h1) (fun n k s hk h hs => ?_)
  obtain ⟨x3, x4, x5, x6, x7, ⟨fr, hd, sc, a1, a2, a3, a4, a5, a6, a7, a8, a9, a10, a11⟩, ⟨gr, he, sd, b1, b2, b3, b4, b5, b6, b7, b8, b9, b10, b11⟩⟩ := s
  obtain ⟨C, G, h1, h2, hA, hP⟩ := h
  have e8 : nI (3 * k + 1) + 3 = nI (3 * (k + 1) + 1) := nI_add (3 * k + 1) 3
  have hJ : ∀ C G, pm_JJ F F' C G (wL_law_47 post L xs kc ks n) (nI (3 * k + 1)) := fun C G y3 y4 y5 y6 y7 u v a b c d => by
    rw [e8]
    exact hs (y3, y4, y5, y6, y7, u, v) ⟨C, G, c, d, a, b⟩
  obtain ⟨op, hop, eop⟩ := pk_andE (xs (nI (3 * k + 1)).toNatClampNeg) (m := 15) 4 (by decide)
  obtain ⟨p, hp, ep⟩ := pm_pg ((xs (nI (3 * k + 1)).toNatClampNeg) >>> ((4 : Int32) &&& 31))
  obtain ⟨q, hq, eq⟩ := pm_pg ((xs (nI (3 * k + 1)).toNatClampNeg) >>> ((12 : Int32) &&& 31))
  obtain ⟨w, hw, ew⟩ := pk_andE (xs (nI (3 * k + 1) + 1).toNatClampNeg) (m := 3) 2 (by decide)
  refine br_f (fun z => absurd ((pm_lc hL (by omega)).mp z) (by omega)) ?_
  refine ⟨pk_in (3 * k + 1) L (by omega), nm_r eop ⟨pk_in (3 * k + 1) L (by omega), by decide, nm_r ep ⟨pk_in (3 * k + 1) L (by omega), by decide, nm_r eq ⟨pk_in (3 * k + 1 + 1) L (by omega) (nI_1 _), nm_r ew ⟨pk_in (3 * k + 1 + 1) L (by omega) (nI_1 _), br_c (fun _ => ?_) (fun _ => ?_)⟩⟩⟩⟩⟩
  · exact ⟨pk_in (3 * k + 1 + 2) L (by omega) (nI_add _ 2), pm_137 (by omega) hL hop hp hq hw h1 h2 hA hP (hJ _ _)⟩
  · exact ⟨pk_in (3 * k + 1 + 1) L (by omega) (nI_1 _), pm_137 (by omega) hL hop hp hq hw h1 h2 hA hP (hJ _ _)⟩
theorem pm_26 {z : Int32} (hL : L ≤ 260) (h1 : post 1) (hu : pm_I F (fun _ _ => 0) (fun _ => true) (fr, hd, sc, a1, a2, a3, a4, a5, a6, a7, a8, a9, a10, a11)) : wL_law_26 post L xs z 13 396 fr hd sc a1 a2 a3 a4 a5 a6 a7 a8 a9 a10 a11 0 0 0 := by
  unfold wL_law_26
  refine ⟨11, 368, by omega, by omega, pm_init (fun F' u' j => ?_)⟩
  obtain ⟨gr, he, sd, b1, b2, b3, b4, b5, b6, b7, b8, b9, b10, b11⟩ := u'
  exact pm_47 (ux := (fr, hd, sc, a1, a2, a3, a4, a5, a6, a7, a8, a9, a10, a11)) (uy := (gr, he, sd, b1, b2, b3, b4, b5, b6, b7, b8, b9, b10, b11)) hL h1 hu j
end
theorem i_vc (xs : Nat → Int32) (L : Nat) (hL : L ≤ 260) : wpL_law (fun r => r = 1) L xs := by
  unfold wpL_law
  refine ⟨11, 368, by omega, by omega, pm_init (fun F u' j => ?_)⟩
  obtain ⟨fr, hd, sc, a1, a2, a3, a4, a5, a6, a7, a8, a9, a10, a11⟩ := u'
  refine ⟨by omega, by omega, br_c (fun _ => pm_26 hL rfl j) (fun z => ⟨?_, pm_26 hL rfl j⟩)⟩
  refine pk_in 0 L ?_
  rcases Nat.eq_zero_or_pos L with e | e
  · subst e
    exact absurd (by decide) z
  · exact e
end
