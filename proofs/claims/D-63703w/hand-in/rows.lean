section
/-! PURE 1: sums, chains, the pigeonhole, the rounds of relaxing -/
def sZ (f : Nat → Int) : Nat → Int
  | 0 => 0
  | k + 1 => sZ f k + f k
theorem sZ_congr {f g : Nat → Int} : ∀ (k : Nat), (∀ j, j < k → f j = g j) → sZ f k = sZ g k := by
  intro k
  induction k with
  | zero => intro _; rfl
  | succ k ih =>
    intro h
    show sZ f k + f k = sZ g k + g k
    rw [ih (fun j hj => h j (by omega)), h k (by omega)]
theorem sZ_zero {f : Nat → Int} (k : Nat) (h : ∀ j, j < k → f j = 0) : sZ f k = 0 := by
  induction k with
  | zero => rfl
  | succ k ih =>
    show sZ f k + f k = 0
    rw [ih (fun j hj => h j (by omega)), h k (by omega)]; rfl
theorem sZ_one {f : Nat → Int} (k i : Nat) (hi : i < k) (h : ∀ j, j < k → j ≠ i → f j = 0) : sZ f k = f i := by
  induction k with
  | zero => omega
  | succ k ih =>
    show sZ f k + f k = f i
    by_cases e : i = k
    · subst e
      rw [sZ_zero i (fun j hj => h j (by omega) (by omega))]; omega
    · rw [ih (by omega) (fun j hj hne => h j (by omega) hne), h k (by omega) (by omega)]; omega
theorem sZ_add (f g : Nat → Int) (k : Nat) : sZ (fun j => f j + g j) k = sZ f k + sZ g k := by
  induction k with
  | zero => rfl
  | succ k ih =>
    show sZ (fun j => f j + g j) k + (f k + g k) = (sZ f k + f k) + (sZ g k + g k)
    rw [ih]; omega
theorem sZ_sub (f g : Nat → Int) (k : Nat) : sZ (fun j => f j - g j) k = sZ f k - sZ g k := by
  induction k with
  | zero => rfl
  | succ k ih =>
    show sZ (fun j => f j - g j) k + (f k - g k) = (sZ f k + f k) - (sZ g k + g k)
    rw [ih]; omega
theorem sZ_mul (c : Int) (f : Nat → Int) (k : Nat) : sZ (fun j => c * f j) k = c * sZ f k := by
  induction k with
  | zero => show (0 : Int) = c * 0; omega
  | succ k ih =>
    show sZ (fun j => c * f j) k + c * f k = c * (sZ f k + f k)
    rw [ih, Int.mul_add]
theorem sZ_le {f g : Nat → Int} (k : Nat) (h : ∀ j, j < k → f j ≤ g j) : sZ f k ≤ sZ g k := by
  induction k with
  | zero => exact Int.le_refl _
  | succ k ih =>
    show sZ f k + f k ≤ sZ g k + g k
    have h1 := ih (fun j hj => h j (by omega))
    have h2 := h k (by omega)
    omega
theorem sZ_bnd {f : Nat → Int} (k : Nat) (b : Int) (h : ∀ j, j < k → 0 ≤ f j ∧ f j ≤ b) : 0 ≤ sZ f k ∧ sZ f k ≤ b * k := by
  induction k with
  | zero => constructor <;> simp [sZ]
  | succ k ih =>
    have h1 := ih (fun j hj => h j (by omega))
    have h2 := h k (by omega)
    have e : b * ((k + 1 : Nat) : Int) = b * k + b := by
      rw [Int.natCast_add, Int.mul_add]; simp
    constructor
    · show 0 ≤ sZ f k + f k
      omega
    · show sZ f k + f k ≤ _
      rw [e]; omega
/-- a sum behind one store -/
theorem sZ_up (f f' : Nat → Int) (i : Nat) (h : ∀ j, j ≠ i → f' j = f j) (k : Nat) (hi : i < k) : sZ f' k = sZ f k + (f' i - f i) := by
  have h1 : sZ (fun j => f' j - f j) k = f' i - f i := sZ_one (f := fun j => f' j - f j) k i hi (fun j _ hne => by
    show f' j - f j = 0
    rw [h j hne]; omega)
  rw [sZ_sub] at h1
  omega
theorem up_eq {α : Type} (f : Nat → α) (k : Nat) (v : α) : va_up f k v k = v := by simp [va_up]
theorem up_ne {α : Type} (f : Nat → α) {k j : Nat} (v : α) (h : j ≠ k) : va_up f k v j = f j := by simp [va_up, h]
/-! chains -/
def itN (P : Nat → Nat) : Nat → Nat → Nat
  | 0, v => v
  | k + 1, v => P (itN P k v)
theorem itN_add (P : Nat → Nat) (a b v : Nat) : itN P (a + b) v = itN P a (itN P b v) := by
  induction a with
  | zero => simp [itN]
  | succ a ih =>
    rw [Nat.succ_add]
    show P (itN P (a + b) v) = P (itN P a (itN P b v))
    rw [ih]
/-- the pigeonhole -/
theorem php : ∀ (n : Nat) (f : Nat → Nat), (∀ i, i ≤ n → f i < n) → ∃ i j, i < j ∧ j ≤ n ∧ f i = f j := by
  intro n
  induction n with
  | zero => intro f h; exact absurd (h 0 (Nat.le_refl 0)) (by omega)
  | succ n ih =>
    intro f h
    by_cases hx : ∃ i, i ≤ n ∧ f i = f (n + 1)
    · obtain ⟨i, h1, h2⟩ := hx
      exact ⟨i, n + 1, by omega, by omega, h2⟩
    · have hx' : ∀ i, i ≤ n → f i ≠ f (n + 1) := fun i h1 h2 => hx ⟨i, h1, h2⟩
      obtain ⟨i, j, hij, hj, he⟩ := ih (fun i => if f i = n then f (n + 1) else f i) (by
        intro i hi
        show (if f i = n then f (n + 1) else f i) < n
        have h1 := h i (by omega)
        have h2 := h (n + 1) (by omega)
        have h3 := hx' i hi
        split <;> omega)
      have h3 := hx' i (by omega)
      have h4 := hx' j (by omega)
      have he : (if f i = n then f (n + 1) else f i) = (if f j = n then f (n + 1) else f j) := he
      refine ⟨i, j, hij, by omega, ?_⟩
      split at he <;> split at he <;> omega
/-! the rounds of relaxing, over any arcs: round r, arcs below a done -/
def BF (n na : Nat) (tl hd : Nat → Nat) (lf w : Nat → Int) (r a : Nat) (last : Int) (Ln Ar : Nat → Int) : Prop :=
  ∃ (Rr : Nat → Int) (T : Nat → Nat) (tau : Nat),
    (∀ f, f < n → 0 ≤ Ln f ∧ Ln f ≤ 32768 * (14 * r + a) ∧ T f < tau ∧ -1 ≤ Rr f ∧ Rr f ≤ r) ∧
    (∀ f, f < n → 0 ≤ Rr f → ∃ b, b < na ∧ Ar f = (b : Int) ∧ hd b = f ∧ 0 < lf b ∧ Rr f - 1 ≤ Rr (tl b) ∧ ((Ln f = Ln (tl b) + w b ∧ T (tl b) < T f) ∨ Ln f < Ln (tl b) + w b)) ∧
    (∀ b, b < na → 0 < lf b → Ln (hd b) < Ln (tl b) + w b → (b < a → (r : Int) ≤ Rr (tl b)) ∧ (r : Int) - 1 ≤ Rr (tl b)) ∧
    (last = -1 → ∀ b, b < a → 0 < lf b → Ln (tl b) + w b ≤ Ln (hd b)) ∧
    (last ≠ -1 → ∃ v, v < n ∧ last = (v : Int) ∧ Rr v = r)
section BFs
variable {n na : Nat} {tl hd : Nat → Nat} {lf w : Nat → Int} {r a : Nat} {last : Int} {Ln Ar : Nat → Int}
theorem BF.init (h : ∀ f, f < n → Ln f = 0) : BF n na tl hd lf w 0 0 (-1) Ln Ar := by
  refine ⟨fun _ => -1, fun _ => 0, 1, ?_, ?_, ?_, ?_, ?_⟩
  · intro f hf
    have := h f hf
    refine ⟨by omega, by omega, by show (0 : Nat) < 1; omega, by show (-1 : Int) ≤ -1; omega, by show (-1 : Int) ≤ ((0 : Nat) : Int); omega⟩
  · intro f _ h0
    exact absurd (show (0 : Int) ≤ -1 from h0) (by omega)
  · intro b _ _ _
    exact ⟨fun h => absurd h (by omega), by show ((0 : Nat) : Int) - 1 ≤ -1; omega⟩
  · intro _ b hb
    exact absurd hb (by omega)
  · intro h
    exact absurd rfl h
theorem BF.bnd (h : BF n na tl hd lf w r a last Ln Ar) : ∀ f, f < n → 0 ≤ Ln f ∧ Ln f ≤ 32768 * (14 * r + a) := by
  obtain ⟨Rr, T, tau, h1, -⟩ := h
  intro f hf
  exact ⟨(h1 f hf).1, (h1 f hf).2.1⟩
theorem BF.no (h : BF n na tl hd lf w r a last Ln Ar) (hn : ¬ (0 < lf a ∧ Ln (hd a) < Ln (tl a) + w a)) : BF n na tl hd lf w r (a + 1) last Ln Ar := by
  obtain ⟨Rr, T, tau, h1, h2, h3, h4, h5⟩ := h
  refine ⟨Rr, T, tau, ?_, h2, ?_, ?_, h5⟩
  · intro f hf
    obtain ⟨g1, g2, g3, g4, g5⟩ := h1 f hf
    exact ⟨g1, by omega, g3, g4, g5⟩
  · intro b hb hl hv
    obtain ⟨g1, g2⟩ := h3 b hb hl hv
    refine ⟨fun hba => ?_, g2⟩
    by_cases e : b = a
    · subst e
      exact absurd ⟨hl, hv⟩ hn
    · exact g1 (by omega)
  · intro hl b hb hf
    by_cases e : b = a
    · subst e
      by_cases hv : Ln (hd b) < Ln (tl b) + w b
      · exact absurd ⟨hf, hv⟩ hn
      · omega
    · exact h4 hl b (by omega) hf
theorem BF.yes (h : BF n na tl hd lf w r a last Ln Ar) (ha : a < na) (ht : tl a < n) (hh : hd a < n) (hne : tl a ≠ hd a) (hw : w a ≤ 32768) (hl : 0 < lf a) (hv : Ln (hd a) < Ln (tl a) + w a) :
    BF n na tl hd lf w r (a + 1) (hd a) (va_up Ln (hd a) (Ln (tl a) + w a)) (va_up Ar (hd a) a) := by
  obtain ⟨Rr, T, tau, h1, h2, h3, h4, h5⟩ := h
  have hR := (h3 a ha hl hv).2
  obtain ⟨t1, t2, t3, t4, t5⟩ := h1 (tl a) ht
  obtain ⟨u1, u2, u3, u4, u5⟩ := h1 (hd a) hh
  refine ⟨va_up Rr (hd a) r, va_up T (hd a) tau, tau + 1, ?_, ?_, ?_, ?_, ?_⟩
  · intro f hf
    obtain ⟨g1, g2, g3, g4, g5⟩ := h1 f hf
    by_cases e : f = hd a
    · subst e
      rw [up_eq, up_eq, up_eq]
      refine ⟨by omega, by omega, by omega, by omega, by omega⟩
    · rw [up_ne _ _ e, up_ne _ _ e, up_ne _ _ e]
      refine ⟨g1, by omega, by omega, g4, g5⟩
  · intro f hf h0
    by_cases e : f = hd a
    · subst e
      refine ⟨a, ha, ?_, rfl, hl, ?_, ?_⟩
      · rw [up_eq]
      · rw [up_eq, up_ne _ _ hne]; omega
      · left
        rw [up_eq, up_eq, up_ne _ _ hne, up_ne _ _ hne]
        exact ⟨rfl, t3⟩
    · rw [up_ne _ _ e] at h0
      obtain ⟨b, b1, b2, b3, b4, b5, b6⟩ := h2 f hf h0
      obtain ⟨g1, g2, g3, g4, g5⟩ := h1 f hf
      refine ⟨b, b1, ?_, b3, b4, ?_, ?_⟩
      · rw [up_ne _ _ e]; exact b2
      · rw [up_ne _ _ e]
        by_cases e2 : tl b = hd a
        · rw [e2, up_eq]; omega
        · rw [up_ne _ _ e2]; exact b5
      · rw [up_ne _ _ e, up_ne _ _ e]
        by_cases e2 : tl b = hd a
        · rw [e2, up_eq, up_eq]
          rw [e2] at b6
          right
          rcases b6 with ⟨q, -⟩ | q <;> omega
        · rw [up_ne _ _ e2, up_ne _ _ e2]; exact b6
  · intro b hb hlb hvb
    by_cases e2 : tl b = hd a
    · rw [e2, up_eq]
      exact ⟨fun _ => Int.le_refl _, by omega⟩
    · rw [up_ne _ _ e2] at hvb ⊢
      have hold : b ≠ a ∧ Ln (hd b) < Ln (tl b) + w b := by
        by_cases e3 : hd b = hd a
        · rw [e3, up_eq] at hvb
          refine ⟨fun q => ?_, by rw [e3]; omega⟩
          subst q
          omega
        · rw [up_ne _ _ e3] at hvb
          exact ⟨fun q => e3 (by rw [q]), hvb⟩
      obtain ⟨g1, g2⟩ := h3 b hb hlb hold.2
      exact ⟨fun q => g1 (by omega), g2⟩
  · intro q
    exact absurd q (by omega)
  · intro _
    exact ⟨hd a, hh, rfl, by rw [up_eq]⟩
theorem BF.next (h : BF n na tl hd lf w r na last Ln Ar) (hna : na ≤ 14) : BF n na tl hd lf w (r + 1) 0 (-1) Ln Ar := by
  obtain ⟨Rr, T, tau, h1, h2, h3, h4, h5⟩ := h
  refine ⟨Rr, T, tau, ?_, h2, ?_, ?_, ?_⟩
  · intro f hf
    obtain ⟨g1, g2, g3, g4, g5⟩ := h1 f hf
    exact ⟨g1, by omega, g3, g4, by omega⟩
  · intro b hb hl hv
    have := (h3 b hb hl hv).1 hb
    exact ⟨fun q => absurd q (by omega), by omega⟩
  · intro _ b hb
    exact absurd hb (by omega)
  · intro q
    exact absurd rfl q
theorem BF.none (h : BF n na tl hd lf w r na (-1) Ln Ar) : ∀ b, b < na → 0 < lf b → Ln (tl b) + w b ≤ Ln (hd b) := by
  obtain ⟨Rr, T, tau, h1, h2, h3, h4, h5⟩ := h
  exact h4 rfl
theorem BF.lastv (h : BF n na tl hd lf w r a last Ln Ar) : last = -1 ∨ ∃ v, v < n ∧ last = (v : Int) := by
  obtain ⟨Rr, T, tau, h1, h2, h3, h4, h5⟩ := h
  by_cases e : last = -1
  · exact Or.inl e
  · obtain ⟨v, a1, a2, -⟩ := h5 e
    exact Or.inr ⟨v, a1, a2⟩
end BFs
/-- the arc into a firm, and the firm it comes from -/
def pr (tl : Nat → Nat) (Ar : Nat → Int) (v : Nat) : Nat := tl (Ar v).toNat
/-- a firm that stands on a circle of arcs with a gain: m arcs, all with something left -/
def CY (n na : Nat) (tl hd : Nat → Nat) (lf w : Nat → Int) (Ar : Nat → Int) (v m : Nat) : Prop :=
  1 ≤ m ∧ m ≤ n ∧ itN (pr tl Ar) m v = v ∧ (∀ k, 0 < k → k < m → itN (pr tl Ar) k v ≠ v) ∧
    (∀ k, itN (pr tl Ar) k v < n ∧ ∃ b, b < na ∧ Ar (itN (pr tl Ar) k v) = (b : Int) ∧ hd b = itN (pr tl Ar) k v ∧ 0 < lf b) ∧
    0 < sZ (fun k => w (Ar (itN (pr tl Ar) k v)).toNat) m
section Bk
variable {n na : Nat} {tl hd : Nat → Nat} {lf w : Nat → Int} {last : Nat} {Ln Ar : Nat → Int}
/-- what the way back meets: at every step an arc, and at its end a circle -/
theorem BF.back (h : BF n na tl hd lf w n na (last : Int) Ln Ar) (htl : ∀ b, b < na → tl b < n) :
    (∀ k, k ≤ n → itN (pr tl Ar) k last < n ∧ ∃ b, b < na ∧ Ar (itN (pr tl Ar) k last) = (b : Int)) ∧ ∃ m, CY n na tl hd lf w Ar (itN (pr tl Ar) n last) m := by
  obtain ⟨Rr, T, tau, h1, h2, h3, h4, h5⟩ := h
  obtain ⟨v, v1, v2, v3⟩ := h5 (by omega)
  have ev : v = last := by omega
  subst ev
  have hR : ∀ k, k ≤ n → itN (pr tl Ar) k v < n ∧ (n : Int) - k ≤ Rr (itN (pr tl Ar) k v) := by
    intro k
    induction k with
    | zero => intro _; exact ⟨v1, by show (n : Int) - ((0 : Nat) : Int) ≤ Rr v; omega⟩
    | succ k ih =>
      intro hk
      obtain ⟨i1, i2⟩ := ih (by omega)
      obtain ⟨b, b1, b2, b3, b4, b5, b6⟩ := h2 _ i1 (by omega)
      have e : itN (pr tl Ar) (k + 1) v = tl b := by
        show tl (Ar (itN (pr tl Ar) k v)).toNat = tl b
        rw [b2]; rfl
      rw [e]
      exact ⟨htl b b1, by omega⟩
  have hgood : ∀ u, u < n → 0 ≤ Rr u → ∃ b, b < na ∧ Ar u = (b : Int) ∧ hd b = u ∧ 0 < lf b := by
    intro u hu h0
    obtain ⟨b, b1, b2, b3, b4, -⟩ := h2 u hu h0
    exact ⟨b, b1, b2, b3, b4⟩
  refine ⟨fun k hk => ?_, ?_⟩
  · obtain ⟨i1, i2⟩ := hR k hk
    obtain ⟨b, b1, b2, -⟩ := hgood _ i1 (by omega)
    exact ⟨i1, b, b1, b2⟩
  obtain ⟨i, j, hij, hj, he⟩ := php n (fun k => itN (pr tl Ar) k v) (fun k hk => (hR k hk).1)
  have he : itN (pr tl Ar) i v = itN (pr tl Ar) j v := he
  have hper : ∀ t, j ≤ t → itN (pr tl Ar) t v = itN (pr tl Ar) (t - (j - i)) v := by
    intro t ht
    have e1 : t = (t - j) + j := by omega
    have e2 : t - (j - i) = (t - j) + i := by omega
    rw [e2]
    conv => lhs; rw [e1]
    rw [itN_add, itN_add, he]
  have hall : ∀ t, ∃ t', t' ≤ n ∧ itN (pr tl Ar) t v = itN (pr tl Ar) t' v := by
    intro t
    induction t using Nat.strongRecOn with
    | ind t ih =>
      by_cases ht : t ≤ n
      · exact ⟨t, ht, rfl⟩
      · obtain ⟨t', a1, a2⟩ := ih (t - (j - i)) (by omega)
        exact ⟨t', a1, by rw [hper t (by omega)]; exact a2⟩
  have hgo : ∀ k, itN (pr tl Ar) k (itN (pr tl Ar) n v) < n ∧ 0 ≤ Rr (itN (pr tl Ar) k (itN (pr tl Ar) n v)) := by
    intro k
    rw [← itN_add]
    obtain ⟨t', a1, a2⟩ := hall (k + n)
    rw [a2]
    obtain ⟨i1, i2⟩ := hR t' a1
    exact ⟨i1, by omega⟩
  have hp0 : itN (pr tl Ar) (j - i) (itN (pr tl Ar) n v) = itN (pr tl Ar) n v := by
    rw [← itN_add, hper (j - i + n) (by omega)]
    congr 1
    omega
  generalize itN (pr tl Ar) n v = x at hgo hp0 ⊢
  obtain ⟨m, ⟨m1, m2⟩, m3⟩ := pk_least (fun m => 1 ≤ m ∧ itN (pr tl Ar) m x = x) ⟨j - i, by omega, hp0⟩
  have hmn : m ≤ n := by
    rcases Nat.lt_or_ge (j - i) m with q | q
    · exact absurd ⟨by omega, hp0⟩ (m3 (j - i) q)
    · omega
  refine ⟨m, m1, hmn, m2, fun k k1 k2 q => m3 k k2 ⟨k1, q⟩, fun k => ⟨(hgo k).1, hgood _ (hgo k).1 (hgo k).2⟩, ?_⟩
  have hs : ∀ k, (Ln x < Ln (itN (pr tl Ar) k x) + sZ (fun k => w (Ar (itN (pr tl Ar) k x)).toNat) k) ∨ (Ln x = Ln (itN (pr tl Ar) k x) + sZ (fun k => w (Ar (itN (pr tl Ar) k x)).toNat) k ∧ (1 ≤ k → T (itN (pr tl Ar) k x) < T x)) := by
    intro k
    induction k with
    | zero =>
      right
      refine ⟨?_, fun q => absurd q (by omega)⟩
      show Ln x = Ln x + 0
      omega
    | succ k ih =>
      obtain ⟨g1, g2⟩ := hgo k
      obtain ⟨b, b1, b2, b3, b4, b5, b6⟩ := h2 _ g1 g2
      have e : itN (pr tl Ar) (k + 1) x = tl b := by
        show tl (Ar (itN (pr tl Ar) k x)).toNat = tl b
        rw [b2]; rfl
      have e2 : sZ (fun k => w (Ar (itN (pr tl Ar) k x)).toNat) (k + 1) = sZ (fun k => w (Ar (itN (pr tl Ar) k x)).toNat) k + w b := by
        show sZ (fun k => w (Ar (itN (pr tl Ar) k x)).toNat) k + w (Ar (itN (pr tl Ar) k x)).toNat = _
        rw [b2]; rfl
      rw [e, e2]
      generalize sZ (fun k => w (Ar (itN (pr tl Ar) k x)).toNat) k = Z at ih ⊢
      rcases ih with q | ⟨q, qT⟩
      · left
        rcases b6 with ⟨z, -⟩ | z <;> omega
      · rcases b6 with ⟨z, zT⟩ | z
        · right
          refine ⟨by omega, fun _ => ?_⟩
          rcases Nat.eq_zero_or_pos k with e0 | e0
          · subst e0; exact zT
          · have := qT e0; omega
        · left; omega
  rcases hs m with q | ⟨q, qT⟩
  · rw [m2] at q; omega
  · rw [m2] at qT; exact absurd (qT m1) (by omega)
end Bk
/-- the firms of a circle are different -/
theorem CY.apart {n na : Nat} {tl hd : Nat → Nat} {lf w : Nat → Int} {Ar : Nat → Int} {v m : Nat} (h : CY n na tl hd lf w Ar v m) {i j : Nat} (hij : i < j) (hj : j < m) : itN (pr tl Ar) i v ≠ itN (pr tl Ar) j v := by
  obtain ⟨h1, h2, h3, h4, -⟩ := h
  intro e
  refine h4 ((m - j) + i) (by omega) (by omega) ?_
  rw [itN_add, e, ← itN_add, show m - j + j = m by omega]
  exact h3
end
section
/-! PURE 2: clearings, the gain, when a clearing is best, filling a circle -/
/-- what a debt d with x d struck off brings to the firm f -/
def tf (D C : Nat → Nat) (x : Nat → Int) (f : Nat) : Nat → Int := fun d => (if C d = f then x d else 0) - (if D d = f then x d else 0)
/-- what can be struck off a debt -/
def rm (D C : Nat → Nat) (A O : Nat → Int) : Nat → Int := fun d => if O (D d) = 0 ∧ O (C d) = 0 then A d else 0
def Clr (n c : Nat) (D C : Nat → Nat) (R x : Nat → Int) : Prop := (∀ d, d < c → 0 ≤ x d ∧ x d ≤ R d) ∧ ∀ f, f < n → sZ (tf D C x f) c = 0
def gG (g x : Nat → Int) (c : Nat) : Int := sZ (fun d => g d * x d) c
def tlA (D C : Nat → Nat) (a : Nat) : Nat := if a % 2 = 0 then D (a / 2) else C (a / 2)
def hdA (D C : Nat → Nat) (a : Nat) : Nat := if a % 2 = 0 then C (a / 2) else D (a / 2)
def lfA (R S : Nat → Int) (a : Nat) : Int := if a % 2 = 0 then R (a / 2) - S (a / 2) else S (a / 2)
def wA (g : Nat → Int) (a : Nat) : Int := if a % 2 = 0 then g (a / 2) else -g (a / 2)
/-- best of all clearings by the gain g -/
def Opt (n c : Nat) (D C : Nat → Nat) (R g x : Nat → Int) : Prop := Clr n c D C R x ∧ ∀ y, Clr n c D C R y → gG g y c ≤ gG g x c
theorem sZ_pick (L : Nat → Int) (n q : Nat) (y : Int) (hq : q < n) : sZ (fun f => L f * (if q = f then y else 0)) n = L q * y := by
  rw [sZ_one (f := fun f => L f * (if q = f then y else 0)) n q hq (fun j _ hne => by
    show L j * (if q = j then y else 0) = 0
    rw [if_neg (fun e => hne e.symm)]; simp)]
  show L q * (if q = q then y else 0) = L q * y
  rw [if_pos rfl]
theorem sZ_swap {n : Nat} {D C : Nat → Nat} (L y : Nat → Int) : ∀ (c : Nat), (∀ d, d < c → D d < n ∧ C d < n) →
    sZ (fun d => (L (C d) - L (D d)) * y d) c = sZ (fun f => L f * sZ (tf D C y f) c) n := by
  intro c
  induction c with
  | zero =>
    intro _
    show (0 : Int) = sZ (fun f => L f * 0) n
    rw [sZ_zero n (fun j _ => by show L j * 0 = 0; simp)]
  | succ c ih =>
    intro h
    obtain ⟨h1, h2⟩ := h c (by omega)
    have e1 : sZ (fun f => L f * sZ (tf D C y f) (c + 1)) n = sZ (fun f => L f * sZ (tf D C y f) c + (L f * (if C c = f then y c else 0) - L f * (if D c = f then y c else 0))) n := by
      refine sZ_congr n (fun f _ => ?_)
      show L f * (sZ (tf D C y f) c + ((if C c = f then y c else 0) - (if D c = f then y c else 0))) = _
      rw [Int.mul_add, Int.mul_sub]
    rw [e1, sZ_add, sZ_sub, sZ_pick L n (C c) (y c) h2, sZ_pick L n (D c) (y c) h1, ← ih (fun d hd => h d (by omega))]
    show sZ _ c + (L (C c) - L (D c)) * y c = _
    rw [Int.sub_mul]
theorem tf_sub (D C : Nat → Nat) (x y : Nat → Int) (f c : Nat) : sZ (tf D C (fun d => x d - y d) f) c = sZ (tf D C x f) c - sZ (tf D C y f) c := by
  rw [← sZ_sub]
  refine sZ_congr c (fun d _ => ?_)
  show (if C d = f then x d - y d else 0) - (if D d = f then x d - y d else 0) = ((if C d = f then x d else 0) - (if D d = f then x d else 0)) - ((if C d = f then y d else 0) - (if D d = f then y d else 0))
  split <;> split <;> omega
/-- lengths that no arc with something left makes longer: the clearing is best -/
theorem opt_of_rest {n c : Nat} {D C : Nat → Nat} {R S g L : Nat → Int} (hDC : ∀ d, d < c → D d < n ∧ C d < n) (hS : Clr n c D C R S)
    (hp : ∀ a, a < 2 * c → 0 < lfA R S a → L (tlA D C a) + wA g a ≤ L (hdA D C a)) : Opt n c D C R g S := by
  refine ⟨hS, fun x hx => ?_⟩
  have e0 : sZ (fun d => (L (C d) - L (D d)) * (x d - S d)) c = 0 := by
    rw [sZ_swap (n := n) L (fun d => x d - S d) c hDC]
    refine sZ_zero n (fun f hf => ?_)
    show L f * sZ (tf D C (fun d => x d - S d) f) c = 0
    rw [tf_sub, hx.2 f hf, hS.2 f hf]; simp
  have e1 : sZ (fun d => g d * (x d - S d)) c ≤ sZ (fun d => (L (C d) - L (D d)) * (x d - S d)) c := by
    refine sZ_le c (fun d hd => ?_)
    show g d * (x d - S d) ≤ (L (C d) - L (D d)) * (x d - S d)
    obtain ⟨x1, x2⟩ := hx.1 d hd
    obtain ⟨s1, s2⟩ := hS.1 d hd
    have a1 : (2 * d) % 2 = 0 := by omega
    have a2 : (2 * d) / 2 = d := by omega
    have b1 : ¬ (2 * d + 1) % 2 = 0 := by omega
    have b2 : (2 * d + 1) / 2 = d := by omega
    have pA := hp (2 * d) (by omega)
    have pB := hp (2 * d + 1) (by omega)
    unfold lfA tlA hdA wA at pA pB
    simp only [a1, a2, if_true, b1, b2, if_false] at pA pB
    rcases Int.lt_trichotomy (x d) (S d) with q | q | q
    · have := pB (by omega)
      exact Int.mul_le_mul_of_nonpos_right (by omega) (by omega)
    · rw [q]; simp
    · have := pA (by omega)
      exact Int.mul_le_mul_of_nonneg_right (by omega) (by omega)
  have e2 : sZ (fun d => g d * (x d - S d)) c = gG g x c - gG g S c := by
    show _ = sZ (fun d => g d * x d) c - sZ (fun d => g d * S d) c
    rw [← sZ_sub]
    exact sZ_congr c (fun d _ => Int.mul_sub _ _ _)
  omega
/-! filling a circle -/
def fS (am : Int) (b : Nat → Nat) (S : Nat → Int) : Nat → Nat → Int
  | 0 => S
  | k + 1 => va_up (fS am b S k) (b k / 2) (fS am b S k (b k / 2) + (if b k % 2 = 0 then am else -am))
theorem tf_up {D C : Nat → Nat} {x : Nat → Int} {i c f : Nat} {v : Int} (hi : i < c) : sZ (tf D C (va_up x i v) f) c = sZ (tf D C x f) c + ((if C i = f then v - x i else 0) - (if D i = f then v - x i else 0)) := by
  rw [sZ_up (tf D C x f) (tf D C (va_up x i v) f) i (fun j hj => by unfold tf; rw [up_ne _ _ hj]) c hi]
  congr 1
  unfold tf
  rw [up_eq]
  split <;> split <;> omega
theorem gG_up {g x : Nat → Int} {i c : Nat} {v : Int} (hi : i < c) : gG g (va_up x i v) c = gG g x c + g i * (v - x i) := by
  unfold gG
  rw [sZ_up (fun d => g d * x d) (fun d => g d * va_up x i v d) i (fun j hj => by show g j * va_up x i v j = g j * x j; rw [up_ne _ _ hj]) c hi]
  show _ + (g i * va_up x i v i - g i * x i) = _
  rw [up_eq, Int.mul_sub]
def sg (b d : Nat) : Int := if b / 2 = d then (if b % 2 = 0 then 1 else -1) else 0
theorem fS_at (am : Int) (b : Nat → Nat) (S : Nat → Int) (d : Nat) : ∀ k, fS am b S k d = S d + am * sZ (fun i => sg (b i) d) k := by
  intro k
  induction k with
  | zero => show S d = S d + am * 0; simp
  | succ k ih =>
    show va_up (fS am b S k) (b k / 2) (fS am b S k (b k / 2) + (if b k % 2 = 0 then am else -am)) d = S d + am * (sZ (fun i => sg (b i) d) k + sg (b k) d)
    rw [Int.mul_add]
    by_cases e : d = b k / 2
    · have e2 : b k / 2 = d := e.symm
      rw [e2, up_eq, ih]
      unfold sg
      rw [if_pos e2]
      split <;> simp <;> omega
    · rw [up_ne _ _ e, ih]
      unfold sg
      rw [if_neg (fun q => e q.symm)]; simp
section Fill
variable {n c : Nat} {D C : Nat → Nat} {R S g : Nat → Int} {Ar : Nat → Int} {v m : Nat} {am : Int}
theorem fS_ok (hDC : ∀ d, d < c → D d < n ∧ C d < n ∧ D d ≠ C d) (hS : Clr n c D C R S) (hc : CY n (2 * c) (tlA D C) (hdA D C) (lfA R S) (wA g) Ar v m)
    (h0 : 0 < am) (hl : ∀ k, k < m → am ≤ lfA R S (Ar (itN (pr (tlA D C) Ar) k v)).toNat) :
    Clr n c D C R (fS am (fun k => (Ar (itN (pr (tlA D C) Ar) k v)).toNat) S m) ∧ gG g S c < gG g (fS am (fun k => (Ar (itN (pr (tlA D C) Ar) k v)).toNat) S m) c := by
  have hap := @CY.apart _ _ _ _ _ _ _ _ _ hc
  obtain ⟨h1, h2, h3, h4, h5, h6⟩ := hc
  generalize hb : (fun k => (Ar (itN (pr (tlA D C) Ar) k v)).toNat) = b at hl ⊢
  generalize hu : (fun k => itN (pr (tlA D C) Ar) k v) = u at hap
  have hbk : ∀ k, b k = (Ar (u k)).toNat := fun k => by rw [← hb, ← hu]
  have huS : ∀ k, u (k + 1) = tlA D C (b k) := fun k => by rw [← hb, ← hu]; rfl
  have hum : u m = u 0 := by rw [← hu]; exact h3
  have hb2 : ∀ k, b k < 2 * c ∧ hdA D C (b k) = u k := by
    intro k
    obtain ⟨q1, z, z1, z2, z3, z4⟩ := h5 k
    have ez : b k = z := by
      rw [← hb]
      show (Ar (itN (pr (tlA D C) Ar) k v)).toNat = z
      rw [z2]; rfl
    rw [ez]
    exact ⟨z1, by rw [z3, ← hu]⟩
  have hap' : ∀ i j, i < j → j < m → u i ≠ u j := by
    intro i j q1 q2
    rw [← hu]
    exact hap q1 q2
  have hl' : ∀ k, k < m → am ≤ lfA R S (b k) := by
    intro k hk
    have := hl k hk
    rw [← hb]
    exact this
  have hw : sZ (fun k => wA g (Ar (itN (pr (tlA D C) Ar) k v)).toNat) m = sZ (fun k => wA g (b k)) m := sZ_congr m (fun k _ => by rw [← hb])
  rw [hw] at h6
  clear hap hl hb hu h3 h4 h5 hw
  -- the balance
  have hbal : ∀ f k, sZ (tf D C (fS am b S k) f) c = sZ (tf D C S f) c + am * ((if u 0 = f then 1 else 0) - (if u k = f then 1 else 0)) := by
    intro f k
    induction k with
    | zero => show sZ (tf D C S f) c = _; simp
    | succ k ih =>
      obtain ⟨q1, q2⟩ := hb2 k
      have q3 := huS k
      show sZ (tf D C (va_up (fS am b S k) (b k / 2) (fS am b S k (b k / 2) + (if b k % 2 = 0 then am else -am))) f) c = _
      rw [tf_up (by omega), ih, q3, ← q2]
      unfold hdA tlA
      generalize (if u 0 = f then (1 : Int) else 0) = z0
      by_cases e : b k % 2 = 0
      · simp only [e, if_true]
        split <;> split <;> simp [Int.mul_sub] <;> omega
      · simp only [e, if_false]
        split <;> split <;> simp [Int.mul_sub] <;> omega
  -- the gain
  have hgain : ∀ k, gG g (fS am b S k) c = gG g S c + am * sZ (fun k => wA g (b k)) k := by
    intro k
    induction k with
    | zero => show gG g S c = gG g S c + am * 0; simp
    | succ k ih =>
      obtain ⟨q1, q2⟩ := hb2 k
      show gG g (va_up (fS am b S k) (b k / 2) (fS am b S k (b k / 2) + (if b k % 2 = 0 then am else -am))) c = gG g S c + am * (sZ (fun k => wA g (b k)) k + wA g (b k))
      rw [gG_up (by omega), ih, Int.mul_add]
      have e1 : fS am b S k (b k / 2) + (if b k % 2 = 0 then am else -am) - fS am b S k (b k / 2) = (if b k % 2 = 0 then am else -am) := by omega
      rw [e1]
      unfold wA
      by_cases e : b k % 2 = 0
      · simp only [e, if_true]
        rw [Int.mul_comm (g (b k / 2)) am]; omega
      · simp only [e, if_false]
        rw [Int.mul_neg, Int.mul_neg, Int.mul_comm (g (b k / 2)) am]; omega
  have hbig : gG g S c < gG g (fS am b S m) c := by
    rw [hgain m]
    have := Int.mul_pos h0 h6
    omega
  refine ⟨⟨?_, ?_⟩, hbig⟩
  · intro d hd
    rw [fS_at]
    obtain ⟨s1, s2⟩ := hS.1 d hd
    by_cases hex : ∃ i, i < m ∧ b i / 2 = d
    · obtain ⟨i, hi, ei⟩ := hex
      have huni : ∀ j, j < m → j ≠ i → b j / 2 ≠ d := by
        -- two arcs of one debt: the same one, or there and back
        have key : ∀ i j, i < j → j < m → b i / 2 = d → b j / 2 = d → False := by
          intro i j hij hj e1 e2
          have p1 := (hb2 i).2
          have p2 := (hb2 j).2
          have p3 := huS i
          have p4 := huS j
          have n1 := hap' i j hij hj
          by_cases ep : b i % 2 = b j % 2
          · have : b i = b j := by omega
            rw [this] at p1
            exact n1 (by rw [← p1, ← p2])
          · have r1 : u i = u (j + 1) := by
              rw [← p1, p4]
              unfold hdA tlA
              rw [e1, e2]
              split <;> split <;> first | rfl | omega
            have r2 : u (i + 1) = u j := by
              rw [← p2, p3]
              unfold hdA tlA
              rw [e1, e2]
              split <;> split <;> first | rfl | omega
            have hj1 : i + 1 = j := by
              rcases Nat.lt_or_ge (i + 1) j with q | q
              · exact absurd r2 (hap' (i + 1) j q hj)
              · omega
            have hjm : j + 1 = m := by
              rcases Nat.lt_or_ge (j + 1) m with q | q
              · exact absurd r1 (hap' i (j + 1) (by omega) q)
              · omega
            have hi0 : i = 0 := by
              rcases Nat.eq_zero_or_pos i with q | q
              · exact q
              · refine absurd ?_ (hap' 0 i q (by omega))
                rw [r1, hjm, hum]
            subst hi0
            have em : m = 2 := by omega
            have ej : j = 1 := by omega
            subst ej
            rw [em] at h6
            have h6 : 0 < 0 + wA g (b 0) + wA g (b 1) := h6
            unfold wA at h6
            rw [e1, e2] at h6
            split at h6 <;> split at h6 <;> omega
        intro j hj hne e2
        rcases Nat.lt_or_ge i j with q | q
        · exact key i j q hj ei e2
        · exact key j i (by omega) hi e2 ei
      rw [sZ_one (f := fun i => sg (b i) d) m i hi (fun j hj hne => by
        show sg (b j) d = 0
        unfold sg
        rw [if_neg (huni j hj hne)])]
      have hlq := hl' i hi
      show 0 ≤ S d + am * sg (b i) d ∧ S d + am * sg (b i) d ≤ R d
      unfold sg
      unfold lfA at hlq
      rw [if_pos ei]
      rw [ei] at hlq
      split at hlq
      · rename_i e
        rw [if_pos e]; omega
      · rename_i e
        rw [if_neg e]; omega
    · rw [sZ_zero m (fun j hj => by
        show sg (b j) d = 0
        unfold sg
        rw [if_neg (fun q => hex ⟨j, hj, q⟩)])]
      omega
  · intro f hf
    rw [hbal f m, hum, hS.2 f hf]; simp
end Fill
/-! counting: a gain that grows at every circle -/
def cnt (h : Nat → Int) (t : Int) : Nat → Nat
  | 0 => 0
  | k + 1 => cnt h t k + (if h k < t then 1 else 0)
theorem cnt_le (h : Nat → Int) (t : Int) (k : Nat) : cnt h t k ≤ k := by
  induction k with
  | zero => exact Nat.le_refl _
  | succ k ih =>
    show cnt h t k + (if h k < t then 1 else 0) ≤ k + 1
    split <;> omega
theorem cnt_mono (h : Nat → Int) {t t' : Int} (ht : t ≤ t') (k : Nat) : cnt h t k ≤ cnt h t' k := by
  induction k with
  | zero => exact Nat.le_refl _
  | succ k ih =>
    show cnt h t k + (if h k < t then 1 else 0) ≤ cnt h t' k + (if h k < t' then 1 else 0)
    split <;> split <;> omega
theorem cnt_lt (h : Nat → Int) {t : Int} {k i : Nat} (hi : i < k) (e : h i = t) : cnt h t k < k := by
  induction k with
  | zero => omega
  | succ k ih =>
    show cnt h t k + (if h k < t then 1 else 0) < k + 1
    by_cases q : i = k
    · subst q
      have := cnt_le h t i
      rw [if_neg (by omega)]; omega
    · have := ih (by omega)
      split <;> omega
theorem cnt_grow (h : Nat → Int) {t t' : Int} {k i : Nat} (hi : i < k) (e : h i = t) (ht : t < t') : cnt h t k < cnt h t' k := by
  induction k with
  | zero => omega
  | succ k ih =>
    show cnt h t k + (if h k < t then 1 else 0) < cnt h t' k + (if h k < t' then 1 else 0)
    by_cases q : i = k
    · subst q
      have := cnt_mono h (Int.le_of_lt ht) i
      rw [if_neg (by omega), if_pos (by omega)]; omega
    · have := ih (by omega)
      split <;> split <;> omega
/-! codes: base 4, the first debt's digit first -/
def dgN (c k d : Nat) : Nat := k / 4 ^ (c - 1 - d) % 4
def dgZ (c k : Nat) : Nat → Int := fun d => (dgN c k d : Int)
def cdZ (x : Nat → Int) : Nat → Int
  | 0 => 0
  | d + 1 => 4 * cdZ x d + x d
theorem dgN_lt (c k d : Nat) : dgN c k d < 4 := Nat.mod_lt _ (by decide)
theorem dgN_last (c k : Nat) : dgN (c + 1) k c = k % 4 := by
  unfold dgN
  rw [show c + 1 - 1 - c = 0 by omega]
  simp
theorem dgN_step {c k d : Nat} (h : d < c) : dgN (c + 1) k d = dgN c (k / 4) d := by
  unfold dgN
  rw [show c + 1 - 1 - d = (c - 1 - d) + 1 by omega, Nat.pow_succ, Nat.mul_comm, Nat.div_div_eq_div_mul]
theorem cdZ_congr {x y : Nat → Int} : ∀ c, (∀ d, d < c → x d = y d) → cdZ x c = cdZ y c := by
  intro c
  induction c with
  | zero => intro _; rfl
  | succ c ih =>
    intro h
    show 4 * cdZ x c + x c = 4 * cdZ y c + y c
    rw [ih (fun d hd => h d (by omega)), h c (by omega)]
theorem cdZ_dg : ∀ c k, k < 4 ^ c → cdZ (dgZ c k) c = (k : Int) := by
  intro c
  induction c with
  | zero =>
    intro k h
    have : k = 0 := by simpa using h
    subst this; rfl
  | succ c ih =>
    intro k h
    show 4 * cdZ (dgZ (c + 1) k) c + dgZ (c + 1) k c = (k : Int)
    have h4 : k / 4 < 4 ^ c := by rw [Nat.pow_succ] at h; omega
    rw [cdZ_congr c (fun d hd => show dgZ (c + 1) k d = dgZ c (k / 4) d by unfold dgZ; rw [dgN_step hd]), ih (k / 4) h4]
    unfold dgZ
    rw [dgN_last]
    omega
/-- the code of a list of digits, and its digits again -/
theorem cd_of {x : Nat → Int} : ∀ c, (∀ d, d < c → 0 ≤ x d ∧ x d ≤ 3) → ∃ k : Nat, k < 4 ^ c ∧ cdZ x c = (k : Int) ∧ ∀ d, d < c → dgZ c k d = x d := by
  intro c
  induction c with
  | zero => intro _; exact ⟨0, by simp, rfl, fun d hd => absurd hd (by omega)⟩
  | succ c ih =>
    intro h
    obtain ⟨k, k1, k2, k3⟩ := ih (fun d hd => h d (by omega))
    obtain ⟨h1, h2⟩ := h c (by omega)
    refine ⟨4 * k + (x c).toNat, ?_, ?_, ?_⟩
    · rw [Nat.pow_succ]; omega
    · show 4 * cdZ x c + x c = _
      rw [k2]; omega
    · intro d hd
      by_cases e : d = c
      · subst e
        unfold dgZ
        rw [dgN_last]; omega
      · have hd : d < c := by omega
        rw [← k3 d hd]
        unfold dgZ
        rw [dgN_step hd, show (4 * k + (x c).toNat) / 4 = k by omega]
theorem cdZ_bnd {x : Nat → Int} (c : Nat) (h : ∀ d, d < c → 0 ≤ x d ∧ x d ≤ 3) : 0 ≤ cdZ x c ∧ cdZ x c < ((4 ^ c : Nat) : Int) := by
  obtain ⟨k, k1, k2, -⟩ := cd_of c h
  omega
theorem p4_le {c : Nat} (h : c ≤ 7) : 1 ≤ 4 ^ c ∧ 4 ^ c ≤ 16384 := by
  have h1 : 4 ^ c ≤ 4 ^ 7 := Nat.pow_le_pow_right (by decide) h
  have h2 : 0 < 4 ^ c := Nat.pow_pos (by decide)
  have h3 : 4 ^ 7 = 16384 := by decide
  omega
/-- the gain of a unit of a debt: with a favoured debt that one alone -/
def gnA (c : Nat) (fav : Int) : Nat → Int := fun d => if 0 ≤ fav then (if (d : Int) = fav then 1 else 0) else 32768 - ((4 ^ (c - 1 - d) : Nat) : Int)
theorem cdZ_sum (x : Nat → Int) : ∀ c, cdZ x c = sZ (fun d => ((4 ^ (c - 1 - d) : Nat) : Int) * x d) c := by
  intro c
  induction c with
  | zero => rfl
  | succ c ih =>
    show 4 * cdZ x c + x c = sZ (fun d => ((4 ^ (c + 1 - 1 - d) : Nat) : Int) * x d) c + ((4 ^ (c + 1 - 1 - c) : Nat) : Int) * x c
    rw [ih, ← sZ_mul]
    rw [sZ_congr (f := fun j => 4 * (((4 ^ (c - 1 - j) : Nat) : Int) * x j)) (g := fun d => ((4 ^ (c + 1 - 1 - d) : Nat) : Int) * x d) c (fun d hd => by
      show 4 * (((4 ^ (c - 1 - d) : Nat) : Int) * x d) = ((4 ^ (c + 1 - 1 - d) : Nat) : Int) * x d
      rw [← Int.mul_assoc, show c + 1 - 1 - d = (c - 1 - d) + 1 by omega, Nat.pow_succ, Int.natCast_mul, Int.mul_comm 4]; rfl)]
    rw [show c + 1 - 1 - c = 0 by omega]
    simp
theorem gG_code (c : Nat) (x : Nat → Int) {fav : Int} (hf : fav < 0) : gG (gnA c fav) x c = 32768 * sZ x c - cdZ x c := by
  rw [cdZ_sum, ← sZ_mul, ← sZ_sub]
  refine sZ_congr c (fun d _ => ?_)
  show gnA c fav d * x d = 32768 * x d - ((4 ^ (c - 1 - d) : Nat) : Int) * x d
  unfold gnA
  rw [if_neg (by omega), Int.sub_mul]
theorem gG_fav (c : Nat) (x : Nat → Int) {q : Nat} (hq : q < c) : gG (gnA c (q : Int)) x c = x q := by
  unfold gG
  rw [sZ_one (f := fun d => gnA c (q : Int) d * x d) c q hq (fun j _ hne => by
    show gnA c (q : Int) j * x j = 0
    unfold gnA
    rw [if_pos (by omega), if_neg (by omega)]; simp)]
  show gnA c (q : Int) q * x q = x q
  unfold gnA
  rw [if_pos (by omega), if_pos rfl]; simp
theorem gG_congr {g x y : Nat → Int} (c : Nat) (h : ∀ d, d < c → x d = y d) : gG g x c = gG g y c := sZ_congr c (fun d hd => by show g d * x d = g d * y d; rw [h d hd])
theorem Clr.congr {n c : Nat} {D C : Nat → Nat} {R x y : Nat → Int} (h : Clr n c D C R x) (e : ∀ d, d < c → x d = y d) : Clr n c D C R y := by
  refine ⟨fun d hd => by rw [← e d hd]; exact h.1 d hd, fun f hf => ?_⟩
  rw [← h.2 f hf]
  exact sZ_congr c (fun d hd => by unfold tf; rw [e d hd])
/-- one best clearing alone -/
theorem Opt.uniq {n c : Nat} {D C : Nat → Nat} {R x y : Nat → Int} {fav : Int} (hf : fav < 0) (hc : c ≤ 7) (hR : ∀ d, d < c → R d ≤ 3) (hx : Opt n c D C R (gnA c fav) x) (hy : Opt n c D C R (gnA c fav) y) : ∀ d, d < c → x d = y d := by
  have e1 := hx.2 y hy.1
  have e2 := hy.2 x hx.1
  rw [gG_code c x hf, gG_code c y hf] at e1 e2
  have bx : ∀ d, d < c → 0 ≤ x d ∧ x d ≤ 3 := fun d hd => ⟨(hx.1.1 d hd).1, Int.le_trans (hx.1.1 d hd).2 (hR d hd)⟩
  have bY : ∀ d, d < c → 0 ≤ y d ∧ y d ≤ 3 := fun d hd => ⟨(hy.1.1 d hd).1, Int.le_trans (hy.1.1 d hd).2 (hR d hd)⟩
  obtain ⟨k, k1, k2, k3⟩ := cd_of c bx
  obtain ⟨j, j1, j2, j3⟩ := cd_of c bY
  have h4 := p4_le hc
  have ekj : k = j := by omega
  intro d hd
  rw [← k3 d hd, ← j3 d hd, ekj]
theorem Clr.zero {n c : Nat} {D C : Nat → Nat} {R x : Nat → Int} (hR : ∀ d, d < c → 0 ≤ R d) (hx : ∀ d, d < c → x d = 0) : Clr n c D C R x := by
  refine ⟨fun d hd => by rw [hx d hd]; exact ⟨Int.le_refl 0, hR d hd⟩, fun f _ => sZ_zero c (fun d hd => ?_)⟩
  unfold tf
  rw [hx d hd]
  split <;> split <;> rfl
end
section
-- ===== PART A: goes FIRST, ahead of the names: the tables' words, and 'selects' of the private methods out of them =====
/-- a private method of a class that the tables say can be made, by its rows of tables_1 -/
def lw_okq (q : MethodName × Nat) : Prop := (q.1.cls ≠ "java/lang/invoke/MethodHandle" ∧ q.1.cls ≠ "java/lang/invoke/VarHandle") ∧ Cond.instantiable q.1.cls q.2 ∈ tables_1 ∧ Cond.privateMethod q.1 ∈ tables_1 ∧ Cond.instanceMethod q.1 ∈ tables_1
set_option maxRecDepth 100000
theorem lw_t1 {w : Cond} (h : w ∈ tables_1_1) : w ∈ tables_1 := List.mem_append_left _ h
theorem lw_t2 {w : Cond} (h : w ∈ tables_1_2) : w ∈ tables_1 := List.mem_append_right _ h
theorem lw_p0 : lw_okq (⟨"ObligationNetting", "isFirm", "(I)Z"⟩, 11) := ⟨⟨by decide +kernel, by decide +kernel⟩, lw_t1 (List.mem_of_getElem? (i := 4) rfl), lw_t1 (List.mem_of_getElem? (i := 52) rfl), lw_t1 (List.mem_of_getElem? (i := 53) rfl)⟩
theorem lw_p1 : lw_okq (⟨"ObligationNetting", "isDebt", "(I)Z"⟩, 11) := ⟨⟨by decide +kernel, by decide +kernel⟩, lw_t1 (List.mem_of_getElem? (i := 4) rfl), lw_t1 (List.mem_of_getElem? (i := 60) rfl), lw_t1 (List.mem_of_getElem? (i := 61) rfl)⟩
theorem lw_p2 : lw_okq (⟨"ObligationNetting", "solve", "(I)V"⟩, 11) := ⟨⟨by decide +kernel, by decide +kernel⟩, lw_t1 (List.mem_of_getElem? (i := 4) rfl), lw_t1 (List.mem_of_getElem? (i := 76) rfl), lw_t1 (List.mem_of_getElem? (i := 77) rfl)⟩
theorem lw_p3 : lw_okq (⟨"ObligationNetting", "findCircle", "(I)I"⟩, 11) := ⟨⟨by decide +kernel, by decide +kernel⟩, lw_t1 (List.mem_of_getElem? (i := 4) rfl), lw_t1 (List.mem_of_getElem? (i := 80) rfl), lw_t1 (List.mem_of_getElem? (i := 81) rfl)⟩
theorem lw_p4 : lw_okq (⟨"ObligationNetting", "relax", "(II)I"⟩, 11) := ⟨⟨by decide +kernel, by decide +kernel⟩, lw_t1 (List.mem_of_getElem? (i := 4) rfl), lw_t1 (List.mem_of_getElem? (i := 84) rfl), lw_t1 (List.mem_of_getElem? (i := 85) rfl)⟩
theorem lw_p5 : lw_okq (⟨"ObligationNetting", "left", "(I)I"⟩, 11) := ⟨⟨by decide +kernel, by decide +kernel⟩, lw_t1 (List.mem_of_getElem? (i := 4) rfl), lw_t1 (List.mem_of_getElem? (i := 88) rfl), lw_t1 (List.mem_of_getElem? (i := 89) rfl)⟩
theorem lw_p6 : lw_okq (⟨"ObligationNetting", "room", "(I)I"⟩, 11) := ⟨⟨by decide +kernel, by decide +kernel⟩, lw_t1 (List.mem_of_getElem? (i := 4) rfl), lw_t1 (List.mem_of_getElem? (i := 92) rfl), lw_t1 (List.mem_of_getElem? (i := 93) rfl)⟩
theorem lw_p7 : lw_okq (⟨"ObligationNetting", "gain", "(II)I"⟩, 11) := ⟨⟨by decide +kernel, by decide +kernel⟩, lw_t1 (List.mem_of_getElem? (i := 4) rfl), lw_t1 (List.mem_of_getElem? (i := 96) rfl), lw_t1 (List.mem_of_getElem? (i := 97) rfl)⟩
theorem lw_p8 : lw_okq (⟨"ObligationNetting", "tailOf", "(I)I"⟩, 11) := ⟨⟨by decide +kernel, by decide +kernel⟩, lw_t1 (List.mem_of_getElem? (i := 4) rfl), lw_t1 (List.mem_of_getElem? (i := 101) rfl), lw_t1 (List.mem_of_getElem? (i := 102) rfl)⟩
theorem lw_p9 : lw_okq (⟨"ObligationNetting", "headOf", "(I)I"⟩, 11) := ⟨⟨by decide +kernel, by decide +kernel⟩, lw_t1 (List.mem_of_getElem? (i := 4) rfl), lw_t1 (List.mem_of_getElem? (i := 105) rfl), lw_t1 (List.mem_of_getElem? (i := 106) rfl)⟩
theorem lw_p10 : lw_okq (⟨"ObligationNetting", "fillCircle", "(I)V"⟩, 11) := ⟨⟨by decide +kernel, by decide +kernel⟩, lw_t1 (List.mem_of_getElem? (i := 4) rfl), lw_t1 (List.mem_of_getElem? (i := 109) rfl), lw_t1 (List.mem_of_getElem? (i := 110) rfl)⟩
theorem lw_p11 : lw_okq (⟨"ObligationNetting", "load", "(I)Z"⟩, 11) := ⟨⟨by decide +kernel, by decide +kernel⟩, lw_t1 (List.mem_of_getElem? (i := 4) rfl), lw_t1 (List.mem_of_getElem? (i := 117) rfl), lw_t1 (List.mem_of_getElem? (i := 118) rfl)⟩
theorem lw_p12 : lw_okq (⟨"ObligationNetting", "balanceOf", "(I)I"⟩, 11) := ⟨⟨by decide +kernel, by decide +kernel⟩, lw_t1 (List.mem_of_getElem? (i := 4) rfl), lw_t1 (List.mem_of_getElem? (i := 133) rfl), lw_t1 (List.mem_of_getElem? (i := 134) rfl)⟩
theorem lw_p13 : lw_okq (⟨"ObligationNetting", "totalNow", "()I"⟩, 11) := ⟨⟨by decide +kernel, by decide +kernel⟩, lw_t1 (List.mem_of_getElem? (i := 4) rfl), lw_t1 (List.mem_of_getElem? (i := 145) rfl), lw_t1 (List.mem_of_getElem? (i := 146) rfl)⟩
theorem lw_p14 : lw_okq (⟨"ObligationNettingModel", "badFirm", "(I)Z"⟩, 7) := ⟨⟨by decide +kernel, by decide +kernel⟩, lw_t1 (List.mem_of_getElem? (i := 177) rfl), lw_t1 (List.mem_of_getElem? (i := 209) rfl), lw_t1 (List.mem_of_getElem? (i := 210) rfl)⟩
theorem lw_p15 : lw_okq (⟨"ObligationNettingModel", "bad", "(I)Z"⟩, 7) := ⟨⟨by decide +kernel, by decide +kernel⟩, lw_t1 (List.mem_of_getElem? (i := 177) rfl), lw_t1 (List.mem_of_getElem? (i := 217) rfl), lw_t1 (List.mem_of_getElem? (i := 218) rfl)⟩
def lw_privs_1 : List (MethodName × Nat) := [(⟨"ObligationNetting", "isFirm", "(I)Z"⟩, 11), (⟨"ObligationNetting", "isDebt", "(I)Z"⟩, 11), (⟨"ObligationNetting", "solve", "(I)V"⟩, 11), (⟨"ObligationNetting", "findCircle", "(I)I"⟩, 11), (⟨"ObligationNetting", "relax", "(II)I"⟩, 11), (⟨"ObligationNetting", "left", "(I)I"⟩, 11), (⟨"ObligationNetting", "room", "(I)I"⟩, 11), (⟨"ObligationNetting", "gain", "(II)I"⟩, 11), (⟨"ObligationNetting", "tailOf", "(I)I"⟩, 11), (⟨"ObligationNetting", "headOf", "(I)I"⟩, 11), (⟨"ObligationNetting", "fillCircle", "(I)V"⟩, 11), (⟨"ObligationNetting", "load", "(I)Z"⟩, 11), (⟨"ObligationNetting", "balanceOf", "(I)I"⟩, 11), (⟨"ObligationNetting", "totalNow", "()I"⟩, 11), (⟨"ObligationNettingModel", "badFirm", "(I)Z"⟩, 7), (⟨"ObligationNettingModel", "bad", "(I)Z"⟩, 7)]
theorem lw_r1 : ∀ q ∈ lw_privs_1, lw_okq q := List.forall_mem_cons.mpr ⟨lw_p0, List.forall_mem_cons.mpr ⟨lw_p1, List.forall_mem_cons.mpr ⟨lw_p2, List.forall_mem_cons.mpr ⟨lw_p3, List.forall_mem_cons.mpr ⟨lw_p4, List.forall_mem_cons.mpr ⟨lw_p5, List.forall_mem_cons.mpr ⟨lw_p6, List.forall_mem_cons.mpr ⟨lw_p7, List.forall_mem_cons.mpr ⟨lw_p8, List.forall_mem_cons.mpr ⟨lw_p9, List.forall_mem_cons.mpr ⟨lw_p10, List.forall_mem_cons.mpr ⟨lw_p11, List.forall_mem_cons.mpr ⟨lw_p12, List.forall_mem_cons.mpr ⟨lw_p13, List.forall_mem_cons.mpr ⟨lw_p14, List.forall_mem_cons.mpr ⟨lw_p15, fun _ h => absurd h List.not_mem_nil⟩⟩⟩⟩⟩⟩⟩⟩⟩⟩⟩⟩⟩⟩⟩⟩
theorem lw_p16 : lw_okq (⟨"ObligationNettingModel", "search", "()I"⟩, 7) := ⟨⟨by decide +kernel, by decide +kernel⟩, lw_t1 (List.mem_of_getElem? (i := 177) rfl), lw_t1 (List.mem_of_getElem? (i := 233) rfl), lw_t1 (List.mem_of_getElem? (i := 234) rfl)⟩
theorem lw_p17 : lw_okq (⟨"ObligationNettingModel", "total", "(I)I"⟩, 7) := ⟨⟨by decide +kernel, by decide +kernel⟩, lw_t1 (List.mem_of_getElem? (i := 177) rfl), lw_t1 (List.mem_of_getElem? (i := 237) rfl), lw_t1 (List.mem_of_getElem? (i := 238) rfl)⟩
theorem lw_p18 : lw_okq (⟨"ObligationNettingModel", "digit", "(II)I"⟩, 7) := ⟨⟨by decide +kernel, by decide +kernel⟩, lw_t1 (List.mem_of_getElem? (i := 177) rfl), lw_t2 (List.mem_of_getElem? (i := 1) rfl), lw_t2 (List.mem_of_getElem? (i := 2) rfl)⟩
theorem lw_p19 : lw_okq (⟨"ObligationNettingModel", "perform", "(I)I"⟩, 7) := ⟨⟨by decide +kernel, by decide +kernel⟩, lw_t1 (List.mem_of_getElem? (i := 177) rfl), lw_t2 (List.mem_of_getElem? (i := 5) rfl), lw_t2 (List.mem_of_getElem? (i := 6) rfl)⟩
theorem lw_p20 : lw_okq (⟨"ObligationNettingModel", "saldo", "(I)I"⟩, 7) := ⟨⟨by decide +kernel, by decide +kernel⟩, lw_t1 (List.mem_of_getElem? (i := 177) rfl), lw_t2 (List.mem_of_getElem? (i := 25) rfl), lw_t2 (List.mem_of_getElem? (i := 26) rfl)⟩
theorem lw_p21 : lw_okq (⟨"ObligationNettingModel", "greatest", "()I"⟩, 7) := ⟨⟨by decide +kernel, by decide +kernel⟩, lw_t1 (List.mem_of_getElem? (i := 177) rfl), lw_t2 (List.mem_of_getElem? (i := 37) rfl), lw_t2 (List.mem_of_getElem? (i := 38) rfl)⟩
def lw_privs_2 : List (MethodName × Nat) := [(⟨"ObligationNettingModel", "search", "()I"⟩, 7), (⟨"ObligationNettingModel", "total", "(I)I"⟩, 7), (⟨"ObligationNettingModel", "digit", "(II)I"⟩, 7), (⟨"ObligationNettingModel", "perform", "(I)I"⟩, 7), (⟨"ObligationNettingModel", "saldo", "(I)I"⟩, 7), (⟨"ObligationNettingModel", "greatest", "()I"⟩, 7)]
theorem lw_r2 : ∀ q ∈ lw_privs_2, lw_okq q := List.forall_mem_cons.mpr ⟨lw_p16, List.forall_mem_cons.mpr ⟨lw_p17, List.forall_mem_cons.mpr ⟨lw_p18, List.forall_mem_cons.mpr ⟨lw_p19, List.forall_mem_cons.mpr ⟨lw_p20, List.forall_mem_cons.mpr ⟨lw_p21, fun _ h => absurd h List.not_mem_nil⟩⟩⟩⟩⟩⟩
def lw_privs : List (MethodName × Nat) := lw_privs_1 ++ (lw_privs_2)
def lw_tbl : List Cond := k2_sels lw_privs ++ tables_1
theorem lw_privs_ok : ∀ q ∈ lw_privs, lw_okq q := by
  show ∀ q ∈ lw_privs_1 ++ (lw_privs_2), lw_okq q
  exact List.forall_mem_append.mpr ⟨lw_r1, lw_r2⟩
-- ===== ONE list of words for every method: the tables' words that hold all through a run =====
def lw_all : List Cond := lw_tbl.filter goodWord
/-- a word of the tables by its place: claim/WORDS.tsv -/
theorem lw_w {w : Cond} (i : Nat) (h : lw_tbl[i]? = some w) (g : goodWord w = true) : w ∈ lw_all := List.mem_filter.mpr ⟨List.mem_of_getElem? h, g⟩
theorem lw_all_tbl {w : Cond} (h : w ∈ lw_all) : w ∈ lw_tbl := (List.mem_filter.mp h).1
theorem lw_self : GoodIn lw_all lw_all := fun w h => ⟨h, good_of_word (List.mem_filter.mp h).2⟩
/-- a class's field words, by their places -/
theorem lw_in (ws : List Cond) (ps : List Nat) (hp : ws = ps.filterMap (fun i => lw_tbl[i]?)) (hg : ws.all goodWord = true) : ∀ w ∈ ws, w ∈ lw_all := by
  intro w h
  have h1 := List.all_eq_true.mp hg w h
  rw [hp] at h
  obtain ⟨i, -, hi⟩ := List.mem_filterMap.mp h
  exact lw_w i hi h1
/-- the words of a contract for the method y with code b, L locals, answer r -/
abbrev ws_ (y : MethodName) (b : ByteArray) (L : Nat) (r : Option FieldType) : List Cond := Cond.code y b L r :: lw_all
theorem lw_meth {y : MethodName} {b : ByteArray} {L : Nat} {r : Option FieldType} (h : Cond.code y b L r ∈ lw_all) : GoodIn lw_all (ws_ y b L r) := by
  intro w hw
  rcases List.mem_cons.mp hw with e | e
  · rw [e]
    exact lw_self _ h
  · exact lw_self _ e
theorem lw_app {a c : List Cond} (ha : ∀ w ∈ a, w ∈ lw_all) (hc : GoodIn lw_all c) : GoodIn lw_all (a ++ c) := by
  intro w hw
  rcases List.mem_append.mp hw with e | e
  · exact lw_self w (ha w e)
  · exact hc w e
/-- what a call through an object asks: cwV n hts (lw_V ..) -/
theorem lw_V {own : String} {idx : Nat} {C : String} {y : MethodName} {b : ByteArray} {L : Nat} {r : Option FieldType} (h1 : Cond.methodLink own idx y ∈ lw_all) (h2 : Cond.instanceMethod y ∈ lw_all) (h3 : Cond.selects C y y ∈ lw_all) (h4 : Cond.initialized C ∈ lw_all) (h5 : Cond.code y b L r ∈ lw_all) : GoodIn lw_all (wsV own idx C y (ws_ y b L r)) := by
  refine lw_app ?_ (lw_meth h5)
  intro w hw
  simp only [List.mem_cons, List.not_mem_nil, or_false] at hw
  rcases hw with e | e | e | e
  · rw [e]; exact h1
  · rw [e]; exact h2
  · rw [e]; exact h3
  · rw [e]; exact h4
/-- what a static call asks: va_cwS n hts (lw_S ..) -/
theorem lw_S {own : String} {idx : Nat} {y : MethodName} {b : ByteArray} {L : Nat} {r : Option FieldType} (h1 : Cond.methodLink own idx y ∈ lw_all) (h2 : Cond.static y ∈ lw_all) (h3 : Cond.initialized y.cls ∈ lw_all) (h4 : Cond.code y b L r ∈ lw_all) : GoodIn lw_all (va_wsS own idx y (ws_ y b L r)) := by
  refine lw_app ?_ (lw_meth h4)
  intro w hw
  simp only [List.mem_cons, List.not_mem_nil, or_false] at hw
  rcases hw with e | e | e
  · rw [e]; exact h1
  · rw [e]; exact h2
  · rw [e]; exact h3
/-- the words of a contract for a method WITH HANDLERS (hh: its table) -/
abbrev wsW_ (y : MethodName) (b : ByteArray) (L : Nat) (r : Option FieldType) (hh : List (Nat × Nat × Nat × Nat)) : List Cond := Cond.codeWith y b L r hh :: lw_all
theorem lw_methW {y : MethodName} {b : ByteArray} {L : Nat} {r : Option FieldType} {hh : List (Nat × Nat × Nat × Nat)} (h : Cond.codeWith y b L r hh ∈ lw_all) : GoodIn lw_all (wsW_ y b L r hh) := by
  intro w hw
  rcases List.mem_cons.mp hw with e | e
  · rw [e]
    exact lw_self _ h
  · exact lw_self _ e
/-- any list of words by their places (lw_in), good -/
theorem lw_good {ws : List Cond} (h : ∀ w ∈ ws, w ∈ lw_all) : GoodIn lw_all ws := fun w hw => lw_self w (h w hw)
/-- what a call of a method with handlers asks: vx_cwVW n hts (lw_VW ..), vx_cwSW n hts (lw_SW ..) -/
theorem lw_VW {own : String} {idx : Nat} {C : String} {y : MethodName} {b : ByteArray} {L : Nat} {r : Option FieldType} {hh : List (Nat × Nat × Nat × Nat)} (h1 : Cond.methodLink own idx y ∈ lw_all) (h2 : Cond.instanceMethod y ∈ lw_all) (h3 : Cond.selects C y y ∈ lw_all) (h4 : Cond.initialized C ∈ lw_all) (h5 : Cond.codeWith y b L r hh ∈ lw_all) : GoodIn lw_all (wsV own idx C y (wsW_ y b L r hh)) := by
  refine lw_app ?_ (lw_methW h5)
  intro w hw
  simp only [List.mem_cons, List.not_mem_nil, or_false] at hw
  rcases hw with e | e | e | e
  · rw [e]; exact h1
  · rw [e]; exact h2
  · rw [e]; exact h3
  · rw [e]; exact h4
theorem lw_SW {own : String} {idx : Nat} {y : MethodName} {b : ByteArray} {L : Nat} {r : Option FieldType} {hh : List (Nat × Nat × Nat × Nat)} (h1 : Cond.methodLink own idx y ∈ lw_all) (h2 : Cond.static y ∈ lw_all) (h3 : Cond.initialized y.cls ∈ lw_all) (h4 : Cond.codeWith y b L r hh ∈ lw_all) : GoodIn lw_all (va_wsS own idx y (wsW_ y b L r hh)) := by
  refine lw_app ?_ (lw_methW h4)
  intro w hw
  simp only [List.mem_cons, List.not_mem_nil, or_false] at hw
  rcases hw with e | e | e
  · rw [e]; exact h1
  · rw [e]; exact h2
  · rw [e]; exact h3
/-- a word by its place in its run of the tables -/
theorem lw_at {r : List Cond} (hr : ∀ w ∈ r, w ∈ lw_tbl) {w : Cond} (i : Nat) (h : r[i]? = some w) : w ∈ lw_tbl := hr w (List.mem_of_getElem? h)
theorem lw_g {w : Cond} (h : w ∈ lw_tbl) (g : goodWord w = true) : w ∈ lw_all := List.mem_filter.mpr ⟨h, g⟩
theorem lw_ms : ∀ w ∈ k2_sels lw_privs, w ∈ lw_tbl := fun w h => show w ∈ k2_sels lw_privs ++ tables_1 from List.mem_append_left _ h
theorem lw_m1 : ∀ w ∈ tables_1_1, w ∈ lw_tbl := fun w h => show w ∈ k2_sels lw_privs ++ tables_1 from List.mem_append_right (k2_sels lw_privs) (show w ∈ tables_1 from List.mem_append_left _ h)
theorem lw_m2 : ∀ w ∈ tables_1_2, w ∈ lw_tbl := fun w h => show w ∈ k2_sels lw_privs ++ tables_1 from List.mem_append_right (k2_sels lw_privs) (show w ∈ tables_1 from List.mem_append_right _ h)
theorem qs0 : (Cond.selects "ObligationNetting" ⟨"ObligationNetting", "isFirm", "(I)Z"⟩ ⟨"ObligationNetting", "isFirm", "(I)Z"⟩) ∈ lw_all := lw_g (lw_at lw_ms 0 rfl) rfl
theorem qs1 : (Cond.selects "ObligationNetting" ⟨"ObligationNetting", "isDebt", "(I)Z"⟩ ⟨"ObligationNetting", "isDebt", "(I)Z"⟩) ∈ lw_all := lw_g (lw_at lw_ms 1 rfl) rfl
theorem qs2 : (Cond.selects "ObligationNetting" ⟨"ObligationNetting", "solve", "(I)V"⟩ ⟨"ObligationNetting", "solve", "(I)V"⟩) ∈ lw_all := lw_g (lw_at lw_ms 2 rfl) rfl
theorem qs3 : (Cond.selects "ObligationNetting" ⟨"ObligationNetting", "findCircle", "(I)I"⟩ ⟨"ObligationNetting", "findCircle", "(I)I"⟩) ∈ lw_all := lw_g (lw_at lw_ms 3 rfl) rfl
theorem qs4 : (Cond.selects "ObligationNetting" ⟨"ObligationNetting", "relax", "(II)I"⟩ ⟨"ObligationNetting", "relax", "(II)I"⟩) ∈ lw_all := lw_g (lw_at lw_ms 4 rfl) rfl
theorem qs5 : (Cond.selects "ObligationNetting" ⟨"ObligationNetting", "left", "(I)I"⟩ ⟨"ObligationNetting", "left", "(I)I"⟩) ∈ lw_all := lw_g (lw_at lw_ms 5 rfl) rfl
theorem qs6 : (Cond.selects "ObligationNetting" ⟨"ObligationNetting", "room", "(I)I"⟩ ⟨"ObligationNetting", "room", "(I)I"⟩) ∈ lw_all := lw_g (lw_at lw_ms 6 rfl) rfl
theorem qs7 : (Cond.selects "ObligationNetting" ⟨"ObligationNetting", "gain", "(II)I"⟩ ⟨"ObligationNetting", "gain", "(II)I"⟩) ∈ lw_all := lw_g (lw_at lw_ms 7 rfl) rfl
theorem qs8 : (Cond.selects "ObligationNetting" ⟨"ObligationNetting", "tailOf", "(I)I"⟩ ⟨"ObligationNetting", "tailOf", "(I)I"⟩) ∈ lw_all := lw_g (lw_at lw_ms 8 rfl) rfl
theorem qs9 : (Cond.selects "ObligationNetting" ⟨"ObligationNetting", "headOf", "(I)I"⟩ ⟨"ObligationNetting", "headOf", "(I)I"⟩) ∈ lw_all := lw_g (lw_at lw_ms 9 rfl) rfl
theorem qs10 : (Cond.selects "ObligationNetting" ⟨"ObligationNetting", "fillCircle", "(I)V"⟩ ⟨"ObligationNetting", "fillCircle", "(I)V"⟩) ∈ lw_all := lw_g (lw_at lw_ms 10 rfl) rfl
theorem qs11 : (Cond.selects "ObligationNetting" ⟨"ObligationNetting", "load", "(I)Z"⟩ ⟨"ObligationNetting", "load", "(I)Z"⟩) ∈ lw_all := lw_g (lw_at lw_ms 11 rfl) rfl
theorem qs12 : (Cond.selects "ObligationNetting" ⟨"ObligationNetting", "balanceOf", "(I)I"⟩ ⟨"ObligationNetting", "balanceOf", "(I)I"⟩) ∈ lw_all := lw_g (lw_at lw_ms 12 rfl) rfl
theorem qs13 : (Cond.selects "ObligationNetting" ⟨"ObligationNetting", "totalNow", "()I"⟩ ⟨"ObligationNetting", "totalNow", "()I"⟩) ∈ lw_all := lw_g (lw_at lw_ms 13 rfl) rfl
theorem qs14 : (Cond.selects "ObligationNettingModel" ⟨"ObligationNettingModel", "badFirm", "(I)Z"⟩ ⟨"ObligationNettingModel", "badFirm", "(I)Z"⟩) ∈ lw_all := lw_g (lw_at lw_ms 14 rfl) rfl
theorem qs15 : (Cond.selects "ObligationNettingModel" ⟨"ObligationNettingModel", "bad", "(I)Z"⟩ ⟨"ObligationNettingModel", "bad", "(I)Z"⟩) ∈ lw_all := lw_g (lw_at lw_ms 15 rfl) rfl
theorem qs16 : (Cond.selects "ObligationNettingModel" ⟨"ObligationNettingModel", "search", "()I"⟩ ⟨"ObligationNettingModel", "search", "()I"⟩) ∈ lw_all := lw_g (lw_at lw_ms 16 rfl) rfl
theorem qs17 : (Cond.selects "ObligationNettingModel" ⟨"ObligationNettingModel", "total", "(I)I"⟩ ⟨"ObligationNettingModel", "total", "(I)I"⟩) ∈ lw_all := lw_g (lw_at lw_ms 17 rfl) rfl
theorem qs18 : (Cond.selects "ObligationNettingModel" ⟨"ObligationNettingModel", "digit", "(II)I"⟩ ⟨"ObligationNettingModel", "digit", "(II)I"⟩) ∈ lw_all := lw_g (lw_at lw_ms 18 rfl) rfl
theorem qs19 : (Cond.selects "ObligationNettingModel" ⟨"ObligationNettingModel", "perform", "(I)I"⟩ ⟨"ObligationNettingModel", "perform", "(I)I"⟩) ∈ lw_all := lw_g (lw_at lw_ms 19 rfl) rfl
theorem qs20 : (Cond.selects "ObligationNettingModel" ⟨"ObligationNettingModel", "saldo", "(I)I"⟩ ⟨"ObligationNettingModel", "saldo", "(I)I"⟩) ∈ lw_all := lw_g (lw_at lw_ms 20 rfl) rfl
theorem qs21 : (Cond.selects "ObligationNettingModel" ⟨"ObligationNettingModel", "greatest", "()I"⟩ ⟨"ObligationNettingModel", "greatest", "()I"⟩) ∈ lw_all := lw_g (lw_at lw_ms 21 rfl) rfl
end
section
set_option maxRecDepth 100000
/-! java/lang/Object -/
set_option maxRecDepth 100000
def RJ0 : String := "java/lang/Object"
abbrev cJ0_init : ByteArray := object_method_1_code
def yJ0_init : MethodName := ⟨RJ0, "<init>", "()V"⟩
theorem dJ0_init_0 : decode cJ0_init 0 = .ok (.return_, 1) := by decide +kernel
theorem q31 : (Jvm.Cond.instanceMethod ({ cls := "java/lang/Object", name := "<init>", desc := "()V" } : Jvm.MethodName)) ∈ lw_all := lw_g (lw_at lw_m1 9 rfl) rfl
theorem q32 : (Jvm.Cond.code ({ cls := "java/lang/Object", name := "<init>", desc := "()V" } : Jvm.MethodName) object_method_1_code (1 : Nat) (Option.none : Option Jvm.ClassFile.FieldType)) ∈ lw_all := lw_g (lw_at lw_m1 10 rfl) rfl
theorem q67 : (Jvm.Cond.arrayClass Jvm.ClassFile.FieldType.int) ∈ lw_all := lw_g (lw_at lw_m1 45 rfl) rfl
set_option maxRecDepth 100000
theorem q68 : (Jvm.Cond.arrayClass Jvm.ClassFile.FieldType.boolean) ∈ lw_all := lw_g (lw_at lw_m1 46 rfl) rfl
/-! ObligationNettingLaw -/
set_option maxRecDepth 100000
def RX0 : String := "ObligationNettingLaw"
abbrev cX0_cell : ByteArray := method_2_code
def yX0_cell : MethodName := ⟨RX0, "cell", "([II)I"⟩
theorem dX0_cell_0 : decode cX0_cell 0 = .ok (.iload_n 1, 1) := by decide +kernel
theorem dX0_cell_1 : decode cX0_cell 1 = .ok (.aload_n 0, 1) := by decide +kernel
theorem dX0_cell_2 : decode cX0_cell 2 = .ok (.arraylength, 1) := by decide +kernel
theorem dX0_cell_3 : decode cX0_cell 3 = .ok (.if_icmp .ge 9, 3) := by decide +kernel
theorem dX0_cell_6 : decode cX0_cell 6 = .ok (.aload_n 0, 1) := by decide +kernel
theorem dX0_cell_7 : decode cX0_cell 7 = .ok (.iload_n 1, 1) := by decide +kernel
theorem dX0_cell_8 : decode cX0_cell 8 = .ok (.iaload, 1) := by decide +kernel
theorem dX0_cell_9 : decode cX0_cell 9 = .ok (.goto 4, 3) := by decide +kernel
theorem dX0_cell_12 : decode cX0_cell 12 = .ok (.iconst 0, 1) := by decide +kernel
theorem dX0_cell_13 : decode cX0_cell 13 = .ok (.ireturn, 1) := by decide +kernel
theorem q22 : (Jvm.Cond.initialized "ObligationNettingLaw") ∈ lw_all := lw_g (lw_at lw_m1 0 rfl) rfl
theorem q25 : (Jvm.Cond.classLink "ObligationNettingLaw" (7 : Nat) "ObligationNetting") ∈ lw_all := lw_g (lw_at lw_m1 3 rfl) rfl
theorem q27 : (Jvm.Cond.methodLink "ObligationNettingLaw" (15 : Nat) ({ cls := "ObligationNetting", name := "<init>", desc := "(I)V" } : Jvm.MethodName)) ∈ lw_all := lw_g (lw_at lw_m1 5 rfl) rfl
theorem q69 : (Jvm.Cond.methodLink "ObligationNettingLaw" (21 : Nat) ({ cls := "ObligationNetting", name := "owe", desc := "(III)I" } : Jvm.MethodName)) ∈ lw_all := lw_g (lw_at lw_m1 47 rfl) rfl
theorem q77 : (Jvm.Cond.methodLink "ObligationNettingLaw" (26 : Nat) ({ cls := "ObligationNetting", name := "change", desc := "(II)I" } : Jvm.MethodName)) ∈ lw_all := lw_g (lw_at lw_m1 55 rfl) rfl
theorem q85 : (Jvm.Cond.methodLink "ObligationNettingLaw" (31 : Nat) ({ cls := "ObligationNetting", name := "pay", desc := "(I)I" } : Jvm.MethodName)) ∈ lw_all := lw_g (lw_at lw_m1 63 rfl) rfl
theorem q89 : (Jvm.Cond.methodLink "ObligationNettingLaw" (36 : Nat) ({ cls := "ObligationNetting", name := "exclude", desc := "(II)I" } : Jvm.MethodName)) ∈ lw_all := lw_g (lw_at lw_m1 67 rfl) rfl
theorem q93 : (Jvm.Cond.methodLink "ObligationNettingLaw" (40 : Nat) ({ cls := "ObligationNetting", name := "clear", desc := "()I" } : Jvm.MethodName)) ∈ lw_all := lw_g (lw_at lw_m1 71 rfl) rfl
theorem q134 : (Jvm.Cond.methodLink "ObligationNettingLaw" (45 : Nat) ({ cls := "ObligationNetting", name := "carryOut", desc := "(I)I" } : Jvm.MethodName)) ∈ lw_all := lw_g (lw_at lw_m1 112 rfl) rfl
theorem q142 : (Jvm.Cond.methodLink "ObligationNettingLaw" (49 : Nat) ({ cls := "ObligationNetting", name := "debts", desc := "()I" } : Jvm.MethodName)) ∈ lw_all := lw_g (lw_at lw_m1 120 rfl) rfl
theorem q146 : (Jvm.Cond.methodLink "ObligationNettingLaw" (53 : Nat) ({ cls := "ObligationNetting", name := "amount", desc := "(I)I" } : Jvm.MethodName)) ∈ lw_all := lw_g (lw_at lw_m1 124 rfl) rfl
theorem q150 : (Jvm.Cond.methodLink "ObligationNettingLaw" (57 : Nat) ({ cls := "ObligationNetting", name := "balance", desc := "(I)I" } : Jvm.MethodName)) ∈ lw_all := lw_g (lw_at lw_m1 128 rfl) rfl
theorem q158 : (Jvm.Cond.methodLink "ObligationNettingLaw" (61 : Nat) ({ cls := "ObligationNetting", name := "outstanding", desc := "()I" } : Jvm.MethodName)) ∈ lw_all := lw_g (lw_at lw_m1 136 rfl) rfl
theorem q162 : (Jvm.Cond.methodLink "ObligationNettingLaw" (65 : Nat) ({ cls := "ObligationNetting", name := "best", desc := "()I" } : Jvm.MethodName)) ∈ lw_all := lw_g (lw_at lw_m1 140 rfl) rfl
theorem q170 : (Jvm.Cond.methodLink "ObligationNettingLaw" (69 : Nat) ({ cls := "ObligationNetting", name := "bestCode", desc := "()I" } : Jvm.MethodName)) ∈ lw_all := lw_g (lw_at lw_m1 148 rfl) rfl
theorem q174 : (Jvm.Cond.methodLink "ObligationNettingLaw" (73 : Nat) ({ cls := "ObligationNetting", name := "isClearing", desc := "(I)I" } : Jvm.MethodName)) ∈ lw_all := lw_g (lw_at lw_m1 152 rfl) rfl
theorem q178 : (Jvm.Cond.methodLink "ObligationNettingLaw" (77 : Nat) ({ cls := "ObligationNetting", name := "weight", desc := "(I)I" } : Jvm.MethodName)) ∈ lw_all := lw_g (lw_at lw_m1 156 rfl) rfl
theorem q183 : (Jvm.Cond.methodLink "ObligationNettingLaw" (81 : Nat) ({ cls := "ObligationNetting", name := "most", desc := "(I)I" } : Jvm.MethodName)) ∈ lw_all := lw_g (lw_at lw_m1 161 rfl) rfl
theorem q187 : (Jvm.Cond.methodLink "ObligationNettingLaw" (85 : Nat) ({ cls := "ObligationNetting", name := "possible", desc := "()I" } : Jvm.MethodName)) ∈ lw_all := lw_g (lw_at lw_m1 165 rfl) rfl
theorem q191 : (Jvm.Cond.methodLink "ObligationNettingLaw" (89 : Nat) ({ cls := "ObligationNetting", name := "least", desc := "()I" } : Jvm.MethodName)) ∈ lw_all := lw_g (lw_at lw_m1 169 rfl) rfl
theorem q195 : (Jvm.Cond.methodLink "ObligationNettingLaw" (9 : Nat) ({ cls := "ObligationNettingLaw", name := "cell", desc := "([II)I" } : Jvm.MethodName)) ∈ lw_all := lw_g (lw_at lw_m1 173 rfl) rfl
theorem q196 : (Jvm.Cond.static ({ cls := "ObligationNettingLaw", name := "cell", desc := "([II)I" } : Jvm.MethodName)) ∈ lw_all := lw_g (lw_at lw_m1 174 rfl) rfl
theorem q197 : (Jvm.Cond.code ({ cls := "ObligationNettingLaw", name := "cell", desc := "([II)I" } : Jvm.MethodName) method_2_code (2 : Nat) (Option.some Jvm.ClassFile.FieldType.int)) ∈ lw_all := lw_g (lw_at lw_m1 175 rfl) rfl
theorem q198 : (Jvm.Cond.classLink "ObligationNettingLaw" (18 : Nat) "ObligationNettingModel") ∈ lw_all := lw_g (lw_at lw_m1 176 rfl) rfl
theorem q200 : (Jvm.Cond.methodLink "ObligationNettingLaw" (20 : Nat) ({ cls := "ObligationNettingModel", name := "<init>", desc := "(I)V" } : Jvm.MethodName)) ∈ lw_all := lw_g (lw_at lw_m1 178 rfl) rfl
theorem q226 : (Jvm.Cond.methodLink "ObligationNettingLaw" (25 : Nat) ({ cls := "ObligationNettingModel", name := "owe", desc := "(III)I" } : Jvm.MethodName)) ∈ lw_all := lw_g (lw_at lw_m1 204 rfl) rfl
theorem q234 : (Jvm.Cond.methodLink "ObligationNettingLaw" (30 : Nat) ({ cls := "ObligationNettingModel", name := "change", desc := "(II)I" } : Jvm.MethodName)) ∈ lw_all := lw_g (lw_at lw_m1 212 rfl) rfl
theorem q242 : (Jvm.Cond.methodLink "ObligationNettingLaw" (35 : Nat) ({ cls := "ObligationNettingModel", name := "pay", desc := "(I)I" } : Jvm.MethodName)) ∈ lw_all := lw_g (lw_at lw_m1 220 rfl) rfl
theorem q246 : (Jvm.Cond.methodLink "ObligationNettingLaw" (39 : Nat) ({ cls := "ObligationNettingModel", name := "exclude", desc := "(II)I" } : Jvm.MethodName)) ∈ lw_all := lw_g (lw_at lw_m1 224 rfl) rfl
theorem q250 : (Jvm.Cond.methodLink "ObligationNettingLaw" (44 : Nat) ({ cls := "ObligationNettingModel", name := "clear", desc := "()I" } : Jvm.MethodName)) ∈ lw_all := lw_g (lw_at lw_m1 228 rfl) rfl
theorem q270 : (Jvm.Cond.methodLink "ObligationNettingLaw" (48 : Nat) ({ cls := "ObligationNettingModel", name := "carryOut", desc := "(I)I" } : Jvm.MethodName)) ∈ lw_all := lw_g (lw_at lw_m2 8 rfl) rfl
theorem q274 : (Jvm.Cond.methodLink "ObligationNettingLaw" (52 : Nat) ({ cls := "ObligationNettingModel", name := "debts", desc := "()I" } : Jvm.MethodName)) ∈ lw_all := lw_g (lw_at lw_m2 12 rfl) rfl
theorem q278 : (Jvm.Cond.methodLink "ObligationNettingLaw" (56 : Nat) ({ cls := "ObligationNettingModel", name := "amount", desc := "(I)I" } : Jvm.MethodName)) ∈ lw_all := lw_g (lw_at lw_m2 16 rfl) rfl
theorem q282 : (Jvm.Cond.methodLink "ObligationNettingLaw" (60 : Nat) ({ cls := "ObligationNettingModel", name := "balance", desc := "(I)I" } : Jvm.MethodName)) ∈ lw_all := lw_g (lw_at lw_m2 20 rfl) rfl
theorem q290 : (Jvm.Cond.methodLink "ObligationNettingLaw" (64 : Nat) ({ cls := "ObligationNettingModel", name := "outstanding", desc := "()I" } : Jvm.MethodName)) ∈ lw_all := lw_g (lw_at lw_m2 28 rfl) rfl
theorem q294 : (Jvm.Cond.methodLink "ObligationNettingLaw" (68 : Nat) ({ cls := "ObligationNettingModel", name := "best", desc := "()I" } : Jvm.MethodName)) ∈ lw_all := lw_g (lw_at lw_m2 32 rfl) rfl
theorem q302 : (Jvm.Cond.methodLink "ObligationNettingLaw" (72 : Nat) ({ cls := "ObligationNettingModel", name := "bestCode", desc := "()I" } : Jvm.MethodName)) ∈ lw_all := lw_g (lw_at lw_m2 40 rfl) rfl
theorem q306 : (Jvm.Cond.methodLink "ObligationNettingLaw" (76 : Nat) ({ cls := "ObligationNettingModel", name := "isClearing", desc := "(I)I" } : Jvm.MethodName)) ∈ lw_all := lw_g (lw_at lw_m2 44 rfl) rfl
theorem q310 : (Jvm.Cond.methodLink "ObligationNettingLaw" (80 : Nat) ({ cls := "ObligationNettingModel", name := "weight", desc := "(I)I" } : Jvm.MethodName)) ∈ lw_all := lw_g (lw_at lw_m2 48 rfl) rfl
theorem q314 : (Jvm.Cond.methodLink "ObligationNettingLaw" (84 : Nat) ({ cls := "ObligationNettingModel", name := "most", desc := "(I)I" } : Jvm.MethodName)) ∈ lw_all := lw_g (lw_at lw_m2 52 rfl) rfl
theorem q318 : (Jvm.Cond.methodLink "ObligationNettingLaw" (88 : Nat) ({ cls := "ObligationNettingModel", name := "possible", desc := "()I" } : Jvm.MethodName)) ∈ lw_all := lw_g (lw_at lw_m2 56 rfl) rfl
theorem q322 : (Jvm.Cond.methodLink "ObligationNettingLaw" (92 : Nat) ({ cls := "ObligationNettingModel", name := "least", desc := "()I" } : Jvm.MethodName)) ∈ lw_all := lw_g (lw_at lw_m2 60 rfl) rfl
end
section
set_option maxRecDepth 100000
/-! ObligationNetting -/
set_option maxRecDepth 100000
def RX1 : String := "ObligationNetting"
def TX1 : u_T := fun k => match k with
  | 0 => ("ObligationNetting", "debtors", "[I", true)
  | 1 => ("ObligationNetting", "creditors", "[I", true)
  | 2 => ("ObligationNetting", "amounts", "[I", true)
  | 3 => ("ObligationNetting", "struck", "[I", true)
  | 4 => ("ObligationNetting", "lowest", "[I", true)
  | 5 => ("ObligationNetting", "outside", "[Z", true)
  | 6 => ("ObligationNetting", "length", "[I", true)
  | 7 => ("ObligationNetting", "arcInto", "[I", true)
  | 8 => ("ObligationNetting", "read", "[I", true)
  | 9 => ("ObligationNetting", "n", "I", false)
  | _ => ("ObligationNetting", "count", "I", false)
def tyX1 : Nat → FieldType := fun k => match k with
  | 0 => .array .int
  | 1 => .array .int
  | 2 => .array .int
  | 3 => .array .int
  | 4 => .array .int
  | 5 => .array .boolean
  | 6 => .array .int
  | 7 => .array .int
  | 8 => .array .int
  | 9 => .int
  | _ => .int
abbrev wsX10 : List Cond := u_ws RX1 TX1 11
theorem nmX1 : ∀ a, a < 11 → ∀ b, b < 11 → a ≠ b → (TX1 a).2.1 ≠ (TX1 b).2.1 := by decide +kernel
theorem tyX1_ok : ∀ k, k < 11 → parseFieldDescriptor (TX1 k).2.2.1 = some (tyX1 k) := by decide +kernel
abbrev cX1_init : ByteArray := prog_1_method_1_code
def yX1_init : MethodName := ⟨RX1, "<init>", "(I)V"⟩
theorem dX1_init_0 : decode cX1_init 0 = .ok (.aload_n 0, 1) := by decide +kernel
theorem dX1_init_1 : decode cX1_init 1 = .ok (.invokespecial 1, 3) := by decide +kernel
theorem dX1_init_4 : decode cX1_init 4 = .ok (.aload_n 0, 1) := by decide +kernel
theorem dX1_init_5 : decode cX1_init 5 = .ok (.bipush 7, 2) := by decide +kernel
theorem dX1_init_7 : decode cX1_init 7 = .ok (.newarray .int, 2) := by decide +kernel
theorem dX1_init_9 : decode cX1_init 9 = .ok (.putfield 7, 3) := by decide +kernel
theorem dX1_init_12 : decode cX1_init 12 = .ok (.aload_n 0, 1) := by decide +kernel
theorem dX1_init_13 : decode cX1_init 13 = .ok (.bipush 7, 2) := by decide +kernel
theorem dX1_init_15 : decode cX1_init 15 = .ok (.newarray .int, 2) := by decide +kernel
theorem dX1_init_17 : decode cX1_init 17 = .ok (.putfield 13, 3) := by decide +kernel
theorem dX1_init_20 : decode cX1_init 20 = .ok (.aload_n 0, 1) := by decide +kernel
theorem dX1_init_21 : decode cX1_init 21 = .ok (.bipush 7, 2) := by decide +kernel
theorem dX1_init_23 : decode cX1_init 23 = .ok (.newarray .int, 2) := by decide +kernel
theorem dX1_init_25 : decode cX1_init 25 = .ok (.putfield 16, 3) := by decide +kernel
theorem dX1_init_28 : decode cX1_init 28 = .ok (.aload_n 0, 1) := by decide +kernel
theorem dX1_init_29 : decode cX1_init 29 = .ok (.bipush 7, 2) := by decide +kernel
theorem dX1_init_31 : decode cX1_init 31 = .ok (.newarray .int, 2) := by decide +kernel
theorem dX1_init_33 : decode cX1_init 33 = .ok (.putfield 19, 3) := by decide +kernel
theorem dX1_init_36 : decode cX1_init 36 = .ok (.aload_n 0, 1) := by decide +kernel
theorem dX1_init_37 : decode cX1_init 37 = .ok (.bipush 7, 2) := by decide +kernel
theorem dX1_init_39 : decode cX1_init 39 = .ok (.newarray .int, 2) := by decide +kernel
theorem dX1_init_41 : decode cX1_init 41 = .ok (.putfield 22, 3) := by decide +kernel
theorem dX1_init_44 : decode cX1_init 44 = .ok (.aload_n 0, 1) := by decide +kernel
theorem dX1_init_45 : decode cX1_init 45 = .ok (.iconst 5, 1) := by decide +kernel
theorem dX1_init_46 : decode cX1_init 46 = .ok (.newarray .boolean, 2) := by decide +kernel
theorem dX1_init_48 : decode cX1_init 48 = .ok (.putfield 25, 3) := by decide +kernel
theorem dX1_init_51 : decode cX1_init 51 = .ok (.aload_n 0, 1) := by decide +kernel
theorem dX1_init_52 : decode cX1_init 52 = .ok (.iconst 5, 1) := by decide +kernel
theorem dX1_init_53 : decode cX1_init 53 = .ok (.newarray .int, 2) := by decide +kernel
theorem dX1_init_55 : decode cX1_init 55 = .ok (.putfield 29, 3) := by decide +kernel
theorem dX1_init_58 : decode cX1_init 58 = .ok (.aload_n 0, 1) := by decide +kernel
theorem dX1_init_59 : decode cX1_init 59 = .ok (.iconst 5, 1) := by decide +kernel
theorem dX1_init_60 : decode cX1_init 60 = .ok (.newarray .int, 2) := by decide +kernel
theorem dX1_init_62 : decode cX1_init 62 = .ok (.putfield 32, 3) := by decide +kernel
theorem dX1_init_65 : decode cX1_init 65 = .ok (.aload_n 0, 1) := by decide +kernel
theorem dX1_init_66 : decode cX1_init 66 = .ok (.bipush 7, 2) := by decide +kernel
theorem dX1_init_68 : decode cX1_init 68 = .ok (.newarray .int, 2) := by decide +kernel
theorem dX1_init_70 : decode cX1_init 70 = .ok (.putfield 35, 3) := by decide +kernel
theorem dX1_init_73 : decode cX1_init 73 = .ok (.aload_n 0, 1) := by decide +kernel
theorem dX1_init_74 : decode cX1_init 74 = .ok (.iload_n 1, 1) := by decide +kernel
theorem dX1_init_75 : decode cX1_init 75 = .ok (.iconst 2, 1) := by decide +kernel
theorem dX1_init_76 : decode cX1_init 76 = .ok (.if_icmp .ge 7, 3) := by decide +kernel
theorem dX1_init_79 : decode cX1_init 79 = .ok (.iconst 2, 1) := by decide +kernel
theorem dX1_init_80 : decode cX1_init 80 = .ok (.goto 4, 3) := by decide +kernel
theorem dX1_init_83 : decode cX1_init 83 = .ok (.iload_n 1, 1) := by decide +kernel
theorem dX1_init_84 : decode cX1_init 84 = .ok (.putfield 38, 3) := by decide +kernel
theorem dX1_init_87 : decode cX1_init 87 = .ok (.aload_n 0, 1) := by decide +kernel
theorem dX1_init_88 : decode cX1_init 88 = .ok (.getfield 38, 3) := by decide +kernel
theorem dX1_init_91 : decode cX1_init 91 = .ok (.iconst 5, 1) := by decide +kernel
theorem dX1_init_92 : decode cX1_init 92 = .ok (.if_icmp .le 8, 3) := by decide +kernel
theorem dX1_init_95 : decode cX1_init 95 = .ok (.aload_n 0, 1) := by decide +kernel
theorem dX1_init_96 : decode cX1_init 96 = .ok (.iconst 5, 1) := by decide +kernel
theorem dX1_init_97 : decode cX1_init 97 = .ok (.putfield 38, 3) := by decide +kernel
theorem dX1_init_100 : decode cX1_init 100 = .ok (.return_, 1) := by decide +kernel
abbrev cX1_owe : ByteArray := prog_1_method_2_code
def yX1_owe : MethodName := ⟨RX1, "owe", "(III)I"⟩
theorem dX1_owe_0 : decode cX1_owe 0 = .ok (.aload_n 0, 1) := by decide +kernel
theorem dX1_owe_1 : decode cX1_owe 1 = .ok (.iload_n 1, 1) := by decide +kernel
theorem dX1_owe_2 : decode cX1_owe 2 = .ok (.invokevirtual 42, 3) := by decide +kernel
theorem dX1_owe_5 : decode cX1_owe 5 = .ok (.ifCond .eq 11, 3) := by decide +kernel
theorem dX1_owe_8 : decode cX1_owe 8 = .ok (.aload_n 0, 1) := by decide +kernel
theorem dX1_owe_9 : decode cX1_owe 9 = .ok (.iload_n 2, 1) := by decide +kernel
theorem dX1_owe_10 : decode cX1_owe 10 = .ok (.invokevirtual 42, 3) := by decide +kernel
theorem dX1_owe_13 : decode cX1_owe 13 = .ok (.ifCond .ne 5, 3) := by decide +kernel
theorem dX1_owe_16 : decode cX1_owe 16 = .ok (.iconst (-1), 1) := by decide +kernel
theorem dX1_owe_17 : decode cX1_owe 17 = .ok (.ireturn, 1) := by decide +kernel
theorem dX1_owe_18 : decode cX1_owe 18 = .ok (.iload_n 1, 1) := by decide +kernel
theorem dX1_owe_19 : decode cX1_owe 19 = .ok (.iload_n 2, 1) := by decide +kernel
theorem dX1_owe_20 : decode cX1_owe 20 = .ok (.if_icmp .ne 6, 3) := by decide +kernel
theorem dX1_owe_23 : decode cX1_owe 23 = .ok (.bipush (-2), 2) := by decide +kernel
theorem dX1_owe_25 : decode cX1_owe 25 = .ok (.ireturn, 1) := by decide +kernel
theorem dX1_owe_26 : decode cX1_owe 26 = .ok (.iload_n 3, 1) := by decide +kernel
theorem dX1_owe_27 : decode cX1_owe 27 = .ok (.ifCond .lt 8, 3) := by decide +kernel
theorem dX1_owe_30 : decode cX1_owe 30 = .ok (.iload_n 3, 1) := by decide +kernel
theorem dX1_owe_31 : decode cX1_owe 31 = .ok (.iconst 3, 1) := by decide +kernel
theorem dX1_owe_32 : decode cX1_owe 32 = .ok (.if_icmp .le 6, 3) := by decide +kernel
theorem dX1_owe_35 : decode cX1_owe 35 = .ok (.bipush (-3), 2) := by decide +kernel
theorem dX1_owe_37 : decode cX1_owe 37 = .ok (.ireturn, 1) := by decide +kernel
theorem dX1_owe_38 : decode cX1_owe 38 = .ok (.aload_n 0, 1) := by decide +kernel
theorem dX1_owe_39 : decode cX1_owe 39 = .ok (.getfield 46, 3) := by decide +kernel
theorem dX1_owe_42 : decode cX1_owe 42 = .ok (.bipush 7, 2) := by decide +kernel
theorem dX1_owe_44 : decode cX1_owe 44 = .ok (.if_icmp .ne 6, 3) := by decide +kernel
theorem dX1_owe_47 : decode cX1_owe 47 = .ok (.bipush (-4), 2) := by decide +kernel
theorem dX1_owe_49 : decode cX1_owe 49 = .ok (.ireturn, 1) := by decide +kernel
theorem dX1_owe_50 : decode cX1_owe 50 = .ok (.aload_n 0, 1) := by decide +kernel
theorem dX1_owe_51 : decode cX1_owe 51 = .ok (.getfield 7, 3) := by decide +kernel
theorem dX1_owe_54 : decode cX1_owe 54 = .ok (.aload_n 0, 1) := by decide +kernel
theorem dX1_owe_55 : decode cX1_owe 55 = .ok (.getfield 46, 3) := by decide +kernel
theorem dX1_owe_58 : decode cX1_owe 58 = .ok (.iload_n 1, 1) := by decide +kernel
theorem dX1_owe_59 : decode cX1_owe 59 = .ok (.iastore, 1) := by decide +kernel
theorem dX1_owe_60 : decode cX1_owe 60 = .ok (.aload_n 0, 1) := by decide +kernel
theorem dX1_owe_61 : decode cX1_owe 61 = .ok (.getfield 13, 3) := by decide +kernel
theorem dX1_owe_64 : decode cX1_owe 64 = .ok (.aload_n 0, 1) := by decide +kernel
theorem dX1_owe_65 : decode cX1_owe 65 = .ok (.getfield 46, 3) := by decide +kernel
theorem dX1_owe_68 : decode cX1_owe 68 = .ok (.iload_n 2, 1) := by decide +kernel
theorem dX1_owe_69 : decode cX1_owe 69 = .ok (.iastore, 1) := by decide +kernel
theorem dX1_owe_70 : decode cX1_owe 70 = .ok (.aload_n 0, 1) := by decide +kernel
theorem dX1_owe_71 : decode cX1_owe 71 = .ok (.getfield 16, 3) := by decide +kernel
theorem dX1_owe_74 : decode cX1_owe 74 = .ok (.aload_n 0, 1) := by decide +kernel
theorem dX1_owe_75 : decode cX1_owe 75 = .ok (.getfield 46, 3) := by decide +kernel
theorem dX1_owe_78 : decode cX1_owe 78 = .ok (.iload_n 3, 1) := by decide +kernel
theorem dX1_owe_79 : decode cX1_owe 79 = .ok (.iastore, 1) := by decide +kernel
theorem dX1_owe_80 : decode cX1_owe 80 = .ok (.aload_n 0, 1) := by decide +kernel
theorem dX1_owe_81 : decode cX1_owe 81 = .ok (.dup, 1) := by decide +kernel
theorem dX1_owe_82 : decode cX1_owe 82 = .ok (.getfield 46, 3) := by decide +kernel
theorem dX1_owe_85 : decode cX1_owe 85 = .ok (.iconst 1, 1) := by decide +kernel
theorem dX1_owe_86 : decode cX1_owe 86 = .ok (.iadd, 1) := by decide +kernel
theorem dX1_owe_87 : decode cX1_owe 87 = .ok (.putfield 46, 3) := by decide +kernel
theorem dX1_owe_90 : decode cX1_owe 90 = .ok (.aload_n 0, 1) := by decide +kernel
theorem dX1_owe_91 : decode cX1_owe 91 = .ok (.getfield 46, 3) := by decide +kernel
theorem dX1_owe_94 : decode cX1_owe 94 = .ok (.iconst 1, 1) := by decide +kernel
theorem dX1_owe_95 : decode cX1_owe 95 = .ok (.isub, 1) := by decide +kernel
theorem dX1_owe_96 : decode cX1_owe 96 = .ok (.ireturn, 1) := by decide +kernel
abbrev cX1_isFirm : ByteArray := prog_1_method_19_code
def yX1_isFirm : MethodName := ⟨RX1, "isFirm", "(I)Z"⟩
theorem dX1_isFirm_0 : decode cX1_isFirm 0 = .ok (.iload_n 1, 1) := by decide +kernel
theorem dX1_isFirm_1 : decode cX1_isFirm 1 = .ok (.ifCond .lt 15, 3) := by decide +kernel
theorem dX1_isFirm_4 : decode cX1_isFirm 4 = .ok (.iload_n 1, 1) := by decide +kernel
theorem dX1_isFirm_5 : decode cX1_isFirm 5 = .ok (.aload_n 0, 1) := by decide +kernel
theorem dX1_isFirm_6 : decode cX1_isFirm 6 = .ok (.getfield 38, 3) := by decide +kernel
theorem dX1_isFirm_9 : decode cX1_isFirm 9 = .ok (.if_icmp .ge 7, 3) := by decide +kernel
theorem dX1_isFirm_12 : decode cX1_isFirm 12 = .ok (.iconst 1, 1) := by decide +kernel
theorem dX1_isFirm_13 : decode cX1_isFirm 13 = .ok (.goto 4, 3) := by decide +kernel
theorem dX1_isFirm_16 : decode cX1_isFirm 16 = .ok (.iconst 0, 1) := by decide +kernel
theorem dX1_isFirm_17 : decode cX1_isFirm 17 = .ok (.ireturn, 1) := by decide +kernel
abbrev cX1_change : ByteArray := prog_1_method_3_code
def yX1_change : MethodName := ⟨RX1, "change", "(II)I"⟩
theorem dX1_change_0 : decode cX1_change 0 = .ok (.aload_n 0, 1) := by decide +kernel
theorem dX1_change_1 : decode cX1_change 1 = .ok (.iload_n 1, 1) := by decide +kernel
theorem dX1_change_2 : decode cX1_change 2 = .ok (.invokevirtual 49, 3) := by decide +kernel
theorem dX1_change_5 : decode cX1_change 5 = .ok (.ifCond .ne 5, 3) := by decide +kernel
theorem dX1_change_8 : decode cX1_change 8 = .ok (.iconst (-1), 1) := by decide +kernel
theorem dX1_change_9 : decode cX1_change 9 = .ok (.ireturn, 1) := by decide +kernel
theorem dX1_change_10 : decode cX1_change 10 = .ok (.iload_n 2, 1) := by decide +kernel
theorem dX1_change_11 : decode cX1_change 11 = .ok (.ifCond .lt 8, 3) := by decide +kernel
theorem dX1_change_14 : decode cX1_change 14 = .ok (.iload_n 2, 1) := by decide +kernel
theorem dX1_change_15 : decode cX1_change 15 = .ok (.iconst 3, 1) := by decide +kernel
theorem dX1_change_16 : decode cX1_change 16 = .ok (.if_icmp .le 6, 3) := by decide +kernel
theorem dX1_change_19 : decode cX1_change 19 = .ok (.bipush (-2), 2) := by decide +kernel
theorem dX1_change_21 : decode cX1_change 21 = .ok (.ireturn, 1) := by decide +kernel
theorem dX1_change_22 : decode cX1_change 22 = .ok (.aload_n 0, 1) := by decide +kernel
theorem dX1_change_23 : decode cX1_change 23 = .ok (.getfield 16, 3) := by decide +kernel
theorem dX1_change_26 : decode cX1_change 26 = .ok (.iload_n 1, 1) := by decide +kernel
theorem dX1_change_27 : decode cX1_change 27 = .ok (.iaload, 1) := by decide +kernel
theorem dX1_change_28 : decode cX1_change 28 = .ok (.istore_n 3, 1) := by decide +kernel
theorem dX1_change_29 : decode cX1_change 29 = .ok (.aload_n 0, 1) := by decide +kernel
theorem dX1_change_30 : decode cX1_change 30 = .ok (.getfield 16, 3) := by decide +kernel
theorem dX1_change_33 : decode cX1_change 33 = .ok (.iload_n 1, 1) := by decide +kernel
theorem dX1_change_34 : decode cX1_change 34 = .ok (.iload_n 2, 1) := by decide +kernel
theorem dX1_change_35 : decode cX1_change 35 = .ok (.iastore, 1) := by decide +kernel
theorem dX1_change_36 : decode cX1_change 36 = .ok (.iload_n 3, 1) := by decide +kernel
theorem dX1_change_37 : decode cX1_change 37 = .ok (.ireturn, 1) := by decide +kernel
abbrev cX1_isDebt : ByteArray := prog_1_method_20_code
def yX1_isDebt : MethodName := ⟨RX1, "isDebt", "(I)Z"⟩
theorem dX1_isDebt_0 : decode cX1_isDebt 0 = .ok (.iload_n 1, 1) := by decide +kernel
theorem dX1_isDebt_1 : decode cX1_isDebt 1 = .ok (.ifCond .lt 15, 3) := by decide +kernel
theorem dX1_isDebt_4 : decode cX1_isDebt 4 = .ok (.iload_n 1, 1) := by decide +kernel
theorem dX1_isDebt_5 : decode cX1_isDebt 5 = .ok (.aload_n 0, 1) := by decide +kernel
theorem dX1_isDebt_6 : decode cX1_isDebt 6 = .ok (.getfield 46, 3) := by decide +kernel
theorem dX1_isDebt_9 : decode cX1_isDebt 9 = .ok (.if_icmp .ge 7, 3) := by decide +kernel
theorem dX1_isDebt_12 : decode cX1_isDebt 12 = .ok (.iconst 1, 1) := by decide +kernel
theorem dX1_isDebt_13 : decode cX1_isDebt 13 = .ok (.goto 4, 3) := by decide +kernel
theorem dX1_isDebt_16 : decode cX1_isDebt 16 = .ok (.iconst 0, 1) := by decide +kernel
theorem dX1_isDebt_17 : decode cX1_isDebt 17 = .ok (.ireturn, 1) := by decide +kernel
abbrev cX1_pay : ByteArray := prog_1_method_4_code
def yX1_pay : MethodName := ⟨RX1, "pay", "(I)I"⟩
theorem dX1_pay_0 : decode cX1_pay 0 = .ok (.aload_n 0, 1) := by decide +kernel
theorem dX1_pay_1 : decode cX1_pay 1 = .ok (.iload_n 1, 1) := by decide +kernel
theorem dX1_pay_2 : decode cX1_pay 2 = .ok (.invokevirtual 49, 3) := by decide +kernel
theorem dX1_pay_5 : decode cX1_pay 5 = .ok (.ifCond .ne 5, 3) := by decide +kernel
theorem dX1_pay_8 : decode cX1_pay 8 = .ok (.iconst (-1), 1) := by decide +kernel
theorem dX1_pay_9 : decode cX1_pay 9 = .ok (.ireturn, 1) := by decide +kernel
theorem dX1_pay_10 : decode cX1_pay 10 = .ok (.iload_n 1, 1) := by decide +kernel
theorem dX1_pay_11 : decode cX1_pay 11 = .ok (.iconst 1, 1) := by decide +kernel
theorem dX1_pay_12 : decode cX1_pay 12 = .ok (.iadd, 1) := by decide +kernel
theorem dX1_pay_13 : decode cX1_pay 13 = .ok (.istore_n 2, 1) := by decide +kernel
theorem dX1_pay_14 : decode cX1_pay 14 = .ok (.iload_n 2, 1) := by decide +kernel
theorem dX1_pay_15 : decode cX1_pay 15 = .ok (.aload_n 0, 1) := by decide +kernel
theorem dX1_pay_16 : decode cX1_pay 16 = .ok (.getfield 46, 3) := by decide +kernel
theorem dX1_pay_19 : decode cX1_pay 19 = .ok (.if_icmp .ge 51, 3) := by decide +kernel
theorem dX1_pay_22 : decode cX1_pay 22 = .ok (.aload_n 0, 1) := by decide +kernel
theorem dX1_pay_23 : decode cX1_pay 23 = .ok (.getfield 7, 3) := by decide +kernel
theorem dX1_pay_26 : decode cX1_pay 26 = .ok (.iload_n 2, 1) := by decide +kernel
theorem dX1_pay_27 : decode cX1_pay 27 = .ok (.iconst 1, 1) := by decide +kernel
theorem dX1_pay_28 : decode cX1_pay 28 = .ok (.isub, 1) := by decide +kernel
theorem dX1_pay_29 : decode cX1_pay 29 = .ok (.aload_n 0, 1) := by decide +kernel
theorem dX1_pay_30 : decode cX1_pay 30 = .ok (.getfield 7, 3) := by decide +kernel
theorem dX1_pay_33 : decode cX1_pay 33 = .ok (.iload_n 2, 1) := by decide +kernel
theorem dX1_pay_34 : decode cX1_pay 34 = .ok (.iaload, 1) := by decide +kernel
theorem dX1_pay_35 : decode cX1_pay 35 = .ok (.iastore, 1) := by decide +kernel
theorem dX1_pay_36 : decode cX1_pay 36 = .ok (.aload_n 0, 1) := by decide +kernel
theorem dX1_pay_37 : decode cX1_pay 37 = .ok (.getfield 13, 3) := by decide +kernel
theorem dX1_pay_40 : decode cX1_pay 40 = .ok (.iload_n 2, 1) := by decide +kernel
theorem dX1_pay_41 : decode cX1_pay 41 = .ok (.iconst 1, 1) := by decide +kernel
theorem dX1_pay_42 : decode cX1_pay 42 = .ok (.isub, 1) := by decide +kernel
theorem dX1_pay_43 : decode cX1_pay 43 = .ok (.aload_n 0, 1) := by decide +kernel
theorem dX1_pay_44 : decode cX1_pay 44 = .ok (.getfield 13, 3) := by decide +kernel
theorem dX1_pay_47 : decode cX1_pay 47 = .ok (.iload_n 2, 1) := by decide +kernel
theorem dX1_pay_48 : decode cX1_pay 48 = .ok (.iaload, 1) := by decide +kernel
theorem dX1_pay_49 : decode cX1_pay 49 = .ok (.iastore, 1) := by decide +kernel
theorem dX1_pay_50 : decode cX1_pay 50 = .ok (.aload_n 0, 1) := by decide +kernel
theorem dX1_pay_51 : decode cX1_pay 51 = .ok (.getfield 16, 3) := by decide +kernel
theorem dX1_pay_54 : decode cX1_pay 54 = .ok (.iload_n 2, 1) := by decide +kernel
theorem dX1_pay_55 : decode cX1_pay 55 = .ok (.iconst 1, 1) := by decide +kernel
theorem dX1_pay_56 : decode cX1_pay 56 = .ok (.isub, 1) := by decide +kernel
theorem dX1_pay_57 : decode cX1_pay 57 = .ok (.aload_n 0, 1) := by decide +kernel
theorem dX1_pay_58 : decode cX1_pay 58 = .ok (.getfield 16, 3) := by decide +kernel
theorem dX1_pay_61 : decode cX1_pay 61 = .ok (.iload_n 2, 1) := by decide +kernel
theorem dX1_pay_62 : decode cX1_pay 62 = .ok (.iaload, 1) := by decide +kernel
theorem dX1_pay_63 : decode cX1_pay 63 = .ok (.iastore, 1) := by decide +kernel
theorem dX1_pay_64 : decode cX1_pay 64 = .ok (.iinc 2 1, 3) := by decide +kernel
theorem dX1_pay_67 : decode cX1_pay 67 = .ok (.goto (-53), 3) := by decide +kernel
theorem dX1_pay_70 : decode cX1_pay 70 = .ok (.aload_n 0, 1) := by decide +kernel
theorem dX1_pay_71 : decode cX1_pay 71 = .ok (.dup, 1) := by decide +kernel
theorem dX1_pay_72 : decode cX1_pay 72 = .ok (.getfield 46, 3) := by decide +kernel
theorem dX1_pay_75 : decode cX1_pay 75 = .ok (.iconst 1, 1) := by decide +kernel
theorem dX1_pay_76 : decode cX1_pay 76 = .ok (.isub, 1) := by decide +kernel
theorem dX1_pay_77 : decode cX1_pay 77 = .ok (.putfield 46, 3) := by decide +kernel
theorem dX1_pay_80 : decode cX1_pay 80 = .ok (.aload_n 0, 1) := by decide +kernel
theorem dX1_pay_81 : decode cX1_pay 81 = .ok (.getfield 46, 3) := by decide +kernel
theorem dX1_pay_84 : decode cX1_pay 84 = .ok (.ireturn, 1) := by decide +kernel
abbrev cX1_exclude : ByteArray := prog_1_method_5_code
def yX1_exclude : MethodName := ⟨RX1, "exclude", "(II)I"⟩
theorem dX1_exclude_0 : decode cX1_exclude 0 = .ok (.aload_n 0, 1) := by decide +kernel
theorem dX1_exclude_1 : decode cX1_exclude 1 = .ok (.iload_n 1, 1) := by decide +kernel
theorem dX1_exclude_2 : decode cX1_exclude 2 = .ok (.invokevirtual 42, 3) := by decide +kernel
theorem dX1_exclude_5 : decode cX1_exclude 5 = .ok (.ifCond .ne 5, 3) := by decide +kernel
theorem dX1_exclude_8 : decode cX1_exclude 8 = .ok (.iconst (-1), 1) := by decide +kernel
theorem dX1_exclude_9 : decode cX1_exclude 9 = .ok (.ireturn, 1) := by decide +kernel
theorem dX1_exclude_10 : decode cX1_exclude 10 = .ok (.aload_n 0, 1) := by decide +kernel
theorem dX1_exclude_11 : decode cX1_exclude 11 = .ok (.getfield 25, 3) := by decide +kernel
theorem dX1_exclude_14 : decode cX1_exclude 14 = .ok (.iload_n 1, 1) := by decide +kernel
theorem dX1_exclude_15 : decode cX1_exclude 15 = .ok (.baload, 1) := by decide +kernel
theorem dX1_exclude_16 : decode cX1_exclude 16 = .ok (.ifCond .eq 7, 3) := by decide +kernel
theorem dX1_exclude_19 : decode cX1_exclude 19 = .ok (.iconst 1, 1) := by decide +kernel
theorem dX1_exclude_20 : decode cX1_exclude 20 = .ok (.goto 4, 3) := by decide +kernel
theorem dX1_exclude_23 : decode cX1_exclude 23 = .ok (.iconst 0, 1) := by decide +kernel
theorem dX1_exclude_24 : decode cX1_exclude 24 = .ok (.istore_n 3, 1) := by decide +kernel
theorem dX1_exclude_25 : decode cX1_exclude 25 = .ok (.aload_n 0, 1) := by decide +kernel
theorem dX1_exclude_26 : decode cX1_exclude 26 = .ok (.getfield 25, 3) := by decide +kernel
theorem dX1_exclude_29 : decode cX1_exclude 29 = .ok (.iload_n 1, 1) := by decide +kernel
theorem dX1_exclude_30 : decode cX1_exclude 30 = .ok (.iload_n 2, 1) := by decide +kernel
theorem dX1_exclude_31 : decode cX1_exclude 31 = .ok (.ifCond .eq 7, 3) := by decide +kernel
theorem dX1_exclude_34 : decode cX1_exclude 34 = .ok (.iconst 1, 1) := by decide +kernel
theorem dX1_exclude_35 : decode cX1_exclude 35 = .ok (.goto 4, 3) := by decide +kernel
theorem dX1_exclude_38 : decode cX1_exclude 38 = .ok (.iconst 0, 1) := by decide +kernel
theorem dX1_exclude_39 : decode cX1_exclude 39 = .ok (.bastore, 1) := by decide +kernel
theorem dX1_exclude_40 : decode cX1_exclude 40 = .ok (.iload_n 3, 1) := by decide +kernel
theorem dX1_exclude_41 : decode cX1_exclude 41 = .ok (.ireturn, 1) := by decide +kernel
abbrev cX1_clear : ByteArray := prog_1_method_6_code
def yX1_clear : MethodName := ⟨RX1, "clear", "()I"⟩
theorem dX1_clear_0 : decode cX1_clear 0 = .ok (.aload_n 0, 1) := by decide +kernel
theorem dX1_clear_1 : decode cX1_clear 1 = .ok (.iconst (-1), 1) := by decide +kernel
theorem dX1_clear_2 : decode cX1_clear 2 = .ok (.invokevirtual 52, 3) := by decide +kernel
theorem dX1_clear_5 : decode cX1_clear 5 = .ok (.iconst 0, 1) := by decide +kernel
theorem dX1_clear_6 : decode cX1_clear 6 = .ok (.istore_n 1, 1) := by decide +kernel
theorem dX1_clear_7 : decode cX1_clear 7 = .ok (.iconst 0, 1) := by decide +kernel
theorem dX1_clear_8 : decode cX1_clear 8 = .ok (.istore_n 2, 1) := by decide +kernel
theorem dX1_clear_9 : decode cX1_clear 9 = .ok (.iload_n 2, 1) := by decide +kernel
theorem dX1_clear_10 : decode cX1_clear 10 = .ok (.aload_n 0, 1) := by decide +kernel
theorem dX1_clear_11 : decode cX1_clear 11 = .ok (.getfield 46, 3) := by decide +kernel
theorem dX1_clear_14 : decode cX1_clear 14 = .ok (.if_icmp .ge 33, 3) := by decide +kernel
theorem dX1_clear_17 : decode cX1_clear 17 = .ok (.aload_n 0, 1) := by decide +kernel
theorem dX1_clear_18 : decode cX1_clear 18 = .ok (.getfield 16, 3) := by decide +kernel
theorem dX1_clear_21 : decode cX1_clear 21 = .ok (.iload_n 2, 1) := by decide +kernel
theorem dX1_clear_22 : decode cX1_clear 22 = .ok (.dup2, 1) := by decide +kernel
theorem dX1_clear_23 : decode cX1_clear 23 = .ok (.iaload, 1) := by decide +kernel
theorem dX1_clear_24 : decode cX1_clear 24 = .ok (.aload_n 0, 1) := by decide +kernel
theorem dX1_clear_25 : decode cX1_clear 25 = .ok (.getfield 19, 3) := by decide +kernel
theorem dX1_clear_28 : decode cX1_clear 28 = .ok (.iload_n 2, 1) := by decide +kernel
theorem dX1_clear_29 : decode cX1_clear 29 = .ok (.iaload, 1) := by decide +kernel
theorem dX1_clear_30 : decode cX1_clear 30 = .ok (.isub, 1) := by decide +kernel
theorem dX1_clear_31 : decode cX1_clear 31 = .ok (.iastore, 1) := by decide +kernel
theorem dX1_clear_32 : decode cX1_clear 32 = .ok (.iload_n 1, 1) := by decide +kernel
theorem dX1_clear_33 : decode cX1_clear 33 = .ok (.aload_n 0, 1) := by decide +kernel
theorem dX1_clear_34 : decode cX1_clear 34 = .ok (.getfield 19, 3) := by decide +kernel
theorem dX1_clear_37 : decode cX1_clear 37 = .ok (.iload_n 2, 1) := by decide +kernel
theorem dX1_clear_38 : decode cX1_clear 38 = .ok (.iaload, 1) := by decide +kernel
theorem dX1_clear_39 : decode cX1_clear 39 = .ok (.iadd, 1) := by decide +kernel
theorem dX1_clear_40 : decode cX1_clear 40 = .ok (.istore_n 1, 1) := by decide +kernel
theorem dX1_clear_41 : decode cX1_clear 41 = .ok (.iinc 2 1, 3) := by decide +kernel
theorem dX1_clear_44 : decode cX1_clear 44 = .ok (.goto (-35), 3) := by decide +kernel
theorem dX1_clear_47 : decode cX1_clear 47 = .ok (.iload_n 1, 1) := by decide +kernel
theorem dX1_clear_48 : decode cX1_clear 48 = .ok (.ireturn, 1) := by decide +kernel
abbrev cX1_solve : ByteArray := prog_1_method_25_code
def yX1_solve : MethodName := ⟨RX1, "solve", "(I)V"⟩
theorem dX1_solve_0 : decode cX1_solve 0 = .ok (.iconst 0, 1) := by decide +kernel
theorem dX1_solve_1 : decode cX1_solve 1 = .ok (.istore_n 2, 1) := by decide +kernel
theorem dX1_solve_2 : decode cX1_solve 2 = .ok (.iload_n 2, 1) := by decide +kernel
theorem dX1_solve_3 : decode cX1_solve 3 = .ok (.bipush 7, 2) := by decide +kernel
theorem dX1_solve_5 : decode cX1_solve 5 = .ok (.if_icmp .ge 16, 3) := by decide +kernel
theorem dX1_solve_8 : decode cX1_solve 8 = .ok (.aload_n 0, 1) := by decide +kernel
theorem dX1_solve_9 : decode cX1_solve 9 = .ok (.getfield 19, 3) := by decide +kernel
theorem dX1_solve_12 : decode cX1_solve 12 = .ok (.iload_n 2, 1) := by decide +kernel
theorem dX1_solve_13 : decode cX1_solve 13 = .ok (.iconst 0, 1) := by decide +kernel
theorem dX1_solve_14 : decode cX1_solve 14 = .ok (.iastore, 1) := by decide +kernel
theorem dX1_solve_15 : decode cX1_solve 15 = .ok (.iinc 2 1, 3) := by decide +kernel
theorem dX1_solve_18 : decode cX1_solve 18 = .ok (.goto (-16), 3) := by decide +kernel
theorem dX1_solve_21 : decode cX1_solve 21 = .ok (.iconst 0, 1) := by decide +kernel
theorem dX1_solve_22 : decode cX1_solve 22 = .ok (.istore_n 2, 1) := by decide +kernel
theorem dX1_solve_23 : decode cX1_solve 23 = .ok (.iload_n 2, 1) := by decide +kernel
theorem dX1_solve_24 : decode cX1_solve 24 = .ok (.sipush 16384, 3) := by decide +kernel
theorem dX1_solve_27 : decode cX1_solve 27 = .ok (.if_icmp .ge 26, 3) := by decide +kernel
theorem dX1_solve_30 : decode cX1_solve 30 = .ok (.aload_n 0, 1) := by decide +kernel
theorem dX1_solve_31 : decode cX1_solve 31 = .ok (.iload_n 1, 1) := by decide +kernel
theorem dX1_solve_32 : decode cX1_solve 32 = .ok (.invokevirtual 71, 3) := by decide +kernel
theorem dX1_solve_35 : decode cX1_solve 35 = .ok (.istore_n 3, 1) := by decide +kernel
theorem dX1_solve_36 : decode cX1_solve 36 = .ok (.iload_n 3, 1) := by decide +kernel
theorem dX1_solve_37 : decode cX1_solve 37 = .ok (.iconst (-1), 1) := by decide +kernel
theorem dX1_solve_38 : decode cX1_solve 38 = .ok (.if_icmp .ne 4, 3) := by decide +kernel
theorem dX1_solve_41 : decode cX1_solve 41 = .ok (.return_, 1) := by decide +kernel
theorem dX1_solve_42 : decode cX1_solve 42 = .ok (.aload_n 0, 1) := by decide +kernel
theorem dX1_solve_43 : decode cX1_solve 43 = .ok (.iload_n 3, 1) := by decide +kernel
theorem dX1_solve_44 : decode cX1_solve 44 = .ok (.invokevirtual 74, 3) := by decide +kernel
theorem dX1_solve_47 : decode cX1_solve 47 = .ok (.iinc 2 1, 3) := by decide +kernel
theorem dX1_solve_50 : decode cX1_solve 50 = .ok (.goto (-27), 3) := by decide +kernel
theorem dX1_solve_53 : decode cX1_solve 53 = .ok (.return_, 1) := by decide +kernel
abbrev cX1_findCircle : ByteArray := prog_1_method_26_code
def yX1_findCircle : MethodName := ⟨RX1, "findCircle", "(I)I"⟩
theorem dX1_findCircle_0 : decode cX1_findCircle 0 = .ok (.iconst 0, 1) := by decide +kernel
theorem dX1_findCircle_1 : decode cX1_findCircle 1 = .ok (.istore_n 2, 1) := by decide +kernel
theorem dX1_findCircle_2 : decode cX1_findCircle 2 = .ok (.iload_n 2, 1) := by decide +kernel
theorem dX1_findCircle_3 : decode cX1_findCircle 3 = .ok (.aload_n 0, 1) := by decide +kernel
theorem dX1_findCircle_4 : decode cX1_findCircle 4 = .ok (.getfield 38, 3) := by decide +kernel
theorem dX1_findCircle_7 : decode cX1_findCircle 7 = .ok (.if_icmp .ge 23, 3) := by decide +kernel
theorem dX1_findCircle_10 : decode cX1_findCircle 10 = .ok (.aload_n 0, 1) := by decide +kernel
theorem dX1_findCircle_11 : decode cX1_findCircle 11 = .ok (.getfield 29, 3) := by decide +kernel
theorem dX1_findCircle_14 : decode cX1_findCircle 14 = .ok (.iload_n 2, 1) := by decide +kernel
theorem dX1_findCircle_15 : decode cX1_findCircle 15 = .ok (.iconst 0, 1) := by decide +kernel
theorem dX1_findCircle_16 : decode cX1_findCircle 16 = .ok (.iastore, 1) := by decide +kernel
theorem dX1_findCircle_17 : decode cX1_findCircle 17 = .ok (.aload_n 0, 1) := by decide +kernel
theorem dX1_findCircle_18 : decode cX1_findCircle 18 = .ok (.getfield 32, 3) := by decide +kernel
theorem dX1_findCircle_21 : decode cX1_findCircle 21 = .ok (.iload_n 2, 1) := by decide +kernel
theorem dX1_findCircle_22 : decode cX1_findCircle 22 = .ok (.iconst (-1), 1) := by decide +kernel
theorem dX1_findCircle_23 : decode cX1_findCircle 23 = .ok (.iastore, 1) := by decide +kernel
theorem dX1_findCircle_24 : decode cX1_findCircle 24 = .ok (.iinc 2 1, 3) := by decide +kernel
theorem dX1_findCircle_27 : decode cX1_findCircle 27 = .ok (.goto (-25), 3) := by decide +kernel
theorem dX1_findCircle_30 : decode cX1_findCircle 30 = .ok (.iconst (-1), 1) := by decide +kernel
theorem dX1_findCircle_31 : decode cX1_findCircle 31 = .ok (.istore_n 2, 1) := by decide +kernel
theorem dX1_findCircle_32 : decode cX1_findCircle 32 = .ok (.iconst 0, 1) := by decide +kernel
theorem dX1_findCircle_33 : decode cX1_findCircle 33 = .ok (.istore_n 3, 1) := by decide +kernel
theorem dX1_findCircle_34 : decode cX1_findCircle 34 = .ok (.iload_n 3, 1) := by decide +kernel
theorem dX1_findCircle_35 : decode cX1_findCircle 35 = .ok (.aload_n 0, 1) := by decide +kernel
theorem dX1_findCircle_36 : decode cX1_findCircle 36 = .ok (.getfield 38, 3) := by decide +kernel
theorem dX1_findCircle_39 : decode cX1_findCircle 39 = .ok (.if_icmp .gt 59, 3) := by decide +kernel
theorem dX1_findCircle_42 : decode cX1_findCircle 42 = .ok (.iconst (-1), 1) := by decide +kernel
theorem dX1_findCircle_43 : decode cX1_findCircle 43 = .ok (.istore_n 2, 1) := by decide +kernel
theorem dX1_findCircle_44 : decode cX1_findCircle 44 = .ok (.iconst 0, 1) := by decide +kernel
theorem dX1_findCircle_45 : decode cX1_findCircle 45 = .ok (.istore 4, 2) := by decide +kernel
theorem dX1_findCircle_47 : decode cX1_findCircle 47 = .ok (.iload 4, 2) := by decide +kernel
theorem dX1_findCircle_49 : decode cX1_findCircle 49 = .ok (.iconst 2, 1) := by decide +kernel
theorem dX1_findCircle_50 : decode cX1_findCircle 50 = .ok (.aload_n 0, 1) := by decide +kernel
theorem dX1_findCircle_51 : decode cX1_findCircle 51 = .ok (.getfield 46, 3) := by decide +kernel
theorem dX1_findCircle_54 : decode cX1_findCircle 54 = .ok (.imul, 1) := by decide +kernel
theorem dX1_findCircle_55 : decode cX1_findCircle 55 = .ok (.if_icmp .ge 30, 3) := by decide +kernel
theorem dX1_findCircle_58 : decode cX1_findCircle 58 = .ok (.aload_n 0, 1) := by decide +kernel
theorem dX1_findCircle_59 : decode cX1_findCircle 59 = .ok (.iload 4, 2) := by decide +kernel
theorem dX1_findCircle_61 : decode cX1_findCircle 61 = .ok (.iload_n 1, 1) := by decide +kernel
theorem dX1_findCircle_62 : decode cX1_findCircle 62 = .ok (.invokevirtual 77, 3) := by decide +kernel
theorem dX1_findCircle_65 : decode cX1_findCircle 65 = .ok (.istore 5, 2) := by decide +kernel
theorem dX1_findCircle_67 : decode cX1_findCircle 67 = .ok (.iload 5, 2) := by decide +kernel
theorem dX1_findCircle_69 : decode cX1_findCircle 69 = .ok (.ifCond .lt 8, 3) := by decide +kernel
theorem dX1_findCircle_72 : decode cX1_findCircle 72 = .ok (.iload 5, 2) := by decide +kernel
theorem dX1_findCircle_74 : decode cX1_findCircle 74 = .ok (.goto 4, 3) := by decide +kernel
theorem dX1_findCircle_77 : decode cX1_findCircle 77 = .ok (.iload_n 2, 1) := by decide +kernel
theorem dX1_findCircle_78 : decode cX1_findCircle 78 = .ok (.istore_n 2, 1) := by decide +kernel
theorem dX1_findCircle_79 : decode cX1_findCircle 79 = .ok (.iinc 4 1, 3) := by decide +kernel
theorem dX1_findCircle_82 : decode cX1_findCircle 82 = .ok (.goto (-35), 3) := by decide +kernel
theorem dX1_findCircle_85 : decode cX1_findCircle 85 = .ok (.iload_n 2, 1) := by decide +kernel
theorem dX1_findCircle_86 : decode cX1_findCircle 86 = .ok (.iconst (-1), 1) := by decide +kernel
theorem dX1_findCircle_87 : decode cX1_findCircle 87 = .ok (.if_icmp .ne 5, 3) := by decide +kernel
theorem dX1_findCircle_90 : decode cX1_findCircle 90 = .ok (.iconst (-1), 1) := by decide +kernel
theorem dX1_findCircle_91 : decode cX1_findCircle 91 = .ok (.ireturn, 1) := by decide +kernel
theorem dX1_findCircle_92 : decode cX1_findCircle 92 = .ok (.iinc 3 1, 3) := by decide +kernel
theorem dX1_findCircle_95 : decode cX1_findCircle 95 = .ok (.goto (-61), 3) := by decide +kernel
theorem dX1_findCircle_98 : decode cX1_findCircle 98 = .ok (.iconst 0, 1) := by decide +kernel
theorem dX1_findCircle_99 : decode cX1_findCircle 99 = .ok (.istore_n 3, 1) := by decide +kernel
theorem dX1_findCircle_100 : decode cX1_findCircle 100 = .ok (.iload_n 3, 1) := by decide +kernel
theorem dX1_findCircle_101 : decode cX1_findCircle 101 = .ok (.aload_n 0, 1) := by decide +kernel
theorem dX1_findCircle_102 : decode cX1_findCircle 102 = .ok (.getfield 38, 3) := by decide +kernel
theorem dX1_findCircle_105 : decode cX1_findCircle 105 = .ok (.if_icmp .ge 20, 3) := by decide +kernel
theorem dX1_findCircle_108 : decode cX1_findCircle 108 = .ok (.aload_n 0, 1) := by decide +kernel
theorem dX1_findCircle_109 : decode cX1_findCircle 109 = .ok (.aload_n 0, 1) := by decide +kernel
theorem dX1_findCircle_110 : decode cX1_findCircle 110 = .ok (.getfield 32, 3) := by decide +kernel
theorem dX1_findCircle_113 : decode cX1_findCircle 113 = .ok (.iload_n 2, 1) := by decide +kernel
theorem dX1_findCircle_114 : decode cX1_findCircle 114 = .ok (.iaload, 1) := by decide +kernel
theorem dX1_findCircle_115 : decode cX1_findCircle 115 = .ok (.invokevirtual 81, 3) := by decide +kernel
theorem dX1_findCircle_118 : decode cX1_findCircle 118 = .ok (.istore_n 2, 1) := by decide +kernel
theorem dX1_findCircle_119 : decode cX1_findCircle 119 = .ok (.iinc 3 1, 3) := by decide +kernel
theorem dX1_findCircle_122 : decode cX1_findCircle 122 = .ok (.goto (-22), 3) := by decide +kernel
theorem dX1_findCircle_125 : decode cX1_findCircle 125 = .ok (.iload_n 2, 1) := by decide +kernel
theorem dX1_findCircle_126 : decode cX1_findCircle 126 = .ok (.ireturn, 1) := by decide +kernel
end
section
set_option maxRecDepth 100000
abbrev cX1_relax : ByteArray := prog_1_method_30_code
def yX1_relax : MethodName := ⟨RX1, "relax", "(II)I"⟩
theorem dX1_relax_0 : decode cX1_relax 0 = .ok (.aload_n 0, 1) := by decide +kernel
theorem dX1_relax_1 : decode cX1_relax 1 = .ok (.iload_n 1, 1) := by decide +kernel
theorem dX1_relax_2 : decode cX1_relax 2 = .ok (.invokevirtual 87, 3) := by decide +kernel
theorem dX1_relax_5 : decode cX1_relax 5 = .ok (.ifCond .gt 5, 3) := by decide +kernel
theorem dX1_relax_8 : decode cX1_relax 8 = .ok (.iconst (-1), 1) := by decide +kernel
theorem dX1_relax_9 : decode cX1_relax 9 = .ok (.ireturn, 1) := by decide +kernel
theorem dX1_relax_10 : decode cX1_relax 10 = .ok (.aload_n 0, 1) := by decide +kernel
theorem dX1_relax_11 : decode cX1_relax 11 = .ok (.iload_n 1, 1) := by decide +kernel
theorem dX1_relax_12 : decode cX1_relax 12 = .ok (.iconst 1, 1) := by decide +kernel
theorem dX1_relax_13 : decode cX1_relax 13 = .ok (.ishr, 1) := by decide +kernel
theorem dX1_relax_14 : decode cX1_relax 14 = .ok (.iload_n 2, 1) := by decide +kernel
theorem dX1_relax_15 : decode cX1_relax 15 = .ok (.invokevirtual 90, 3) := by decide +kernel
theorem dX1_relax_18 : decode cX1_relax 18 = .ok (.istore_n 3, 1) := by decide +kernel
theorem dX1_relax_19 : decode cX1_relax 19 = .ok (.aload_n 0, 1) := by decide +kernel
theorem dX1_relax_20 : decode cX1_relax 20 = .ok (.iload_n 1, 1) := by decide +kernel
theorem dX1_relax_21 : decode cX1_relax 21 = .ok (.invokevirtual 81, 3) := by decide +kernel
theorem dX1_relax_24 : decode cX1_relax 24 = .ok (.istore 4, 2) := by decide +kernel
theorem dX1_relax_26 : decode cX1_relax 26 = .ok (.aload_n 0, 1) := by decide +kernel
theorem dX1_relax_27 : decode cX1_relax 27 = .ok (.iload_n 1, 1) := by decide +kernel
theorem dX1_relax_28 : decode cX1_relax 28 = .ok (.invokevirtual 93, 3) := by decide +kernel
theorem dX1_relax_31 : decode cX1_relax 31 = .ok (.istore 5, 2) := by decide +kernel
theorem dX1_relax_33 : decode cX1_relax 33 = .ok (.aload_n 0, 1) := by decide +kernel
theorem dX1_relax_34 : decode cX1_relax 34 = .ok (.getfield 29, 3) := by decide +kernel
theorem dX1_relax_37 : decode cX1_relax 37 = .ok (.iload 4, 2) := by decide +kernel
theorem dX1_relax_39 : decode cX1_relax 39 = .ok (.iaload, 1) := by decide +kernel
theorem dX1_relax_40 : decode cX1_relax 40 = .ok (.iload_n 1, 1) := by decide +kernel
theorem dX1_relax_41 : decode cX1_relax 41 = .ok (.iconst 1, 1) := by decide +kernel
theorem dX1_relax_42 : decode cX1_relax 42 = .ok (.iand, 1) := by decide +kernel
theorem dX1_relax_43 : decode cX1_relax 43 = .ok (.ifCond .ne 7, 3) := by decide +kernel
theorem dX1_relax_46 : decode cX1_relax 46 = .ok (.iload_n 3, 1) := by decide +kernel
theorem dX1_relax_47 : decode cX1_relax 47 = .ok (.goto 5, 3) := by decide +kernel
theorem dX1_relax_50 : decode cX1_relax 50 = .ok (.iload_n 3, 1) := by decide +kernel
theorem dX1_relax_51 : decode cX1_relax 51 = .ok (.ineg, 1) := by decide +kernel
theorem dX1_relax_52 : decode cX1_relax 52 = .ok (.iadd, 1) := by decide +kernel
theorem dX1_relax_53 : decode cX1_relax 53 = .ok (.istore 6, 2) := by decide +kernel
theorem dX1_relax_55 : decode cX1_relax 55 = .ok (.iload 6, 2) := by decide +kernel
theorem dX1_relax_57 : decode cX1_relax 57 = .ok (.aload_n 0, 1) := by decide +kernel
theorem dX1_relax_58 : decode cX1_relax 58 = .ok (.getfield 29, 3) := by decide +kernel
theorem dX1_relax_61 : decode cX1_relax 61 = .ok (.iload 5, 2) := by decide +kernel
theorem dX1_relax_63 : decode cX1_relax 63 = .ok (.iaload, 1) := by decide +kernel
theorem dX1_relax_64 : decode cX1_relax 64 = .ok (.if_icmp .gt 5, 3) := by decide +kernel
theorem dX1_relax_67 : decode cX1_relax 67 = .ok (.iconst (-1), 1) := by decide +kernel
theorem dX1_relax_68 : decode cX1_relax 68 = .ok (.ireturn, 1) := by decide +kernel
theorem dX1_relax_69 : decode cX1_relax 69 = .ok (.aload_n 0, 1) := by decide +kernel
theorem dX1_relax_70 : decode cX1_relax 70 = .ok (.getfield 29, 3) := by decide +kernel
theorem dX1_relax_73 : decode cX1_relax 73 = .ok (.iload 5, 2) := by decide +kernel
theorem dX1_relax_75 : decode cX1_relax 75 = .ok (.iload 6, 2) := by decide +kernel
theorem dX1_relax_77 : decode cX1_relax 77 = .ok (.iastore, 1) := by decide +kernel
theorem dX1_relax_78 : decode cX1_relax 78 = .ok (.aload_n 0, 1) := by decide +kernel
theorem dX1_relax_79 : decode cX1_relax 79 = .ok (.getfield 32, 3) := by decide +kernel
theorem dX1_relax_82 : decode cX1_relax 82 = .ok (.iload 5, 2) := by decide +kernel
theorem dX1_relax_84 : decode cX1_relax 84 = .ok (.iload_n 1, 1) := by decide +kernel
theorem dX1_relax_85 : decode cX1_relax 85 = .ok (.iastore, 1) := by decide +kernel
theorem dX1_relax_86 : decode cX1_relax 86 = .ok (.iload 5, 2) := by decide +kernel
theorem dX1_relax_88 : decode cX1_relax 88 = .ok (.ireturn, 1) := by decide +kernel
abbrev cX1_left : ByteArray := prog_1_method_29_code
def yX1_left : MethodName := ⟨RX1, "left", "(I)I"⟩
theorem dX1_left_0 : decode cX1_left 0 = .ok (.iload_n 1, 1) := by decide +kernel
theorem dX1_left_1 : decode cX1_left 1 = .ok (.iconst 1, 1) := by decide +kernel
theorem dX1_left_2 : decode cX1_left 2 = .ok (.ishr, 1) := by decide +kernel
theorem dX1_left_3 : decode cX1_left 3 = .ok (.istore_n 2, 1) := by decide +kernel
theorem dX1_left_4 : decode cX1_left 4 = .ok (.iload_n 1, 1) := by decide +kernel
theorem dX1_left_5 : decode cX1_left 5 = .ok (.iconst 1, 1) := by decide +kernel
theorem dX1_left_6 : decode cX1_left 6 = .ok (.iand, 1) := by decide +kernel
theorem dX1_left_7 : decode cX1_left 7 = .ok (.ifCond .ne 18, 3) := by decide +kernel
theorem dX1_left_10 : decode cX1_left 10 = .ok (.aload_n 0, 1) := by decide +kernel
theorem dX1_left_11 : decode cX1_left 11 = .ok (.iload_n 2, 1) := by decide +kernel
theorem dX1_left_12 : decode cX1_left 12 = .ok (.invokevirtual 84, 3) := by decide +kernel
theorem dX1_left_15 : decode cX1_left 15 = .ok (.aload_n 0, 1) := by decide +kernel
theorem dX1_left_16 : decode cX1_left 16 = .ok (.getfield 19, 3) := by decide +kernel
theorem dX1_left_19 : decode cX1_left 19 = .ok (.iload_n 2, 1) := by decide +kernel
theorem dX1_left_20 : decode cX1_left 20 = .ok (.iaload, 1) := by decide +kernel
theorem dX1_left_21 : decode cX1_left 21 = .ok (.isub, 1) := by decide +kernel
theorem dX1_left_22 : decode cX1_left 22 = .ok (.goto 9, 3) := by decide +kernel
theorem dX1_left_25 : decode cX1_left 25 = .ok (.aload_n 0, 1) := by decide +kernel
theorem dX1_left_26 : decode cX1_left 26 = .ok (.getfield 19, 3) := by decide +kernel
theorem dX1_left_29 : decode cX1_left 29 = .ok (.iload_n 2, 1) := by decide +kernel
theorem dX1_left_30 : decode cX1_left 30 = .ok (.iaload, 1) := by decide +kernel
theorem dX1_left_31 : decode cX1_left 31 = .ok (.ireturn, 1) := by decide +kernel
abbrev cX1_room : ByteArray := prog_1_method_23_code
def yX1_room : MethodName := ⟨RX1, "room", "(I)I"⟩
theorem dX1_room_0 : decode cX1_room 0 = .ok (.aload_n 0, 1) := by decide +kernel
theorem dX1_room_1 : decode cX1_room 1 = .ok (.getfield 25, 3) := by decide +kernel
theorem dX1_room_4 : decode cX1_room 4 = .ok (.aload_n 0, 1) := by decide +kernel
theorem dX1_room_5 : decode cX1_room 5 = .ok (.getfield 7, 3) := by decide +kernel
theorem dX1_room_8 : decode cX1_room 8 = .ok (.iload_n 1, 1) := by decide +kernel
theorem dX1_room_9 : decode cX1_room 9 = .ok (.iaload, 1) := by decide +kernel
theorem dX1_room_10 : decode cX1_room 10 = .ok (.baload, 1) := by decide +kernel
theorem dX1_room_11 : decode cX1_room 11 = .ok (.ifCond .ne 17, 3) := by decide +kernel
theorem dX1_room_14 : decode cX1_room 14 = .ok (.aload_n 0, 1) := by decide +kernel
theorem dX1_room_15 : decode cX1_room 15 = .ok (.getfield 25, 3) := by decide +kernel
theorem dX1_room_18 : decode cX1_room 18 = .ok (.aload_n 0, 1) := by decide +kernel
theorem dX1_room_19 : decode cX1_room 19 = .ok (.getfield 13, 3) := by decide +kernel
theorem dX1_room_22 : decode cX1_room 22 = .ok (.iload_n 1, 1) := by decide +kernel
theorem dX1_room_23 : decode cX1_room 23 = .ok (.iaload, 1) := by decide +kernel
theorem dX1_room_24 : decode cX1_room 24 = .ok (.baload, 1) := by decide +kernel
theorem dX1_room_25 : decode cX1_room 25 = .ok (.ifCond .eq 7, 3) := by decide +kernel
theorem dX1_room_28 : decode cX1_room 28 = .ok (.iconst 0, 1) := by decide +kernel
theorem dX1_room_29 : decode cX1_room 29 = .ok (.goto 9, 3) := by decide +kernel
theorem dX1_room_32 : decode cX1_room 32 = .ok (.aload_n 0, 1) := by decide +kernel
theorem dX1_room_33 : decode cX1_room 33 = .ok (.getfield 16, 3) := by decide +kernel
theorem dX1_room_36 : decode cX1_room 36 = .ok (.iload_n 1, 1) := by decide +kernel
theorem dX1_room_37 : decode cX1_room 37 = .ok (.iaload, 1) := by decide +kernel
theorem dX1_room_38 : decode cX1_room 38 = .ok (.ireturn, 1) := by decide +kernel
abbrev cX1_gain : ByteArray := prog_1_method_24_code
def yX1_gain : MethodName := ⟨RX1, "gain", "(II)I"⟩
theorem dX1_gain_0 : decode cX1_gain 0 = .ok (.iload_n 2, 1) := by decide +kernel
theorem dX1_gain_1 : decode cX1_gain 1 = .ok (.ifCond .lt 14, 3) := by decide +kernel
theorem dX1_gain_4 : decode cX1_gain 4 = .ok (.iload_n 1, 1) := by decide +kernel
theorem dX1_gain_5 : decode cX1_gain 5 = .ok (.iload_n 2, 1) := by decide +kernel
theorem dX1_gain_6 : decode cX1_gain 6 = .ok (.if_icmp .ne 7, 3) := by decide +kernel
theorem dX1_gain_9 : decode cX1_gain 9 = .ok (.iconst 1, 1) := by decide +kernel
theorem dX1_gain_10 : decode cX1_gain 10 = .ok (.goto 4, 3) := by decide +kernel
theorem dX1_gain_13 : decode cX1_gain 13 = .ok (.iconst 0, 1) := by decide +kernel
theorem dX1_gain_14 : decode cX1_gain 14 = .ok (.ireturn, 1) := by decide +kernel
theorem dX1_gain_15 : decode cX1_gain 15 = .ok (.ldc 70, 2) := by decide +kernel
theorem dX1_gain_17 : decode cX1_gain 17 = .ok (.iconst 1, 1) := by decide +kernel
theorem dX1_gain_18 : decode cX1_gain 18 = .ok (.iconst 2, 1) := by decide +kernel
theorem dX1_gain_19 : decode cX1_gain 19 = .ok (.aload_n 0, 1) := by decide +kernel
theorem dX1_gain_20 : decode cX1_gain 20 = .ok (.getfield 46, 3) := by decide +kernel
theorem dX1_gain_23 : decode cX1_gain 23 = .ok (.iconst 1, 1) := by decide +kernel
theorem dX1_gain_24 : decode cX1_gain 24 = .ok (.isub, 1) := by decide +kernel
theorem dX1_gain_25 : decode cX1_gain 25 = .ok (.iload_n 1, 1) := by decide +kernel
theorem dX1_gain_26 : decode cX1_gain 26 = .ok (.isub, 1) := by decide +kernel
theorem dX1_gain_27 : decode cX1_gain 27 = .ok (.imul, 1) := by decide +kernel
theorem dX1_gain_28 : decode cX1_gain 28 = .ok (.ishl, 1) := by decide +kernel
theorem dX1_gain_29 : decode cX1_gain 29 = .ok (.isub, 1) := by decide +kernel
theorem dX1_gain_30 : decode cX1_gain 30 = .ok (.ireturn, 1) := by decide +kernel
abbrev cX1_tailOf : ByteArray := prog_1_method_27_code
def yX1_tailOf : MethodName := ⟨RX1, "tailOf", "(I)I"⟩
theorem dX1_tailOf_0 : decode cX1_tailOf 0 = .ok (.iload_n 1, 1) := by decide +kernel
theorem dX1_tailOf_1 : decode cX1_tailOf 1 = .ok (.iconst 1, 1) := by decide +kernel
theorem dX1_tailOf_2 : decode cX1_tailOf 2 = .ok (.iand, 1) := by decide +kernel
theorem dX1_tailOf_3 : decode cX1_tailOf 3 = .ok (.ifCond .ne 14, 3) := by decide +kernel
theorem dX1_tailOf_6 : decode cX1_tailOf 6 = .ok (.aload_n 0, 1) := by decide +kernel
theorem dX1_tailOf_7 : decode cX1_tailOf 7 = .ok (.getfield 7, 3) := by decide +kernel
theorem dX1_tailOf_10 : decode cX1_tailOf 10 = .ok (.iload_n 1, 1) := by decide +kernel
theorem dX1_tailOf_11 : decode cX1_tailOf 11 = .ok (.iconst 1, 1) := by decide +kernel
theorem dX1_tailOf_12 : decode cX1_tailOf 12 = .ok (.ishr, 1) := by decide +kernel
theorem dX1_tailOf_13 : decode cX1_tailOf 13 = .ok (.iaload, 1) := by decide +kernel
theorem dX1_tailOf_14 : decode cX1_tailOf 14 = .ok (.goto 11, 3) := by decide +kernel
theorem dX1_tailOf_17 : decode cX1_tailOf 17 = .ok (.aload_n 0, 1) := by decide +kernel
theorem dX1_tailOf_18 : decode cX1_tailOf 18 = .ok (.getfield 13, 3) := by decide +kernel
theorem dX1_tailOf_21 : decode cX1_tailOf 21 = .ok (.iload_n 1, 1) := by decide +kernel
theorem dX1_tailOf_22 : decode cX1_tailOf 22 = .ok (.iconst 1, 1) := by decide +kernel
theorem dX1_tailOf_23 : decode cX1_tailOf 23 = .ok (.ishr, 1) := by decide +kernel
theorem dX1_tailOf_24 : decode cX1_tailOf 24 = .ok (.iaload, 1) := by decide +kernel
theorem dX1_tailOf_25 : decode cX1_tailOf 25 = .ok (.ireturn, 1) := by decide +kernel
abbrev cX1_headOf : ByteArray := prog_1_method_28_code
def yX1_headOf : MethodName := ⟨RX1, "headOf", "(I)I"⟩
theorem dX1_headOf_0 : decode cX1_headOf 0 = .ok (.iload_n 1, 1) := by decide +kernel
theorem dX1_headOf_1 : decode cX1_headOf 1 = .ok (.iconst 1, 1) := by decide +kernel
theorem dX1_headOf_2 : decode cX1_headOf 2 = .ok (.iand, 1) := by decide +kernel
theorem dX1_headOf_3 : decode cX1_headOf 3 = .ok (.ifCond .ne 14, 3) := by decide +kernel
theorem dX1_headOf_6 : decode cX1_headOf 6 = .ok (.aload_n 0, 1) := by decide +kernel
theorem dX1_headOf_7 : decode cX1_headOf 7 = .ok (.getfield 13, 3) := by decide +kernel
theorem dX1_headOf_10 : decode cX1_headOf 10 = .ok (.iload_n 1, 1) := by decide +kernel
theorem dX1_headOf_11 : decode cX1_headOf 11 = .ok (.iconst 1, 1) := by decide +kernel
theorem dX1_headOf_12 : decode cX1_headOf 12 = .ok (.ishr, 1) := by decide +kernel
theorem dX1_headOf_13 : decode cX1_headOf 13 = .ok (.iaload, 1) := by decide +kernel
theorem dX1_headOf_14 : decode cX1_headOf 14 = .ok (.goto 11, 3) := by decide +kernel
theorem dX1_headOf_17 : decode cX1_headOf 17 = .ok (.aload_n 0, 1) := by decide +kernel
theorem dX1_headOf_18 : decode cX1_headOf 18 = .ok (.getfield 7, 3) := by decide +kernel
theorem dX1_headOf_21 : decode cX1_headOf 21 = .ok (.iload_n 1, 1) := by decide +kernel
theorem dX1_headOf_22 : decode cX1_headOf 22 = .ok (.iconst 1, 1) := by decide +kernel
theorem dX1_headOf_23 : decode cX1_headOf 23 = .ok (.ishr, 1) := by decide +kernel
theorem dX1_headOf_24 : decode cX1_headOf 24 = .ok (.iaload, 1) := by decide +kernel
theorem dX1_headOf_25 : decode cX1_headOf 25 = .ok (.ireturn, 1) := by decide +kernel
abbrev cX1_fillCircle : ByteArray := prog_1_method_31_code
def yX1_fillCircle : MethodName := ⟨RX1, "fillCircle", "(I)V"⟩
theorem dX1_fillCircle_0 : decode cX1_fillCircle 0 = .ok (.iconst 3, 1) := by decide +kernel
theorem dX1_fillCircle_1 : decode cX1_fillCircle 1 = .ok (.istore_n 2, 1) := by decide +kernel
theorem dX1_fillCircle_2 : decode cX1_fillCircle 2 = .ok (.iload_n 1, 1) := by decide +kernel
theorem dX1_fillCircle_3 : decode cX1_fillCircle 3 = .ok (.istore_n 3, 1) := by decide +kernel
theorem dX1_fillCircle_4 : decode cX1_fillCircle 4 = .ok (.iconst 0, 1) := by decide +kernel
theorem dX1_fillCircle_5 : decode cX1_fillCircle 5 = .ok (.istore 4, 2) := by decide +kernel
theorem dX1_fillCircle_7 : decode cX1_fillCircle 7 = .ok (.iload 4, 2) := by decide +kernel
theorem dX1_fillCircle_9 : decode cX1_fillCircle 9 = .ok (.iconst 5, 1) := by decide +kernel
theorem dX1_fillCircle_10 : decode cX1_fillCircle 10 = .ok (.if_icmp .ge 53, 3) := by decide +kernel
theorem dX1_fillCircle_13 : decode cX1_fillCircle 13 = .ok (.aload_n 0, 1) := by decide +kernel
theorem dX1_fillCircle_14 : decode cX1_fillCircle 14 = .ok (.getfield 32, 3) := by decide +kernel
theorem dX1_fillCircle_17 : decode cX1_fillCircle 17 = .ok (.iload_n 3, 1) := by decide +kernel
theorem dX1_fillCircle_18 : decode cX1_fillCircle 18 = .ok (.iaload, 1) := by decide +kernel
theorem dX1_fillCircle_19 : decode cX1_fillCircle 19 = .ok (.istore 5, 2) := by decide +kernel
theorem dX1_fillCircle_21 : decode cX1_fillCircle 21 = .ok (.aload_n 0, 1) := by decide +kernel
theorem dX1_fillCircle_22 : decode cX1_fillCircle 22 = .ok (.iload 5, 2) := by decide +kernel
theorem dX1_fillCircle_24 : decode cX1_fillCircle 24 = .ok (.invokevirtual 87, 3) := by decide +kernel
theorem dX1_fillCircle_27 : decode cX1_fillCircle 27 = .ok (.istore 6, 2) := by decide +kernel
theorem dX1_fillCircle_29 : decode cX1_fillCircle 29 = .ok (.iload 6, 2) := by decide +kernel
theorem dX1_fillCircle_31 : decode cX1_fillCircle 31 = .ok (.iload_n 2, 1) := by decide +kernel
theorem dX1_fillCircle_32 : decode cX1_fillCircle 32 = .ok (.if_icmp .ge 8, 3) := by decide +kernel
theorem dX1_fillCircle_35 : decode cX1_fillCircle 35 = .ok (.iload 6, 2) := by decide +kernel
theorem dX1_fillCircle_37 : decode cX1_fillCircle 37 = .ok (.goto 4, 3) := by decide +kernel
theorem dX1_fillCircle_40 : decode cX1_fillCircle 40 = .ok (.iload_n 2, 1) := by decide +kernel
theorem dX1_fillCircle_41 : decode cX1_fillCircle 41 = .ok (.istore_n 2, 1) := by decide +kernel
theorem dX1_fillCircle_42 : decode cX1_fillCircle 42 = .ok (.aload_n 0, 1) := by decide +kernel
theorem dX1_fillCircle_43 : decode cX1_fillCircle 43 = .ok (.iload 5, 2) := by decide +kernel
theorem dX1_fillCircle_45 : decode cX1_fillCircle 45 = .ok (.invokevirtual 81, 3) := by decide +kernel
theorem dX1_fillCircle_48 : decode cX1_fillCircle 48 = .ok (.istore_n 3, 1) := by decide +kernel
theorem dX1_fillCircle_49 : decode cX1_fillCircle 49 = .ok (.iload_n 3, 1) := by decide +kernel
theorem dX1_fillCircle_50 : decode cX1_fillCircle 50 = .ok (.iload_n 1, 1) := by decide +kernel
theorem dX1_fillCircle_51 : decode cX1_fillCircle 51 = .ok (.if_icmp .ne 6, 3) := by decide +kernel
theorem dX1_fillCircle_54 : decode cX1_fillCircle 54 = .ok (.goto 9, 3) := by decide +kernel
theorem dX1_fillCircle_57 : decode cX1_fillCircle 57 = .ok (.iinc 4 1, 3) := by decide +kernel
theorem dX1_fillCircle_60 : decode cX1_fillCircle 60 = .ok (.goto (-53), 3) := by decide +kernel
theorem dX1_fillCircle_63 : decode cX1_fillCircle 63 = .ok (.iload_n 1, 1) := by decide +kernel
theorem dX1_fillCircle_64 : decode cX1_fillCircle 64 = .ok (.istore_n 3, 1) := by decide +kernel
theorem dX1_fillCircle_65 : decode cX1_fillCircle 65 = .ok (.iconst 0, 1) := by decide +kernel
theorem dX1_fillCircle_66 : decode cX1_fillCircle 66 = .ok (.istore 4, 2) := by decide +kernel
theorem dX1_fillCircle_68 : decode cX1_fillCircle 68 = .ok (.iload 4, 2) := by decide +kernel
theorem dX1_fillCircle_70 : decode cX1_fillCircle 70 = .ok (.iconst 5, 1) := by decide +kernel
theorem dX1_fillCircle_71 : decode cX1_fillCircle 71 = .ok (.if_icmp .ge 57, 3) := by decide +kernel
theorem dX1_fillCircle_74 : decode cX1_fillCircle 74 = .ok (.aload_n 0, 1) := by decide +kernel
theorem dX1_fillCircle_75 : decode cX1_fillCircle 75 = .ok (.getfield 32, 3) := by decide +kernel
theorem dX1_fillCircle_78 : decode cX1_fillCircle 78 = .ok (.iload_n 3, 1) := by decide +kernel
theorem dX1_fillCircle_79 : decode cX1_fillCircle 79 = .ok (.iaload, 1) := by decide +kernel
theorem dX1_fillCircle_80 : decode cX1_fillCircle 80 = .ok (.istore 5, 2) := by decide +kernel
theorem dX1_fillCircle_82 : decode cX1_fillCircle 82 = .ok (.aload_n 0, 1) := by decide +kernel
theorem dX1_fillCircle_83 : decode cX1_fillCircle 83 = .ok (.getfield 19, 3) := by decide +kernel
theorem dX1_fillCircle_86 : decode cX1_fillCircle 86 = .ok (.iload 5, 2) := by decide +kernel
theorem dX1_fillCircle_88 : decode cX1_fillCircle 88 = .ok (.iconst 1, 1) := by decide +kernel
theorem dX1_fillCircle_89 : decode cX1_fillCircle 89 = .ok (.ishr, 1) := by decide +kernel
theorem dX1_fillCircle_90 : decode cX1_fillCircle 90 = .ok (.dup2, 1) := by decide +kernel
theorem dX1_fillCircle_91 : decode cX1_fillCircle 91 = .ok (.iaload, 1) := by decide +kernel
theorem dX1_fillCircle_92 : decode cX1_fillCircle 92 = .ok (.iload 5, 2) := by decide +kernel
theorem dX1_fillCircle_94 : decode cX1_fillCircle 94 = .ok (.iconst 1, 1) := by decide +kernel
theorem dX1_fillCircle_95 : decode cX1_fillCircle 95 = .ok (.iand, 1) := by decide +kernel
theorem dX1_fillCircle_96 : decode cX1_fillCircle 96 = .ok (.ifCond .ne 7, 3) := by decide +kernel
theorem dX1_fillCircle_99 : decode cX1_fillCircle 99 = .ok (.iload_n 2, 1) := by decide +kernel
theorem dX1_fillCircle_100 : decode cX1_fillCircle 100 = .ok (.goto 5, 3) := by decide +kernel
theorem dX1_fillCircle_103 : decode cX1_fillCircle 103 = .ok (.iload_n 2, 1) := by decide +kernel
theorem dX1_fillCircle_104 : decode cX1_fillCircle 104 = .ok (.ineg, 1) := by decide +kernel
theorem dX1_fillCircle_105 : decode cX1_fillCircle 105 = .ok (.iadd, 1) := by decide +kernel
theorem dX1_fillCircle_106 : decode cX1_fillCircle 106 = .ok (.iastore, 1) := by decide +kernel
theorem dX1_fillCircle_107 : decode cX1_fillCircle 107 = .ok (.aload_n 0, 1) := by decide +kernel
theorem dX1_fillCircle_108 : decode cX1_fillCircle 108 = .ok (.iload 5, 2) := by decide +kernel
theorem dX1_fillCircle_110 : decode cX1_fillCircle 110 = .ok (.invokevirtual 81, 3) := by decide +kernel
theorem dX1_fillCircle_113 : decode cX1_fillCircle 113 = .ok (.istore_n 3, 1) := by decide +kernel
theorem dX1_fillCircle_114 : decode cX1_fillCircle 114 = .ok (.iload_n 3, 1) := by decide +kernel
theorem dX1_fillCircle_115 : decode cX1_fillCircle 115 = .ok (.iload_n 1, 1) := by decide +kernel
theorem dX1_fillCircle_116 : decode cX1_fillCircle 116 = .ok (.if_icmp .ne 6, 3) := by decide +kernel
theorem dX1_fillCircle_119 : decode cX1_fillCircle 119 = .ok (.goto 9, 3) := by decide +kernel
theorem dX1_fillCircle_122 : decode cX1_fillCircle 122 = .ok (.iinc 4 1, 3) := by decide +kernel
theorem dX1_fillCircle_125 : decode cX1_fillCircle 125 = .ok (.goto (-57), 3) := by decide +kernel
theorem dX1_fillCircle_128 : decode cX1_fillCircle 128 = .ok (.return_, 1) := by decide +kernel
abbrev cX1_carryOut : ByteArray := prog_1_method_7_code
def yX1_carryOut : MethodName := ⟨RX1, "carryOut", "(I)I"⟩
theorem dX1_carryOut_0 : decode cX1_carryOut 0 = .ok (.aload_n 0, 1) := by decide +kernel
theorem dX1_carryOut_1 : decode cX1_carryOut 1 = .ok (.iload_n 1, 1) := by decide +kernel
theorem dX1_carryOut_2 : decode cX1_carryOut 2 = .ok (.invokevirtual 56, 3) := by decide +kernel
theorem dX1_carryOut_5 : decode cX1_carryOut 5 = .ok (.ifCond .ne 5, 3) := by decide +kernel
theorem dX1_carryOut_8 : decode cX1_carryOut 8 = .ok (.iconst (-1), 1) := by decide +kernel
theorem dX1_carryOut_9 : decode cX1_carryOut 9 = .ok (.ireturn, 1) := by decide +kernel
theorem dX1_carryOut_10 : decode cX1_carryOut 10 = .ok (.iconst 0, 1) := by decide +kernel
theorem dX1_carryOut_11 : decode cX1_carryOut 11 = .ok (.istore_n 2, 1) := by decide +kernel
theorem dX1_carryOut_12 : decode cX1_carryOut 12 = .ok (.iconst 0, 1) := by decide +kernel
theorem dX1_carryOut_13 : decode cX1_carryOut 13 = .ok (.istore_n 3, 1) := by decide +kernel
theorem dX1_carryOut_14 : decode cX1_carryOut 14 = .ok (.iload_n 3, 1) := by decide +kernel
theorem dX1_carryOut_15 : decode cX1_carryOut 15 = .ok (.aload_n 0, 1) := by decide +kernel
theorem dX1_carryOut_16 : decode cX1_carryOut 16 = .ok (.getfield 46, 3) := by decide +kernel
theorem dX1_carryOut_19 : decode cX1_carryOut 19 = .ok (.if_icmp .ge 33, 3) := by decide +kernel
theorem dX1_carryOut_22 : decode cX1_carryOut 22 = .ok (.aload_n 0, 1) := by decide +kernel
theorem dX1_carryOut_23 : decode cX1_carryOut 23 = .ok (.getfield 16, 3) := by decide +kernel
theorem dX1_carryOut_26 : decode cX1_carryOut 26 = .ok (.iload_n 3, 1) := by decide +kernel
theorem dX1_carryOut_27 : decode cX1_carryOut 27 = .ok (.dup2, 1) := by decide +kernel
theorem dX1_carryOut_28 : decode cX1_carryOut 28 = .ok (.iaload, 1) := by decide +kernel
theorem dX1_carryOut_29 : decode cX1_carryOut 29 = .ok (.aload_n 0, 1) := by decide +kernel
theorem dX1_carryOut_30 : decode cX1_carryOut 30 = .ok (.getfield 35, 3) := by decide +kernel
theorem dX1_carryOut_33 : decode cX1_carryOut 33 = .ok (.iload_n 3, 1) := by decide +kernel
theorem dX1_carryOut_34 : decode cX1_carryOut 34 = .ok (.iaload, 1) := by decide +kernel
theorem dX1_carryOut_35 : decode cX1_carryOut 35 = .ok (.isub, 1) := by decide +kernel
theorem dX1_carryOut_36 : decode cX1_carryOut 36 = .ok (.iastore, 1) := by decide +kernel
theorem dX1_carryOut_37 : decode cX1_carryOut 37 = .ok (.iload_n 2, 1) := by decide +kernel
theorem dX1_carryOut_38 : decode cX1_carryOut 38 = .ok (.aload_n 0, 1) := by decide +kernel
theorem dX1_carryOut_39 : decode cX1_carryOut 39 = .ok (.getfield 35, 3) := by decide +kernel
theorem dX1_carryOut_42 : decode cX1_carryOut 42 = .ok (.iload_n 3, 1) := by decide +kernel
theorem dX1_carryOut_43 : decode cX1_carryOut 43 = .ok (.iaload, 1) := by decide +kernel
theorem dX1_carryOut_44 : decode cX1_carryOut 44 = .ok (.iadd, 1) := by decide +kernel
theorem dX1_carryOut_45 : decode cX1_carryOut 45 = .ok (.istore_n 2, 1) := by decide +kernel
theorem dX1_carryOut_46 : decode cX1_carryOut 46 = .ok (.iinc 3 1, 3) := by decide +kernel
theorem dX1_carryOut_49 : decode cX1_carryOut 49 = .ok (.goto (-35), 3) := by decide +kernel
theorem dX1_carryOut_52 : decode cX1_carryOut 52 = .ok (.iload_n 2, 1) := by decide +kernel
theorem dX1_carryOut_53 : decode cX1_carryOut 53 = .ok (.ireturn, 1) := by decide +kernel
abbrev cX1_load : ByteArray := prog_1_method_32_code
def yX1_load : MethodName := ⟨RX1, "load", "(I)Z"⟩
theorem dX1_load_0 : decode cX1_load 0 = .ok (.iload_n 1, 1) := by decide +kernel
theorem dX1_load_1 : decode cX1_load 1 = .ok (.ifCond .ge 5, 3) := by decide +kernel
theorem dX1_load_4 : decode cX1_load 4 = .ok (.iconst 0, 1) := by decide +kernel
theorem dX1_load_5 : decode cX1_load 5 = .ok (.ireturn, 1) := by decide +kernel
theorem dX1_load_6 : decode cX1_load 6 = .ok (.iload_n 1, 1) := by decide +kernel
theorem dX1_load_7 : decode cX1_load 7 = .ok (.istore_n 2, 1) := by decide +kernel
theorem dX1_load_8 : decode cX1_load 8 = .ok (.aload_n 0, 1) := by decide +kernel
theorem dX1_load_9 : decode cX1_load 9 = .ok (.getfield 46, 3) := by decide +kernel
theorem dX1_load_12 : decode cX1_load 12 = .ok (.iconst 1, 1) := by decide +kernel
theorem dX1_load_13 : decode cX1_load 13 = .ok (.isub, 1) := by decide +kernel
theorem dX1_load_14 : decode cX1_load 14 = .ok (.istore_n 3, 1) := by decide +kernel
theorem dX1_load_15 : decode cX1_load 15 = .ok (.iload_n 3, 1) := by decide +kernel
theorem dX1_load_16 : decode cX1_load 16 = .ok (.ifCond .lt 38, 3) := by decide +kernel
theorem dX1_load_19 : decode cX1_load 19 = .ok (.aload_n 0, 1) := by decide +kernel
theorem dX1_load_20 : decode cX1_load 20 = .ok (.getfield 35, 3) := by decide +kernel
theorem dX1_load_23 : decode cX1_load 23 = .ok (.iload_n 3, 1) := by decide +kernel
theorem dX1_load_24 : decode cX1_load 24 = .ok (.iload_n 2, 1) := by decide +kernel
theorem dX1_load_25 : decode cX1_load 25 = .ok (.iconst 3, 1) := by decide +kernel
theorem dX1_load_26 : decode cX1_load 26 = .ok (.iand, 1) := by decide +kernel
theorem dX1_load_27 : decode cX1_load 27 = .ok (.iastore, 1) := by decide +kernel
theorem dX1_load_28 : decode cX1_load 28 = .ok (.iload_n 2, 1) := by decide +kernel
theorem dX1_load_29 : decode cX1_load 29 = .ok (.iconst 2, 1) := by decide +kernel
theorem dX1_load_30 : decode cX1_load 30 = .ok (.ishr, 1) := by decide +kernel
theorem dX1_load_31 : decode cX1_load 31 = .ok (.istore_n 2, 1) := by decide +kernel
theorem dX1_load_32 : decode cX1_load 32 = .ok (.aload_n 0, 1) := by decide +kernel
theorem dX1_load_33 : decode cX1_load 33 = .ok (.getfield 35, 3) := by decide +kernel
theorem dX1_load_36 : decode cX1_load 36 = .ok (.iload_n 3, 1) := by decide +kernel
theorem dX1_load_37 : decode cX1_load 37 = .ok (.iaload, 1) := by decide +kernel
theorem dX1_load_38 : decode cX1_load 38 = .ok (.aload_n 0, 1) := by decide +kernel
theorem dX1_load_39 : decode cX1_load 39 = .ok (.iload_n 3, 1) := by decide +kernel
theorem dX1_load_40 : decode cX1_load 40 = .ok (.invokevirtual 84, 3) := by decide +kernel
theorem dX1_load_43 : decode cX1_load 43 = .ok (.if_icmp .le 5, 3) := by decide +kernel
theorem dX1_load_46 : decode cX1_load 46 = .ok (.iconst 0, 1) := by decide +kernel
theorem dX1_load_47 : decode cX1_load 47 = .ok (.ireturn, 1) := by decide +kernel
theorem dX1_load_48 : decode cX1_load 48 = .ok (.iinc 3 (-1), 3) := by decide +kernel
theorem dX1_load_51 : decode cX1_load 51 = .ok (.goto (-36), 3) := by decide +kernel
theorem dX1_load_54 : decode cX1_load 54 = .ok (.iconst 0, 1) := by decide +kernel
theorem dX1_load_55 : decode cX1_load 55 = .ok (.istore_n 3, 1) := by decide +kernel
theorem dX1_load_56 : decode cX1_load 56 = .ok (.iload_n 3, 1) := by decide +kernel
theorem dX1_load_57 : decode cX1_load 57 = .ok (.aload_n 0, 1) := by decide +kernel
theorem dX1_load_58 : decode cX1_load 58 = .ok (.getfield 38, 3) := by decide +kernel
theorem dX1_load_61 : decode cX1_load 61 = .ok (.if_icmp .ge 91, 3) := by decide +kernel
theorem dX1_load_64 : decode cX1_load 64 = .ok (.iconst 0, 1) := by decide +kernel
theorem dX1_load_65 : decode cX1_load 65 = .ok (.istore 4, 2) := by decide +kernel
theorem dX1_load_67 : decode cX1_load 67 = .ok (.iconst 0, 1) := by decide +kernel
theorem dX1_load_68 : decode cX1_load 68 = .ok (.istore 5, 2) := by decide +kernel
theorem dX1_load_70 : decode cX1_load 70 = .ok (.iload 5, 2) := by decide +kernel
theorem dX1_load_72 : decode cX1_load 72 = .ok (.aload_n 0, 1) := by decide +kernel
theorem dX1_load_73 : decode cX1_load 73 = .ok (.getfield 46, 3) := by decide +kernel
theorem dX1_load_76 : decode cX1_load 76 = .ok (.if_icmp .ge 63, 3) := by decide +kernel
theorem dX1_load_79 : decode cX1_load 79 = .ok (.iload 4, 2) := by decide +kernel
theorem dX1_load_81 : decode cX1_load 81 = .ok (.aload_n 0, 1) := by decide +kernel
theorem dX1_load_82 : decode cX1_load 82 = .ok (.getfield 13, 3) := by decide +kernel
theorem dX1_load_85 : decode cX1_load 85 = .ok (.iload 5, 2) := by decide +kernel
theorem dX1_load_87 : decode cX1_load 87 = .ok (.iaload, 1) := by decide +kernel
theorem dX1_load_88 : decode cX1_load 88 = .ok (.iload_n 3, 1) := by decide +kernel
theorem dX1_load_89 : decode cX1_load 89 = .ok (.if_icmp .ne 13, 3) := by decide +kernel
theorem dX1_load_92 : decode cX1_load 92 = .ok (.aload_n 0, 1) := by decide +kernel
theorem dX1_load_93 : decode cX1_load 93 = .ok (.getfield 35, 3) := by decide +kernel
theorem dX1_load_96 : decode cX1_load 96 = .ok (.iload 5, 2) := by decide +kernel
theorem dX1_load_98 : decode cX1_load 98 = .ok (.iaload, 1) := by decide +kernel
theorem dX1_load_99 : decode cX1_load 99 = .ok (.goto 4, 3) := by decide +kernel
theorem dX1_load_102 : decode cX1_load 102 = .ok (.iconst 0, 1) := by decide +kernel
theorem dX1_load_103 : decode cX1_load 103 = .ok (.iadd, 1) := by decide +kernel
theorem dX1_load_104 : decode cX1_load 104 = .ok (.istore 4, 2) := by decide +kernel
theorem dX1_load_106 : decode cX1_load 106 = .ok (.iload 4, 2) := by decide +kernel
theorem dX1_load_108 : decode cX1_load 108 = .ok (.aload_n 0, 1) := by decide +kernel
theorem dX1_load_109 : decode cX1_load 109 = .ok (.getfield 7, 3) := by decide +kernel
theorem dX1_load_112 : decode cX1_load 112 = .ok (.iload 5, 2) := by decide +kernel
theorem dX1_load_114 : decode cX1_load 114 = .ok (.iaload, 1) := by decide +kernel
theorem dX1_load_115 : decode cX1_load 115 = .ok (.iload_n 3, 1) := by decide +kernel
theorem dX1_load_116 : decode cX1_load 116 = .ok (.if_icmp .ne 13, 3) := by decide +kernel
theorem dX1_load_119 : decode cX1_load 119 = .ok (.aload_n 0, 1) := by decide +kernel
theorem dX1_load_120 : decode cX1_load 120 = .ok (.getfield 35, 3) := by decide +kernel
theorem dX1_load_123 : decode cX1_load 123 = .ok (.iload 5, 2) := by decide +kernel
theorem dX1_load_125 : decode cX1_load 125 = .ok (.iaload, 1) := by decide +kernel
theorem dX1_load_126 : decode cX1_load 126 = .ok (.goto 4, 3) := by decide +kernel
theorem dX1_load_129 : decode cX1_load 129 = .ok (.iconst 0, 1) := by decide +kernel
theorem dX1_load_130 : decode cX1_load 130 = .ok (.isub, 1) := by decide +kernel
theorem dX1_load_131 : decode cX1_load 131 = .ok (.istore 4, 2) := by decide +kernel
theorem dX1_load_133 : decode cX1_load 133 = .ok (.iinc 5 1, 3) := by decide +kernel
theorem dX1_load_136 : decode cX1_load 136 = .ok (.goto (-66), 3) := by decide +kernel
theorem dX1_load_139 : decode cX1_load 139 = .ok (.iload 4, 2) := by decide +kernel
theorem dX1_load_141 : decode cX1_load 141 = .ok (.ifCond .eq 5, 3) := by decide +kernel
theorem dX1_load_144 : decode cX1_load 144 = .ok (.iconst 0, 1) := by decide +kernel
theorem dX1_load_145 : decode cX1_load 145 = .ok (.ireturn, 1) := by decide +kernel
theorem dX1_load_146 : decode cX1_load 146 = .ok (.iinc 3 1, 3) := by decide +kernel
theorem dX1_load_149 : decode cX1_load 149 = .ok (.goto (-93), 3) := by decide +kernel
theorem dX1_load_152 : decode cX1_load 152 = .ok (.iload_n 2, 1) := by decide +kernel
theorem dX1_load_153 : decode cX1_load 153 = .ok (.ifCond .ne 7, 3) := by decide +kernel
theorem dX1_load_156 : decode cX1_load 156 = .ok (.iconst 1, 1) := by decide +kernel
theorem dX1_load_157 : decode cX1_load 157 = .ok (.goto 4, 3) := by decide +kernel
theorem dX1_load_160 : decode cX1_load 160 = .ok (.iconst 0, 1) := by decide +kernel
theorem dX1_load_161 : decode cX1_load 161 = .ok (.ireturn, 1) := by decide +kernel
end
section
set_option maxRecDepth 100000
abbrev cX1_debts : ByteArray := prog_1_method_8_code
def yX1_debts : MethodName := ⟨RX1, "debts", "()I"⟩
theorem dX1_debts_0 : decode cX1_debts 0 = .ok (.aload_n 0, 1) := by decide +kernel
theorem dX1_debts_1 : decode cX1_debts 1 = .ok (.getfield 46, 3) := by decide +kernel
theorem dX1_debts_4 : decode cX1_debts 4 = .ok (.ireturn, 1) := by decide +kernel
abbrev cX1_amount : ByteArray := prog_1_method_9_code
def yX1_amount : MethodName := ⟨RX1, "amount", "(I)I"⟩
theorem dX1_amount_0 : decode cX1_amount 0 = .ok (.aload_n 0, 1) := by decide +kernel
theorem dX1_amount_1 : decode cX1_amount 1 = .ok (.iload_n 1, 1) := by decide +kernel
theorem dX1_amount_2 : decode cX1_amount 2 = .ok (.invokevirtual 49, 3) := by decide +kernel
theorem dX1_amount_5 : decode cX1_amount 5 = .ok (.ifCond .eq 12, 3) := by decide +kernel
theorem dX1_amount_8 : decode cX1_amount 8 = .ok (.aload_n 0, 1) := by decide +kernel
theorem dX1_amount_9 : decode cX1_amount 9 = .ok (.getfield 16, 3) := by decide +kernel
theorem dX1_amount_12 : decode cX1_amount 12 = .ok (.iload_n 1, 1) := by decide +kernel
theorem dX1_amount_13 : decode cX1_amount 13 = .ok (.iaload, 1) := by decide +kernel
theorem dX1_amount_14 : decode cX1_amount 14 = .ok (.goto 4, 3) := by decide +kernel
theorem dX1_amount_17 : decode cX1_amount 17 = .ok (.iconst (-1), 1) := by decide +kernel
theorem dX1_amount_18 : decode cX1_amount 18 = .ok (.ireturn, 1) := by decide +kernel
abbrev cX1_balance : ByteArray := prog_1_method_10_code
def yX1_balance : MethodName := ⟨RX1, "balance", "(I)I"⟩
theorem dX1_balance_0 : decode cX1_balance 0 = .ok (.aload_n 0, 1) := by decide +kernel
theorem dX1_balance_1 : decode cX1_balance 1 = .ok (.iload_n 1, 1) := by decide +kernel
theorem dX1_balance_2 : decode cX1_balance 2 = .ok (.invokevirtual 42, 3) := by decide +kernel
theorem dX1_balance_5 : decode cX1_balance 5 = .ok (.ifCond .eq 11, 3) := by decide +kernel
theorem dX1_balance_8 : decode cX1_balance 8 = .ok (.aload_n 0, 1) := by decide +kernel
theorem dX1_balance_9 : decode cX1_balance 9 = .ok (.iload_n 1, 1) := by decide +kernel
theorem dX1_balance_10 : decode cX1_balance 10 = .ok (.invokevirtual 59, 3) := by decide +kernel
theorem dX1_balance_13 : decode cX1_balance 13 = .ok (.goto 6, 3) := by decide +kernel
theorem dX1_balance_16 : decode cX1_balance 16 = .ok (.sipush (-1000), 3) := by decide +kernel
theorem dX1_balance_19 : decode cX1_balance 19 = .ok (.ireturn, 1) := by decide +kernel
abbrev cX1_balanceOf : ByteArray := prog_1_method_21_code
def yX1_balanceOf : MethodName := ⟨RX1, "balanceOf", "(I)I"⟩
theorem dX1_balanceOf_0 : decode cX1_balanceOf 0 = .ok (.iconst 0, 1) := by decide +kernel
theorem dX1_balanceOf_1 : decode cX1_balanceOf 1 = .ok (.istore_n 2, 1) := by decide +kernel
theorem dX1_balanceOf_2 : decode cX1_balanceOf 2 = .ok (.iconst 0, 1) := by decide +kernel
theorem dX1_balanceOf_3 : decode cX1_balanceOf 3 = .ok (.istore_n 3, 1) := by decide +kernel
theorem dX1_balanceOf_4 : decode cX1_balanceOf 4 = .ok (.iload_n 3, 1) := by decide +kernel
theorem dX1_balanceOf_5 : decode cX1_balanceOf 5 = .ok (.aload_n 0, 1) := by decide +kernel
theorem dX1_balanceOf_6 : decode cX1_balanceOf 6 = .ok (.getfield 46, 3) := by decide +kernel
theorem dX1_balanceOf_9 : decode cX1_balanceOf 9 = .ok (.if_icmp .ge 55, 3) := by decide +kernel
theorem dX1_balanceOf_12 : decode cX1_balanceOf 12 = .ok (.iload_n 2, 1) := by decide +kernel
theorem dX1_balanceOf_13 : decode cX1_balanceOf 13 = .ok (.aload_n 0, 1) := by decide +kernel
theorem dX1_balanceOf_14 : decode cX1_balanceOf 14 = .ok (.getfield 13, 3) := by decide +kernel
theorem dX1_balanceOf_17 : decode cX1_balanceOf 17 = .ok (.iload_n 3, 1) := by decide +kernel
theorem dX1_balanceOf_18 : decode cX1_balanceOf 18 = .ok (.iaload, 1) := by decide +kernel
theorem dX1_balanceOf_19 : decode cX1_balanceOf 19 = .ok (.iload_n 1, 1) := by decide +kernel
theorem dX1_balanceOf_20 : decode cX1_balanceOf 20 = .ok (.if_icmp .ne 12, 3) := by decide +kernel
theorem dX1_balanceOf_23 : decode cX1_balanceOf 23 = .ok (.aload_n 0, 1) := by decide +kernel
theorem dX1_balanceOf_24 : decode cX1_balanceOf 24 = .ok (.getfield 16, 3) := by decide +kernel
theorem dX1_balanceOf_27 : decode cX1_balanceOf 27 = .ok (.iload_n 3, 1) := by decide +kernel
theorem dX1_balanceOf_28 : decode cX1_balanceOf 28 = .ok (.iaload, 1) := by decide +kernel
theorem dX1_balanceOf_29 : decode cX1_balanceOf 29 = .ok (.goto 4, 3) := by decide +kernel
theorem dX1_balanceOf_32 : decode cX1_balanceOf 32 = .ok (.iconst 0, 1) := by decide +kernel
theorem dX1_balanceOf_33 : decode cX1_balanceOf 33 = .ok (.iadd, 1) := by decide +kernel
theorem dX1_balanceOf_34 : decode cX1_balanceOf 34 = .ok (.istore_n 2, 1) := by decide +kernel
theorem dX1_balanceOf_35 : decode cX1_balanceOf 35 = .ok (.iload_n 2, 1) := by decide +kernel
theorem dX1_balanceOf_36 : decode cX1_balanceOf 36 = .ok (.aload_n 0, 1) := by decide +kernel
theorem dX1_balanceOf_37 : decode cX1_balanceOf 37 = .ok (.getfield 7, 3) := by decide +kernel
theorem dX1_balanceOf_40 : decode cX1_balanceOf 40 = .ok (.iload_n 3, 1) := by decide +kernel
theorem dX1_balanceOf_41 : decode cX1_balanceOf 41 = .ok (.iaload, 1) := by decide +kernel
theorem dX1_balanceOf_42 : decode cX1_balanceOf 42 = .ok (.iload_n 1, 1) := by decide +kernel
theorem dX1_balanceOf_43 : decode cX1_balanceOf 43 = .ok (.if_icmp .ne 12, 3) := by decide +kernel
theorem dX1_balanceOf_46 : decode cX1_balanceOf 46 = .ok (.aload_n 0, 1) := by decide +kernel
theorem dX1_balanceOf_47 : decode cX1_balanceOf 47 = .ok (.getfield 16, 3) := by decide +kernel
theorem dX1_balanceOf_50 : decode cX1_balanceOf 50 = .ok (.iload_n 3, 1) := by decide +kernel
theorem dX1_balanceOf_51 : decode cX1_balanceOf 51 = .ok (.iaload, 1) := by decide +kernel
theorem dX1_balanceOf_52 : decode cX1_balanceOf 52 = .ok (.goto 4, 3) := by decide +kernel
theorem dX1_balanceOf_55 : decode cX1_balanceOf 55 = .ok (.iconst 0, 1) := by decide +kernel
theorem dX1_balanceOf_56 : decode cX1_balanceOf 56 = .ok (.isub, 1) := by decide +kernel
theorem dX1_balanceOf_57 : decode cX1_balanceOf 57 = .ok (.istore_n 2, 1) := by decide +kernel
theorem dX1_balanceOf_58 : decode cX1_balanceOf 58 = .ok (.iinc 3 1, 3) := by decide +kernel
theorem dX1_balanceOf_61 : decode cX1_balanceOf 61 = .ok (.goto (-57), 3) := by decide +kernel
theorem dX1_balanceOf_64 : decode cX1_balanceOf 64 = .ok (.iload_n 2, 1) := by decide +kernel
theorem dX1_balanceOf_65 : decode cX1_balanceOf 65 = .ok (.ireturn, 1) := by decide +kernel
abbrev cX1_outstanding : ByteArray := prog_1_method_11_code
def yX1_outstanding : MethodName := ⟨RX1, "outstanding", "()I"⟩
theorem dX1_outstanding_0 : decode cX1_outstanding 0 = .ok (.iconst 0, 1) := by decide +kernel
theorem dX1_outstanding_1 : decode cX1_outstanding 1 = .ok (.istore_n 1, 1) := by decide +kernel
theorem dX1_outstanding_2 : decode cX1_outstanding 2 = .ok (.iconst 0, 1) := by decide +kernel
theorem dX1_outstanding_3 : decode cX1_outstanding 3 = .ok (.istore_n 2, 1) := by decide +kernel
theorem dX1_outstanding_4 : decode cX1_outstanding 4 = .ok (.iload_n 2, 1) := by decide +kernel
theorem dX1_outstanding_5 : decode cX1_outstanding 5 = .ok (.aload_n 0, 1) := by decide +kernel
theorem dX1_outstanding_6 : decode cX1_outstanding 6 = .ok (.getfield 46, 3) := by decide +kernel
theorem dX1_outstanding_9 : decode cX1_outstanding 9 = .ok (.if_icmp .ge 18, 3) := by decide +kernel
theorem dX1_outstanding_12 : decode cX1_outstanding 12 = .ok (.iload_n 1, 1) := by decide +kernel
theorem dX1_outstanding_13 : decode cX1_outstanding 13 = .ok (.aload_n 0, 1) := by decide +kernel
theorem dX1_outstanding_14 : decode cX1_outstanding 14 = .ok (.getfield 16, 3) := by decide +kernel
theorem dX1_outstanding_17 : decode cX1_outstanding 17 = .ok (.iload_n 2, 1) := by decide +kernel
theorem dX1_outstanding_18 : decode cX1_outstanding 18 = .ok (.iaload, 1) := by decide +kernel
theorem dX1_outstanding_19 : decode cX1_outstanding 19 = .ok (.iadd, 1) := by decide +kernel
theorem dX1_outstanding_20 : decode cX1_outstanding 20 = .ok (.istore_n 1, 1) := by decide +kernel
theorem dX1_outstanding_21 : decode cX1_outstanding 21 = .ok (.iinc 2 1, 3) := by decide +kernel
theorem dX1_outstanding_24 : decode cX1_outstanding 24 = .ok (.goto (-20), 3) := by decide +kernel
theorem dX1_outstanding_27 : decode cX1_outstanding 27 = .ok (.iload_n 1, 1) := by decide +kernel
theorem dX1_outstanding_28 : decode cX1_outstanding 28 = .ok (.ireturn, 1) := by decide +kernel
abbrev cX1_best : ByteArray := prog_1_method_12_code
def yX1_best : MethodName := ⟨RX1, "best", "()I"⟩
theorem dX1_best_0 : decode cX1_best 0 = .ok (.aload_n 0, 1) := by decide +kernel
theorem dX1_best_1 : decode cX1_best 1 = .ok (.iconst (-1), 1) := by decide +kernel
theorem dX1_best_2 : decode cX1_best 2 = .ok (.invokevirtual 52, 3) := by decide +kernel
theorem dX1_best_5 : decode cX1_best 5 = .ok (.aload_n 0, 1) := by decide +kernel
theorem dX1_best_6 : decode cX1_best 6 = .ok (.invokevirtual 63, 3) := by decide +kernel
theorem dX1_best_9 : decode cX1_best 9 = .ok (.ireturn, 1) := by decide +kernel
abbrev cX1_totalNow : ByteArray := prog_1_method_22_code
def yX1_totalNow : MethodName := ⟨RX1, "totalNow", "()I"⟩
theorem dX1_totalNow_0 : decode cX1_totalNow 0 = .ok (.iconst 0, 1) := by decide +kernel
theorem dX1_totalNow_1 : decode cX1_totalNow 1 = .ok (.istore_n 1, 1) := by decide +kernel
theorem dX1_totalNow_2 : decode cX1_totalNow 2 = .ok (.iconst 0, 1) := by decide +kernel
theorem dX1_totalNow_3 : decode cX1_totalNow 3 = .ok (.istore_n 2, 1) := by decide +kernel
theorem dX1_totalNow_4 : decode cX1_totalNow 4 = .ok (.iload_n 2, 1) := by decide +kernel
theorem dX1_totalNow_5 : decode cX1_totalNow 5 = .ok (.aload_n 0, 1) := by decide +kernel
theorem dX1_totalNow_6 : decode cX1_totalNow 6 = .ok (.getfield 46, 3) := by decide +kernel
theorem dX1_totalNow_9 : decode cX1_totalNow 9 = .ok (.if_icmp .ge 18, 3) := by decide +kernel
theorem dX1_totalNow_12 : decode cX1_totalNow 12 = .ok (.iload_n 1, 1) := by decide +kernel
theorem dX1_totalNow_13 : decode cX1_totalNow 13 = .ok (.aload_n 0, 1) := by decide +kernel
theorem dX1_totalNow_14 : decode cX1_totalNow 14 = .ok (.getfield 19, 3) := by decide +kernel
theorem dX1_totalNow_17 : decode cX1_totalNow 17 = .ok (.iload_n 2, 1) := by decide +kernel
theorem dX1_totalNow_18 : decode cX1_totalNow 18 = .ok (.iaload, 1) := by decide +kernel
theorem dX1_totalNow_19 : decode cX1_totalNow 19 = .ok (.iadd, 1) := by decide +kernel
theorem dX1_totalNow_20 : decode cX1_totalNow 20 = .ok (.istore_n 1, 1) := by decide +kernel
theorem dX1_totalNow_21 : decode cX1_totalNow 21 = .ok (.iinc 2 1, 3) := by decide +kernel
theorem dX1_totalNow_24 : decode cX1_totalNow 24 = .ok (.goto (-20), 3) := by decide +kernel
theorem dX1_totalNow_27 : decode cX1_totalNow 27 = .ok (.iload_n 1, 1) := by decide +kernel
theorem dX1_totalNow_28 : decode cX1_totalNow 28 = .ok (.ireturn, 1) := by decide +kernel
abbrev cX1_bestCode : ByteArray := prog_1_method_13_code
def yX1_bestCode : MethodName := ⟨RX1, "bestCode", "()I"⟩
theorem dX1_bestCode_0 : decode cX1_bestCode 0 = .ok (.aload_n 0, 1) := by decide +kernel
theorem dX1_bestCode_1 : decode cX1_bestCode 1 = .ok (.iconst (-1), 1) := by decide +kernel
theorem dX1_bestCode_2 : decode cX1_bestCode 2 = .ok (.invokevirtual 52, 3) := by decide +kernel
theorem dX1_bestCode_5 : decode cX1_bestCode 5 = .ok (.iconst 0, 1) := by decide +kernel
theorem dX1_bestCode_6 : decode cX1_bestCode 6 = .ok (.istore_n 1, 1) := by decide +kernel
theorem dX1_bestCode_7 : decode cX1_bestCode 7 = .ok (.iconst 0, 1) := by decide +kernel
theorem dX1_bestCode_8 : decode cX1_bestCode 8 = .ok (.istore_n 2, 1) := by decide +kernel
theorem dX1_bestCode_9 : decode cX1_bestCode 9 = .ok (.iload_n 2, 1) := by decide +kernel
theorem dX1_bestCode_10 : decode cX1_bestCode 10 = .ok (.aload_n 0, 1) := by decide +kernel
theorem dX1_bestCode_11 : decode cX1_bestCode 11 = .ok (.getfield 46, 3) := by decide +kernel
theorem dX1_bestCode_14 : decode cX1_bestCode 14 = .ok (.if_icmp .ge 20, 3) := by decide +kernel
theorem dX1_bestCode_17 : decode cX1_bestCode 17 = .ok (.iconst 4, 1) := by decide +kernel
theorem dX1_bestCode_18 : decode cX1_bestCode 18 = .ok (.iload_n 1, 1) := by decide +kernel
theorem dX1_bestCode_19 : decode cX1_bestCode 19 = .ok (.imul, 1) := by decide +kernel
theorem dX1_bestCode_20 : decode cX1_bestCode 20 = .ok (.aload_n 0, 1) := by decide +kernel
theorem dX1_bestCode_21 : decode cX1_bestCode 21 = .ok (.getfield 19, 3) := by decide +kernel
theorem dX1_bestCode_24 : decode cX1_bestCode 24 = .ok (.iload_n 2, 1) := by decide +kernel
theorem dX1_bestCode_25 : decode cX1_bestCode 25 = .ok (.iaload, 1) := by decide +kernel
theorem dX1_bestCode_26 : decode cX1_bestCode 26 = .ok (.iadd, 1) := by decide +kernel
theorem dX1_bestCode_27 : decode cX1_bestCode 27 = .ok (.istore_n 1, 1) := by decide +kernel
theorem dX1_bestCode_28 : decode cX1_bestCode 28 = .ok (.iinc 2 1, 3) := by decide +kernel
theorem dX1_bestCode_31 : decode cX1_bestCode 31 = .ok (.goto (-22), 3) := by decide +kernel
theorem dX1_bestCode_34 : decode cX1_bestCode 34 = .ok (.iload_n 1, 1) := by decide +kernel
theorem dX1_bestCode_35 : decode cX1_bestCode 35 = .ok (.ireturn, 1) := by decide +kernel
abbrev cX1_isClearing : ByteArray := prog_1_method_14_code
def yX1_isClearing : MethodName := ⟨RX1, "isClearing", "(I)I"⟩
theorem dX1_isClearing_0 : decode cX1_isClearing 0 = .ok (.aload_n 0, 1) := by decide +kernel
theorem dX1_isClearing_1 : decode cX1_isClearing 1 = .ok (.iload_n 1, 1) := by decide +kernel
theorem dX1_isClearing_2 : decode cX1_isClearing 2 = .ok (.invokevirtual 56, 3) := by decide +kernel
theorem dX1_isClearing_5 : decode cX1_isClearing 5 = .ok (.ifCond .eq 7, 3) := by decide +kernel
theorem dX1_isClearing_8 : decode cX1_isClearing 8 = .ok (.iconst 1, 1) := by decide +kernel
theorem dX1_isClearing_9 : decode cX1_isClearing 9 = .ok (.goto 4, 3) := by decide +kernel
theorem dX1_isClearing_12 : decode cX1_isClearing 12 = .ok (.iconst 0, 1) := by decide +kernel
theorem dX1_isClearing_13 : decode cX1_isClearing 13 = .ok (.ireturn, 1) := by decide +kernel
abbrev cX1_weight : ByteArray := prog_1_method_15_code
def yX1_weight : MethodName := ⟨RX1, "weight", "(I)I"⟩
theorem dX1_weight_0 : decode cX1_weight 0 = .ok (.aload_n 0, 1) := by decide +kernel
theorem dX1_weight_1 : decode cX1_weight 1 = .ok (.iload_n 1, 1) := by decide +kernel
theorem dX1_weight_2 : decode cX1_weight 2 = .ok (.invokevirtual 42, 3) := by decide +kernel
theorem dX1_weight_5 : decode cX1_weight 5 = .ok (.ifCond .ne 5, 3) := by decide +kernel
theorem dX1_weight_8 : decode cX1_weight 8 = .ok (.iconst (-1), 1) := by decide +kernel
theorem dX1_weight_9 : decode cX1_weight 9 = .ok (.ireturn, 1) := by decide +kernel
theorem dX1_weight_10 : decode cX1_weight 10 = .ok (.aload_n 0, 1) := by decide +kernel
theorem dX1_weight_11 : decode cX1_weight 11 = .ok (.invokevirtual 67, 3) := by decide +kernel
theorem dX1_weight_14 : decode cX1_weight 14 = .ok (.istore_n 2, 1) := by decide +kernel
theorem dX1_weight_15 : decode cX1_weight 15 = .ok (.aload_n 0, 1) := by decide +kernel
theorem dX1_weight_16 : decode cX1_weight 16 = .ok (.getfield 25, 3) := by decide +kernel
theorem dX1_weight_19 : decode cX1_weight 19 = .ok (.iload_n 1, 1) := by decide +kernel
theorem dX1_weight_20 : decode cX1_weight 20 = .ok (.baload, 1) := by decide +kernel
theorem dX1_weight_21 : decode cX1_weight 21 = .ok (.istore_n 3, 1) := by decide +kernel
theorem dX1_weight_22 : decode cX1_weight 22 = .ok (.aload_n 0, 1) := by decide +kernel
theorem dX1_weight_23 : decode cX1_weight 23 = .ok (.getfield 25, 3) := by decide +kernel
theorem dX1_weight_26 : decode cX1_weight 26 = .ok (.iload_n 1, 1) := by decide +kernel
theorem dX1_weight_27 : decode cX1_weight 27 = .ok (.iconst 1, 1) := by decide +kernel
theorem dX1_weight_28 : decode cX1_weight 28 = .ok (.bastore, 1) := by decide +kernel
theorem dX1_weight_29 : decode cX1_weight 29 = .ok (.aload_n 0, 1) := by decide +kernel
theorem dX1_weight_30 : decode cX1_weight 30 = .ok (.invokevirtual 67, 3) := by decide +kernel
theorem dX1_weight_33 : decode cX1_weight 33 = .ok (.istore 4, 2) := by decide +kernel
theorem dX1_weight_35 : decode cX1_weight 35 = .ok (.aload_n 0, 1) := by decide +kernel
theorem dX1_weight_36 : decode cX1_weight 36 = .ok (.getfield 25, 3) := by decide +kernel
theorem dX1_weight_39 : decode cX1_weight 39 = .ok (.iload_n 1, 1) := by decide +kernel
theorem dX1_weight_40 : decode cX1_weight 40 = .ok (.iload_n 3, 1) := by decide +kernel
theorem dX1_weight_41 : decode cX1_weight 41 = .ok (.bastore, 1) := by decide +kernel
theorem dX1_weight_42 : decode cX1_weight 42 = .ok (.iload_n 2, 1) := by decide +kernel
theorem dX1_weight_43 : decode cX1_weight 43 = .ok (.iload 4, 2) := by decide +kernel
theorem dX1_weight_45 : decode cX1_weight 45 = .ok (.isub, 1) := by decide +kernel
theorem dX1_weight_46 : decode cX1_weight 46 = .ok (.ireturn, 1) := by decide +kernel
abbrev cX1_most : ByteArray := prog_1_method_16_code
def yX1_most : MethodName := ⟨RX1, "most", "(I)I"⟩
theorem dX1_most_0 : decode cX1_most 0 = .ok (.aload_n 0, 1) := by decide +kernel
theorem dX1_most_1 : decode cX1_most 1 = .ok (.iload_n 1, 1) := by decide +kernel
theorem dX1_most_2 : decode cX1_most 2 = .ok (.invokevirtual 49, 3) := by decide +kernel
theorem dX1_most_5 : decode cX1_most 5 = .ok (.ifCond .ne 5, 3) := by decide +kernel
theorem dX1_most_8 : decode cX1_most 8 = .ok (.iconst (-1), 1) := by decide +kernel
theorem dX1_most_9 : decode cX1_most 9 = .ok (.ireturn, 1) := by decide +kernel
theorem dX1_most_10 : decode cX1_most 10 = .ok (.aload_n 0, 1) := by decide +kernel
theorem dX1_most_11 : decode cX1_most 11 = .ok (.iload_n 1, 1) := by decide +kernel
theorem dX1_most_12 : decode cX1_most 12 = .ok (.invokevirtual 52, 3) := by decide +kernel
theorem dX1_most_15 : decode cX1_most 15 = .ok (.aload_n 0, 1) := by decide +kernel
theorem dX1_most_16 : decode cX1_most 16 = .ok (.getfield 19, 3) := by decide +kernel
theorem dX1_most_19 : decode cX1_most 19 = .ok (.iload_n 1, 1) := by decide +kernel
theorem dX1_most_20 : decode cX1_most 20 = .ok (.iaload, 1) := by decide +kernel
theorem dX1_most_21 : decode cX1_most 21 = .ok (.ireturn, 1) := by decide +kernel
abbrev cX1_possible : ByteArray := prog_1_method_17_code
def yX1_possible : MethodName := ⟨RX1, "possible", "()I"⟩
theorem dX1_possible_0 : decode cX1_possible 0 = .ok (.aload_n 0, 1) := by decide +kernel
theorem dX1_possible_1 : decode cX1_possible 1 = .ok (.iconst (-1), 1) := by decide +kernel
theorem dX1_possible_2 : decode cX1_possible 2 = .ok (.invokevirtual 52, 3) := by decide +kernel
theorem dX1_possible_5 : decode cX1_possible 5 = .ok (.aload_n 0, 1) := by decide +kernel
theorem dX1_possible_6 : decode cX1_possible 6 = .ok (.invokevirtual 63, 3) := by decide +kernel
theorem dX1_possible_9 : decode cX1_possible 9 = .ok (.ifCond .le 7, 3) := by decide +kernel
theorem dX1_possible_12 : decode cX1_possible 12 = .ok (.iconst 1, 1) := by decide +kernel
theorem dX1_possible_13 : decode cX1_possible 13 = .ok (.goto 4, 3) := by decide +kernel
theorem dX1_possible_16 : decode cX1_possible 16 = .ok (.iconst 0, 1) := by decide +kernel
theorem dX1_possible_17 : decode cX1_possible 17 = .ok (.ireturn, 1) := by decide +kernel
abbrev cX1_least : ByteArray := prog_1_method_18_code
def yX1_least : MethodName := ⟨RX1, "least", "()I"⟩
theorem dX1_least_0 : decode cX1_least 0 = .ok (.iconst 0, 1) := by decide +kernel
theorem dX1_least_1 : decode cX1_least 1 = .ok (.istore_n 1, 1) := by decide +kernel
theorem dX1_least_2 : decode cX1_least 2 = .ok (.iconst 0, 1) := by decide +kernel
theorem dX1_least_3 : decode cX1_least 3 = .ok (.istore_n 2, 1) := by decide +kernel
theorem dX1_least_4 : decode cX1_least 4 = .ok (.iload_n 2, 1) := by decide +kernel
theorem dX1_least_5 : decode cX1_least 5 = .ok (.aload_n 0, 1) := by decide +kernel
theorem dX1_least_6 : decode cX1_least 6 = .ok (.getfield 38, 3) := by decide +kernel
theorem dX1_least_9 : decode cX1_least 9 = .ok (.if_icmp .ge 27, 3) := by decide +kernel
theorem dX1_least_12 : decode cX1_least 12 = .ok (.aload_n 0, 1) := by decide +kernel
theorem dX1_least_13 : decode cX1_least 13 = .ok (.iload_n 2, 1) := by decide +kernel
theorem dX1_least_14 : decode cX1_least 14 = .ok (.invokevirtual 59, 3) := by decide +kernel
theorem dX1_least_17 : decode cX1_least 17 = .ok (.istore_n 3, 1) := by decide +kernel
theorem dX1_least_18 : decode cX1_least 18 = .ok (.iload_n 1, 1) := by decide +kernel
theorem dX1_least_19 : decode cX1_least 19 = .ok (.iload_n 3, 1) := by decide +kernel
theorem dX1_least_20 : decode cX1_least 20 = .ok (.ifCond .le 7, 3) := by decide +kernel
theorem dX1_least_23 : decode cX1_least 23 = .ok (.iload_n 3, 1) := by decide +kernel
theorem dX1_least_24 : decode cX1_least 24 = .ok (.goto 4, 3) := by decide +kernel
theorem dX1_least_27 : decode cX1_least 27 = .ok (.iconst 0, 1) := by decide +kernel
theorem dX1_least_28 : decode cX1_least 28 = .ok (.iadd, 1) := by decide +kernel
theorem dX1_least_29 : decode cX1_least 29 = .ok (.istore_n 1, 1) := by decide +kernel
theorem dX1_least_30 : decode cX1_least 30 = .ok (.iinc 2 1, 3) := by decide +kernel
theorem dX1_least_33 : decode cX1_least 33 = .ok (.goto (-29), 3) := by decide +kernel
theorem dX1_least_36 : decode cX1_least 36 = .ok (.iload_n 1, 1) := by decide +kernel
theorem dX1_least_37 : decode cX1_least 37 = .ok (.ireturn, 1) := by decide +kernel
theorem q23 : (Jvm.Cond.initialized "ObligationNetting") ∈ lw_all := lw_g (lw_at lw_m1 1 rfl) rfl
theorem q26 : (Jvm.Cond.instantiable "ObligationNetting" (11 : Nat)) ∈ lw_all := lw_g (lw_at lw_m1 4 rfl) rfl
theorem q28 : (Jvm.Cond.instanceMethod ({ cls := "ObligationNetting", name := "<init>", desc := "(I)V" } : Jvm.MethodName)) ∈ lw_all := lw_g (lw_at lw_m1 6 rfl) rfl
theorem q29 : (Jvm.Cond.code ({ cls := "ObligationNetting", name := "<init>", desc := "(I)V" } : Jvm.MethodName) prog_1_method_1_code (2 : Nat) (Option.none : Option Jvm.ClassFile.FieldType)) ∈ lw_all := lw_g (lw_at lw_m1 7 rfl) rfl
theorem q30 : (Jvm.Cond.methodLink "ObligationNetting" (1 : Nat) ({ cls := "java/lang/Object", name := "<init>", desc := "()V" } : Jvm.MethodName)) ∈ lw_all := lw_g (lw_at lw_m1 8 rfl) rfl
theorem q33 : (Jvm.Cond.fieldLink "ObligationNetting" (7 : Nat) "ObligationNetting" "debtors" "[I") ∈ lw_all := lw_g (lw_at lw_m1 11 rfl) rfl
theorem q34 : (Jvm.Cond.fieldLink "ObligationNetting" (13 : Nat) "ObligationNetting" "creditors" "[I") ∈ lw_all := lw_g (lw_at lw_m1 12 rfl) rfl
theorem q35 : (Jvm.Cond.fieldLink "ObligationNetting" (16 : Nat) "ObligationNetting" "amounts" "[I") ∈ lw_all := lw_g (lw_at lw_m1 13 rfl) rfl
theorem q36 : (Jvm.Cond.fieldLink "ObligationNetting" (19 : Nat) "ObligationNetting" "struck" "[I") ∈ lw_all := lw_g (lw_at lw_m1 14 rfl) rfl
theorem q37 : (Jvm.Cond.fieldLink "ObligationNetting" (22 : Nat) "ObligationNetting" "lowest" "[I") ∈ lw_all := lw_g (lw_at lw_m1 15 rfl) rfl
theorem q38 : (Jvm.Cond.fieldLink "ObligationNetting" (25 : Nat) "ObligationNetting" "outside" "[Z") ∈ lw_all := lw_g (lw_at lw_m1 16 rfl) rfl
theorem q39 : (Jvm.Cond.fieldLink "ObligationNetting" (29 : Nat) "ObligationNetting" "length" "[I") ∈ lw_all := lw_g (lw_at lw_m1 17 rfl) rfl
theorem q40 : (Jvm.Cond.fieldLink "ObligationNetting" (32 : Nat) "ObligationNetting" "arcInto" "[I") ∈ lw_all := lw_g (lw_at lw_m1 18 rfl) rfl
theorem q41 : (Jvm.Cond.fieldLink "ObligationNetting" (35 : Nat) "ObligationNetting" "read" "[I") ∈ lw_all := lw_g (lw_at lw_m1 19 rfl) rfl
theorem q42 : (Jvm.Cond.fieldLink "ObligationNetting" (38 : Nat) "ObligationNetting" "n" "I") ∈ lw_all := lw_g (lw_at lw_m1 20 rfl) rfl
theorem q43 : (Jvm.Cond.fieldLink "ObligationNetting" (46 : Nat) "ObligationNetting" "count" "I") ∈ lw_all := lw_g (lw_at lw_m1 21 rfl) rfl
theorem q44 : (Jvm.Cond.laysFinal "ObligationNetting" "ObligationNetting" "debtors" "[I") ∈ lw_all := lw_g (lw_at lw_m1 22 rfl) rfl
theorem q45 : (Jvm.Cond.soleField "ObligationNetting" "debtors") ∈ lw_all := lw_g (lw_at lw_m1 23 rfl) rfl
theorem q46 : (Jvm.Cond.laysFinal "ObligationNetting" "ObligationNetting" "creditors" "[I") ∈ lw_all := lw_g (lw_at lw_m1 24 rfl) rfl
theorem q47 : (Jvm.Cond.soleField "ObligationNetting" "creditors") ∈ lw_all := lw_g (lw_at lw_m1 25 rfl) rfl
theorem q48 : (Jvm.Cond.laysFinal "ObligationNetting" "ObligationNetting" "amounts" "[I") ∈ lw_all := lw_g (lw_at lw_m1 26 rfl) rfl
theorem q49 : (Jvm.Cond.soleField "ObligationNetting" "amounts") ∈ lw_all := lw_g (lw_at lw_m1 27 rfl) rfl
theorem q50 : (Jvm.Cond.laysFinal "ObligationNetting" "ObligationNetting" "struck" "[I") ∈ lw_all := lw_g (lw_at lw_m1 28 rfl) rfl
theorem q51 : (Jvm.Cond.soleField "ObligationNetting" "struck") ∈ lw_all := lw_g (lw_at lw_m1 29 rfl) rfl
theorem q52 : (Jvm.Cond.laysFinal "ObligationNetting" "ObligationNetting" "lowest" "[I") ∈ lw_all := lw_g (lw_at lw_m1 30 rfl) rfl
theorem q53 : (Jvm.Cond.soleField "ObligationNetting" "lowest") ∈ lw_all := lw_g (lw_at lw_m1 31 rfl) rfl
theorem q54 : (Jvm.Cond.laysFinal "ObligationNetting" "ObligationNetting" "outside" "[Z") ∈ lw_all := lw_g (lw_at lw_m1 32 rfl) rfl
theorem q55 : (Jvm.Cond.soleField "ObligationNetting" "outside") ∈ lw_all := lw_g (lw_at lw_m1 33 rfl) rfl
theorem q56 : (Jvm.Cond.laysFinal "ObligationNetting" "ObligationNetting" "length" "[I") ∈ lw_all := lw_g (lw_at lw_m1 34 rfl) rfl
theorem q57 : (Jvm.Cond.soleField "ObligationNetting" "length") ∈ lw_all := lw_g (lw_at lw_m1 35 rfl) rfl
theorem q58 : (Jvm.Cond.laysFinal "ObligationNetting" "ObligationNetting" "arcInto" "[I") ∈ lw_all := lw_g (lw_at lw_m1 36 rfl) rfl
theorem q59 : (Jvm.Cond.soleField "ObligationNetting" "arcInto") ∈ lw_all := lw_g (lw_at lw_m1 37 rfl) rfl
theorem q60 : (Jvm.Cond.laysFinal "ObligationNetting" "ObligationNetting" "read" "[I") ∈ lw_all := lw_g (lw_at lw_m1 38 rfl) rfl
theorem q61 : (Jvm.Cond.soleField "ObligationNetting" "read") ∈ lw_all := lw_g (lw_at lw_m1 39 rfl) rfl
theorem q62 : (Jvm.Cond.lays "ObligationNetting" "ObligationNetting" "n" "I") ∈ lw_all := lw_g (lw_at lw_m1 40 rfl) rfl
theorem q63 : (Jvm.Cond.soleField "ObligationNetting" "n") ∈ lw_all := lw_g (lw_at lw_m1 41 rfl) rfl
theorem q64 : (Jvm.Cond.lays "ObligationNetting" "ObligationNetting" "count" "I") ∈ lw_all := lw_g (lw_at lw_m1 42 rfl) rfl
theorem q65 : (Jvm.Cond.soleField "ObligationNetting" "count") ∈ lw_all := lw_g (lw_at lw_m1 43 rfl) rfl
theorem q66 : (Jvm.Cond.superclass "ObligationNetting" "java/lang/Object") ∈ lw_all := lw_g (lw_at lw_m1 44 rfl) rfl
theorem q70 : (Jvm.Cond.instanceMethod ({ cls := "ObligationNetting", name := "owe", desc := "(III)I" } : Jvm.MethodName)) ∈ lw_all := lw_g (lw_at lw_m1 48 rfl) rfl
theorem q71 : (Jvm.Cond.selects "ObligationNetting" ({ cls := "ObligationNetting", name := "owe", desc := "(III)I" } : Jvm.MethodName) ({ cls := "ObligationNetting", name := "owe", desc := "(III)I" } : Jvm.MethodName)) ∈ lw_all := lw_g (lw_at lw_m1 49 rfl) rfl
theorem q72 : (Jvm.Cond.code ({ cls := "ObligationNetting", name := "owe", desc := "(III)I" } : Jvm.MethodName) prog_1_method_2_code (4 : Nat) (Option.some Jvm.ClassFile.FieldType.int)) ∈ lw_all := lw_g (lw_at lw_m1 50 rfl) rfl
theorem q73 : (Jvm.Cond.methodLink "ObligationNetting" (42 : Nat) ({ cls := "ObligationNetting", name := "isFirm", desc := "(I)Z" } : Jvm.MethodName)) ∈ lw_all := lw_g (lw_at lw_m1 51 rfl) rfl
theorem q74 : (Jvm.Cond.privateMethod ({ cls := "ObligationNetting", name := "isFirm", desc := "(I)Z" } : Jvm.MethodName)) ∈ lw_tbl := lw_at lw_m1 52 rfl
theorem q75 : (Jvm.Cond.instanceMethod ({ cls := "ObligationNetting", name := "isFirm", desc := "(I)Z" } : Jvm.MethodName)) ∈ lw_all := lw_g (lw_at lw_m1 53 rfl) rfl
theorem q76 : (Jvm.Cond.code ({ cls := "ObligationNetting", name := "isFirm", desc := "(I)Z" } : Jvm.MethodName) prog_1_method_19_code (2 : Nat) (Option.some Jvm.ClassFile.FieldType.boolean)) ∈ lw_all := lw_g (lw_at lw_m1 54 rfl) rfl
theorem q78 : (Jvm.Cond.instanceMethod ({ cls := "ObligationNetting", name := "change", desc := "(II)I" } : Jvm.MethodName)) ∈ lw_all := lw_g (lw_at lw_m1 56 rfl) rfl
theorem q79 : (Jvm.Cond.selects "ObligationNetting" ({ cls := "ObligationNetting", name := "change", desc := "(II)I" } : Jvm.MethodName) ({ cls := "ObligationNetting", name := "change", desc := "(II)I" } : Jvm.MethodName)) ∈ lw_all := lw_g (lw_at lw_m1 57 rfl) rfl
theorem q80 : (Jvm.Cond.code ({ cls := "ObligationNetting", name := "change", desc := "(II)I" } : Jvm.MethodName) prog_1_method_3_code (4 : Nat) (Option.some Jvm.ClassFile.FieldType.int)) ∈ lw_all := lw_g (lw_at lw_m1 58 rfl) rfl
theorem q81 : (Jvm.Cond.methodLink "ObligationNetting" (49 : Nat) ({ cls := "ObligationNetting", name := "isDebt", desc := "(I)Z" } : Jvm.MethodName)) ∈ lw_all := lw_g (lw_at lw_m1 59 rfl) rfl
theorem q82 : (Jvm.Cond.privateMethod ({ cls := "ObligationNetting", name := "isDebt", desc := "(I)Z" } : Jvm.MethodName)) ∈ lw_tbl := lw_at lw_m1 60 rfl
theorem q83 : (Jvm.Cond.instanceMethod ({ cls := "ObligationNetting", name := "isDebt", desc := "(I)Z" } : Jvm.MethodName)) ∈ lw_all := lw_g (lw_at lw_m1 61 rfl) rfl
theorem q84 : (Jvm.Cond.code ({ cls := "ObligationNetting", name := "isDebt", desc := "(I)Z" } : Jvm.MethodName) prog_1_method_20_code (2 : Nat) (Option.some Jvm.ClassFile.FieldType.boolean)) ∈ lw_all := lw_g (lw_at lw_m1 62 rfl) rfl
theorem q86 : (Jvm.Cond.instanceMethod ({ cls := "ObligationNetting", name := "pay", desc := "(I)I" } : Jvm.MethodName)) ∈ lw_all := lw_g (lw_at lw_m1 64 rfl) rfl
theorem q87 : (Jvm.Cond.selects "ObligationNetting" ({ cls := "ObligationNetting", name := "pay", desc := "(I)I" } : Jvm.MethodName) ({ cls := "ObligationNetting", name := "pay", desc := "(I)I" } : Jvm.MethodName)) ∈ lw_all := lw_g (lw_at lw_m1 65 rfl) rfl
theorem q88 : (Jvm.Cond.code ({ cls := "ObligationNetting", name := "pay", desc := "(I)I" } : Jvm.MethodName) prog_1_method_4_code (3 : Nat) (Option.some Jvm.ClassFile.FieldType.int)) ∈ lw_all := lw_g (lw_at lw_m1 66 rfl) rfl
theorem q90 : (Jvm.Cond.instanceMethod ({ cls := "ObligationNetting", name := "exclude", desc := "(II)I" } : Jvm.MethodName)) ∈ lw_all := lw_g (lw_at lw_m1 68 rfl) rfl
theorem q91 : (Jvm.Cond.selects "ObligationNetting" ({ cls := "ObligationNetting", name := "exclude", desc := "(II)I" } : Jvm.MethodName) ({ cls := "ObligationNetting", name := "exclude", desc := "(II)I" } : Jvm.MethodName)) ∈ lw_all := lw_g (lw_at lw_m1 69 rfl) rfl
theorem q92 : (Jvm.Cond.code ({ cls := "ObligationNetting", name := "exclude", desc := "(II)I" } : Jvm.MethodName) prog_1_method_5_code (4 : Nat) (Option.some Jvm.ClassFile.FieldType.int)) ∈ lw_all := lw_g (lw_at lw_m1 70 rfl) rfl
theorem q94 : (Jvm.Cond.instanceMethod ({ cls := "ObligationNetting", name := "clear", desc := "()I" } : Jvm.MethodName)) ∈ lw_all := lw_g (lw_at lw_m1 72 rfl) rfl
theorem q95 : (Jvm.Cond.selects "ObligationNetting" ({ cls := "ObligationNetting", name := "clear", desc := "()I" } : Jvm.MethodName) ({ cls := "ObligationNetting", name := "clear", desc := "()I" } : Jvm.MethodName)) ∈ lw_all := lw_g (lw_at lw_m1 73 rfl) rfl
theorem q96 : (Jvm.Cond.code ({ cls := "ObligationNetting", name := "clear", desc := "()I" } : Jvm.MethodName) prog_1_method_6_code (3 : Nat) (Option.some Jvm.ClassFile.FieldType.int)) ∈ lw_all := lw_g (lw_at lw_m1 74 rfl) rfl
theorem q97 : (Jvm.Cond.methodLink "ObligationNetting" (52 : Nat) ({ cls := "ObligationNetting", name := "solve", desc := "(I)V" } : Jvm.MethodName)) ∈ lw_all := lw_g (lw_at lw_m1 75 rfl) rfl
theorem q98 : (Jvm.Cond.privateMethod ({ cls := "ObligationNetting", name := "solve", desc := "(I)V" } : Jvm.MethodName)) ∈ lw_tbl := lw_at lw_m1 76 rfl
theorem q99 : (Jvm.Cond.instanceMethod ({ cls := "ObligationNetting", name := "solve", desc := "(I)V" } : Jvm.MethodName)) ∈ lw_all := lw_g (lw_at lw_m1 77 rfl) rfl
theorem q100 : (Jvm.Cond.code ({ cls := "ObligationNetting", name := "solve", desc := "(I)V" } : Jvm.MethodName) prog_1_method_25_code (4 : Nat) (Option.none : Option Jvm.ClassFile.FieldType)) ∈ lw_all := lw_g (lw_at lw_m1 78 rfl) rfl
theorem q101 : (Jvm.Cond.methodLink "ObligationNetting" (71 : Nat) ({ cls := "ObligationNetting", name := "findCircle", desc := "(I)I" } : Jvm.MethodName)) ∈ lw_all := lw_g (lw_at lw_m1 79 rfl) rfl
theorem q102 : (Jvm.Cond.privateMethod ({ cls := "ObligationNetting", name := "findCircle", desc := "(I)I" } : Jvm.MethodName)) ∈ lw_tbl := lw_at lw_m1 80 rfl
theorem q103 : (Jvm.Cond.instanceMethod ({ cls := "ObligationNetting", name := "findCircle", desc := "(I)I" } : Jvm.MethodName)) ∈ lw_all := lw_g (lw_at lw_m1 81 rfl) rfl
theorem q104 : (Jvm.Cond.code ({ cls := "ObligationNetting", name := "findCircle", desc := "(I)I" } : Jvm.MethodName) prog_1_method_26_code (6 : Nat) (Option.some Jvm.ClassFile.FieldType.int)) ∈ lw_all := lw_g (lw_at lw_m1 82 rfl) rfl
theorem q105 : (Jvm.Cond.methodLink "ObligationNetting" (77 : Nat) ({ cls := "ObligationNetting", name := "relax", desc := "(II)I" } : Jvm.MethodName)) ∈ lw_all := lw_g (lw_at lw_m1 83 rfl) rfl
theorem q106 : (Jvm.Cond.privateMethod ({ cls := "ObligationNetting", name := "relax", desc := "(II)I" } : Jvm.MethodName)) ∈ lw_tbl := lw_at lw_m1 84 rfl
theorem q107 : (Jvm.Cond.instanceMethod ({ cls := "ObligationNetting", name := "relax", desc := "(II)I" } : Jvm.MethodName)) ∈ lw_all := lw_g (lw_at lw_m1 85 rfl) rfl
theorem q108 : (Jvm.Cond.code ({ cls := "ObligationNetting", name := "relax", desc := "(II)I" } : Jvm.MethodName) prog_1_method_30_code (7 : Nat) (Option.some Jvm.ClassFile.FieldType.int)) ∈ lw_all := lw_g (lw_at lw_m1 86 rfl) rfl
theorem q109 : (Jvm.Cond.methodLink "ObligationNetting" (87 : Nat) ({ cls := "ObligationNetting", name := "left", desc := "(I)I" } : Jvm.MethodName)) ∈ lw_all := lw_g (lw_at lw_m1 87 rfl) rfl
theorem q110 : (Jvm.Cond.privateMethod ({ cls := "ObligationNetting", name := "left", desc := "(I)I" } : Jvm.MethodName)) ∈ lw_tbl := lw_at lw_m1 88 rfl
theorem q111 : (Jvm.Cond.instanceMethod ({ cls := "ObligationNetting", name := "left", desc := "(I)I" } : Jvm.MethodName)) ∈ lw_all := lw_g (lw_at lw_m1 89 rfl) rfl
theorem q112 : (Jvm.Cond.code ({ cls := "ObligationNetting", name := "left", desc := "(I)I" } : Jvm.MethodName) prog_1_method_29_code (3 : Nat) (Option.some Jvm.ClassFile.FieldType.int)) ∈ lw_all := lw_g (lw_at lw_m1 90 rfl) rfl
theorem q113 : (Jvm.Cond.methodLink "ObligationNetting" (84 : Nat) ({ cls := "ObligationNetting", name := "room", desc := "(I)I" } : Jvm.MethodName)) ∈ lw_all := lw_g (lw_at lw_m1 91 rfl) rfl
theorem q114 : (Jvm.Cond.privateMethod ({ cls := "ObligationNetting", name := "room", desc := "(I)I" } : Jvm.MethodName)) ∈ lw_tbl := lw_at lw_m1 92 rfl
theorem q115 : (Jvm.Cond.instanceMethod ({ cls := "ObligationNetting", name := "room", desc := "(I)I" } : Jvm.MethodName)) ∈ lw_all := lw_g (lw_at lw_m1 93 rfl) rfl
theorem q116 : (Jvm.Cond.code ({ cls := "ObligationNetting", name := "room", desc := "(I)I" } : Jvm.MethodName) prog_1_method_23_code (2 : Nat) (Option.some Jvm.ClassFile.FieldType.int)) ∈ lw_all := lw_g (lw_at lw_m1 94 rfl) rfl
theorem q117 : (Jvm.Cond.methodLink "ObligationNetting" (90 : Nat) ({ cls := "ObligationNetting", name := "gain", desc := "(II)I" } : Jvm.MethodName)) ∈ lw_all := lw_g (lw_at lw_m1 95 rfl) rfl
theorem q118 : (Jvm.Cond.privateMethod ({ cls := "ObligationNetting", name := "gain", desc := "(II)I" } : Jvm.MethodName)) ∈ lw_tbl := lw_at lw_m1 96 rfl
theorem q119 : (Jvm.Cond.instanceMethod ({ cls := "ObligationNetting", name := "gain", desc := "(II)I" } : Jvm.MethodName)) ∈ lw_all := lw_g (lw_at lw_m1 97 rfl) rfl
theorem q120 : (Jvm.Cond.code ({ cls := "ObligationNetting", name := "gain", desc := "(II)I" } : Jvm.MethodName) prog_1_method_24_code (3 : Nat) (Option.some Jvm.ClassFile.FieldType.int)) ∈ lw_all := lw_g (lw_at lw_m1 98 rfl) rfl
theorem q121 : (Jvm.Cond.constant "ObligationNetting" (70 : Nat) (32768 : Int32)) ∈ lw_all := lw_g (lw_at lw_m1 99 rfl) rfl
theorem q122 : (Jvm.Cond.methodLink "ObligationNetting" (81 : Nat) ({ cls := "ObligationNetting", name := "tailOf", desc := "(I)I" } : Jvm.MethodName)) ∈ lw_all := lw_g (lw_at lw_m1 100 rfl) rfl
theorem q123 : (Jvm.Cond.privateMethod ({ cls := "ObligationNetting", name := "tailOf", desc := "(I)I" } : Jvm.MethodName)) ∈ lw_tbl := lw_at lw_m1 101 rfl
theorem q124 : (Jvm.Cond.instanceMethod ({ cls := "ObligationNetting", name := "tailOf", desc := "(I)I" } : Jvm.MethodName)) ∈ lw_all := lw_g (lw_at lw_m1 102 rfl) rfl
theorem q125 : (Jvm.Cond.code ({ cls := "ObligationNetting", name := "tailOf", desc := "(I)I" } : Jvm.MethodName) prog_1_method_27_code (2 : Nat) (Option.some Jvm.ClassFile.FieldType.int)) ∈ lw_all := lw_g (lw_at lw_m1 103 rfl) rfl
theorem q126 : (Jvm.Cond.methodLink "ObligationNetting" (93 : Nat) ({ cls := "ObligationNetting", name := "headOf", desc := "(I)I" } : Jvm.MethodName)) ∈ lw_all := lw_g (lw_at lw_m1 104 rfl) rfl
theorem q127 : (Jvm.Cond.privateMethod ({ cls := "ObligationNetting", name := "headOf", desc := "(I)I" } : Jvm.MethodName)) ∈ lw_tbl := lw_at lw_m1 105 rfl
theorem q128 : (Jvm.Cond.instanceMethod ({ cls := "ObligationNetting", name := "headOf", desc := "(I)I" } : Jvm.MethodName)) ∈ lw_all := lw_g (lw_at lw_m1 106 rfl) rfl
theorem q129 : (Jvm.Cond.code ({ cls := "ObligationNetting", name := "headOf", desc := "(I)I" } : Jvm.MethodName) prog_1_method_28_code (2 : Nat) (Option.some Jvm.ClassFile.FieldType.int)) ∈ lw_all := lw_g (lw_at lw_m1 107 rfl) rfl
theorem q130 : (Jvm.Cond.methodLink "ObligationNetting" (74 : Nat) ({ cls := "ObligationNetting", name := "fillCircle", desc := "(I)V" } : Jvm.MethodName)) ∈ lw_all := lw_g (lw_at lw_m1 108 rfl) rfl
theorem q131 : (Jvm.Cond.privateMethod ({ cls := "ObligationNetting", name := "fillCircle", desc := "(I)V" } : Jvm.MethodName)) ∈ lw_tbl := lw_at lw_m1 109 rfl
theorem q132 : (Jvm.Cond.instanceMethod ({ cls := "ObligationNetting", name := "fillCircle", desc := "(I)V" } : Jvm.MethodName)) ∈ lw_all := lw_g (lw_at lw_m1 110 rfl) rfl
theorem q133 : (Jvm.Cond.code ({ cls := "ObligationNetting", name := "fillCircle", desc := "(I)V" } : Jvm.MethodName) prog_1_method_31_code (7 : Nat) (Option.none : Option Jvm.ClassFile.FieldType)) ∈ lw_all := lw_g (lw_at lw_m1 111 rfl) rfl
theorem q135 : (Jvm.Cond.instanceMethod ({ cls := "ObligationNetting", name := "carryOut", desc := "(I)I" } : Jvm.MethodName)) ∈ lw_all := lw_g (lw_at lw_m1 113 rfl) rfl
theorem q136 : (Jvm.Cond.selects "ObligationNetting" ({ cls := "ObligationNetting", name := "carryOut", desc := "(I)I" } : Jvm.MethodName) ({ cls := "ObligationNetting", name := "carryOut", desc := "(I)I" } : Jvm.MethodName)) ∈ lw_all := lw_g (lw_at lw_m1 114 rfl) rfl
theorem q137 : (Jvm.Cond.code ({ cls := "ObligationNetting", name := "carryOut", desc := "(I)I" } : Jvm.MethodName) prog_1_method_7_code (4 : Nat) (Option.some Jvm.ClassFile.FieldType.int)) ∈ lw_all := lw_g (lw_at lw_m1 115 rfl) rfl
theorem q138 : (Jvm.Cond.methodLink "ObligationNetting" (56 : Nat) ({ cls := "ObligationNetting", name := "load", desc := "(I)Z" } : Jvm.MethodName)) ∈ lw_all := lw_g (lw_at lw_m1 116 rfl) rfl
theorem q139 : (Jvm.Cond.privateMethod ({ cls := "ObligationNetting", name := "load", desc := "(I)Z" } : Jvm.MethodName)) ∈ lw_tbl := lw_at lw_m1 117 rfl
theorem q140 : (Jvm.Cond.instanceMethod ({ cls := "ObligationNetting", name := "load", desc := "(I)Z" } : Jvm.MethodName)) ∈ lw_all := lw_g (lw_at lw_m1 118 rfl) rfl
theorem q141 : (Jvm.Cond.code ({ cls := "ObligationNetting", name := "load", desc := "(I)Z" } : Jvm.MethodName) prog_1_method_32_code (6 : Nat) (Option.some Jvm.ClassFile.FieldType.boolean)) ∈ lw_all := lw_g (lw_at lw_m1 119 rfl) rfl
theorem q143 : (Jvm.Cond.instanceMethod ({ cls := "ObligationNetting", name := "debts", desc := "()I" } : Jvm.MethodName)) ∈ lw_all := lw_g (lw_at lw_m1 121 rfl) rfl
theorem q144 : (Jvm.Cond.selects "ObligationNetting" ({ cls := "ObligationNetting", name := "debts", desc := "()I" } : Jvm.MethodName) ({ cls := "ObligationNetting", name := "debts", desc := "()I" } : Jvm.MethodName)) ∈ lw_all := lw_g (lw_at lw_m1 122 rfl) rfl
theorem q145 : (Jvm.Cond.code ({ cls := "ObligationNetting", name := "debts", desc := "()I" } : Jvm.MethodName) prog_1_method_8_code (1 : Nat) (Option.some Jvm.ClassFile.FieldType.int)) ∈ lw_all := lw_g (lw_at lw_m1 123 rfl) rfl
theorem q147 : (Jvm.Cond.instanceMethod ({ cls := "ObligationNetting", name := "amount", desc := "(I)I" } : Jvm.MethodName)) ∈ lw_all := lw_g (lw_at lw_m1 125 rfl) rfl
theorem q148 : (Jvm.Cond.selects "ObligationNetting" ({ cls := "ObligationNetting", name := "amount", desc := "(I)I" } : Jvm.MethodName) ({ cls := "ObligationNetting", name := "amount", desc := "(I)I" } : Jvm.MethodName)) ∈ lw_all := lw_g (lw_at lw_m1 126 rfl) rfl
theorem q149 : (Jvm.Cond.code ({ cls := "ObligationNetting", name := "amount", desc := "(I)I" } : Jvm.MethodName) prog_1_method_9_code (2 : Nat) (Option.some Jvm.ClassFile.FieldType.int)) ∈ lw_all := lw_g (lw_at lw_m1 127 rfl) rfl
theorem q151 : (Jvm.Cond.instanceMethod ({ cls := "ObligationNetting", name := "balance", desc := "(I)I" } : Jvm.MethodName)) ∈ lw_all := lw_g (lw_at lw_m1 129 rfl) rfl
theorem q152 : (Jvm.Cond.selects "ObligationNetting" ({ cls := "ObligationNetting", name := "balance", desc := "(I)I" } : Jvm.MethodName) ({ cls := "ObligationNetting", name := "balance", desc := "(I)I" } : Jvm.MethodName)) ∈ lw_all := lw_g (lw_at lw_m1 130 rfl) rfl
theorem q153 : (Jvm.Cond.code ({ cls := "ObligationNetting", name := "balance", desc := "(I)I" } : Jvm.MethodName) prog_1_method_10_code (2 : Nat) (Option.some Jvm.ClassFile.FieldType.int)) ∈ lw_all := lw_g (lw_at lw_m1 131 rfl) rfl
theorem q154 : (Jvm.Cond.methodLink "ObligationNetting" (59 : Nat) ({ cls := "ObligationNetting", name := "balanceOf", desc := "(I)I" } : Jvm.MethodName)) ∈ lw_all := lw_g (lw_at lw_m1 132 rfl) rfl
theorem q155 : (Jvm.Cond.privateMethod ({ cls := "ObligationNetting", name := "balanceOf", desc := "(I)I" } : Jvm.MethodName)) ∈ lw_tbl := lw_at lw_m1 133 rfl
theorem q156 : (Jvm.Cond.instanceMethod ({ cls := "ObligationNetting", name := "balanceOf", desc := "(I)I" } : Jvm.MethodName)) ∈ lw_all := lw_g (lw_at lw_m1 134 rfl) rfl
theorem q157 : (Jvm.Cond.code ({ cls := "ObligationNetting", name := "balanceOf", desc := "(I)I" } : Jvm.MethodName) prog_1_method_21_code (4 : Nat) (Option.some Jvm.ClassFile.FieldType.int)) ∈ lw_all := lw_g (lw_at lw_m1 135 rfl) rfl
theorem q159 : (Jvm.Cond.instanceMethod ({ cls := "ObligationNetting", name := "outstanding", desc := "()I" } : Jvm.MethodName)) ∈ lw_all := lw_g (lw_at lw_m1 137 rfl) rfl
theorem q160 : (Jvm.Cond.selects "ObligationNetting" ({ cls := "ObligationNetting", name := "outstanding", desc := "()I" } : Jvm.MethodName) ({ cls := "ObligationNetting", name := "outstanding", desc := "()I" } : Jvm.MethodName)) ∈ lw_all := lw_g (lw_at lw_m1 138 rfl) rfl
theorem q161 : (Jvm.Cond.code ({ cls := "ObligationNetting", name := "outstanding", desc := "()I" } : Jvm.MethodName) prog_1_method_11_code (3 : Nat) (Option.some Jvm.ClassFile.FieldType.int)) ∈ lw_all := lw_g (lw_at lw_m1 139 rfl) rfl
theorem q163 : (Jvm.Cond.instanceMethod ({ cls := "ObligationNetting", name := "best", desc := "()I" } : Jvm.MethodName)) ∈ lw_all := lw_g (lw_at lw_m1 141 rfl) rfl
theorem q164 : (Jvm.Cond.selects "ObligationNetting" ({ cls := "ObligationNetting", name := "best", desc := "()I" } : Jvm.MethodName) ({ cls := "ObligationNetting", name := "best", desc := "()I" } : Jvm.MethodName)) ∈ lw_all := lw_g (lw_at lw_m1 142 rfl) rfl
theorem q165 : (Jvm.Cond.code ({ cls := "ObligationNetting", name := "best", desc := "()I" } : Jvm.MethodName) prog_1_method_12_code (1 : Nat) (Option.some Jvm.ClassFile.FieldType.int)) ∈ lw_all := lw_g (lw_at lw_m1 143 rfl) rfl
theorem q166 : (Jvm.Cond.methodLink "ObligationNetting" (63 : Nat) ({ cls := "ObligationNetting", name := "totalNow", desc := "()I" } : Jvm.MethodName)) ∈ lw_all := lw_g (lw_at lw_m1 144 rfl) rfl
theorem q167 : (Jvm.Cond.privateMethod ({ cls := "ObligationNetting", name := "totalNow", desc := "()I" } : Jvm.MethodName)) ∈ lw_tbl := lw_at lw_m1 145 rfl
theorem q168 : (Jvm.Cond.instanceMethod ({ cls := "ObligationNetting", name := "totalNow", desc := "()I" } : Jvm.MethodName)) ∈ lw_all := lw_g (lw_at lw_m1 146 rfl) rfl
theorem q169 : (Jvm.Cond.code ({ cls := "ObligationNetting", name := "totalNow", desc := "()I" } : Jvm.MethodName) prog_1_method_22_code (3 : Nat) (Option.some Jvm.ClassFile.FieldType.int)) ∈ lw_all := lw_g (lw_at lw_m1 147 rfl) rfl
theorem q171 : (Jvm.Cond.instanceMethod ({ cls := "ObligationNetting", name := "bestCode", desc := "()I" } : Jvm.MethodName)) ∈ lw_all := lw_g (lw_at lw_m1 149 rfl) rfl
theorem q172 : (Jvm.Cond.selects "ObligationNetting" ({ cls := "ObligationNetting", name := "bestCode", desc := "()I" } : Jvm.MethodName) ({ cls := "ObligationNetting", name := "bestCode", desc := "()I" } : Jvm.MethodName)) ∈ lw_all := lw_g (lw_at lw_m1 150 rfl) rfl
theorem q173 : (Jvm.Cond.code ({ cls := "ObligationNetting", name := "bestCode", desc := "()I" } : Jvm.MethodName) prog_1_method_13_code (3 : Nat) (Option.some Jvm.ClassFile.FieldType.int)) ∈ lw_all := lw_g (lw_at lw_m1 151 rfl) rfl
theorem q175 : (Jvm.Cond.instanceMethod ({ cls := "ObligationNetting", name := "isClearing", desc := "(I)I" } : Jvm.MethodName)) ∈ lw_all := lw_g (lw_at lw_m1 153 rfl) rfl
theorem q176 : (Jvm.Cond.selects "ObligationNetting" ({ cls := "ObligationNetting", name := "isClearing", desc := "(I)I" } : Jvm.MethodName) ({ cls := "ObligationNetting", name := "isClearing", desc := "(I)I" } : Jvm.MethodName)) ∈ lw_all := lw_g (lw_at lw_m1 154 rfl) rfl
theorem q177 : (Jvm.Cond.code ({ cls := "ObligationNetting", name := "isClearing", desc := "(I)I" } : Jvm.MethodName) prog_1_method_14_code (2 : Nat) (Option.some Jvm.ClassFile.FieldType.int)) ∈ lw_all := lw_g (lw_at lw_m1 155 rfl) rfl
theorem q179 : (Jvm.Cond.instanceMethod ({ cls := "ObligationNetting", name := "weight", desc := "(I)I" } : Jvm.MethodName)) ∈ lw_all := lw_g (lw_at lw_m1 157 rfl) rfl
theorem q180 : (Jvm.Cond.selects "ObligationNetting" ({ cls := "ObligationNetting", name := "weight", desc := "(I)I" } : Jvm.MethodName) ({ cls := "ObligationNetting", name := "weight", desc := "(I)I" } : Jvm.MethodName)) ∈ lw_all := lw_g (lw_at lw_m1 158 rfl) rfl
theorem q181 : (Jvm.Cond.code ({ cls := "ObligationNetting", name := "weight", desc := "(I)I" } : Jvm.MethodName) prog_1_method_15_code (5 : Nat) (Option.some Jvm.ClassFile.FieldType.int)) ∈ lw_all := lw_g (lw_at lw_m1 159 rfl) rfl
theorem q182 : (Jvm.Cond.methodLink "ObligationNetting" (67 : Nat) ({ cls := "ObligationNetting", name := "best", desc := "()I" } : Jvm.MethodName)) ∈ lw_all := lw_g (lw_at lw_m1 160 rfl) rfl
theorem q184 : (Jvm.Cond.instanceMethod ({ cls := "ObligationNetting", name := "most", desc := "(I)I" } : Jvm.MethodName)) ∈ lw_all := lw_g (lw_at lw_m1 162 rfl) rfl
theorem q185 : (Jvm.Cond.selects "ObligationNetting" ({ cls := "ObligationNetting", name := "most", desc := "(I)I" } : Jvm.MethodName) ({ cls := "ObligationNetting", name := "most", desc := "(I)I" } : Jvm.MethodName)) ∈ lw_all := lw_g (lw_at lw_m1 163 rfl) rfl
theorem q186 : (Jvm.Cond.code ({ cls := "ObligationNetting", name := "most", desc := "(I)I" } : Jvm.MethodName) prog_1_method_16_code (2 : Nat) (Option.some Jvm.ClassFile.FieldType.int)) ∈ lw_all := lw_g (lw_at lw_m1 164 rfl) rfl
theorem q188 : (Jvm.Cond.instanceMethod ({ cls := "ObligationNetting", name := "possible", desc := "()I" } : Jvm.MethodName)) ∈ lw_all := lw_g (lw_at lw_m1 166 rfl) rfl
theorem q189 : (Jvm.Cond.selects "ObligationNetting" ({ cls := "ObligationNetting", name := "possible", desc := "()I" } : Jvm.MethodName) ({ cls := "ObligationNetting", name := "possible", desc := "()I" } : Jvm.MethodName)) ∈ lw_all := lw_g (lw_at lw_m1 167 rfl) rfl
theorem q190 : (Jvm.Cond.code ({ cls := "ObligationNetting", name := "possible", desc := "()I" } : Jvm.MethodName) prog_1_method_17_code (1 : Nat) (Option.some Jvm.ClassFile.FieldType.int)) ∈ lw_all := lw_g (lw_at lw_m1 168 rfl) rfl
theorem q192 : (Jvm.Cond.instanceMethod ({ cls := "ObligationNetting", name := "least", desc := "()I" } : Jvm.MethodName)) ∈ lw_all := lw_g (lw_at lw_m1 170 rfl) rfl
theorem q193 : (Jvm.Cond.selects "ObligationNetting" ({ cls := "ObligationNetting", name := "least", desc := "()I" } : Jvm.MethodName) ({ cls := "ObligationNetting", name := "least", desc := "()I" } : Jvm.MethodName)) ∈ lw_all := lw_g (lw_at lw_m1 171 rfl) rfl
theorem q194 : (Jvm.Cond.code ({ cls := "ObligationNetting", name := "least", desc := "()I" } : Jvm.MethodName) prog_1_method_18_code (4 : Nat) (Option.some Jvm.ClassFile.FieldType.int)) ∈ lw_all := lw_g (lw_at lw_m1 172 rfl) rfl
theorem in_X1 : ∀ w ∈ wsX10, w ∈ lw_all := lw_in wsX10 [44, 46, 48, 50, 52, 54, 56, 58, 60, 62, 64] (by decide +kernel) (by decide +kernel)
end
section
set_option maxRecDepth 100000
/-! ObligationNettingModel -/
set_option maxRecDepth 100000
def RX2 : String := "ObligationNettingModel"
def TX2 : u_T := fun k => match k with
  | 0 => ("ObligationNettingModel", "n", "I", false)
  | 1 => ("ObligationNettingModel", "count", "I", false)
  | 2 => ("ObligationNettingModel", "debtor", "[I", false)
  | 3 => ("ObligationNettingModel", "creditor", "[I", false)
  | 4 => ("ObligationNettingModel", "owed", "[I", false)
  | 5 => ("ObligationNettingModel", "out", "[Z", false)
  | _ => ("ObligationNettingModel", "net", "[I", false)
def tyX2 : Nat → FieldType := fun k => match k with
  | 0 => .int
  | 1 => .int
  | 2 => .array .int
  | 3 => .array .int
  | 4 => .array .int
  | 5 => .array .boolean
  | _ => .array .int
abbrev wsX20 : List Cond := u_ws RX2 TX2 7
theorem nmX2 : ∀ a, a < 7 → ∀ b, b < 7 → a ≠ b → (TX2 a).2.1 ≠ (TX2 b).2.1 := by decide +kernel
theorem tyX2_ok : ∀ k, k < 7 → parseFieldDescriptor (TX2 k).2.2.1 = some (tyX2 k) := by decide +kernel
abbrev cX2_init : ByteArray := prog_3_method_1_code
def yX2_init : MethodName := ⟨RX2, "<init>", "(I)V"⟩
theorem dX2_init_0 : decode cX2_init 0 = .ok (.aload_n 0, 1) := by decide +kernel
theorem dX2_init_1 : decode cX2_init 1 = .ok (.invokespecial 1, 3) := by decide +kernel
theorem dX2_init_4 : decode cX2_init 4 = .ok (.aload_n 0, 1) := by decide +kernel
theorem dX2_init_5 : decode cX2_init 5 = .ok (.bipush 7, 2) := by decide +kernel
theorem dX2_init_7 : decode cX2_init 7 = .ok (.newarray .int, 2) := by decide +kernel
theorem dX2_init_9 : decode cX2_init 9 = .ok (.putfield 7, 3) := by decide +kernel
theorem dX2_init_12 : decode cX2_init 12 = .ok (.aload_n 0, 1) := by decide +kernel
theorem dX2_init_13 : decode cX2_init 13 = .ok (.bipush 7, 2) := by decide +kernel
theorem dX2_init_15 : decode cX2_init 15 = .ok (.newarray .int, 2) := by decide +kernel
theorem dX2_init_17 : decode cX2_init 17 = .ok (.putfield 13, 3) := by decide +kernel
theorem dX2_init_20 : decode cX2_init 20 = .ok (.aload_n 0, 1) := by decide +kernel
theorem dX2_init_21 : decode cX2_init 21 = .ok (.bipush 7, 2) := by decide +kernel
theorem dX2_init_23 : decode cX2_init 23 = .ok (.newarray .int, 2) := by decide +kernel
theorem dX2_init_25 : decode cX2_init 25 = .ok (.putfield 16, 3) := by decide +kernel
theorem dX2_init_28 : decode cX2_init 28 = .ok (.aload_n 0, 1) := by decide +kernel
theorem dX2_init_29 : decode cX2_init 29 = .ok (.iconst 5, 1) := by decide +kernel
theorem dX2_init_30 : decode cX2_init 30 = .ok (.newarray .boolean, 2) := by decide +kernel
theorem dX2_init_32 : decode cX2_init 32 = .ok (.putfield 19, 3) := by decide +kernel
theorem dX2_init_35 : decode cX2_init 35 = .ok (.aload_n 0, 1) := by decide +kernel
theorem dX2_init_36 : decode cX2_init 36 = .ok (.iconst 5, 1) := by decide +kernel
theorem dX2_init_37 : decode cX2_init 37 = .ok (.newarray .int, 2) := by decide +kernel
theorem dX2_init_39 : decode cX2_init 39 = .ok (.putfield 23, 3) := by decide +kernel
theorem dX2_init_42 : decode cX2_init 42 = .ok (.aload_n 0, 1) := by decide +kernel
theorem dX2_init_43 : decode cX2_init 43 = .ok (.iload_n 1, 1) := by decide +kernel
theorem dX2_init_44 : decode cX2_init 44 = .ok (.iconst 2, 1) := by decide +kernel
theorem dX2_init_45 : decode cX2_init 45 = .ok (.if_icmp .ge 7, 3) := by decide +kernel
theorem dX2_init_48 : decode cX2_init 48 = .ok (.iconst 2, 1) := by decide +kernel
theorem dX2_init_49 : decode cX2_init 49 = .ok (.goto 13, 3) := by decide +kernel
theorem dX2_init_52 : decode cX2_init 52 = .ok (.iload_n 1, 1) := by decide +kernel
theorem dX2_init_53 : decode cX2_init 53 = .ok (.iconst 5, 1) := by decide +kernel
theorem dX2_init_54 : decode cX2_init 54 = .ok (.if_icmp .le 7, 3) := by decide +kernel
theorem dX2_init_57 : decode cX2_init 57 = .ok (.iconst 5, 1) := by decide +kernel
theorem dX2_init_58 : decode cX2_init 58 = .ok (.goto 4, 3) := by decide +kernel
theorem dX2_init_61 : decode cX2_init 61 = .ok (.iload_n 1, 1) := by decide +kernel
theorem dX2_init_62 : decode cX2_init 62 = .ok (.putfield 26, 3) := by decide +kernel
theorem dX2_init_65 : decode cX2_init 65 = .ok (.return_, 1) := by decide +kernel
abbrev cX2_owe : ByteArray := prog_3_method_4_code
def yX2_owe : MethodName := ⟨RX2, "owe", "(III)I"⟩
theorem dX2_owe_0 : decode cX2_owe 0 = .ok (.aload_n 0, 1) := by decide +kernel
theorem dX2_owe_1 : decode cX2_owe 1 = .ok (.iload_n 1, 1) := by decide +kernel
theorem dX2_owe_2 : decode cX2_owe 2 = .ok (.invokevirtual 33, 3) := by decide +kernel
theorem dX2_owe_5 : decode cX2_owe 5 = .ok (.ifCond .ne 11, 3) := by decide +kernel
theorem dX2_owe_8 : decode cX2_owe 8 = .ok (.aload_n 0, 1) := by decide +kernel
theorem dX2_owe_9 : decode cX2_owe 9 = .ok (.iload_n 2, 1) := by decide +kernel
theorem dX2_owe_10 : decode cX2_owe 10 = .ok (.invokevirtual 33, 3) := by decide +kernel
theorem dX2_owe_13 : decode cX2_owe 13 = .ok (.ifCond .eq 5, 3) := by decide +kernel
theorem dX2_owe_16 : decode cX2_owe 16 = .ok (.iconst (-1), 1) := by decide +kernel
theorem dX2_owe_17 : decode cX2_owe 17 = .ok (.ireturn, 1) := by decide +kernel
theorem dX2_owe_18 : decode cX2_owe 18 = .ok (.iload_n 1, 1) := by decide +kernel
theorem dX2_owe_19 : decode cX2_owe 19 = .ok (.iload_n 2, 1) := by decide +kernel
theorem dX2_owe_20 : decode cX2_owe 20 = .ok (.if_icmp .ne 6, 3) := by decide +kernel
theorem dX2_owe_23 : decode cX2_owe 23 = .ok (.bipush (-2), 2) := by decide +kernel
theorem dX2_owe_25 : decode cX2_owe 25 = .ok (.ireturn, 1) := by decide +kernel
theorem dX2_owe_26 : decode cX2_owe 26 = .ok (.iload_n 3, 1) := by decide +kernel
theorem dX2_owe_27 : decode cX2_owe 27 = .ok (.ifCond .lt 8, 3) := by decide +kernel
theorem dX2_owe_30 : decode cX2_owe 30 = .ok (.iload_n 3, 1) := by decide +kernel
theorem dX2_owe_31 : decode cX2_owe 31 = .ok (.iconst 3, 1) := by decide +kernel
theorem dX2_owe_32 : decode cX2_owe 32 = .ok (.if_icmp .le 6, 3) := by decide +kernel
theorem dX2_owe_35 : decode cX2_owe 35 = .ok (.bipush (-3), 2) := by decide +kernel
theorem dX2_owe_37 : decode cX2_owe 37 = .ok (.ireturn, 1) := by decide +kernel
theorem dX2_owe_38 : decode cX2_owe 38 = .ok (.aload_n 0, 1) := by decide +kernel
theorem dX2_owe_39 : decode cX2_owe 39 = .ok (.getfield 30, 3) := by decide +kernel
theorem dX2_owe_42 : decode cX2_owe 42 = .ok (.istore 4, 2) := by decide +kernel
theorem dX2_owe_44 : decode cX2_owe 44 = .ok (.iload 4, 2) := by decide +kernel
theorem dX2_owe_46 : decode cX2_owe 46 = .ok (.bipush 6, 2) := by decide +kernel
theorem dX2_owe_48 : decode cX2_owe 48 = .ok (.if_icmp .le 6, 3) := by decide +kernel
theorem dX2_owe_51 : decode cX2_owe 51 = .ok (.bipush (-4), 2) := by decide +kernel
theorem dX2_owe_53 : decode cX2_owe 53 = .ok (.ireturn, 1) := by decide +kernel
theorem dX2_owe_54 : decode cX2_owe 54 = .ok (.aload_n 0, 1) := by decide +kernel
theorem dX2_owe_55 : decode cX2_owe 55 = .ok (.getfield 7, 3) := by decide +kernel
theorem dX2_owe_58 : decode cX2_owe 58 = .ok (.iload 4, 2) := by decide +kernel
theorem dX2_owe_60 : decode cX2_owe 60 = .ok (.iload_n 1, 1) := by decide +kernel
theorem dX2_owe_61 : decode cX2_owe 61 = .ok (.iastore, 1) := by decide +kernel
theorem dX2_owe_62 : decode cX2_owe 62 = .ok (.aload_n 0, 1) := by decide +kernel
theorem dX2_owe_63 : decode cX2_owe 63 = .ok (.getfield 13, 3) := by decide +kernel
theorem dX2_owe_66 : decode cX2_owe 66 = .ok (.iload 4, 2) := by decide +kernel
theorem dX2_owe_68 : decode cX2_owe 68 = .ok (.iload_n 2, 1) := by decide +kernel
theorem dX2_owe_69 : decode cX2_owe 69 = .ok (.iastore, 1) := by decide +kernel
theorem dX2_owe_70 : decode cX2_owe 70 = .ok (.aload_n 0, 1) := by decide +kernel
theorem dX2_owe_71 : decode cX2_owe 71 = .ok (.getfield 16, 3) := by decide +kernel
theorem dX2_owe_74 : decode cX2_owe 74 = .ok (.iload 4, 2) := by decide +kernel
theorem dX2_owe_76 : decode cX2_owe 76 = .ok (.iload_n 3, 1) := by decide +kernel
theorem dX2_owe_77 : decode cX2_owe 77 = .ok (.iastore, 1) := by decide +kernel
theorem dX2_owe_78 : decode cX2_owe 78 = .ok (.aload_n 0, 1) := by decide +kernel
theorem dX2_owe_79 : decode cX2_owe 79 = .ok (.iload 4, 2) := by decide +kernel
theorem dX2_owe_81 : decode cX2_owe 81 = .ok (.iconst 1, 1) := by decide +kernel
theorem dX2_owe_82 : decode cX2_owe 82 = .ok (.iadd, 1) := by decide +kernel
theorem dX2_owe_83 : decode cX2_owe 83 = .ok (.putfield 30, 3) := by decide +kernel
theorem dX2_owe_86 : decode cX2_owe 86 = .ok (.iload 4, 2) := by decide +kernel
theorem dX2_owe_88 : decode cX2_owe 88 = .ok (.ireturn, 1) := by decide +kernel
abbrev cX2_badFirm : ByteArray := prog_3_method_2_code
def yX2_badFirm : MethodName := ⟨RX2, "badFirm", "(I)Z"⟩
theorem dX2_badFirm_0 : decode cX2_badFirm 0 = .ok (.iload_n 1, 1) := by decide +kernel
theorem dX2_badFirm_1 : decode cX2_badFirm 1 = .ok (.ifCond .lt 16, 3) := by decide +kernel
theorem dX2_badFirm_4 : decode cX2_badFirm 4 = .ok (.iload_n 1, 1) := by decide +kernel
theorem dX2_badFirm_5 : decode cX2_badFirm 5 = .ok (.aload_n 0, 1) := by decide +kernel
theorem dX2_badFirm_6 : decode cX2_badFirm 6 = .ok (.getfield 26, 3) := by decide +kernel
theorem dX2_badFirm_9 : decode cX2_badFirm 9 = .ok (.if_icmp .ge 8, 3) := by decide +kernel
theorem dX2_badFirm_12 : decode cX2_badFirm 12 = .ok (.iload_n 1, 1) := by decide +kernel
theorem dX2_badFirm_13 : decode cX2_badFirm 13 = .ok (.iconst 4, 1) := by decide +kernel
theorem dX2_badFirm_14 : decode cX2_badFirm 14 = .ok (.if_icmp .le 7, 3) := by decide +kernel
theorem dX2_badFirm_17 : decode cX2_badFirm 17 = .ok (.iconst 1, 1) := by decide +kernel
theorem dX2_badFirm_18 : decode cX2_badFirm 18 = .ok (.goto 4, 3) := by decide +kernel
theorem dX2_badFirm_21 : decode cX2_badFirm 21 = .ok (.iconst 0, 1) := by decide +kernel
theorem dX2_badFirm_22 : decode cX2_badFirm 22 = .ok (.ireturn, 1) := by decide +kernel
abbrev cX2_change : ByteArray := prog_3_method_5_code
def yX2_change : MethodName := ⟨RX2, "change", "(II)I"⟩
theorem dX2_change_0 : decode cX2_change 0 = .ok (.aload_n 0, 1) := by decide +kernel
theorem dX2_change_1 : decode cX2_change 1 = .ok (.iload_n 1, 1) := by decide +kernel
theorem dX2_change_2 : decode cX2_change 2 = .ok (.invokevirtual 37, 3) := by decide +kernel
theorem dX2_change_5 : decode cX2_change 5 = .ok (.ifCond .eq 5, 3) := by decide +kernel
theorem dX2_change_8 : decode cX2_change 8 = .ok (.iconst (-1), 1) := by decide +kernel
theorem dX2_change_9 : decode cX2_change 9 = .ok (.ireturn, 1) := by decide +kernel
theorem dX2_change_10 : decode cX2_change 10 = .ok (.iload_n 2, 1) := by decide +kernel
theorem dX2_change_11 : decode cX2_change 11 = .ok (.ifCond .lt 8, 3) := by decide +kernel
theorem dX2_change_14 : decode cX2_change 14 = .ok (.iload_n 2, 1) := by decide +kernel
theorem dX2_change_15 : decode cX2_change 15 = .ok (.iconst 3, 1) := by decide +kernel
theorem dX2_change_16 : decode cX2_change 16 = .ok (.if_icmp .le 6, 3) := by decide +kernel
theorem dX2_change_19 : decode cX2_change 19 = .ok (.bipush (-2), 2) := by decide +kernel
theorem dX2_change_21 : decode cX2_change 21 = .ok (.ireturn, 1) := by decide +kernel
theorem dX2_change_22 : decode cX2_change 22 = .ok (.aload_n 0, 1) := by decide +kernel
theorem dX2_change_23 : decode cX2_change 23 = .ok (.getfield 16, 3) := by decide +kernel
theorem dX2_change_26 : decode cX2_change 26 = .ok (.iload_n 1, 1) := by decide +kernel
theorem dX2_change_27 : decode cX2_change 27 = .ok (.iaload, 1) := by decide +kernel
theorem dX2_change_28 : decode cX2_change 28 = .ok (.istore_n 3, 1) := by decide +kernel
theorem dX2_change_29 : decode cX2_change 29 = .ok (.aload_n 0, 1) := by decide +kernel
theorem dX2_change_30 : decode cX2_change 30 = .ok (.getfield 16, 3) := by decide +kernel
theorem dX2_change_33 : decode cX2_change 33 = .ok (.iload_n 1, 1) := by decide +kernel
theorem dX2_change_34 : decode cX2_change 34 = .ok (.iload_n 2, 1) := by decide +kernel
theorem dX2_change_35 : decode cX2_change 35 = .ok (.iastore, 1) := by decide +kernel
theorem dX2_change_36 : decode cX2_change 36 = .ok (.iload_n 3, 1) := by decide +kernel
theorem dX2_change_37 : decode cX2_change 37 = .ok (.ireturn, 1) := by decide +kernel
abbrev cX2_bad : ByteArray := prog_3_method_3_code
def yX2_bad : MethodName := ⟨RX2, "bad", "(I)Z"⟩
theorem dX2_bad_0 : decode cX2_bad 0 = .ok (.iload_n 1, 1) := by decide +kernel
theorem dX2_bad_1 : decode cX2_bad 1 = .ok (.ifCond .lt 17, 3) := by decide +kernel
theorem dX2_bad_4 : decode cX2_bad 4 = .ok (.iload_n 1, 1) := by decide +kernel
theorem dX2_bad_5 : decode cX2_bad 5 = .ok (.aload_n 0, 1) := by decide +kernel
theorem dX2_bad_6 : decode cX2_bad 6 = .ok (.getfield 30, 3) := by decide +kernel
theorem dX2_bad_9 : decode cX2_bad 9 = .ok (.if_icmp .ge 9, 3) := by decide +kernel
theorem dX2_bad_12 : decode cX2_bad 12 = .ok (.iload_n 1, 1) := by decide +kernel
theorem dX2_bad_13 : decode cX2_bad 13 = .ok (.bipush 6, 2) := by decide +kernel
theorem dX2_bad_15 : decode cX2_bad 15 = .ok (.if_icmp .le 7, 3) := by decide +kernel
theorem dX2_bad_18 : decode cX2_bad 18 = .ok (.iconst 1, 1) := by decide +kernel
theorem dX2_bad_19 : decode cX2_bad 19 = .ok (.goto 4, 3) := by decide +kernel
theorem dX2_bad_22 : decode cX2_bad 22 = .ok (.iconst 0, 1) := by decide +kernel
theorem dX2_bad_23 : decode cX2_bad 23 = .ok (.ireturn, 1) := by decide +kernel
abbrev cX2_pay : ByteArray := prog_3_method_6_code
def yX2_pay : MethodName := ⟨RX2, "pay", "(I)I"⟩
theorem dX2_pay_0 : decode cX2_pay 0 = .ok (.aload_n 0, 1) := by decide +kernel
theorem dX2_pay_1 : decode cX2_pay 1 = .ok (.iload_n 1, 1) := by decide +kernel
theorem dX2_pay_2 : decode cX2_pay 2 = .ok (.invokevirtual 37, 3) := by decide +kernel
theorem dX2_pay_5 : decode cX2_pay 5 = .ok (.ifCond .eq 5, 3) := by decide +kernel
theorem dX2_pay_8 : decode cX2_pay 8 = .ok (.iconst (-1), 1) := by decide +kernel
theorem dX2_pay_9 : decode cX2_pay 9 = .ok (.ireturn, 1) := by decide +kernel
theorem dX2_pay_10 : decode cX2_pay 10 = .ok (.iload_n 1, 1) := by decide +kernel
theorem dX2_pay_11 : decode cX2_pay 11 = .ok (.istore_n 2, 1) := by decide +kernel
theorem dX2_pay_12 : decode cX2_pay 12 = .ok (.iload_n 2, 1) := by decide +kernel
theorem dX2_pay_13 : decode cX2_pay 13 = .ok (.aload_n 0, 1) := by decide +kernel
theorem dX2_pay_14 : decode cX2_pay 14 = .ok (.getfield 30, 3) := by decide +kernel
theorem dX2_pay_17 : decode cX2_pay 17 = .ok (.iconst 1, 1) := by decide +kernel
theorem dX2_pay_18 : decode cX2_pay 18 = .ok (.isub, 1) := by decide +kernel
theorem dX2_pay_19 : decode cX2_pay 19 = .ok (.if_icmp .ge 57, 3) := by decide +kernel
theorem dX2_pay_22 : decode cX2_pay 22 = .ok (.iload_n 2, 1) := by decide +kernel
theorem dX2_pay_23 : decode cX2_pay 23 = .ok (.bipush 6, 2) := by decide +kernel
theorem dX2_pay_25 : decode cX2_pay 25 = .ok (.if_icmp .ge 51, 3) := by decide +kernel
theorem dX2_pay_28 : decode cX2_pay 28 = .ok (.aload_n 0, 1) := by decide +kernel
theorem dX2_pay_29 : decode cX2_pay 29 = .ok (.getfield 7, 3) := by decide +kernel
theorem dX2_pay_32 : decode cX2_pay 32 = .ok (.iload_n 2, 1) := by decide +kernel
theorem dX2_pay_33 : decode cX2_pay 33 = .ok (.aload_n 0, 1) := by decide +kernel
theorem dX2_pay_34 : decode cX2_pay 34 = .ok (.getfield 7, 3) := by decide +kernel
theorem dX2_pay_37 : decode cX2_pay 37 = .ok (.iload_n 2, 1) := by decide +kernel
theorem dX2_pay_38 : decode cX2_pay 38 = .ok (.iconst 1, 1) := by decide +kernel
theorem dX2_pay_39 : decode cX2_pay 39 = .ok (.iadd, 1) := by decide +kernel
theorem dX2_pay_40 : decode cX2_pay 40 = .ok (.iaload, 1) := by decide +kernel
theorem dX2_pay_41 : decode cX2_pay 41 = .ok (.iastore, 1) := by decide +kernel
theorem dX2_pay_42 : decode cX2_pay 42 = .ok (.aload_n 0, 1) := by decide +kernel
theorem dX2_pay_43 : decode cX2_pay 43 = .ok (.getfield 13, 3) := by decide +kernel
theorem dX2_pay_46 : decode cX2_pay 46 = .ok (.iload_n 2, 1) := by decide +kernel
theorem dX2_pay_47 : decode cX2_pay 47 = .ok (.aload_n 0, 1) := by decide +kernel
theorem dX2_pay_48 : decode cX2_pay 48 = .ok (.getfield 13, 3) := by decide +kernel
theorem dX2_pay_51 : decode cX2_pay 51 = .ok (.iload_n 2, 1) := by decide +kernel
theorem dX2_pay_52 : decode cX2_pay 52 = .ok (.iconst 1, 1) := by decide +kernel
theorem dX2_pay_53 : decode cX2_pay 53 = .ok (.iadd, 1) := by decide +kernel
theorem dX2_pay_54 : decode cX2_pay 54 = .ok (.iaload, 1) := by decide +kernel
theorem dX2_pay_55 : decode cX2_pay 55 = .ok (.iastore, 1) := by decide +kernel
theorem dX2_pay_56 : decode cX2_pay 56 = .ok (.aload_n 0, 1) := by decide +kernel
theorem dX2_pay_57 : decode cX2_pay 57 = .ok (.getfield 16, 3) := by decide +kernel
theorem dX2_pay_60 : decode cX2_pay 60 = .ok (.iload_n 2, 1) := by decide +kernel
theorem dX2_pay_61 : decode cX2_pay 61 = .ok (.aload_n 0, 1) := by decide +kernel
theorem dX2_pay_62 : decode cX2_pay 62 = .ok (.getfield 16, 3) := by decide +kernel
theorem dX2_pay_65 : decode cX2_pay 65 = .ok (.iload_n 2, 1) := by decide +kernel
theorem dX2_pay_66 : decode cX2_pay 66 = .ok (.iconst 1, 1) := by decide +kernel
theorem dX2_pay_67 : decode cX2_pay 67 = .ok (.iadd, 1) := by decide +kernel
theorem dX2_pay_68 : decode cX2_pay 68 = .ok (.iaload, 1) := by decide +kernel
theorem dX2_pay_69 : decode cX2_pay 69 = .ok (.iastore, 1) := by decide +kernel
theorem dX2_pay_70 : decode cX2_pay 70 = .ok (.iinc 2 1, 3) := by decide +kernel
theorem dX2_pay_73 : decode cX2_pay 73 = .ok (.goto (-61), 3) := by decide +kernel
theorem dX2_pay_76 : decode cX2_pay 76 = .ok (.aload_n 0, 1) := by decide +kernel
theorem dX2_pay_77 : decode cX2_pay 77 = .ok (.dup, 1) := by decide +kernel
theorem dX2_pay_78 : decode cX2_pay 78 = .ok (.getfield 30, 3) := by decide +kernel
theorem dX2_pay_81 : decode cX2_pay 81 = .ok (.iconst 1, 1) := by decide +kernel
theorem dX2_pay_82 : decode cX2_pay 82 = .ok (.isub, 1) := by decide +kernel
theorem dX2_pay_83 : decode cX2_pay 83 = .ok (.putfield 30, 3) := by decide +kernel
theorem dX2_pay_86 : decode cX2_pay 86 = .ok (.aload_n 0, 1) := by decide +kernel
theorem dX2_pay_87 : decode cX2_pay 87 = .ok (.getfield 30, 3) := by decide +kernel
theorem dX2_pay_90 : decode cX2_pay 90 = .ok (.ireturn, 1) := by decide +kernel
abbrev cX2_exclude : ByteArray := prog_3_method_7_code
def yX2_exclude : MethodName := ⟨RX2, "exclude", "(II)I"⟩
theorem dX2_exclude_0 : decode cX2_exclude 0 = .ok (.aload_n 0, 1) := by decide +kernel
theorem dX2_exclude_1 : decode cX2_exclude 1 = .ok (.iload_n 1, 1) := by decide +kernel
theorem dX2_exclude_2 : decode cX2_exclude 2 = .ok (.invokevirtual 33, 3) := by decide +kernel
theorem dX2_exclude_5 : decode cX2_exclude 5 = .ok (.ifCond .eq 5, 3) := by decide +kernel
theorem dX2_exclude_8 : decode cX2_exclude 8 = .ok (.iconst (-1), 1) := by decide +kernel
theorem dX2_exclude_9 : decode cX2_exclude 9 = .ok (.ireturn, 1) := by decide +kernel
theorem dX2_exclude_10 : decode cX2_exclude 10 = .ok (.aload_n 0, 1) := by decide +kernel
theorem dX2_exclude_11 : decode cX2_exclude 11 = .ok (.getfield 19, 3) := by decide +kernel
theorem dX2_exclude_14 : decode cX2_exclude 14 = .ok (.iload_n 1, 1) := by decide +kernel
theorem dX2_exclude_15 : decode cX2_exclude 15 = .ok (.baload, 1) := by decide +kernel
theorem dX2_exclude_16 : decode cX2_exclude 16 = .ok (.ifCond .eq 7, 3) := by decide +kernel
theorem dX2_exclude_19 : decode cX2_exclude 19 = .ok (.iconst 1, 1) := by decide +kernel
theorem dX2_exclude_20 : decode cX2_exclude 20 = .ok (.goto 4, 3) := by decide +kernel
theorem dX2_exclude_23 : decode cX2_exclude 23 = .ok (.iconst 0, 1) := by decide +kernel
theorem dX2_exclude_24 : decode cX2_exclude 24 = .ok (.istore_n 3, 1) := by decide +kernel
theorem dX2_exclude_25 : decode cX2_exclude 25 = .ok (.aload_n 0, 1) := by decide +kernel
theorem dX2_exclude_26 : decode cX2_exclude 26 = .ok (.getfield 19, 3) := by decide +kernel
theorem dX2_exclude_29 : decode cX2_exclude 29 = .ok (.iload_n 1, 1) := by decide +kernel
theorem dX2_exclude_30 : decode cX2_exclude 30 = .ok (.iload_n 2, 1) := by decide +kernel
theorem dX2_exclude_31 : decode cX2_exclude 31 = .ok (.ifCond .eq 7, 3) := by decide +kernel
theorem dX2_exclude_34 : decode cX2_exclude 34 = .ok (.iconst 1, 1) := by decide +kernel
theorem dX2_exclude_35 : decode cX2_exclude 35 = .ok (.goto 4, 3) := by decide +kernel
theorem dX2_exclude_38 : decode cX2_exclude 38 = .ok (.iconst 0, 1) := by decide +kernel
theorem dX2_exclude_39 : decode cX2_exclude 39 = .ok (.bastore, 1) := by decide +kernel
theorem dX2_exclude_40 : decode cX2_exclude 40 = .ok (.iload_n 3, 1) := by decide +kernel
theorem dX2_exclude_41 : decode cX2_exclude 41 = .ok (.ireturn, 1) := by decide +kernel
abbrev cX2_clear : ByteArray := prog_3_method_12_code
def yX2_clear : MethodName := ⟨RX2, "clear", "()I"⟩
theorem dX2_clear_0 : decode cX2_clear 0 = .ok (.aload_n 0, 1) := by decide +kernel
theorem dX2_clear_1 : decode cX2_clear 1 = .ok (.invokevirtual 48, 3) := by decide +kernel
theorem dX2_clear_4 : decode cX2_clear 4 = .ok (.istore_n 1, 1) := by decide +kernel
theorem dX2_clear_5 : decode cX2_clear 5 = .ok (.aload_n 0, 1) := by decide +kernel
theorem dX2_clear_6 : decode cX2_clear 6 = .ok (.iload_n 1, 1) := by decide +kernel
theorem dX2_clear_7 : decode cX2_clear 7 = .ok (.invokevirtual 52, 3) := by decide +kernel
theorem dX2_clear_10 : decode cX2_clear 10 = .ok (.ireturn, 1) := by decide +kernel
abbrev cX2_search : ByteArray := prog_3_method_10_code
def yX2_search : MethodName := ⟨RX2, "search", "()I"⟩
theorem dX2_search_0 : decode cX2_search 0 = .ok (.iconst 0, 1) := by decide +kernel
theorem dX2_search_1 : decode cX2_search 1 = .ok (.istore_n 1, 1) := by decide +kernel
theorem dX2_search_2 : decode cX2_search 2 = .ok (.iconst 0, 1) := by decide +kernel
theorem dX2_search_3 : decode cX2_search 3 = .ok (.istore_n 2, 1) := by decide +kernel
theorem dX2_search_4 : decode cX2_search 4 = .ok (.iconst 0, 1) := by decide +kernel
theorem dX2_search_5 : decode cX2_search 5 = .ok (.istore_n 3, 1) := by decide +kernel
theorem dX2_search_6 : decode cX2_search 6 = .ok (.iload_n 3, 1) := by decide +kernel
theorem dX2_search_7 : decode cX2_search 7 = .ok (.iconst 1, 1) := by decide +kernel
theorem dX2_search_8 : decode cX2_search 8 = .ok (.iconst 2, 1) := by decide +kernel
theorem dX2_search_9 : decode cX2_search 9 = .ok (.aload_n 0, 1) := by decide +kernel
theorem dX2_search_10 : decode cX2_search 10 = .ok (.getfield 30, 3) := by decide +kernel
theorem dX2_search_13 : decode cX2_search 13 = .ok (.imul, 1) := by decide +kernel
theorem dX2_search_14 : decode cX2_search 14 = .ok (.ishl, 1) := by decide +kernel
theorem dX2_search_15 : decode cX2_search 15 = .ok (.if_icmp .ge 27, 3) := by decide +kernel
theorem dX2_search_18 : decode cX2_search 18 = .ok (.aload_n 0, 1) := by decide +kernel
theorem dX2_search_19 : decode cX2_search 19 = .ok (.iload_n 3, 1) := by decide +kernel
theorem dX2_search_20 : decode cX2_search 20 = .ok (.invokevirtual 44, 3) := by decide +kernel
theorem dX2_search_23 : decode cX2_search 23 = .ok (.istore 4, 2) := by decide +kernel
theorem dX2_search_25 : decode cX2_search 25 = .ok (.iload 4, 2) := by decide +kernel
theorem dX2_search_27 : decode cX2_search 27 = .ok (.iload_n 2, 1) := by decide +kernel
theorem dX2_search_28 : decode cX2_search 28 = .ok (.if_icmp .le 8, 3) := by decide +kernel
theorem dX2_search_31 : decode cX2_search 31 = .ok (.iload 4, 2) := by decide +kernel
theorem dX2_search_33 : decode cX2_search 33 = .ok (.istore_n 2, 1) := by decide +kernel
theorem dX2_search_34 : decode cX2_search 34 = .ok (.iload_n 3, 1) := by decide +kernel
theorem dX2_search_35 : decode cX2_search 35 = .ok (.istore_n 1, 1) := by decide +kernel
theorem dX2_search_36 : decode cX2_search 36 = .ok (.iinc 3 1, 3) := by decide +kernel
theorem dX2_search_39 : decode cX2_search 39 = .ok (.goto (-33), 3) := by decide +kernel
theorem dX2_search_42 : decode cX2_search 42 = .ok (.iload_n 1, 1) := by decide +kernel
theorem dX2_search_43 : decode cX2_search 43 = .ok (.ireturn, 1) := by decide +kernel
abbrev cX2_total : ByteArray := prog_3_method_9_code
def yX2_total : MethodName := ⟨RX2, "total", "(I)I"⟩
theorem dX2_total_0 : decode cX2_total 0 = .ok (.iload_n 1, 1) := by decide +kernel
theorem dX2_total_1 : decode cX2_total 1 = .ok (.ifCond .lt 15, 3) := by decide +kernel
theorem dX2_total_4 : decode cX2_total 4 = .ok (.iload_n 1, 1) := by decide +kernel
theorem dX2_total_5 : decode cX2_total 5 = .ok (.iconst 1, 1) := by decide +kernel
theorem dX2_total_6 : decode cX2_total 6 = .ok (.iconst 2, 1) := by decide +kernel
theorem dX2_total_7 : decode cX2_total 7 = .ok (.aload_n 0, 1) := by decide +kernel
theorem dX2_total_8 : decode cX2_total 8 = .ok (.getfield 30, 3) := by decide +kernel
theorem dX2_total_11 : decode cX2_total 11 = .ok (.imul, 1) := by decide +kernel
theorem dX2_total_12 : decode cX2_total 12 = .ok (.ishl, 1) := by decide +kernel
theorem dX2_total_13 : decode cX2_total 13 = .ok (.if_icmp .lt 5, 3) := by decide +kernel
theorem dX2_total_16 : decode cX2_total 16 = .ok (.iconst (-1), 1) := by decide +kernel
theorem dX2_total_17 : decode cX2_total 17 = .ok (.ireturn, 1) := by decide +kernel
theorem dX2_total_18 : decode cX2_total 18 = .ok (.iconst 0, 1) := by decide +kernel
theorem dX2_total_19 : decode cX2_total 19 = .ok (.istore_n 2, 1) := by decide +kernel
theorem dX2_total_20 : decode cX2_total 20 = .ok (.iload_n 2, 1) := by decide +kernel
theorem dX2_total_21 : decode cX2_total 21 = .ok (.iconst 5, 1) := by decide +kernel
theorem dX2_total_22 : decode cX2_total 22 = .ok (.if_icmp .ge 16, 3) := by decide +kernel
theorem dX2_total_25 : decode cX2_total 25 = .ok (.aload_n 0, 1) := by decide +kernel
theorem dX2_total_26 : decode cX2_total 26 = .ok (.getfield 23, 3) := by decide +kernel
theorem dX2_total_29 : decode cX2_total 29 = .ok (.iload_n 2, 1) := by decide +kernel
theorem dX2_total_30 : decode cX2_total 30 = .ok (.iconst 0, 1) := by decide +kernel
theorem dX2_total_31 : decode cX2_total 31 = .ok (.iastore, 1) := by decide +kernel
theorem dX2_total_32 : decode cX2_total 32 = .ok (.iinc 2 1, 3) := by decide +kernel
theorem dX2_total_35 : decode cX2_total 35 = .ok (.goto (-15), 3) := by decide +kernel
theorem dX2_total_38 : decode cX2_total 38 = .ok (.iconst 0, 1) := by decide +kernel
theorem dX2_total_39 : decode cX2_total 39 = .ok (.istore_n 2, 1) := by decide +kernel
theorem dX2_total_40 : decode cX2_total 40 = .ok (.iconst 0, 1) := by decide +kernel
theorem dX2_total_41 : decode cX2_total 41 = .ok (.istore_n 3, 1) := by decide +kernel
theorem dX2_total_42 : decode cX2_total 42 = .ok (.iload_n 3, 1) := by decide +kernel
theorem dX2_total_43 : decode cX2_total 43 = .ok (.aload_n 0, 1) := by decide +kernel
theorem dX2_total_44 : decode cX2_total 44 = .ok (.getfield 30, 3) := by decide +kernel
theorem dX2_total_47 : decode cX2_total 47 = .ok (.if_icmp .ge 108, 3) := by decide +kernel
theorem dX2_total_50 : decode cX2_total 50 = .ok (.iload_n 3, 1) := by decide +kernel
theorem dX2_total_51 : decode cX2_total 51 = .ok (.bipush 7, 2) := by decide +kernel
theorem dX2_total_53 : decode cX2_total 53 = .ok (.if_icmp .ge 102, 3) := by decide +kernel
theorem dX2_total_56 : decode cX2_total 56 = .ok (.aload_n 0, 1) := by decide +kernel
theorem dX2_total_57 : decode cX2_total 57 = .ok (.iload_n 1, 1) := by decide +kernel
theorem dX2_total_58 : decode cX2_total 58 = .ok (.iload_n 3, 1) := by decide +kernel
theorem dX2_total_59 : decode cX2_total 59 = .ok (.invokevirtual 40, 3) := by decide +kernel
theorem dX2_total_62 : decode cX2_total 62 = .ok (.istore 4, 2) := by decide +kernel
theorem dX2_total_64 : decode cX2_total 64 = .ok (.iload 4, 2) := by decide +kernel
theorem dX2_total_66 : decode cX2_total 66 = .ok (.aload_n 0, 1) := by decide +kernel
theorem dX2_total_67 : decode cX2_total 67 = .ok (.getfield 16, 3) := by decide +kernel
theorem dX2_total_70 : decode cX2_total 70 = .ok (.iload_n 3, 1) := by decide +kernel
theorem dX2_total_71 : decode cX2_total 71 = .ok (.iaload, 1) := by decide +kernel
theorem dX2_total_72 : decode cX2_total 72 = .ok (.if_icmp .le 5, 3) := by decide +kernel
theorem dX2_total_75 : decode cX2_total 75 = .ok (.iconst (-1), 1) := by decide +kernel
theorem dX2_total_76 : decode cX2_total 76 = .ok (.ireturn, 1) := by decide +kernel
theorem dX2_total_77 : decode cX2_total 77 = .ok (.iload 4, 2) := by decide +kernel
theorem dX2_total_79 : decode cX2_total 79 = .ok (.ifCond .le 33, 3) := by decide +kernel
theorem dX2_total_82 : decode cX2_total 82 = .ok (.aload_n 0, 1) := by decide +kernel
theorem dX2_total_83 : decode cX2_total 83 = .ok (.getfield 19, 3) := by decide +kernel
theorem dX2_total_86 : decode cX2_total 86 = .ok (.aload_n 0, 1) := by decide +kernel
theorem dX2_total_87 : decode cX2_total 87 = .ok (.getfield 7, 3) := by decide +kernel
theorem dX2_total_90 : decode cX2_total 90 = .ok (.iload_n 3, 1) := by decide +kernel
theorem dX2_total_91 : decode cX2_total 91 = .ok (.iaload, 1) := by decide +kernel
theorem dX2_total_92 : decode cX2_total 92 = .ok (.baload, 1) := by decide +kernel
theorem dX2_total_93 : decode cX2_total 93 = .ok (.ifCond .ne 17, 3) := by decide +kernel
theorem dX2_total_96 : decode cX2_total 96 = .ok (.aload_n 0, 1) := by decide +kernel
theorem dX2_total_97 : decode cX2_total 97 = .ok (.getfield 19, 3) := by decide +kernel
theorem dX2_total_100 : decode cX2_total 100 = .ok (.aload_n 0, 1) := by decide +kernel
theorem dX2_total_101 : decode cX2_total 101 = .ok (.getfield 13, 3) := by decide +kernel
theorem dX2_total_104 : decode cX2_total 104 = .ok (.iload_n 3, 1) := by decide +kernel
theorem dX2_total_105 : decode cX2_total 105 = .ok (.iaload, 1) := by decide +kernel
theorem dX2_total_106 : decode cX2_total 106 = .ok (.baload, 1) := by decide +kernel
theorem dX2_total_107 : decode cX2_total 107 = .ok (.ifCond .eq 5, 3) := by decide +kernel
theorem dX2_total_110 : decode cX2_total 110 = .ok (.iconst (-1), 1) := by decide +kernel
theorem dX2_total_111 : decode cX2_total 111 = .ok (.ireturn, 1) := by decide +kernel
theorem dX2_total_112 : decode cX2_total 112 = .ok (.aload_n 0, 1) := by decide +kernel
theorem dX2_total_113 : decode cX2_total 113 = .ok (.getfield 23, 3) := by decide +kernel
theorem dX2_total_116 : decode cX2_total 116 = .ok (.aload_n 0, 1) := by decide +kernel
theorem dX2_total_117 : decode cX2_total 117 = .ok (.getfield 7, 3) := by decide +kernel
theorem dX2_total_120 : decode cX2_total 120 = .ok (.iload_n 3, 1) := by decide +kernel
theorem dX2_total_121 : decode cX2_total 121 = .ok (.iaload, 1) := by decide +kernel
theorem dX2_total_122 : decode cX2_total 122 = .ok (.dup2, 1) := by decide +kernel
theorem dX2_total_123 : decode cX2_total 123 = .ok (.iaload, 1) := by decide +kernel
theorem dX2_total_124 : decode cX2_total 124 = .ok (.iload 4, 2) := by decide +kernel
theorem dX2_total_126 : decode cX2_total 126 = .ok (.isub, 1) := by decide +kernel
theorem dX2_total_127 : decode cX2_total 127 = .ok (.iastore, 1) := by decide +kernel
theorem dX2_total_128 : decode cX2_total 128 = .ok (.aload_n 0, 1) := by decide +kernel
theorem dX2_total_129 : decode cX2_total 129 = .ok (.getfield 23, 3) := by decide +kernel
theorem dX2_total_132 : decode cX2_total 132 = .ok (.aload_n 0, 1) := by decide +kernel
theorem dX2_total_133 : decode cX2_total 133 = .ok (.getfield 13, 3) := by decide +kernel
theorem dX2_total_136 : decode cX2_total 136 = .ok (.iload_n 3, 1) := by decide +kernel
theorem dX2_total_137 : decode cX2_total 137 = .ok (.iaload, 1) := by decide +kernel
theorem dX2_total_138 : decode cX2_total 138 = .ok (.dup2, 1) := by decide +kernel
theorem dX2_total_139 : decode cX2_total 139 = .ok (.iaload, 1) := by decide +kernel
theorem dX2_total_140 : decode cX2_total 140 = .ok (.iload 4, 2) := by decide +kernel
theorem dX2_total_142 : decode cX2_total 142 = .ok (.iadd, 1) := by decide +kernel
theorem dX2_total_143 : decode cX2_total 143 = .ok (.iastore, 1) := by decide +kernel
theorem dX2_total_144 : decode cX2_total 144 = .ok (.iload_n 2, 1) := by decide +kernel
theorem dX2_total_145 : decode cX2_total 145 = .ok (.iload 4, 2) := by decide +kernel
theorem dX2_total_147 : decode cX2_total 147 = .ok (.iadd, 1) := by decide +kernel
theorem dX2_total_148 : decode cX2_total 148 = .ok (.istore_n 2, 1) := by decide +kernel
theorem dX2_total_149 : decode cX2_total 149 = .ok (.iinc 3 1, 3) := by decide +kernel
theorem dX2_total_152 : decode cX2_total 152 = .ok (.goto (-110), 3) := by decide +kernel
theorem dX2_total_155 : decode cX2_total 155 = .ok (.iconst 0, 1) := by decide +kernel
theorem dX2_total_156 : decode cX2_total 156 = .ok (.istore_n 3, 1) := by decide +kernel
theorem dX2_total_157 : decode cX2_total 157 = .ok (.iload_n 3, 1) := by decide +kernel
theorem dX2_total_158 : decode cX2_total 158 = .ok (.iconst 5, 1) := by decide +kernel
theorem dX2_total_159 : decode cX2_total 159 = .ok (.if_icmp .ge 20, 3) := by decide +kernel
theorem dX2_total_162 : decode cX2_total 162 = .ok (.aload_n 0, 1) := by decide +kernel
theorem dX2_total_163 : decode cX2_total 163 = .ok (.getfield 23, 3) := by decide +kernel
theorem dX2_total_166 : decode cX2_total 166 = .ok (.iload_n 3, 1) := by decide +kernel
theorem dX2_total_167 : decode cX2_total 167 = .ok (.iaload, 1) := by decide +kernel
theorem dX2_total_168 : decode cX2_total 168 = .ok (.ifCond .eq 5, 3) := by decide +kernel
theorem dX2_total_171 : decode cX2_total 171 = .ok (.iconst (-1), 1) := by decide +kernel
theorem dX2_total_172 : decode cX2_total 172 = .ok (.ireturn, 1) := by decide +kernel
theorem dX2_total_173 : decode cX2_total 173 = .ok (.iinc 3 1, 3) := by decide +kernel
theorem dX2_total_176 : decode cX2_total 176 = .ok (.goto (-19), 3) := by decide +kernel
theorem dX2_total_179 : decode cX2_total 179 = .ok (.iload_n 2, 1) := by decide +kernel
theorem dX2_total_180 : decode cX2_total 180 = .ok (.ireturn, 1) := by decide +kernel
end
section
set_option maxRecDepth 100000
abbrev cX2_digit : ByteArray := prog_3_method_8_code
def yX2_digit : MethodName := ⟨RX2, "digit", "(II)I"⟩
theorem dX2_digit_0 : decode cX2_digit 0 = .ok (.iconst 2, 1) := by decide +kernel
theorem dX2_digit_1 : decode cX2_digit 1 = .ok (.aload_n 0, 1) := by decide +kernel
theorem dX2_digit_2 : decode cX2_digit 2 = .ok (.getfield 30, 3) := by decide +kernel
theorem dX2_digit_5 : decode cX2_digit 5 = .ok (.iconst 1, 1) := by decide +kernel
theorem dX2_digit_6 : decode cX2_digit 6 = .ok (.isub, 1) := by decide +kernel
theorem dX2_digit_7 : decode cX2_digit 7 = .ok (.iload_n 2, 1) := by decide +kernel
theorem dX2_digit_8 : decode cX2_digit 8 = .ok (.isub, 1) := by decide +kernel
theorem dX2_digit_9 : decode cX2_digit 9 = .ok (.imul, 1) := by decide +kernel
theorem dX2_digit_10 : decode cX2_digit 10 = .ok (.istore_n 3, 1) := by decide +kernel
theorem dX2_digit_11 : decode cX2_digit 11 = .ok (.iload_n 3, 1) := by decide +kernel
theorem dX2_digit_12 : decode cX2_digit 12 = .ok (.ifCond .ge 7, 3) := by decide +kernel
theorem dX2_digit_15 : decode cX2_digit 15 = .ok (.iconst 0, 1) := by decide +kernel
theorem dX2_digit_16 : decode cX2_digit 16 = .ok (.goto 8, 3) := by decide +kernel
theorem dX2_digit_19 : decode cX2_digit 19 = .ok (.iload_n 1, 1) := by decide +kernel
theorem dX2_digit_20 : decode cX2_digit 20 = .ok (.iload_n 3, 1) := by decide +kernel
theorem dX2_digit_21 : decode cX2_digit 21 = .ok (.ishr, 1) := by decide +kernel
theorem dX2_digit_22 : decode cX2_digit 22 = .ok (.iconst 3, 1) := by decide +kernel
theorem dX2_digit_23 : decode cX2_digit 23 = .ok (.iand, 1) := by decide +kernel
theorem dX2_digit_24 : decode cX2_digit 24 = .ok (.ireturn, 1) := by decide +kernel
abbrev cX2_perform : ByteArray := prog_3_method_11_code
def yX2_perform : MethodName := ⟨RX2, "perform", "(I)I"⟩
theorem dX2_perform_0 : decode cX2_perform 0 = .ok (.aload_n 0, 1) := by decide +kernel
theorem dX2_perform_1 : decode cX2_perform 1 = .ok (.iload_n 1, 1) := by decide +kernel
theorem dX2_perform_2 : decode cX2_perform 2 = .ok (.invokevirtual 44, 3) := by decide +kernel
theorem dX2_perform_5 : decode cX2_perform 5 = .ok (.istore_n 2, 1) := by decide +kernel
theorem dX2_perform_6 : decode cX2_perform 6 = .ok (.iconst 0, 1) := by decide +kernel
theorem dX2_perform_7 : decode cX2_perform 7 = .ok (.istore_n 3, 1) := by decide +kernel
theorem dX2_perform_8 : decode cX2_perform 8 = .ok (.iload_n 3, 1) := by decide +kernel
theorem dX2_perform_9 : decode cX2_perform 9 = .ok (.aload_n 0, 1) := by decide +kernel
theorem dX2_perform_10 : decode cX2_perform 10 = .ok (.getfield 30, 3) := by decide +kernel
theorem dX2_perform_13 : decode cX2_perform 13 = .ok (.if_icmp .ge 34, 3) := by decide +kernel
theorem dX2_perform_16 : decode cX2_perform 16 = .ok (.iload_n 3, 1) := by decide +kernel
theorem dX2_perform_17 : decode cX2_perform 17 = .ok (.bipush 7, 2) := by decide +kernel
theorem dX2_perform_19 : decode cX2_perform 19 = .ok (.if_icmp .ge 28, 3) := by decide +kernel
theorem dX2_perform_22 : decode cX2_perform 22 = .ok (.iload_n 2, 1) := by decide +kernel
theorem dX2_perform_23 : decode cX2_perform 23 = .ok (.ifCond .le 24, 3) := by decide +kernel
theorem dX2_perform_26 : decode cX2_perform 26 = .ok (.aload_n 0, 1) := by decide +kernel
theorem dX2_perform_27 : decode cX2_perform 27 = .ok (.getfield 16, 3) := by decide +kernel
theorem dX2_perform_30 : decode cX2_perform 30 = .ok (.iload_n 3, 1) := by decide +kernel
theorem dX2_perform_31 : decode cX2_perform 31 = .ok (.dup2, 1) := by decide +kernel
theorem dX2_perform_32 : decode cX2_perform 32 = .ok (.iaload, 1) := by decide +kernel
theorem dX2_perform_33 : decode cX2_perform 33 = .ok (.aload_n 0, 1) := by decide +kernel
theorem dX2_perform_34 : decode cX2_perform 34 = .ok (.iload_n 1, 1) := by decide +kernel
theorem dX2_perform_35 : decode cX2_perform 35 = .ok (.iload_n 3, 1) := by decide +kernel
theorem dX2_perform_36 : decode cX2_perform 36 = .ok (.invokevirtual 40, 3) := by decide +kernel
theorem dX2_perform_39 : decode cX2_perform 39 = .ok (.isub, 1) := by decide +kernel
theorem dX2_perform_40 : decode cX2_perform 40 = .ok (.iastore, 1) := by decide +kernel
theorem dX2_perform_41 : decode cX2_perform 41 = .ok (.iinc 3 1, 3) := by decide +kernel
theorem dX2_perform_44 : decode cX2_perform 44 = .ok (.goto (-36), 3) := by decide +kernel
theorem dX2_perform_47 : decode cX2_perform 47 = .ok (.iload_n 2, 1) := by decide +kernel
theorem dX2_perform_48 : decode cX2_perform 48 = .ok (.ireturn, 1) := by decide +kernel
abbrev cX2_carryOut : ByteArray := prog_3_method_13_code
def yX2_carryOut : MethodName := ⟨RX2, "carryOut", "(I)I"⟩
theorem dX2_carryOut_0 : decode cX2_carryOut 0 = .ok (.aload_n 0, 1) := by decide +kernel
theorem dX2_carryOut_1 : decode cX2_carryOut 1 = .ok (.iload_n 1, 1) := by decide +kernel
theorem dX2_carryOut_2 : decode cX2_carryOut 2 = .ok (.invokevirtual 52, 3) := by decide +kernel
theorem dX2_carryOut_5 : decode cX2_carryOut 5 = .ok (.ireturn, 1) := by decide +kernel
abbrev cX2_debts : ByteArray := prog_3_method_14_code
def yX2_debts : MethodName := ⟨RX2, "debts", "()I"⟩
theorem dX2_debts_0 : decode cX2_debts 0 = .ok (.aload_n 0, 1) := by decide +kernel
theorem dX2_debts_1 : decode cX2_debts 1 = .ok (.getfield 30, 3) := by decide +kernel
theorem dX2_debts_4 : decode cX2_debts 4 = .ok (.ireturn, 1) := by decide +kernel
abbrev cX2_amount : ByteArray := prog_3_method_15_code
def yX2_amount : MethodName := ⟨RX2, "amount", "(I)I"⟩
theorem dX2_amount_0 : decode cX2_amount 0 = .ok (.aload_n 0, 1) := by decide +kernel
theorem dX2_amount_1 : decode cX2_amount 1 = .ok (.iload_n 1, 1) := by decide +kernel
theorem dX2_amount_2 : decode cX2_amount 2 = .ok (.invokevirtual 37, 3) := by decide +kernel
theorem dX2_amount_5 : decode cX2_amount 5 = .ok (.ifCond .eq 7, 3) := by decide +kernel
theorem dX2_amount_8 : decode cX2_amount 8 = .ok (.iconst (-1), 1) := by decide +kernel
theorem dX2_amount_9 : decode cX2_amount 9 = .ok (.goto 9, 3) := by decide +kernel
theorem dX2_amount_12 : decode cX2_amount 12 = .ok (.aload_n 0, 1) := by decide +kernel
theorem dX2_amount_13 : decode cX2_amount 13 = .ok (.getfield 16, 3) := by decide +kernel
theorem dX2_amount_16 : decode cX2_amount 16 = .ok (.iload_n 1, 1) := by decide +kernel
theorem dX2_amount_17 : decode cX2_amount 17 = .ok (.iaload, 1) := by decide +kernel
theorem dX2_amount_18 : decode cX2_amount 18 = .ok (.ireturn, 1) := by decide +kernel
abbrev cX2_balance : ByteArray := prog_3_method_17_code
def yX2_balance : MethodName := ⟨RX2, "balance", "(I)I"⟩
theorem dX2_balance_0 : decode cX2_balance 0 = .ok (.aload_n 0, 1) := by decide +kernel
theorem dX2_balance_1 : decode cX2_balance 1 = .ok (.iload_n 1, 1) := by decide +kernel
theorem dX2_balance_2 : decode cX2_balance 2 = .ok (.invokevirtual 33, 3) := by decide +kernel
theorem dX2_balance_5 : decode cX2_balance 5 = .ok (.ifCond .eq 9, 3) := by decide +kernel
theorem dX2_balance_8 : decode cX2_balance 8 = .ok (.sipush (-1000), 3) := by decide +kernel
theorem dX2_balance_11 : decode cX2_balance 11 = .ok (.goto 8, 3) := by decide +kernel
theorem dX2_balance_14 : decode cX2_balance 14 = .ok (.aload_n 0, 1) := by decide +kernel
theorem dX2_balance_15 : decode cX2_balance 15 = .ok (.iload_n 1, 1) := by decide +kernel
theorem dX2_balance_16 : decode cX2_balance 16 = .ok (.invokevirtual 55, 3) := by decide +kernel
theorem dX2_balance_19 : decode cX2_balance 19 = .ok (.ireturn, 1) := by decide +kernel
abbrev cX2_saldo : ByteArray := prog_3_method_16_code
def yX2_saldo : MethodName := ⟨RX2, "saldo", "(I)I"⟩
theorem dX2_saldo_0 : decode cX2_saldo 0 = .ok (.iconst 0, 1) := by decide +kernel
theorem dX2_saldo_1 : decode cX2_saldo 1 = .ok (.istore_n 2, 1) := by decide +kernel
theorem dX2_saldo_2 : decode cX2_saldo 2 = .ok (.iconst 0, 1) := by decide +kernel
theorem dX2_saldo_3 : decode cX2_saldo 3 = .ok (.istore_n 3, 1) := by decide +kernel
theorem dX2_saldo_4 : decode cX2_saldo 4 = .ok (.iload_n 3, 1) := by decide +kernel
theorem dX2_saldo_5 : decode cX2_saldo 5 = .ok (.aload_n 0, 1) := by decide +kernel
theorem dX2_saldo_6 : decode cX2_saldo 6 = .ok (.getfield 30, 3) := by decide +kernel
theorem dX2_saldo_9 : decode cX2_saldo 9 = .ok (.if_icmp .ge 53, 3) := by decide +kernel
theorem dX2_saldo_12 : decode cX2_saldo 12 = .ok (.iload_n 3, 1) := by decide +kernel
theorem dX2_saldo_13 : decode cX2_saldo 13 = .ok (.bipush 7, 2) := by decide +kernel
theorem dX2_saldo_15 : decode cX2_saldo 15 = .ok (.if_icmp .ge 47, 3) := by decide +kernel
theorem dX2_saldo_18 : decode cX2_saldo 18 = .ok (.aload_n 0, 1) := by decide +kernel
theorem dX2_saldo_19 : decode cX2_saldo 19 = .ok (.getfield 13, 3) := by decide +kernel
theorem dX2_saldo_22 : decode cX2_saldo 22 = .ok (.iload_n 3, 1) := by decide +kernel
theorem dX2_saldo_23 : decode cX2_saldo 23 = .ok (.iaload, 1) := by decide +kernel
theorem dX2_saldo_24 : decode cX2_saldo 24 = .ok (.iload_n 1, 1) := by decide +kernel
theorem dX2_saldo_25 : decode cX2_saldo 25 = .ok (.if_icmp .ne 12, 3) := by decide +kernel
theorem dX2_saldo_28 : decode cX2_saldo 28 = .ok (.iload_n 2, 1) := by decide +kernel
theorem dX2_saldo_29 : decode cX2_saldo 29 = .ok (.aload_n 0, 1) := by decide +kernel
theorem dX2_saldo_30 : decode cX2_saldo 30 = .ok (.getfield 16, 3) := by decide +kernel
theorem dX2_saldo_33 : decode cX2_saldo 33 = .ok (.iload_n 3, 1) := by decide +kernel
theorem dX2_saldo_34 : decode cX2_saldo 34 = .ok (.iaload, 1) := by decide +kernel
theorem dX2_saldo_35 : decode cX2_saldo 35 = .ok (.iadd, 1) := by decide +kernel
theorem dX2_saldo_36 : decode cX2_saldo 36 = .ok (.istore_n 2, 1) := by decide +kernel
theorem dX2_saldo_37 : decode cX2_saldo 37 = .ok (.aload_n 0, 1) := by decide +kernel
theorem dX2_saldo_38 : decode cX2_saldo 38 = .ok (.getfield 7, 3) := by decide +kernel
theorem dX2_saldo_41 : decode cX2_saldo 41 = .ok (.iload_n 3, 1) := by decide +kernel
theorem dX2_saldo_42 : decode cX2_saldo 42 = .ok (.iaload, 1) := by decide +kernel
theorem dX2_saldo_43 : decode cX2_saldo 43 = .ok (.iload_n 1, 1) := by decide +kernel
theorem dX2_saldo_44 : decode cX2_saldo 44 = .ok (.if_icmp .ne 12, 3) := by decide +kernel
theorem dX2_saldo_47 : decode cX2_saldo 47 = .ok (.iload_n 2, 1) := by decide +kernel
theorem dX2_saldo_48 : decode cX2_saldo 48 = .ok (.aload_n 0, 1) := by decide +kernel
theorem dX2_saldo_49 : decode cX2_saldo 49 = .ok (.getfield 16, 3) := by decide +kernel
theorem dX2_saldo_52 : decode cX2_saldo 52 = .ok (.iload_n 3, 1) := by decide +kernel
theorem dX2_saldo_53 : decode cX2_saldo 53 = .ok (.iaload, 1) := by decide +kernel
theorem dX2_saldo_54 : decode cX2_saldo 54 = .ok (.isub, 1) := by decide +kernel
theorem dX2_saldo_55 : decode cX2_saldo 55 = .ok (.istore_n 2, 1) := by decide +kernel
theorem dX2_saldo_56 : decode cX2_saldo 56 = .ok (.iinc 3 1, 3) := by decide +kernel
theorem dX2_saldo_59 : decode cX2_saldo 59 = .ok (.goto (-55), 3) := by decide +kernel
theorem dX2_saldo_62 : decode cX2_saldo 62 = .ok (.iload_n 2, 1) := by decide +kernel
theorem dX2_saldo_63 : decode cX2_saldo 63 = .ok (.ireturn, 1) := by decide +kernel
abbrev cX2_outstanding : ByteArray := prog_3_method_18_code
def yX2_outstanding : MethodName := ⟨RX2, "outstanding", "()I"⟩
theorem dX2_outstanding_0 : decode cX2_outstanding 0 = .ok (.iconst 0, 1) := by decide +kernel
theorem dX2_outstanding_1 : decode cX2_outstanding 1 = .ok (.istore_n 1, 1) := by decide +kernel
theorem dX2_outstanding_2 : decode cX2_outstanding 2 = .ok (.iconst 0, 1) := by decide +kernel
theorem dX2_outstanding_3 : decode cX2_outstanding 3 = .ok (.istore_n 2, 1) := by decide +kernel
theorem dX2_outstanding_4 : decode cX2_outstanding 4 = .ok (.iload_n 2, 1) := by decide +kernel
theorem dX2_outstanding_5 : decode cX2_outstanding 5 = .ok (.aload_n 0, 1) := by decide +kernel
theorem dX2_outstanding_6 : decode cX2_outstanding 6 = .ok (.getfield 30, 3) := by decide +kernel
theorem dX2_outstanding_9 : decode cX2_outstanding 9 = .ok (.if_icmp .ge 24, 3) := by decide +kernel
theorem dX2_outstanding_12 : decode cX2_outstanding 12 = .ok (.iload_n 2, 1) := by decide +kernel
theorem dX2_outstanding_13 : decode cX2_outstanding 13 = .ok (.bipush 7, 2) := by decide +kernel
theorem dX2_outstanding_15 : decode cX2_outstanding 15 = .ok (.if_icmp .ge 18, 3) := by decide +kernel
theorem dX2_outstanding_18 : decode cX2_outstanding 18 = .ok (.iload_n 1, 1) := by decide +kernel
theorem dX2_outstanding_19 : decode cX2_outstanding 19 = .ok (.aload_n 0, 1) := by decide +kernel
theorem dX2_outstanding_20 : decode cX2_outstanding 20 = .ok (.getfield 16, 3) := by decide +kernel
theorem dX2_outstanding_23 : decode cX2_outstanding 23 = .ok (.iload_n 2, 1) := by decide +kernel
theorem dX2_outstanding_24 : decode cX2_outstanding 24 = .ok (.iaload, 1) := by decide +kernel
theorem dX2_outstanding_25 : decode cX2_outstanding 25 = .ok (.iadd, 1) := by decide +kernel
theorem dX2_outstanding_26 : decode cX2_outstanding 26 = .ok (.istore_n 1, 1) := by decide +kernel
theorem dX2_outstanding_27 : decode cX2_outstanding 27 = .ok (.iinc 2 1, 3) := by decide +kernel
theorem dX2_outstanding_30 : decode cX2_outstanding 30 = .ok (.goto (-26), 3) := by decide +kernel
theorem dX2_outstanding_33 : decode cX2_outstanding 33 = .ok (.iload_n 1, 1) := by decide +kernel
theorem dX2_outstanding_34 : decode cX2_outstanding 34 = .ok (.ireturn, 1) := by decide +kernel
abbrev cX2_best : ByteArray := prog_3_method_20_code
def yX2_best : MethodName := ⟨RX2, "best", "()I"⟩
theorem dX2_best_0 : decode cX2_best 0 = .ok (.aload_n 0, 1) := by decide +kernel
theorem dX2_best_1 : decode cX2_best 1 = .ok (.invokevirtual 58, 3) := by decide +kernel
theorem dX2_best_4 : decode cX2_best 4 = .ok (.ireturn, 1) := by decide +kernel
abbrev cX2_greatest : ByteArray := prog_3_method_19_code
def yX2_greatest : MethodName := ⟨RX2, "greatest", "()I"⟩
theorem dX2_greatest_0 : decode cX2_greatest 0 = .ok (.aload_n 0, 1) := by decide +kernel
theorem dX2_greatest_1 : decode cX2_greatest 1 = .ok (.invokevirtual 48, 3) := by decide +kernel
theorem dX2_greatest_4 : decode cX2_greatest 4 = .ok (.istore_n 1, 1) := by decide +kernel
theorem dX2_greatest_5 : decode cX2_greatest 5 = .ok (.aload_n 0, 1) := by decide +kernel
theorem dX2_greatest_6 : decode cX2_greatest 6 = .ok (.iload_n 1, 1) := by decide +kernel
theorem dX2_greatest_7 : decode cX2_greatest 7 = .ok (.invokevirtual 44, 3) := by decide +kernel
theorem dX2_greatest_10 : decode cX2_greatest 10 = .ok (.ireturn, 1) := by decide +kernel
abbrev cX2_bestCode : ByteArray := prog_3_method_21_code
def yX2_bestCode : MethodName := ⟨RX2, "bestCode", "()I"⟩
theorem dX2_bestCode_0 : decode cX2_bestCode 0 = .ok (.aload_n 0, 1) := by decide +kernel
theorem dX2_bestCode_1 : decode cX2_bestCode 1 = .ok (.invokevirtual 48, 3) := by decide +kernel
theorem dX2_bestCode_4 : decode cX2_bestCode 4 = .ok (.ireturn, 1) := by decide +kernel
abbrev cX2_isClearing : ByteArray := prog_3_method_22_code
def yX2_isClearing : MethodName := ⟨RX2, "isClearing", "(I)I"⟩
theorem dX2_isClearing_0 : decode cX2_isClearing 0 = .ok (.aload_n 0, 1) := by decide +kernel
theorem dX2_isClearing_1 : decode cX2_isClearing 1 = .ok (.iload_n 1, 1) := by decide +kernel
theorem dX2_isClearing_2 : decode cX2_isClearing 2 = .ok (.invokevirtual 44, 3) := by decide +kernel
theorem dX2_isClearing_5 : decode cX2_isClearing 5 = .ok (.ifCond .ge 7, 3) := by decide +kernel
theorem dX2_isClearing_8 : decode cX2_isClearing 8 = .ok (.iconst 0, 1) := by decide +kernel
theorem dX2_isClearing_9 : decode cX2_isClearing 9 = .ok (.goto 4, 3) := by decide +kernel
theorem dX2_isClearing_12 : decode cX2_isClearing 12 = .ok (.iconst 1, 1) := by decide +kernel
theorem dX2_isClearing_13 : decode cX2_isClearing 13 = .ok (.ireturn, 1) := by decide +kernel
abbrev cX2_weight : ByteArray := prog_3_method_23_code
def yX2_weight : MethodName := ⟨RX2, "weight", "(I)I"⟩
theorem dX2_weight_0 : decode cX2_weight 0 = .ok (.aload_n 0, 1) := by decide +kernel
theorem dX2_weight_1 : decode cX2_weight 1 = .ok (.iload_n 1, 1) := by decide +kernel
theorem dX2_weight_2 : decode cX2_weight 2 = .ok (.invokevirtual 33, 3) := by decide +kernel
theorem dX2_weight_5 : decode cX2_weight 5 = .ok (.ifCond .eq 5, 3) := by decide +kernel
theorem dX2_weight_8 : decode cX2_weight 8 = .ok (.iconst (-1), 1) := by decide +kernel
theorem dX2_weight_9 : decode cX2_weight 9 = .ok (.ireturn, 1) := by decide +kernel
theorem dX2_weight_10 : decode cX2_weight 10 = .ok (.aload_n 0, 1) := by decide +kernel
theorem dX2_weight_11 : decode cX2_weight 11 = .ok (.invokevirtual 58, 3) := by decide +kernel
theorem dX2_weight_14 : decode cX2_weight 14 = .ok (.istore_n 2, 1) := by decide +kernel
theorem dX2_weight_15 : decode cX2_weight 15 = .ok (.aload_n 0, 1) := by decide +kernel
theorem dX2_weight_16 : decode cX2_weight 16 = .ok (.getfield 19, 3) := by decide +kernel
theorem dX2_weight_19 : decode cX2_weight 19 = .ok (.iload_n 1, 1) := by decide +kernel
theorem dX2_weight_20 : decode cX2_weight 20 = .ok (.baload, 1) := by decide +kernel
theorem dX2_weight_21 : decode cX2_weight 21 = .ok (.istore_n 3, 1) := by decide +kernel
theorem dX2_weight_22 : decode cX2_weight 22 = .ok (.aload_n 0, 1) := by decide +kernel
theorem dX2_weight_23 : decode cX2_weight 23 = .ok (.getfield 19, 3) := by decide +kernel
theorem dX2_weight_26 : decode cX2_weight 26 = .ok (.iload_n 1, 1) := by decide +kernel
theorem dX2_weight_27 : decode cX2_weight 27 = .ok (.iconst 1, 1) := by decide +kernel
theorem dX2_weight_28 : decode cX2_weight 28 = .ok (.bastore, 1) := by decide +kernel
theorem dX2_weight_29 : decode cX2_weight 29 = .ok (.aload_n 0, 1) := by decide +kernel
theorem dX2_weight_30 : decode cX2_weight 30 = .ok (.invokevirtual 58, 3) := by decide +kernel
theorem dX2_weight_33 : decode cX2_weight 33 = .ok (.istore 4, 2) := by decide +kernel
theorem dX2_weight_35 : decode cX2_weight 35 = .ok (.aload_n 0, 1) := by decide +kernel
theorem dX2_weight_36 : decode cX2_weight 36 = .ok (.getfield 19, 3) := by decide +kernel
theorem dX2_weight_39 : decode cX2_weight 39 = .ok (.iload_n 1, 1) := by decide +kernel
theorem dX2_weight_40 : decode cX2_weight 40 = .ok (.iload_n 3, 1) := by decide +kernel
theorem dX2_weight_41 : decode cX2_weight 41 = .ok (.bastore, 1) := by decide +kernel
theorem dX2_weight_42 : decode cX2_weight 42 = .ok (.iload_n 2, 1) := by decide +kernel
theorem dX2_weight_43 : decode cX2_weight 43 = .ok (.iload 4, 2) := by decide +kernel
theorem dX2_weight_45 : decode cX2_weight 45 = .ok (.isub, 1) := by decide +kernel
theorem dX2_weight_46 : decode cX2_weight 46 = .ok (.ireturn, 1) := by decide +kernel
abbrev cX2_most : ByteArray := prog_3_method_24_code
def yX2_most : MethodName := ⟨RX2, "most", "(I)I"⟩
theorem dX2_most_0 : decode cX2_most 0 = .ok (.aload_n 0, 1) := by decide +kernel
theorem dX2_most_1 : decode cX2_most 1 = .ok (.iload_n 1, 1) := by decide +kernel
theorem dX2_most_2 : decode cX2_most 2 = .ok (.invokevirtual 37, 3) := by decide +kernel
theorem dX2_most_5 : decode cX2_most 5 = .ok (.ifCond .eq 5, 3) := by decide +kernel
theorem dX2_most_8 : decode cX2_most 8 = .ok (.iconst (-1), 1) := by decide +kernel
theorem dX2_most_9 : decode cX2_most 9 = .ok (.ireturn, 1) := by decide +kernel
theorem dX2_most_10 : decode cX2_most 10 = .ok (.iconst 0, 1) := by decide +kernel
theorem dX2_most_11 : decode cX2_most 11 = .ok (.istore_n 2, 1) := by decide +kernel
theorem dX2_most_12 : decode cX2_most 12 = .ok (.iconst 0, 1) := by decide +kernel
theorem dX2_most_13 : decode cX2_most 13 = .ok (.istore_n 3, 1) := by decide +kernel
theorem dX2_most_14 : decode cX2_most 14 = .ok (.iload_n 3, 1) := by decide +kernel
theorem dX2_most_15 : decode cX2_most 15 = .ok (.iconst 1, 1) := by decide +kernel
theorem dX2_most_16 : decode cX2_most 16 = .ok (.iconst 2, 1) := by decide +kernel
theorem dX2_most_17 : decode cX2_most 17 = .ok (.aload_n 0, 1) := by decide +kernel
theorem dX2_most_18 : decode cX2_most 18 = .ok (.getfield 30, 3) := by decide +kernel
theorem dX2_most_21 : decode cX2_most 21 = .ok (.imul, 1) := by decide +kernel
theorem dX2_most_22 : decode cX2_most 22 = .ok (.ishl, 1) := by decide +kernel
theorem dX2_most_23 : decode cX2_most 23 = .ok (.if_icmp .ge 34, 3) := by decide +kernel
theorem dX2_most_26 : decode cX2_most 26 = .ok (.aload_n 0, 1) := by decide +kernel
theorem dX2_most_27 : decode cX2_most 27 = .ok (.iload_n 3, 1) := by decide +kernel
theorem dX2_most_28 : decode cX2_most 28 = .ok (.iload_n 1, 1) := by decide +kernel
theorem dX2_most_29 : decode cX2_most 29 = .ok (.invokevirtual 40, 3) := by decide +kernel
theorem dX2_most_32 : decode cX2_most 32 = .ok (.istore 4, 2) := by decide +kernel
theorem dX2_most_34 : decode cX2_most 34 = .ok (.iload 4, 2) := by decide +kernel
theorem dX2_most_36 : decode cX2_most 36 = .ok (.iload_n 2, 1) := by decide +kernel
theorem dX2_most_37 : decode cX2_most 37 = .ok (.if_icmp .le 14, 3) := by decide +kernel
theorem dX2_most_40 : decode cX2_most 40 = .ok (.aload_n 0, 1) := by decide +kernel
theorem dX2_most_41 : decode cX2_most 41 = .ok (.iload_n 3, 1) := by decide +kernel
theorem dX2_most_42 : decode cX2_most 42 = .ok (.invokevirtual 44, 3) := by decide +kernel
theorem dX2_most_45 : decode cX2_most 45 = .ok (.ifCond .lt 6, 3) := by decide +kernel
theorem dX2_most_48 : decode cX2_most 48 = .ok (.iload 4, 2) := by decide +kernel
theorem dX2_most_50 : decode cX2_most 50 = .ok (.istore_n 2, 1) := by decide +kernel
theorem dX2_most_51 : decode cX2_most 51 = .ok (.iinc 3 1, 3) := by decide +kernel
theorem dX2_most_54 : decode cX2_most 54 = .ok (.goto (-40), 3) := by decide +kernel
theorem dX2_most_57 : decode cX2_most 57 = .ok (.iload_n 2, 1) := by decide +kernel
theorem dX2_most_58 : decode cX2_most 58 = .ok (.ireturn, 1) := by decide +kernel
abbrev cX2_possible : ByteArray := prog_3_method_25_code
def yX2_possible : MethodName := ⟨RX2, "possible", "()I"⟩
theorem dX2_possible_0 : decode cX2_possible 0 = .ok (.aload_n 0, 1) := by decide +kernel
theorem dX2_possible_1 : decode cX2_possible 1 = .ok (.invokevirtual 58, 3) := by decide +kernel
theorem dX2_possible_4 : decode cX2_possible 4 = .ok (.ifCond .le 7, 3) := by decide +kernel
theorem dX2_possible_7 : decode cX2_possible 7 = .ok (.iconst 1, 1) := by decide +kernel
theorem dX2_possible_8 : decode cX2_possible 8 = .ok (.goto 4, 3) := by decide +kernel
theorem dX2_possible_11 : decode cX2_possible 11 = .ok (.iconst 0, 1) := by decide +kernel
theorem dX2_possible_12 : decode cX2_possible 12 = .ok (.ireturn, 1) := by decide +kernel
abbrev cX2_least : ByteArray := prog_3_method_26_code
def yX2_least : MethodName := ⟨RX2, "least", "()I"⟩
theorem dX2_least_0 : decode cX2_least 0 = .ok (.iconst 0, 1) := by decide +kernel
theorem dX2_least_1 : decode cX2_least 1 = .ok (.istore_n 1, 1) := by decide +kernel
theorem dX2_least_2 : decode cX2_least 2 = .ok (.iconst 0, 1) := by decide +kernel
theorem dX2_least_3 : decode cX2_least 3 = .ok (.istore_n 2, 1) := by decide +kernel
theorem dX2_least_4 : decode cX2_least 4 = .ok (.iload_n 2, 1) := by decide +kernel
theorem dX2_least_5 : decode cX2_least 5 = .ok (.aload_n 0, 1) := by decide +kernel
theorem dX2_least_6 : decode cX2_least 6 = .ok (.getfield 26, 3) := by decide +kernel
theorem dX2_least_9 : decode cX2_least 9 = .ok (.if_icmp .ge 23, 3) := by decide +kernel
theorem dX2_least_12 : decode cX2_least 12 = .ok (.aload_n 0, 1) := by decide +kernel
theorem dX2_least_13 : decode cX2_least 13 = .ok (.iload_n 2, 1) := by decide +kernel
theorem dX2_least_14 : decode cX2_least 14 = .ok (.invokevirtual 55, 3) := by decide +kernel
theorem dX2_least_17 : decode cX2_least 17 = .ok (.istore_n 3, 1) := by decide +kernel
theorem dX2_least_18 : decode cX2_least 18 = .ok (.iload_n 3, 1) := by decide +kernel
theorem dX2_least_19 : decode cX2_least 19 = .ok (.ifCond .le 7, 3) := by decide +kernel
theorem dX2_least_22 : decode cX2_least 22 = .ok (.iload_n 1, 1) := by decide +kernel
theorem dX2_least_23 : decode cX2_least 23 = .ok (.iload_n 3, 1) := by decide +kernel
theorem dX2_least_24 : decode cX2_least 24 = .ok (.iadd, 1) := by decide +kernel
theorem dX2_least_25 : decode cX2_least 25 = .ok (.istore_n 1, 1) := by decide +kernel
theorem dX2_least_26 : decode cX2_least 26 = .ok (.iinc 2 1, 3) := by decide +kernel
theorem dX2_least_29 : decode cX2_least 29 = .ok (.goto (-25), 3) := by decide +kernel
theorem dX2_least_32 : decode cX2_least 32 = .ok (.iload_n 1, 1) := by decide +kernel
theorem dX2_least_33 : decode cX2_least 33 = .ok (.ireturn, 1) := by decide +kernel
theorem q24 : (Jvm.Cond.initialized "ObligationNettingModel") ∈ lw_all := lw_g (lw_at lw_m1 2 rfl) rfl
theorem q199 : (Jvm.Cond.instantiable "ObligationNettingModel" (7 : Nat)) ∈ lw_all := lw_g (lw_at lw_m1 177 rfl) rfl
theorem q201 : (Jvm.Cond.instanceMethod ({ cls := "ObligationNettingModel", name := "<init>", desc := "(I)V" } : Jvm.MethodName)) ∈ lw_all := lw_g (lw_at lw_m1 179 rfl) rfl
theorem q202 : (Jvm.Cond.code ({ cls := "ObligationNettingModel", name := "<init>", desc := "(I)V" } : Jvm.MethodName) prog_3_method_1_code (2 : Nat) (Option.none : Option Jvm.ClassFile.FieldType)) ∈ lw_all := lw_g (lw_at lw_m1 180 rfl) rfl
theorem q203 : (Jvm.Cond.methodLink "ObligationNettingModel" (1 : Nat) ({ cls := "java/lang/Object", name := "<init>", desc := "()V" } : Jvm.MethodName)) ∈ lw_all := lw_g (lw_at lw_m1 181 rfl) rfl
theorem q204 : (Jvm.Cond.fieldLink "ObligationNettingModel" (26 : Nat) "ObligationNettingModel" "n" "I") ∈ lw_all := lw_g (lw_at lw_m1 182 rfl) rfl
theorem q205 : (Jvm.Cond.fieldLink "ObligationNettingModel" (30 : Nat) "ObligationNettingModel" "count" "I") ∈ lw_all := lw_g (lw_at lw_m1 183 rfl) rfl
theorem q206 : (Jvm.Cond.fieldLink "ObligationNettingModel" (7 : Nat) "ObligationNettingModel" "debtor" "[I") ∈ lw_all := lw_g (lw_at lw_m1 184 rfl) rfl
theorem q207 : (Jvm.Cond.fieldLink "ObligationNettingModel" (13 : Nat) "ObligationNettingModel" "creditor" "[I") ∈ lw_all := lw_g (lw_at lw_m1 185 rfl) rfl
theorem q208 : (Jvm.Cond.fieldLink "ObligationNettingModel" (16 : Nat) "ObligationNettingModel" "owed" "[I") ∈ lw_all := lw_g (lw_at lw_m1 186 rfl) rfl
theorem q209 : (Jvm.Cond.fieldLink "ObligationNettingModel" (19 : Nat) "ObligationNettingModel" "out" "[Z") ∈ lw_all := lw_g (lw_at lw_m1 187 rfl) rfl
theorem q210 : (Jvm.Cond.fieldLink "ObligationNettingModel" (23 : Nat) "ObligationNettingModel" "net" "[I") ∈ lw_all := lw_g (lw_at lw_m1 188 rfl) rfl
theorem q211 : (Jvm.Cond.lays "ObligationNettingModel" "ObligationNettingModel" "n" "I") ∈ lw_all := lw_g (lw_at lw_m1 189 rfl) rfl
theorem q212 : (Jvm.Cond.soleField "ObligationNettingModel" "n") ∈ lw_all := lw_g (lw_at lw_m1 190 rfl) rfl
theorem q213 : (Jvm.Cond.lays "ObligationNettingModel" "ObligationNettingModel" "count" "I") ∈ lw_all := lw_g (lw_at lw_m1 191 rfl) rfl
theorem q214 : (Jvm.Cond.soleField "ObligationNettingModel" "count") ∈ lw_all := lw_g (lw_at lw_m1 192 rfl) rfl
theorem q215 : (Jvm.Cond.lays "ObligationNettingModel" "ObligationNettingModel" "debtor" "[I") ∈ lw_all := lw_g (lw_at lw_m1 193 rfl) rfl
theorem q216 : (Jvm.Cond.soleField "ObligationNettingModel" "debtor") ∈ lw_all := lw_g (lw_at lw_m1 194 rfl) rfl
theorem q217 : (Jvm.Cond.lays "ObligationNettingModel" "ObligationNettingModel" "creditor" "[I") ∈ lw_all := lw_g (lw_at lw_m1 195 rfl) rfl
theorem q218 : (Jvm.Cond.soleField "ObligationNettingModel" "creditor") ∈ lw_all := lw_g (lw_at lw_m1 196 rfl) rfl
theorem q219 : (Jvm.Cond.lays "ObligationNettingModel" "ObligationNettingModel" "owed" "[I") ∈ lw_all := lw_g (lw_at lw_m1 197 rfl) rfl
theorem q220 : (Jvm.Cond.soleField "ObligationNettingModel" "owed") ∈ lw_all := lw_g (lw_at lw_m1 198 rfl) rfl
theorem q221 : (Jvm.Cond.lays "ObligationNettingModel" "ObligationNettingModel" "out" "[Z") ∈ lw_all := lw_g (lw_at lw_m1 199 rfl) rfl
theorem q222 : (Jvm.Cond.soleField "ObligationNettingModel" "out") ∈ lw_all := lw_g (lw_at lw_m1 200 rfl) rfl
theorem q223 : (Jvm.Cond.lays "ObligationNettingModel" "ObligationNettingModel" "net" "[I") ∈ lw_all := lw_g (lw_at lw_m1 201 rfl) rfl
theorem q224 : (Jvm.Cond.soleField "ObligationNettingModel" "net") ∈ lw_all := lw_g (lw_at lw_m1 202 rfl) rfl
theorem q225 : (Jvm.Cond.superclass "ObligationNettingModel" "java/lang/Object") ∈ lw_all := lw_g (lw_at lw_m1 203 rfl) rfl
theorem q227 : (Jvm.Cond.instanceMethod ({ cls := "ObligationNettingModel", name := "owe", desc := "(III)I" } : Jvm.MethodName)) ∈ lw_all := lw_g (lw_at lw_m1 205 rfl) rfl
theorem q228 : (Jvm.Cond.selects "ObligationNettingModel" ({ cls := "ObligationNettingModel", name := "owe", desc := "(III)I" } : Jvm.MethodName) ({ cls := "ObligationNettingModel", name := "owe", desc := "(III)I" } : Jvm.MethodName)) ∈ lw_all := lw_g (lw_at lw_m1 206 rfl) rfl
theorem q229 : (Jvm.Cond.code ({ cls := "ObligationNettingModel", name := "owe", desc := "(III)I" } : Jvm.MethodName) prog_3_method_4_code (5 : Nat) (Option.some Jvm.ClassFile.FieldType.int)) ∈ lw_all := lw_g (lw_at lw_m1 207 rfl) rfl
theorem q230 : (Jvm.Cond.methodLink "ObligationNettingModel" (33 : Nat) ({ cls := "ObligationNettingModel", name := "badFirm", desc := "(I)Z" } : Jvm.MethodName)) ∈ lw_all := lw_g (lw_at lw_m1 208 rfl) rfl
theorem q231 : (Jvm.Cond.privateMethod ({ cls := "ObligationNettingModel", name := "badFirm", desc := "(I)Z" } : Jvm.MethodName)) ∈ lw_tbl := lw_at lw_m1 209 rfl
theorem q232 : (Jvm.Cond.instanceMethod ({ cls := "ObligationNettingModel", name := "badFirm", desc := "(I)Z" } : Jvm.MethodName)) ∈ lw_all := lw_g (lw_at lw_m1 210 rfl) rfl
theorem q233 : (Jvm.Cond.code ({ cls := "ObligationNettingModel", name := "badFirm", desc := "(I)Z" } : Jvm.MethodName) prog_3_method_2_code (2 : Nat) (Option.some Jvm.ClassFile.FieldType.boolean)) ∈ lw_all := lw_g (lw_at lw_m1 211 rfl) rfl
theorem q235 : (Jvm.Cond.instanceMethod ({ cls := "ObligationNettingModel", name := "change", desc := "(II)I" } : Jvm.MethodName)) ∈ lw_all := lw_g (lw_at lw_m1 213 rfl) rfl
theorem q236 : (Jvm.Cond.selects "ObligationNettingModel" ({ cls := "ObligationNettingModel", name := "change", desc := "(II)I" } : Jvm.MethodName) ({ cls := "ObligationNettingModel", name := "change", desc := "(II)I" } : Jvm.MethodName)) ∈ lw_all := lw_g (lw_at lw_m1 214 rfl) rfl
theorem q237 : (Jvm.Cond.code ({ cls := "ObligationNettingModel", name := "change", desc := "(II)I" } : Jvm.MethodName) prog_3_method_5_code (4 : Nat) (Option.some Jvm.ClassFile.FieldType.int)) ∈ lw_all := lw_g (lw_at lw_m1 215 rfl) rfl
theorem q238 : (Jvm.Cond.methodLink "ObligationNettingModel" (37 : Nat) ({ cls := "ObligationNettingModel", name := "bad", desc := "(I)Z" } : Jvm.MethodName)) ∈ lw_all := lw_g (lw_at lw_m1 216 rfl) rfl
theorem q239 : (Jvm.Cond.privateMethod ({ cls := "ObligationNettingModel", name := "bad", desc := "(I)Z" } : Jvm.MethodName)) ∈ lw_tbl := lw_at lw_m1 217 rfl
theorem q240 : (Jvm.Cond.instanceMethod ({ cls := "ObligationNettingModel", name := "bad", desc := "(I)Z" } : Jvm.MethodName)) ∈ lw_all := lw_g (lw_at lw_m1 218 rfl) rfl
theorem q241 : (Jvm.Cond.code ({ cls := "ObligationNettingModel", name := "bad", desc := "(I)Z" } : Jvm.MethodName) prog_3_method_3_code (2 : Nat) (Option.some Jvm.ClassFile.FieldType.boolean)) ∈ lw_all := lw_g (lw_at lw_m1 219 rfl) rfl
theorem q243 : (Jvm.Cond.instanceMethod ({ cls := "ObligationNettingModel", name := "pay", desc := "(I)I" } : Jvm.MethodName)) ∈ lw_all := lw_g (lw_at lw_m1 221 rfl) rfl
theorem q244 : (Jvm.Cond.selects "ObligationNettingModel" ({ cls := "ObligationNettingModel", name := "pay", desc := "(I)I" } : Jvm.MethodName) ({ cls := "ObligationNettingModel", name := "pay", desc := "(I)I" } : Jvm.MethodName)) ∈ lw_all := lw_g (lw_at lw_m1 222 rfl) rfl
theorem q245 : (Jvm.Cond.code ({ cls := "ObligationNettingModel", name := "pay", desc := "(I)I" } : Jvm.MethodName) prog_3_method_6_code (3 : Nat) (Option.some Jvm.ClassFile.FieldType.int)) ∈ lw_all := lw_g (lw_at lw_m1 223 rfl) rfl
theorem q247 : (Jvm.Cond.instanceMethod ({ cls := "ObligationNettingModel", name := "exclude", desc := "(II)I" } : Jvm.MethodName)) ∈ lw_all := lw_g (lw_at lw_m1 225 rfl) rfl
theorem q248 : (Jvm.Cond.selects "ObligationNettingModel" ({ cls := "ObligationNettingModel", name := "exclude", desc := "(II)I" } : Jvm.MethodName) ({ cls := "ObligationNettingModel", name := "exclude", desc := "(II)I" } : Jvm.MethodName)) ∈ lw_all := lw_g (lw_at lw_m1 226 rfl) rfl
theorem q249 : (Jvm.Cond.code ({ cls := "ObligationNettingModel", name := "exclude", desc := "(II)I" } : Jvm.MethodName) prog_3_method_7_code (4 : Nat) (Option.some Jvm.ClassFile.FieldType.int)) ∈ lw_all := lw_g (lw_at lw_m1 227 rfl) rfl
theorem q251 : (Jvm.Cond.instanceMethod ({ cls := "ObligationNettingModel", name := "clear", desc := "()I" } : Jvm.MethodName)) ∈ lw_all := lw_g (lw_at lw_m1 229 rfl) rfl
theorem q252 : (Jvm.Cond.selects "ObligationNettingModel" ({ cls := "ObligationNettingModel", name := "clear", desc := "()I" } : Jvm.MethodName) ({ cls := "ObligationNettingModel", name := "clear", desc := "()I" } : Jvm.MethodName)) ∈ lw_all := lw_g (lw_at lw_m1 230 rfl) rfl
theorem q253 : (Jvm.Cond.code ({ cls := "ObligationNettingModel", name := "clear", desc := "()I" } : Jvm.MethodName) prog_3_method_12_code (2 : Nat) (Option.some Jvm.ClassFile.FieldType.int)) ∈ lw_all := lw_g (lw_at lw_m1 231 rfl) rfl
theorem q254 : (Jvm.Cond.methodLink "ObligationNettingModel" (48 : Nat) ({ cls := "ObligationNettingModel", name := "search", desc := "()I" } : Jvm.MethodName)) ∈ lw_all := lw_g (lw_at lw_m1 232 rfl) rfl
theorem q255 : (Jvm.Cond.privateMethod ({ cls := "ObligationNettingModel", name := "search", desc := "()I" } : Jvm.MethodName)) ∈ lw_tbl := lw_at lw_m1 233 rfl
theorem q256 : (Jvm.Cond.instanceMethod ({ cls := "ObligationNettingModel", name := "search", desc := "()I" } : Jvm.MethodName)) ∈ lw_all := lw_g (lw_at lw_m1 234 rfl) rfl
theorem q257 : (Jvm.Cond.code ({ cls := "ObligationNettingModel", name := "search", desc := "()I" } : Jvm.MethodName) prog_3_method_10_code (5 : Nat) (Option.some Jvm.ClassFile.FieldType.int)) ∈ lw_all := lw_g (lw_at lw_m1 235 rfl) rfl
theorem q258 : (Jvm.Cond.methodLink "ObligationNettingModel" (44 : Nat) ({ cls := "ObligationNettingModel", name := "total", desc := "(I)I" } : Jvm.MethodName)) ∈ lw_all := lw_g (lw_at lw_m1 236 rfl) rfl
theorem q259 : (Jvm.Cond.privateMethod ({ cls := "ObligationNettingModel", name := "total", desc := "(I)I" } : Jvm.MethodName)) ∈ lw_tbl := lw_at lw_m1 237 rfl
theorem q260 : (Jvm.Cond.instanceMethod ({ cls := "ObligationNettingModel", name := "total", desc := "(I)I" } : Jvm.MethodName)) ∈ lw_all := lw_g (lw_at lw_m1 238 rfl) rfl
theorem q261 : (Jvm.Cond.code ({ cls := "ObligationNettingModel", name := "total", desc := "(I)I" } : Jvm.MethodName) prog_3_method_9_code (5 : Nat) (Option.some Jvm.ClassFile.FieldType.int)) ∈ lw_all := lw_g (lw_at lw_m1 239 rfl) rfl
theorem q262 : (Jvm.Cond.methodLink "ObligationNettingModel" (40 : Nat) ({ cls := "ObligationNettingModel", name := "digit", desc := "(II)I" } : Jvm.MethodName)) ∈ lw_all := lw_g (lw_at lw_m2 0 rfl) rfl
theorem q263 : (Jvm.Cond.privateMethod ({ cls := "ObligationNettingModel", name := "digit", desc := "(II)I" } : Jvm.MethodName)) ∈ lw_tbl := lw_at lw_m2 1 rfl
theorem q264 : (Jvm.Cond.instanceMethod ({ cls := "ObligationNettingModel", name := "digit", desc := "(II)I" } : Jvm.MethodName)) ∈ lw_all := lw_g (lw_at lw_m2 2 rfl) rfl
theorem q265 : (Jvm.Cond.code ({ cls := "ObligationNettingModel", name := "digit", desc := "(II)I" } : Jvm.MethodName) prog_3_method_8_code (4 : Nat) (Option.some Jvm.ClassFile.FieldType.int)) ∈ lw_all := lw_g (lw_at lw_m2 3 rfl) rfl
theorem q266 : (Jvm.Cond.methodLink "ObligationNettingModel" (52 : Nat) ({ cls := "ObligationNettingModel", name := "perform", desc := "(I)I" } : Jvm.MethodName)) ∈ lw_all := lw_g (lw_at lw_m2 4 rfl) rfl
theorem q267 : (Jvm.Cond.privateMethod ({ cls := "ObligationNettingModel", name := "perform", desc := "(I)I" } : Jvm.MethodName)) ∈ lw_tbl := lw_at lw_m2 5 rfl
theorem q268 : (Jvm.Cond.instanceMethod ({ cls := "ObligationNettingModel", name := "perform", desc := "(I)I" } : Jvm.MethodName)) ∈ lw_all := lw_g (lw_at lw_m2 6 rfl) rfl
theorem q269 : (Jvm.Cond.code ({ cls := "ObligationNettingModel", name := "perform", desc := "(I)I" } : Jvm.MethodName) prog_3_method_11_code (4 : Nat) (Option.some Jvm.ClassFile.FieldType.int)) ∈ lw_all := lw_g (lw_at lw_m2 7 rfl) rfl
theorem q271 : (Jvm.Cond.instanceMethod ({ cls := "ObligationNettingModel", name := "carryOut", desc := "(I)I" } : Jvm.MethodName)) ∈ lw_all := lw_g (lw_at lw_m2 9 rfl) rfl
theorem q272 : (Jvm.Cond.selects "ObligationNettingModel" ({ cls := "ObligationNettingModel", name := "carryOut", desc := "(I)I" } : Jvm.MethodName) ({ cls := "ObligationNettingModel", name := "carryOut", desc := "(I)I" } : Jvm.MethodName)) ∈ lw_all := lw_g (lw_at lw_m2 10 rfl) rfl
theorem q273 : (Jvm.Cond.code ({ cls := "ObligationNettingModel", name := "carryOut", desc := "(I)I" } : Jvm.MethodName) prog_3_method_13_code (2 : Nat) (Option.some Jvm.ClassFile.FieldType.int)) ∈ lw_all := lw_g (lw_at lw_m2 11 rfl) rfl
theorem q275 : (Jvm.Cond.instanceMethod ({ cls := "ObligationNettingModel", name := "debts", desc := "()I" } : Jvm.MethodName)) ∈ lw_all := lw_g (lw_at lw_m2 13 rfl) rfl
theorem q276 : (Jvm.Cond.selects "ObligationNettingModel" ({ cls := "ObligationNettingModel", name := "debts", desc := "()I" } : Jvm.MethodName) ({ cls := "ObligationNettingModel", name := "debts", desc := "()I" } : Jvm.MethodName)) ∈ lw_all := lw_g (lw_at lw_m2 14 rfl) rfl
theorem q277 : (Jvm.Cond.code ({ cls := "ObligationNettingModel", name := "debts", desc := "()I" } : Jvm.MethodName) prog_3_method_14_code (1 : Nat) (Option.some Jvm.ClassFile.FieldType.int)) ∈ lw_all := lw_g (lw_at lw_m2 15 rfl) rfl
theorem q279 : (Jvm.Cond.instanceMethod ({ cls := "ObligationNettingModel", name := "amount", desc := "(I)I" } : Jvm.MethodName)) ∈ lw_all := lw_g (lw_at lw_m2 17 rfl) rfl
theorem q280 : (Jvm.Cond.selects "ObligationNettingModel" ({ cls := "ObligationNettingModel", name := "amount", desc := "(I)I" } : Jvm.MethodName) ({ cls := "ObligationNettingModel", name := "amount", desc := "(I)I" } : Jvm.MethodName)) ∈ lw_all := lw_g (lw_at lw_m2 18 rfl) rfl
theorem q281 : (Jvm.Cond.code ({ cls := "ObligationNettingModel", name := "amount", desc := "(I)I" } : Jvm.MethodName) prog_3_method_15_code (2 : Nat) (Option.some Jvm.ClassFile.FieldType.int)) ∈ lw_all := lw_g (lw_at lw_m2 19 rfl) rfl
theorem q283 : (Jvm.Cond.instanceMethod ({ cls := "ObligationNettingModel", name := "balance", desc := "(I)I" } : Jvm.MethodName)) ∈ lw_all := lw_g (lw_at lw_m2 21 rfl) rfl
theorem q284 : (Jvm.Cond.selects "ObligationNettingModel" ({ cls := "ObligationNettingModel", name := "balance", desc := "(I)I" } : Jvm.MethodName) ({ cls := "ObligationNettingModel", name := "balance", desc := "(I)I" } : Jvm.MethodName)) ∈ lw_all := lw_g (lw_at lw_m2 22 rfl) rfl
theorem q285 : (Jvm.Cond.code ({ cls := "ObligationNettingModel", name := "balance", desc := "(I)I" } : Jvm.MethodName) prog_3_method_17_code (2 : Nat) (Option.some Jvm.ClassFile.FieldType.int)) ∈ lw_all := lw_g (lw_at lw_m2 23 rfl) rfl
theorem q286 : (Jvm.Cond.methodLink "ObligationNettingModel" (55 : Nat) ({ cls := "ObligationNettingModel", name := "saldo", desc := "(I)I" } : Jvm.MethodName)) ∈ lw_all := lw_g (lw_at lw_m2 24 rfl) rfl
theorem q287 : (Jvm.Cond.privateMethod ({ cls := "ObligationNettingModel", name := "saldo", desc := "(I)I" } : Jvm.MethodName)) ∈ lw_tbl := lw_at lw_m2 25 rfl
theorem q288 : (Jvm.Cond.instanceMethod ({ cls := "ObligationNettingModel", name := "saldo", desc := "(I)I" } : Jvm.MethodName)) ∈ lw_all := lw_g (lw_at lw_m2 26 rfl) rfl
theorem q289 : (Jvm.Cond.code ({ cls := "ObligationNettingModel", name := "saldo", desc := "(I)I" } : Jvm.MethodName) prog_3_method_16_code (4 : Nat) (Option.some Jvm.ClassFile.FieldType.int)) ∈ lw_all := lw_g (lw_at lw_m2 27 rfl) rfl
theorem q291 : (Jvm.Cond.instanceMethod ({ cls := "ObligationNettingModel", name := "outstanding", desc := "()I" } : Jvm.MethodName)) ∈ lw_all := lw_g (lw_at lw_m2 29 rfl) rfl
theorem q292 : (Jvm.Cond.selects "ObligationNettingModel" ({ cls := "ObligationNettingModel", name := "outstanding", desc := "()I" } : Jvm.MethodName) ({ cls := "ObligationNettingModel", name := "outstanding", desc := "()I" } : Jvm.MethodName)) ∈ lw_all := lw_g (lw_at lw_m2 30 rfl) rfl
theorem q293 : (Jvm.Cond.code ({ cls := "ObligationNettingModel", name := "outstanding", desc := "()I" } : Jvm.MethodName) prog_3_method_18_code (3 : Nat) (Option.some Jvm.ClassFile.FieldType.int)) ∈ lw_all := lw_g (lw_at lw_m2 31 rfl) rfl
theorem q295 : (Jvm.Cond.instanceMethod ({ cls := "ObligationNettingModel", name := "best", desc := "()I" } : Jvm.MethodName)) ∈ lw_all := lw_g (lw_at lw_m2 33 rfl) rfl
theorem q296 : (Jvm.Cond.selects "ObligationNettingModel" ({ cls := "ObligationNettingModel", name := "best", desc := "()I" } : Jvm.MethodName) ({ cls := "ObligationNettingModel", name := "best", desc := "()I" } : Jvm.MethodName)) ∈ lw_all := lw_g (lw_at lw_m2 34 rfl) rfl
theorem q297 : (Jvm.Cond.code ({ cls := "ObligationNettingModel", name := "best", desc := "()I" } : Jvm.MethodName) prog_3_method_20_code (1 : Nat) (Option.some Jvm.ClassFile.FieldType.int)) ∈ lw_all := lw_g (lw_at lw_m2 35 rfl) rfl
theorem q298 : (Jvm.Cond.methodLink "ObligationNettingModel" (58 : Nat) ({ cls := "ObligationNettingModel", name := "greatest", desc := "()I" } : Jvm.MethodName)) ∈ lw_all := lw_g (lw_at lw_m2 36 rfl) rfl
theorem q299 : (Jvm.Cond.privateMethod ({ cls := "ObligationNettingModel", name := "greatest", desc := "()I" } : Jvm.MethodName)) ∈ lw_tbl := lw_at lw_m2 37 rfl
theorem q300 : (Jvm.Cond.instanceMethod ({ cls := "ObligationNettingModel", name := "greatest", desc := "()I" } : Jvm.MethodName)) ∈ lw_all := lw_g (lw_at lw_m2 38 rfl) rfl
theorem q301 : (Jvm.Cond.code ({ cls := "ObligationNettingModel", name := "greatest", desc := "()I" } : Jvm.MethodName) prog_3_method_19_code (2 : Nat) (Option.some Jvm.ClassFile.FieldType.int)) ∈ lw_all := lw_g (lw_at lw_m2 39 rfl) rfl
theorem q303 : (Jvm.Cond.instanceMethod ({ cls := "ObligationNettingModel", name := "bestCode", desc := "()I" } : Jvm.MethodName)) ∈ lw_all := lw_g (lw_at lw_m2 41 rfl) rfl
theorem q304 : (Jvm.Cond.selects "ObligationNettingModel" ({ cls := "ObligationNettingModel", name := "bestCode", desc := "()I" } : Jvm.MethodName) ({ cls := "ObligationNettingModel", name := "bestCode", desc := "()I" } : Jvm.MethodName)) ∈ lw_all := lw_g (lw_at lw_m2 42 rfl) rfl
theorem q305 : (Jvm.Cond.code ({ cls := "ObligationNettingModel", name := "bestCode", desc := "()I" } : Jvm.MethodName) prog_3_method_21_code (1 : Nat) (Option.some Jvm.ClassFile.FieldType.int)) ∈ lw_all := lw_g (lw_at lw_m2 43 rfl) rfl
theorem q307 : (Jvm.Cond.instanceMethod ({ cls := "ObligationNettingModel", name := "isClearing", desc := "(I)I" } : Jvm.MethodName)) ∈ lw_all := lw_g (lw_at lw_m2 45 rfl) rfl
theorem q308 : (Jvm.Cond.selects "ObligationNettingModel" ({ cls := "ObligationNettingModel", name := "isClearing", desc := "(I)I" } : Jvm.MethodName) ({ cls := "ObligationNettingModel", name := "isClearing", desc := "(I)I" } : Jvm.MethodName)) ∈ lw_all := lw_g (lw_at lw_m2 46 rfl) rfl
theorem q309 : (Jvm.Cond.code ({ cls := "ObligationNettingModel", name := "isClearing", desc := "(I)I" } : Jvm.MethodName) prog_3_method_22_code (2 : Nat) (Option.some Jvm.ClassFile.FieldType.int)) ∈ lw_all := lw_g (lw_at lw_m2 47 rfl) rfl
theorem q311 : (Jvm.Cond.instanceMethod ({ cls := "ObligationNettingModel", name := "weight", desc := "(I)I" } : Jvm.MethodName)) ∈ lw_all := lw_g (lw_at lw_m2 49 rfl) rfl
theorem q312 : (Jvm.Cond.selects "ObligationNettingModel" ({ cls := "ObligationNettingModel", name := "weight", desc := "(I)I" } : Jvm.MethodName) ({ cls := "ObligationNettingModel", name := "weight", desc := "(I)I" } : Jvm.MethodName)) ∈ lw_all := lw_g (lw_at lw_m2 50 rfl) rfl
theorem q313 : (Jvm.Cond.code ({ cls := "ObligationNettingModel", name := "weight", desc := "(I)I" } : Jvm.MethodName) prog_3_method_23_code (5 : Nat) (Option.some Jvm.ClassFile.FieldType.int)) ∈ lw_all := lw_g (lw_at lw_m2 51 rfl) rfl
theorem q315 : (Jvm.Cond.instanceMethod ({ cls := "ObligationNettingModel", name := "most", desc := "(I)I" } : Jvm.MethodName)) ∈ lw_all := lw_g (lw_at lw_m2 53 rfl) rfl
theorem q316 : (Jvm.Cond.selects "ObligationNettingModel" ({ cls := "ObligationNettingModel", name := "most", desc := "(I)I" } : Jvm.MethodName) ({ cls := "ObligationNettingModel", name := "most", desc := "(I)I" } : Jvm.MethodName)) ∈ lw_all := lw_g (lw_at lw_m2 54 rfl) rfl
theorem q317 : (Jvm.Cond.code ({ cls := "ObligationNettingModel", name := "most", desc := "(I)I" } : Jvm.MethodName) prog_3_method_24_code (5 : Nat) (Option.some Jvm.ClassFile.FieldType.int)) ∈ lw_all := lw_g (lw_at lw_m2 55 rfl) rfl
theorem q319 : (Jvm.Cond.instanceMethod ({ cls := "ObligationNettingModel", name := "possible", desc := "()I" } : Jvm.MethodName)) ∈ lw_all := lw_g (lw_at lw_m2 57 rfl) rfl
theorem q320 : (Jvm.Cond.selects "ObligationNettingModel" ({ cls := "ObligationNettingModel", name := "possible", desc := "()I" } : Jvm.MethodName) ({ cls := "ObligationNettingModel", name := "possible", desc := "()I" } : Jvm.MethodName)) ∈ lw_all := lw_g (lw_at lw_m2 58 rfl) rfl
theorem q321 : (Jvm.Cond.code ({ cls := "ObligationNettingModel", name := "possible", desc := "()I" } : Jvm.MethodName) prog_3_method_25_code (1 : Nat) (Option.some Jvm.ClassFile.FieldType.int)) ∈ lw_all := lw_g (lw_at lw_m2 59 rfl) rfl
theorem q323 : (Jvm.Cond.instanceMethod ({ cls := "ObligationNettingModel", name := "least", desc := "()I" } : Jvm.MethodName)) ∈ lw_all := lw_g (lw_at lw_m2 61 rfl) rfl
theorem q324 : (Jvm.Cond.selects "ObligationNettingModel" ({ cls := "ObligationNettingModel", name := "least", desc := "()I" } : Jvm.MethodName) ({ cls := "ObligationNettingModel", name := "least", desc := "()I" } : Jvm.MethodName)) ∈ lw_all := lw_g (lw_at lw_m2 62 rfl) rfl
theorem q325 : (Jvm.Cond.code ({ cls := "ObligationNettingModel", name := "least", desc := "()I" } : Jvm.MethodName) prog_3_method_26_code (4 : Nat) (Option.some Jvm.ClassFile.FieldType.int)) ∈ lw_all := lw_g (lw_at lw_m2 63 rfl) rfl
theorem in_X2 : ∀ w ∈ wsX20, w ∈ lw_all := lw_in wsX20 [211, 213, 215, 217, 219, 221, 223] (by decide +kernel) (by decide +kernel)
end
section
set_option maxRecDepth 100000
/-! the law's own entry -/
set_option maxRecDepth 100000
abbrev cL_law : ByteArray := code
theorem dL_law_0 : decode cL_law 0 = .ok (.new 7, 3) := by decide +kernel
theorem dL_law_3 : decode cL_law 3 = .ok (.dup, 1) := by decide +kernel
theorem dL_law_4 : decode cL_law 4 = .ok (.aload_n 0, 1) := by decide +kernel
theorem dL_law_5 : decode cL_law 5 = .ok (.iconst 0, 1) := by decide +kernel
theorem dL_law_6 : decode cL_law 6 = .ok (.invokestatic 9, 3) := by decide +kernel
theorem dL_law_9 : decode cL_law 9 = .ok (.invokespecial 15, 3) := by decide +kernel
theorem dL_law_12 : decode cL_law 12 = .ok (.astore_n 1, 1) := by decide +kernel
theorem dL_law_13 : decode cL_law 13 = .ok (.new 18, 3) := by decide +kernel
theorem dL_law_16 : decode cL_law 16 = .ok (.dup, 1) := by decide +kernel
theorem dL_law_17 : decode cL_law 17 = .ok (.aload_n 0, 1) := by decide +kernel
theorem dL_law_18 : decode cL_law 18 = .ok (.iconst 0, 1) := by decide +kernel
theorem dL_law_19 : decode cL_law 19 = .ok (.invokestatic 9, 3) := by decide +kernel
theorem dL_law_22 : decode cL_law 22 = .ok (.invokespecial 20, 3) := by decide +kernel
theorem dL_law_25 : decode cL_law 25 = .ok (.astore_n 2, 1) := by decide +kernel
theorem dL_law_26 : decode cL_law 26 = .ok (.iconst 1, 1) := by decide +kernel
theorem dL_law_27 : decode cL_law 27 = .ok (.istore_n 3, 1) := by decide +kernel
theorem dL_law_28 : decode cL_law 28 = .ok (.iload_n 3, 1) := by decide +kernel
theorem dL_law_29 : decode cL_law 29 = .ok (.aload_n 0, 1) := by decide +kernel
theorem dL_law_30 : decode cL_law 30 = .ok (.arraylength, 1) := by decide +kernel
theorem dL_law_31 : decode cL_law 31 = .ok (.iconst 4, 1) := by decide +kernel
theorem dL_law_32 : decode cL_law 32 = .ok (.isub, 1) := by decide +kernel
theorem dL_law_33 : decode cL_law 33 = .ok (.if_icmp .gt 458, 3) := by decide +kernel
theorem dL_law_36 : decode cL_law 36 = .ok (.aload_n 0, 1) := by decide +kernel
theorem dL_law_37 : decode cL_law 37 = .ok (.iload_n 3, 1) := by decide +kernel
theorem dL_law_38 : decode cL_law 38 = .ok (.iaload, 1) := by decide +kernel
theorem dL_law_39 : decode cL_law 39 = .ok (.bipush 31, 2) := by decide +kernel
theorem dL_law_41 : decode cL_law 41 = .ok (.iand, 1) := by decide +kernel
theorem dL_law_42 : decode cL_law 42 = .ok (.tableswitch 443 0 16 #[82, 125, 158, 181, 214, 227, 250, 263, 286, 309, 322, 335, 348, 371, 394, 417, 430], 82) := by decide +kernel
theorem dL_law_124 : decode cL_law 124 = .ok (.aload_n 1, 1) := by decide +kernel
theorem dL_law_125 : decode cL_law 125 = .ok (.aload_n 0, 1) := by decide +kernel
theorem dL_law_126 : decode cL_law 126 = .ok (.iload_n 3, 1) := by decide +kernel
theorem dL_law_127 : decode cL_law 127 = .ok (.iconst 1, 1) := by decide +kernel
theorem dL_law_128 : decode cL_law 128 = .ok (.iadd, 1) := by decide +kernel
theorem dL_law_129 : decode cL_law 129 = .ok (.iaload, 1) := by decide +kernel
theorem dL_law_130 : decode cL_law 130 = .ok (.aload_n 0, 1) := by decide +kernel
theorem dL_law_131 : decode cL_law 131 = .ok (.iload_n 3, 1) := by decide +kernel
theorem dL_law_132 : decode cL_law 132 = .ok (.iconst 2, 1) := by decide +kernel
theorem dL_law_133 : decode cL_law 133 = .ok (.iadd, 1) := by decide +kernel
theorem dL_law_134 : decode cL_law 134 = .ok (.iaload, 1) := by decide +kernel
theorem dL_law_135 : decode cL_law 135 = .ok (.aload_n 0, 1) := by decide +kernel
theorem dL_law_136 : decode cL_law 136 = .ok (.iload_n 3, 1) := by decide +kernel
theorem dL_law_137 : decode cL_law 137 = .ok (.iconst 3, 1) := by decide +kernel
theorem dL_law_138 : decode cL_law 138 = .ok (.iadd, 1) := by decide +kernel
theorem dL_law_139 : decode cL_law 139 = .ok (.iaload, 1) := by decide +kernel
theorem dL_law_140 : decode cL_law 140 = .ok (.invokevirtual 21, 3) := by decide +kernel
theorem dL_law_143 : decode cL_law 143 = .ok (.aload_n 2, 1) := by decide +kernel
theorem dL_law_144 : decode cL_law 144 = .ok (.aload_n 0, 1) := by decide +kernel
theorem dL_law_145 : decode cL_law 145 = .ok (.iload_n 3, 1) := by decide +kernel
theorem dL_law_146 : decode cL_law 146 = .ok (.iconst 1, 1) := by decide +kernel
theorem dL_law_147 : decode cL_law 147 = .ok (.iadd, 1) := by decide +kernel
theorem dL_law_148 : decode cL_law 148 = .ok (.iaload, 1) := by decide +kernel
theorem dL_law_149 : decode cL_law 149 = .ok (.aload_n 0, 1) := by decide +kernel
theorem dL_law_150 : decode cL_law 150 = .ok (.iload_n 3, 1) := by decide +kernel
theorem dL_law_151 : decode cL_law 151 = .ok (.iconst 2, 1) := by decide +kernel
theorem dL_law_152 : decode cL_law 152 = .ok (.iadd, 1) := by decide +kernel
theorem dL_law_153 : decode cL_law 153 = .ok (.iaload, 1) := by decide +kernel
theorem dL_law_154 : decode cL_law 154 = .ok (.aload_n 0, 1) := by decide +kernel
theorem dL_law_155 : decode cL_law 155 = .ok (.iload_n 3, 1) := by decide +kernel
theorem dL_law_156 : decode cL_law 156 = .ok (.iconst 3, 1) := by decide +kernel
theorem dL_law_157 : decode cL_law 157 = .ok (.iadd, 1) := by decide +kernel
theorem dL_law_158 : decode cL_law 158 = .ok (.iaload, 1) := by decide +kernel
theorem dL_law_159 : decode cL_law 159 = .ok (.invokevirtual 25, 3) := by decide +kernel
theorem dL_law_162 : decode cL_law 162 = .ok (.if_icmp .eq 323, 3) := by decide +kernel
theorem dL_law_165 : decode cL_law 165 = .ok (.iconst 0, 1) := by decide +kernel
theorem dL_law_166 : decode cL_law 166 = .ok (.ireturn, 1) := by decide +kernel
theorem dL_law_167 : decode cL_law 167 = .ok (.aload_n 1, 1) := by decide +kernel
theorem dL_law_168 : decode cL_law 168 = .ok (.aload_n 0, 1) := by decide +kernel
theorem dL_law_169 : decode cL_law 169 = .ok (.iload_n 3, 1) := by decide +kernel
theorem dL_law_170 : decode cL_law 170 = .ok (.iconst 1, 1) := by decide +kernel
theorem dL_law_171 : decode cL_law 171 = .ok (.iadd, 1) := by decide +kernel
theorem dL_law_172 : decode cL_law 172 = .ok (.iaload, 1) := by decide +kernel
theorem dL_law_173 : decode cL_law 173 = .ok (.aload_n 0, 1) := by decide +kernel
theorem dL_law_174 : decode cL_law 174 = .ok (.iload_n 3, 1) := by decide +kernel
theorem dL_law_175 : decode cL_law 175 = .ok (.iconst 2, 1) := by decide +kernel
theorem dL_law_176 : decode cL_law 176 = .ok (.iadd, 1) := by decide +kernel
theorem dL_law_177 : decode cL_law 177 = .ok (.iaload, 1) := by decide +kernel
theorem dL_law_178 : decode cL_law 178 = .ok (.invokevirtual 26, 3) := by decide +kernel
theorem dL_law_181 : decode cL_law 181 = .ok (.aload_n 2, 1) := by decide +kernel
theorem dL_law_182 : decode cL_law 182 = .ok (.aload_n 0, 1) := by decide +kernel
theorem dL_law_183 : decode cL_law 183 = .ok (.iload_n 3, 1) := by decide +kernel
theorem dL_law_184 : decode cL_law 184 = .ok (.iconst 1, 1) := by decide +kernel
theorem dL_law_185 : decode cL_law 185 = .ok (.iadd, 1) := by decide +kernel
theorem dL_law_186 : decode cL_law 186 = .ok (.iaload, 1) := by decide +kernel
theorem dL_law_187 : decode cL_law 187 = .ok (.aload_n 0, 1) := by decide +kernel
theorem dL_law_188 : decode cL_law 188 = .ok (.iload_n 3, 1) := by decide +kernel
theorem dL_law_189 : decode cL_law 189 = .ok (.iconst 2, 1) := by decide +kernel
theorem dL_law_190 : decode cL_law 190 = .ok (.iadd, 1) := by decide +kernel
theorem dL_law_191 : decode cL_law 191 = .ok (.iaload, 1) := by decide +kernel
theorem dL_law_192 : decode cL_law 192 = .ok (.invokevirtual 30, 3) := by decide +kernel
theorem dL_law_195 : decode cL_law 195 = .ok (.if_icmp .eq 290, 3) := by decide +kernel
theorem dL_law_198 : decode cL_law 198 = .ok (.iconst 0, 1) := by decide +kernel
theorem dL_law_199 : decode cL_law 199 = .ok (.ireturn, 1) := by decide +kernel
theorem dL_law_200 : decode cL_law 200 = .ok (.aload_n 1, 1) := by decide +kernel
theorem dL_law_201 : decode cL_law 201 = .ok (.aload_n 0, 1) := by decide +kernel
theorem dL_law_202 : decode cL_law 202 = .ok (.iload_n 3, 1) := by decide +kernel
theorem dL_law_203 : decode cL_law 203 = .ok (.iconst 1, 1) := by decide +kernel
theorem dL_law_204 : decode cL_law 204 = .ok (.iadd, 1) := by decide +kernel
theorem dL_law_205 : decode cL_law 205 = .ok (.iaload, 1) := by decide +kernel
theorem dL_law_206 : decode cL_law 206 = .ok (.invokevirtual 31, 3) := by decide +kernel
theorem dL_law_209 : decode cL_law 209 = .ok (.aload_n 2, 1) := by decide +kernel
theorem dL_law_210 : decode cL_law 210 = .ok (.aload_n 0, 1) := by decide +kernel
theorem dL_law_211 : decode cL_law 211 = .ok (.iload_n 3, 1) := by decide +kernel
theorem dL_law_212 : decode cL_law 212 = .ok (.iconst 1, 1) := by decide +kernel
theorem dL_law_213 : decode cL_law 213 = .ok (.iadd, 1) := by decide +kernel
theorem dL_law_214 : decode cL_law 214 = .ok (.iaload, 1) := by decide +kernel
theorem dL_law_215 : decode cL_law 215 = .ok (.invokevirtual 35, 3) := by decide +kernel
theorem dL_law_218 : decode cL_law 218 = .ok (.if_icmp .eq 267, 3) := by decide +kernel
theorem dL_law_221 : decode cL_law 221 = .ok (.iconst 0, 1) := by decide +kernel
theorem dL_law_222 : decode cL_law 222 = .ok (.ireturn, 1) := by decide +kernel
theorem dL_law_223 : decode cL_law 223 = .ok (.aload_n 1, 1) := by decide +kernel
theorem dL_law_224 : decode cL_law 224 = .ok (.aload_n 0, 1) := by decide +kernel
theorem dL_law_225 : decode cL_law 225 = .ok (.iload_n 3, 1) := by decide +kernel
theorem dL_law_226 : decode cL_law 226 = .ok (.iconst 1, 1) := by decide +kernel
theorem dL_law_227 : decode cL_law 227 = .ok (.iadd, 1) := by decide +kernel
theorem dL_law_228 : decode cL_law 228 = .ok (.iaload, 1) := by decide +kernel
theorem dL_law_229 : decode cL_law 229 = .ok (.aload_n 0, 1) := by decide +kernel
theorem dL_law_230 : decode cL_law 230 = .ok (.iload_n 3, 1) := by decide +kernel
theorem dL_law_231 : decode cL_law 231 = .ok (.iconst 2, 1) := by decide +kernel
theorem dL_law_232 : decode cL_law 232 = .ok (.iadd, 1) := by decide +kernel
theorem dL_law_233 : decode cL_law 233 = .ok (.iaload, 1) := by decide +kernel
theorem dL_law_234 : decode cL_law 234 = .ok (.invokevirtual 36, 3) := by decide +kernel
theorem dL_law_237 : decode cL_law 237 = .ok (.aload_n 2, 1) := by decide +kernel
theorem dL_law_238 : decode cL_law 238 = .ok (.aload_n 0, 1) := by decide +kernel
theorem dL_law_239 : decode cL_law 239 = .ok (.iload_n 3, 1) := by decide +kernel
theorem dL_law_240 : decode cL_law 240 = .ok (.iconst 1, 1) := by decide +kernel
theorem dL_law_241 : decode cL_law 241 = .ok (.iadd, 1) := by decide +kernel
theorem dL_law_242 : decode cL_law 242 = .ok (.iaload, 1) := by decide +kernel
theorem dL_law_243 : decode cL_law 243 = .ok (.aload_n 0, 1) := by decide +kernel
theorem dL_law_244 : decode cL_law 244 = .ok (.iload_n 3, 1) := by decide +kernel
theorem dL_law_245 : decode cL_law 245 = .ok (.iconst 2, 1) := by decide +kernel
theorem dL_law_246 : decode cL_law 246 = .ok (.iadd, 1) := by decide +kernel
theorem dL_law_247 : decode cL_law 247 = .ok (.iaload, 1) := by decide +kernel
theorem dL_law_248 : decode cL_law 248 = .ok (.invokevirtual 39, 3) := by decide +kernel
theorem dL_law_251 : decode cL_law 251 = .ok (.if_icmp .eq 234, 3) := by decide +kernel
theorem dL_law_254 : decode cL_law 254 = .ok (.iconst 0, 1) := by decide +kernel
theorem dL_law_255 : decode cL_law 255 = .ok (.ireturn, 1) := by decide +kernel
theorem dL_law_256 : decode cL_law 256 = .ok (.aload_n 1, 1) := by decide +kernel
theorem dL_law_257 : decode cL_law 257 = .ok (.invokevirtual 40, 3) := by decide +kernel
theorem dL_law_260 : decode cL_law 260 = .ok (.aload_n 2, 1) := by decide +kernel
theorem dL_law_261 : decode cL_law 261 = .ok (.invokevirtual 44, 3) := by decide +kernel
theorem dL_law_264 : decode cL_law 264 = .ok (.if_icmp .eq 221, 3) := by decide +kernel
theorem dL_law_267 : decode cL_law 267 = .ok (.iconst 0, 1) := by decide +kernel
theorem dL_law_268 : decode cL_law 268 = .ok (.ireturn, 1) := by decide +kernel
theorem dL_law_269 : decode cL_law 269 = .ok (.aload_n 1, 1) := by decide +kernel
theorem dL_law_270 : decode cL_law 270 = .ok (.aload_n 0, 1) := by decide +kernel
theorem dL_law_271 : decode cL_law 271 = .ok (.iload_n 3, 1) := by decide +kernel
theorem dL_law_272 : decode cL_law 272 = .ok (.iconst 1, 1) := by decide +kernel
theorem dL_law_273 : decode cL_law 273 = .ok (.iadd, 1) := by decide +kernel
theorem dL_law_274 : decode cL_law 274 = .ok (.iaload, 1) := by decide +kernel
theorem dL_law_275 : decode cL_law 275 = .ok (.invokevirtual 45, 3) := by decide +kernel
theorem dL_law_278 : decode cL_law 278 = .ok (.aload_n 2, 1) := by decide +kernel
theorem dL_law_279 : decode cL_law 279 = .ok (.aload_n 0, 1) := by decide +kernel
theorem dL_law_280 : decode cL_law 280 = .ok (.iload_n 3, 1) := by decide +kernel
theorem dL_law_281 : decode cL_law 281 = .ok (.iconst 1, 1) := by decide +kernel
theorem dL_law_282 : decode cL_law 282 = .ok (.iadd, 1) := by decide +kernel
theorem dL_law_283 : decode cL_law 283 = .ok (.iaload, 1) := by decide +kernel
theorem dL_law_284 : decode cL_law 284 = .ok (.invokevirtual 48, 3) := by decide +kernel
theorem dL_law_287 : decode cL_law 287 = .ok (.if_icmp .eq 198, 3) := by decide +kernel
theorem dL_law_290 : decode cL_law 290 = .ok (.iconst 0, 1) := by decide +kernel
theorem dL_law_291 : decode cL_law 291 = .ok (.ireturn, 1) := by decide +kernel
theorem dL_law_292 : decode cL_law 292 = .ok (.aload_n 1, 1) := by decide +kernel
theorem dL_law_293 : decode cL_law 293 = .ok (.invokevirtual 49, 3) := by decide +kernel
theorem dL_law_296 : decode cL_law 296 = .ok (.aload_n 2, 1) := by decide +kernel
theorem dL_law_297 : decode cL_law 297 = .ok (.invokevirtual 52, 3) := by decide +kernel
theorem dL_law_300 : decode cL_law 300 = .ok (.if_icmp .eq 185, 3) := by decide +kernel
theorem dL_law_303 : decode cL_law 303 = .ok (.iconst 0, 1) := by decide +kernel
theorem dL_law_304 : decode cL_law 304 = .ok (.ireturn, 1) := by decide +kernel
theorem dL_law_305 : decode cL_law 305 = .ok (.aload_n 1, 1) := by decide +kernel
theorem dL_law_306 : decode cL_law 306 = .ok (.aload_n 0, 1) := by decide +kernel
theorem dL_law_307 : decode cL_law 307 = .ok (.iload_n 3, 1) := by decide +kernel
theorem dL_law_308 : decode cL_law 308 = .ok (.iconst 1, 1) := by decide +kernel
theorem dL_law_309 : decode cL_law 309 = .ok (.iadd, 1) := by decide +kernel
theorem dL_law_310 : decode cL_law 310 = .ok (.iaload, 1) := by decide +kernel
theorem dL_law_311 : decode cL_law 311 = .ok (.invokevirtual 53, 3) := by decide +kernel
theorem dL_law_314 : decode cL_law 314 = .ok (.aload_n 2, 1) := by decide +kernel
theorem dL_law_315 : decode cL_law 315 = .ok (.aload_n 0, 1) := by decide +kernel
theorem dL_law_316 : decode cL_law 316 = .ok (.iload_n 3, 1) := by decide +kernel
theorem dL_law_317 : decode cL_law 317 = .ok (.iconst 1, 1) := by decide +kernel
theorem dL_law_318 : decode cL_law 318 = .ok (.iadd, 1) := by decide +kernel
theorem dL_law_319 : decode cL_law 319 = .ok (.iaload, 1) := by decide +kernel
theorem dL_law_320 : decode cL_law 320 = .ok (.invokevirtual 56, 3) := by decide +kernel
theorem dL_law_323 : decode cL_law 323 = .ok (.if_icmp .eq 162, 3) := by decide +kernel
theorem dL_law_326 : decode cL_law 326 = .ok (.iconst 0, 1) := by decide +kernel
theorem dL_law_327 : decode cL_law 327 = .ok (.ireturn, 1) := by decide +kernel
theorem dL_law_328 : decode cL_law 328 = .ok (.aload_n 1, 1) := by decide +kernel
theorem dL_law_329 : decode cL_law 329 = .ok (.aload_n 0, 1) := by decide +kernel
theorem dL_law_330 : decode cL_law 330 = .ok (.iload_n 3, 1) := by decide +kernel
theorem dL_law_331 : decode cL_law 331 = .ok (.iconst 1, 1) := by decide +kernel
theorem dL_law_332 : decode cL_law 332 = .ok (.iadd, 1) := by decide +kernel
theorem dL_law_333 : decode cL_law 333 = .ok (.iaload, 1) := by decide +kernel
theorem dL_law_334 : decode cL_law 334 = .ok (.invokevirtual 57, 3) := by decide +kernel
theorem dL_law_337 : decode cL_law 337 = .ok (.aload_n 2, 1) := by decide +kernel
theorem dL_law_338 : decode cL_law 338 = .ok (.aload_n 0, 1) := by decide +kernel
theorem dL_law_339 : decode cL_law 339 = .ok (.iload_n 3, 1) := by decide +kernel
theorem dL_law_340 : decode cL_law 340 = .ok (.iconst 1, 1) := by decide +kernel
theorem dL_law_341 : decode cL_law 341 = .ok (.iadd, 1) := by decide +kernel
theorem dL_law_342 : decode cL_law 342 = .ok (.iaload, 1) := by decide +kernel
theorem dL_law_343 : decode cL_law 343 = .ok (.invokevirtual 60, 3) := by decide +kernel
theorem dL_law_346 : decode cL_law 346 = .ok (.if_icmp .eq 139, 3) := by decide +kernel
theorem dL_law_349 : decode cL_law 349 = .ok (.iconst 0, 1) := by decide +kernel
theorem dL_law_350 : decode cL_law 350 = .ok (.ireturn, 1) := by decide +kernel
theorem dL_law_351 : decode cL_law 351 = .ok (.aload_n 1, 1) := by decide +kernel
theorem dL_law_352 : decode cL_law 352 = .ok (.invokevirtual 61, 3) := by decide +kernel
theorem dL_law_355 : decode cL_law 355 = .ok (.aload_n 2, 1) := by decide +kernel
theorem dL_law_356 : decode cL_law 356 = .ok (.invokevirtual 64, 3) := by decide +kernel
theorem dL_law_359 : decode cL_law 359 = .ok (.if_icmp .eq 126, 3) := by decide +kernel
theorem dL_law_362 : decode cL_law 362 = .ok (.iconst 0, 1) := by decide +kernel
theorem dL_law_363 : decode cL_law 363 = .ok (.ireturn, 1) := by decide +kernel
theorem dL_law_364 : decode cL_law 364 = .ok (.aload_n 1, 1) := by decide +kernel
theorem dL_law_365 : decode cL_law 365 = .ok (.invokevirtual 65, 3) := by decide +kernel
theorem dL_law_368 : decode cL_law 368 = .ok (.aload_n 2, 1) := by decide +kernel
theorem dL_law_369 : decode cL_law 369 = .ok (.invokevirtual 68, 3) := by decide +kernel
theorem dL_law_372 : decode cL_law 372 = .ok (.if_icmp .eq 113, 3) := by decide +kernel
theorem dL_law_375 : decode cL_law 375 = .ok (.iconst 0, 1) := by decide +kernel
theorem dL_law_376 : decode cL_law 376 = .ok (.ireturn, 1) := by decide +kernel
theorem dL_law_377 : decode cL_law 377 = .ok (.aload_n 1, 1) := by decide +kernel
theorem dL_law_378 : decode cL_law 378 = .ok (.invokevirtual 69, 3) := by decide +kernel
theorem dL_law_381 : decode cL_law 381 = .ok (.aload_n 2, 1) := by decide +kernel
theorem dL_law_382 : decode cL_law 382 = .ok (.invokevirtual 72, 3) := by decide +kernel
theorem dL_law_385 : decode cL_law 385 = .ok (.if_icmp .eq 100, 3) := by decide +kernel
theorem dL_law_388 : decode cL_law 388 = .ok (.iconst 0, 1) := by decide +kernel
theorem dL_law_389 : decode cL_law 389 = .ok (.ireturn, 1) := by decide +kernel
theorem dL_law_390 : decode cL_law 390 = .ok (.aload_n 1, 1) := by decide +kernel
theorem dL_law_391 : decode cL_law 391 = .ok (.aload_n 0, 1) := by decide +kernel
theorem dL_law_392 : decode cL_law 392 = .ok (.iload_n 3, 1) := by decide +kernel
theorem dL_law_393 : decode cL_law 393 = .ok (.iconst 1, 1) := by decide +kernel
theorem dL_law_394 : decode cL_law 394 = .ok (.iadd, 1) := by decide +kernel
theorem dL_law_395 : decode cL_law 395 = .ok (.iaload, 1) := by decide +kernel
theorem dL_law_396 : decode cL_law 396 = .ok (.invokevirtual 73, 3) := by decide +kernel
theorem dL_law_399 : decode cL_law 399 = .ok (.aload_n 2, 1) := by decide +kernel
theorem dL_law_400 : decode cL_law 400 = .ok (.aload_n 0, 1) := by decide +kernel
theorem dL_law_401 : decode cL_law 401 = .ok (.iload_n 3, 1) := by decide +kernel
theorem dL_law_402 : decode cL_law 402 = .ok (.iconst 1, 1) := by decide +kernel
theorem dL_law_403 : decode cL_law 403 = .ok (.iadd, 1) := by decide +kernel
theorem dL_law_404 : decode cL_law 404 = .ok (.iaload, 1) := by decide +kernel
theorem dL_law_405 : decode cL_law 405 = .ok (.invokevirtual 76, 3) := by decide +kernel
theorem dL_law_408 : decode cL_law 408 = .ok (.if_icmp .eq 77, 3) := by decide +kernel
theorem dL_law_411 : decode cL_law 411 = .ok (.iconst 0, 1) := by decide +kernel
theorem dL_law_412 : decode cL_law 412 = .ok (.ireturn, 1) := by decide +kernel
theorem dL_law_413 : decode cL_law 413 = .ok (.aload_n 1, 1) := by decide +kernel
theorem dL_law_414 : decode cL_law 414 = .ok (.aload_n 0, 1) := by decide +kernel
theorem dL_law_415 : decode cL_law 415 = .ok (.iload_n 3, 1) := by decide +kernel
theorem dL_law_416 : decode cL_law 416 = .ok (.iconst 1, 1) := by decide +kernel
theorem dL_law_417 : decode cL_law 417 = .ok (.iadd, 1) := by decide +kernel
theorem dL_law_418 : decode cL_law 418 = .ok (.iaload, 1) := by decide +kernel
theorem dL_law_419 : decode cL_law 419 = .ok (.invokevirtual 77, 3) := by decide +kernel
theorem dL_law_422 : decode cL_law 422 = .ok (.aload_n 2, 1) := by decide +kernel
theorem dL_law_423 : decode cL_law 423 = .ok (.aload_n 0, 1) := by decide +kernel
theorem dL_law_424 : decode cL_law 424 = .ok (.iload_n 3, 1) := by decide +kernel
theorem dL_law_425 : decode cL_law 425 = .ok (.iconst 1, 1) := by decide +kernel
theorem dL_law_426 : decode cL_law 426 = .ok (.iadd, 1) := by decide +kernel
theorem dL_law_427 : decode cL_law 427 = .ok (.iaload, 1) := by decide +kernel
theorem dL_law_428 : decode cL_law 428 = .ok (.invokevirtual 80, 3) := by decide +kernel
theorem dL_law_431 : decode cL_law 431 = .ok (.if_icmp .eq 54, 3) := by decide +kernel
theorem dL_law_434 : decode cL_law 434 = .ok (.iconst 0, 1) := by decide +kernel
theorem dL_law_435 : decode cL_law 435 = .ok (.ireturn, 1) := by decide +kernel
theorem dL_law_436 : decode cL_law 436 = .ok (.aload_n 1, 1) := by decide +kernel
theorem dL_law_437 : decode cL_law 437 = .ok (.aload_n 0, 1) := by decide +kernel
theorem dL_law_438 : decode cL_law 438 = .ok (.iload_n 3, 1) := by decide +kernel
theorem dL_law_439 : decode cL_law 439 = .ok (.iconst 1, 1) := by decide +kernel
theorem dL_law_440 : decode cL_law 440 = .ok (.iadd, 1) := by decide +kernel
theorem dL_law_441 : decode cL_law 441 = .ok (.iaload, 1) := by decide +kernel
theorem dL_law_442 : decode cL_law 442 = .ok (.invokevirtual 81, 3) := by decide +kernel
theorem dL_law_445 : decode cL_law 445 = .ok (.aload_n 2, 1) := by decide +kernel
theorem dL_law_446 : decode cL_law 446 = .ok (.aload_n 0, 1) := by decide +kernel
theorem dL_law_447 : decode cL_law 447 = .ok (.iload_n 3, 1) := by decide +kernel
theorem dL_law_448 : decode cL_law 448 = .ok (.iconst 1, 1) := by decide +kernel
theorem dL_law_449 : decode cL_law 449 = .ok (.iadd, 1) := by decide +kernel
theorem dL_law_450 : decode cL_law 450 = .ok (.iaload, 1) := by decide +kernel
theorem dL_law_451 : decode cL_law 451 = .ok (.invokevirtual 84, 3) := by decide +kernel
theorem dL_law_454 : decode cL_law 454 = .ok (.if_icmp .eq 31, 3) := by decide +kernel
theorem dL_law_457 : decode cL_law 457 = .ok (.iconst 0, 1) := by decide +kernel
theorem dL_law_458 : decode cL_law 458 = .ok (.ireturn, 1) := by decide +kernel
theorem dL_law_459 : decode cL_law 459 = .ok (.aload_n 1, 1) := by decide +kernel
theorem dL_law_460 : decode cL_law 460 = .ok (.invokevirtual 85, 3) := by decide +kernel
theorem dL_law_463 : decode cL_law 463 = .ok (.aload_n 2, 1) := by decide +kernel
theorem dL_law_464 : decode cL_law 464 = .ok (.invokevirtual 88, 3) := by decide +kernel
theorem dL_law_467 : decode cL_law 467 = .ok (.if_icmp .eq 18, 3) := by decide +kernel
theorem dL_law_470 : decode cL_law 470 = .ok (.iconst 0, 1) := by decide +kernel
theorem dL_law_471 : decode cL_law 471 = .ok (.ireturn, 1) := by decide +kernel
theorem dL_law_472 : decode cL_law 472 = .ok (.aload_n 1, 1) := by decide +kernel
theorem dL_law_473 : decode cL_law 473 = .ok (.invokevirtual 89, 3) := by decide +kernel
theorem dL_law_476 : decode cL_law 476 = .ok (.aload_n 2, 1) := by decide +kernel
theorem dL_law_477 : decode cL_law 477 = .ok (.invokevirtual 92, 3) := by decide +kernel
theorem dL_law_480 : decode cL_law 480 = .ok (.if_icmp .eq 5, 3) := by decide +kernel
theorem dL_law_483 : decode cL_law 483 = .ok (.iconst 0, 1) := by decide +kernel
theorem dL_law_484 : decode cL_law 484 = .ok (.ireturn, 1) := by decide +kernel
theorem dL_law_485 : decode cL_law 485 = .ok (.iinc 3 4, 3) := by decide +kernel
theorem dL_law_488 : decode cL_law 488 = .ok (.goto (-460), 3) := by decide +kernel
theorem dL_law_491 : decode cL_law 491 = .ok (.iconst 1, 1) := by decide +kernel
theorem dL_law_492 : decode cL_law 492 = .ok (.ireturn, 1) := by decide +kernel
end
section
/-! ROWS over the integers: every int on the stack is iI z -/
def iI (z : Int) : Int32 := Int32.ofInt z
def iF (f : Nat → Int) : Nat → Int32 := fun j => iI (f j)
abbrev iN (f : Nat → Nat) : Nat → Int32 := iF (fun j => (f j : Int))
theorem iI_toInt {z : Int} (h : -2147483648 ≤ z ∧ z < 2147483648) : (iI z).toInt = z := Int32.toInt_ofInt_of_le (by omega) (by omega)
theorem iI_of (x : Int32) : iI x.toInt = x := Int32.ofInt_toInt x
theorem iI_nI (k : Nat) : iI (k : Int) = nI k := Int32.ofInt_eq_ofNat
theorem iI_add (a b : Int) : iI a + iI b = iI (a + b) := (Int32.ofInt_add a b).symm
theorem iI_sub (a b : Int) : iI a - iI b = iI (a - b) := (Int32.ofInt_sub a b).symm
theorem iI_mul (a b : Int) : iI a * iI b = iI (a * b) := (Int32.ofInt_mul a b).symm
theorem iI_neg (a : Int) : -iI a = iI (-a) := (Int32.ofInt_neg a).symm
theorem iI_le {a b : Int} (ha : -2147483648 ≤ a ∧ a < 2147483648) (hb : -2147483648 ≤ b ∧ b < 2147483648) : iI a ≤ iI b ↔ a ≤ b := by
  rw [Int32.le_iff_toInt_le, iI_toInt ha, iI_toInt hb]
theorem iI_lt {a b : Int} (ha : -2147483648 ≤ a ∧ a < 2147483648) (hb : -2147483648 ≤ b ∧ b < 2147483648) : iI a < iI b ↔ a < b := by
  rw [Int32.lt_iff_toInt_lt, iI_toInt ha, iI_toInt hb]
theorem iI_eq {a b : Int} (ha : -2147483648 ≤ a ∧ a < 2147483648) (hb : -2147483648 ≤ b ∧ b < 2147483648) : iI a = iI b ↔ a = b := by
  rw [← Int32.toInt_inj, iI_toInt ha, iI_toInt hb]
theorem iI_0 : iI 0 = 0 := rfl
theorem iI_bnd (x : Int32) : -2147483648 ≤ x.toInt ∧ x.toInt < 2147483648 := ⟨by have := x.le_toInt; omega, by have := x.toInt_lt; omega⟩
theorem iI_in {z : Int} {k n : Nat} (hz : z = (k : Int)) (hk : k < n) (hn : n < 2147483648) : vp_in (iI z) n ∧ (iI z).toNatClampNeg = k := by
  rw [hz, iI_nI]
  exact ⟨vp_in_nI hk (by omega), nI_clamp (by omega)⟩
theorem iI_and {z : Int} {k : Nat} (j : Nat) (hz : z = (k : Int)) (hk : k < 2147483648) (m : Int) (hm : (iI m).toBitVec.toNat = 2 ^ j - 1) : iI z &&& iI m = iI ((k % 2 ^ j : Nat) : Int) := by
  rw [hz, iI_nI, iI_nI]
  exact pk_andN (by omega) j hm
theorem iI_sh : ∀ j : Fin 32, ((iI ((j.val : Nat) : Int) &&& 31).toBitVec.smod 32).toNat = j.val := by decide
theorem iI_shr {z y : Int} {k j : Nat} (hz : z = (k : Int)) (hk : k < 2147483648) (hy : y = (j : Int)) (hj : j < 32) : iI z >>> (iI y &&& 31) = iI ((k / 2 ^ j : Nat) : Int) := by
  rw [hz, hy, iI_nI, iI_nI (k / 2 ^ j)]
  exact pk_shrN (by omega) _ j (iI_sh ⟨j, hj⟩)
theorem iI_shl {y : Int} {j : Nat} (hy : y = (j : Int)) (hj : j < 31) : iI 1 <<< (iI y &&& 31) = iI ((2 ^ j : Nat) : Int) := by
  have h2 : 2 ^ j < 2 ^ 32 := Nat.pow_lt_pow_right (by decide) (by omega)
  rw [hy, show iI 1 = nI 1 from rfl, iI_nI (2 ^ j), pk_shlN _ j (iI_sh ⟨j, by omega⟩) (by omega), Nat.one_mul]
theorem iF_up (f : Nat → Int) (k : Nat) (z : Int) : upd (iF f) k (iI z) = iF (va_up f k z) := by
  funext j
  unfold upd iF va_up
  split <;> rfl
theorem iN_up (f : Nat → Nat) (k v : Nat) : iF (va_up (fun j => (f j : Int)) k (v : Int)) = iN (va_up f k v) := by
  funext j
  show iI (if j = k then (v : Int) else (f j : Int)) = iI ((if j = k then v else f j : Nat) : Int)
  split <;> rfl
section OB
variable {p : Program} {l : Launch} {e : Env} {R : Room} {s : State} {m : MethodId} {args : Array Value} {below : List Frame} {meth : Method} {c : Code} {H : Heap} {locs : List Loc} {cells slots : Nat} {Q : State → Prop}
variable {cc : ByteArray} {pc : Nat} {ls : Array Slot} {rest : List Value}
theorem ob_top {a : Int} (z : Int) (h : a = z) (k : W p l e R s m args below meth c H locs cells slots Q (F0 m pc ls (.int (iI z) :: rest))) : W p l e R s m args below meth c H locs cells slots Q (F0 m pc ls (.int (iI a) :: rest)) := by
  rw [h]; exact k
theorem ob_ic (hexec : p.tables.exec = Jvm.exec) (hb : c.code = cc) {n : Int} (hdg : decode cc pc = .ok (.iconst n, 1)) (k : W p l e R s m args below meth c H locs cells slots Q (F0 m (pc + 1) ls (.int (iI n) :: rest))) : W p l e R s m args below meth c H locs cells slots Q (F0 m pc ls rest) := lv_iconst hexec hb hdg rfl k
theorem ob_bi (hexec : p.tables.exec = Jvm.exec) (hb : c.code = cc) {n : Int} (hdg : decode cc pc = .ok (.bipush n, 2)) (hv : (Int8.ofInt n).toInt32 = iI n) (k : W p l e R s m args below meth c H locs cells slots Q (F0 m (pc + 2) ls (.int (iI n) :: rest))) : W p l e R s m args below meth c H locs cells slots Q (F0 m pc ls rest) := lv_bipush hexec hb hdg hv k
theorem ob_si (hexec : p.tables.exec = Jvm.exec) (hb : c.code = cc) {n : Int} (hdg : decode cc pc = .ok (.sipush n, 3)) (hv : (Int16.ofInt n).toInt32 = iI n) (k : W p l e R s m args below meth c H locs cells slots Q (F0 m (pc + 3) ls (.int (iI n) :: rest))) : W p l e R s m args below meth c H locs cells slots Q (F0 m pc ls rest) := lv_sipush hexec hb hdg hv k
theorem ob_iinc (hexec : p.tables.exec = Jvm.exec) (hb : c.code = cc) {i nL k : Nat} {n a : Int} (z : Int) {lv lv' : List (Nat × Value)} (hdg : decode cc pc = .ok (.iinc i n, 3)) (h : lv_has ls nL lv) (hk : lv[k]? = some (i, .int (iI a))) (hz : a + n = z) (hn : i < nL) (hl : (i, Value.int (iI z)) :: lv.filter (fun q => !(q.1 == i) && !(q.1 + 1 == i && q.2.category == 2)) = lv')
    (kk : ∀ ls' : Array Slot, lv_has ls' nL lv' → W p l e R s m args below meth c H locs cells slots Q (F0 m (pc + 3) ls' rest)) : W p l e R s m args below meth c H locs cells slots Q (F0 m pc ls rest) :=
  lv_iinc (v := iI z) hexec hb hdg h hk (by rw [← hz]; exact iI_add a n) hn hl kk
theorem ob_iadd (hexec : p.tables.exec = Jvm.exec) (hb : c.code = cc) {a b : Int} (hdg : decode cc pc = .ok (.iadd, 1)) (k : W p l e R s m args below meth c H locs cells slots Q (F0 m (pc + 1) ls (.int (iI (a + b)) :: rest))) : W p l e R s m args below meth c H locs cells slots Q (F0 m pc ls (.int (iI b) :: .int (iI a) :: rest)) := lv_iadd hexec hb hdg (by rw [iI_add]; exact k)
theorem ob_isub (hexec : p.tables.exec = Jvm.exec) (hb : c.code = cc) {a b : Int} (hdg : decode cc pc = .ok (.isub, 1)) (k : W p l e R s m args below meth c H locs cells slots Q (F0 m (pc + 1) ls (.int (iI (a - b)) :: rest))) : W p l e R s m args below meth c H locs cells slots Q (F0 m pc ls (.int (iI b) :: .int (iI a) :: rest)) := lv_isub hexec hb hdg (by rw [iI_sub]; exact k)
theorem ob_imul (hexec : p.tables.exec = Jvm.exec) (hb : c.code = cc) {a b : Int} (hdg : decode cc pc = .ok (.imul, 1)) (k : W p l e R s m args below meth c H locs cells slots Q (F0 m (pc + 1) ls (.int (iI (a * b)) :: rest))) : W p l e R s m args below meth c H locs cells slots Q (F0 m pc ls (.int (iI b) :: .int (iI a) :: rest)) := lv_imul hexec hb hdg (by rw [iI_mul]; exact k)
theorem ob_ineg (hexec : p.tables.exec = Jvm.exec) (hb : c.code = cc) {a : Int} (hdg : decode cc pc = .ok (.ineg, 1)) (k : W p l e R s m args below meth c H locs cells slots Q (F0 m (pc + 1) ls (.int (iI (-a)) :: rest))) : W p l e R s m args below meth c H locs cells slots Q (F0 m pc ls (.int (iI a) :: rest)) := lv_ineg hexec hb hdg (by rw [iI_neg]; exact k)
theorem ob_iand (hexec : p.tables.exec = Jvm.exec) (hb : c.code = cc) {a q : Int} (hdg : decode cc pc = .ok (.iand, 1)) (k j : Nat) (ha : a = (k : Int)) (hk : k < 2147483648) (hm : (iI q).toBitVec.toNat = 2 ^ j - 1) (kk : W p l e R s m args below meth c H locs cells slots Q (F0 m (pc + 1) ls (.int (iI ((k % 2 ^ j : Nat) : Int)) :: rest))) : W p l e R s m args below meth c H locs cells slots Q (F0 m pc ls (.int (iI q) :: .int (iI a) :: rest)) := lv_iand hexec hb hdg (by rw [iI_and j ha hk q hm]; exact kk)
theorem ob_ishr (hexec : p.tables.exec = Jvm.exec) (hb : c.code = cc) {a q : Int} (hdg : decode cc pc = .ok (.ishr, 1)) (k j : Nat) (ha : a = (k : Int)) (hk : k < 2147483648) (hq : q = (j : Int)) (hj : j < 32) (kk : W p l e R s m args below meth c H locs cells slots Q (F0 m (pc + 1) ls (.int (iI ((k / 2 ^ j : Nat) : Int)) :: rest))) : W p l e R s m args below meth c H locs cells slots Q (F0 m pc ls (.int (iI q) :: .int (iI a) :: rest)) := lv_ishr hexec hb hdg (by rw [iI_shr ha hk hq hj]; exact kk)
theorem ob_ishl (hexec : p.tables.exec = Jvm.exec) (hb : c.code = cc) {q : Int} (hdg : decode cc pc = .ok (.ishl, 1)) (j : Nat) (hq : q = (j : Int)) (hj : j < 31) (kk : W p l e R s m args below meth c H locs cells slots Q (F0 m (pc + 1) ls (.int (iI ((2 ^ j : Nat) : Int)) :: rest))) : W p l e R s m args below meth c H locs cells slots Q (F0 m pc ls (.int (iI q) :: .int (iI 1) :: rest)) := lv_ishl hexec hb hdg (by rw [iI_shl hq hj]; exact kk)
theorem ob_icmp_eq (hexec : p.tables.exec = Jvm.exec) (hb : c.code = cc) {a b : Int} {off : Int} {tgt : Nat} (hdg : decode cc pc = .ok (.if_icmp .eq off, 3)) (ht : (pc : Int) + off = (tgt : Int)) (ha : -2147483648 ≤ a ∧ a < 2147483648) (hb2 : -2147483648 ≤ b ∧ b < 2147483648)
    (kt : a = b → W p l e R s m args below meth c H locs cells slots Q (F0 m tgt ls rest)) (kf : ¬ a = b → W p l e R s m args below meth c H locs cells slots Q (F0 m (pc + 3) ls rest)) : W p l e R s m args below meth c H locs cells slots Q (F0 m pc ls (.int (iI b) :: .int (iI a) :: rest)) :=
  lv_icmp_eq hexec hb hdg ht (fun h => kt ((iI_eq ha hb2).mp h)) (fun h => kf (by have h2 : ¬ (a = b) := fun z => h ((iI_eq ha hb2).mpr z); omega))
theorem ob_if_eq (hexec : p.tables.exec = Jvm.exec) (hb : c.code = cc) {a : Int} {off : Int} {tgt : Nat} (hdg : decode cc pc = .ok (.ifCond .eq off, 3)) (ht : (pc : Int) + off = (tgt : Int)) (ha : -2147483648 ≤ a ∧ a < 2147483648)
    (kt : a = 0 → W p l e R s m args below meth c H locs cells slots Q (F0 m tgt ls rest)) (kf : ¬ a = 0 → W p l e R s m args below meth c H locs cells slots Q (F0 m (pc + 3) ls rest)) : W p l e R s m args below meth c H locs cells slots Q (F0 m pc ls (.int (iI a) :: rest)) :=
  lv_if_eq hexec hb hdg ht (fun h => kt ((iI_eq (a := a) (b := 0) ha (by omega : (-2147483648 : Int) ≤ 0 ∧ (0 : Int) < 2147483648)).mp h)) (fun h => kf (by have h2 : ¬ (a = 0) := fun z => h ((iI_eq (a := a) (b := 0) ha (by omega : (-2147483648 : Int) ≤ 0 ∧ (0 : Int) < 2147483648)).mpr z); omega))
theorem ob_icmp_ne (hexec : p.tables.exec = Jvm.exec) (hb : c.code = cc) {a b : Int} {off : Int} {tgt : Nat} (hdg : decode cc pc = .ok (.if_icmp .ne off, 3)) (ht : (pc : Int) + off = (tgt : Int)) (ha : -2147483648 ≤ a ∧ a < 2147483648) (hb2 : -2147483648 ≤ b ∧ b < 2147483648)
    (kt : ¬ a = b → W p l e R s m args below meth c H locs cells slots Q (F0 m tgt ls rest)) (kf : a = b → W p l e R s m args below meth c H locs cells slots Q (F0 m (pc + 3) ls rest)) : W p l e R s m args below meth c H locs cells slots Q (F0 m pc ls (.int (iI b) :: .int (iI a) :: rest)) :=
  lv_icmp_ne hexec hb hdg ht (fun h => kt (by have h2 : ¬ (a = b) := fun z => h ((iI_eq ha hb2).mpr z); omega)) (fun h => kf ((iI_eq ha hb2).mp h))
theorem ob_if_ne (hexec : p.tables.exec = Jvm.exec) (hb : c.code = cc) {a : Int} {off : Int} {tgt : Nat} (hdg : decode cc pc = .ok (.ifCond .ne off, 3)) (ht : (pc : Int) + off = (tgt : Int)) (ha : -2147483648 ≤ a ∧ a < 2147483648)
    (kt : ¬ a = 0 → W p l e R s m args below meth c H locs cells slots Q (F0 m tgt ls rest)) (kf : a = 0 → W p l e R s m args below meth c H locs cells slots Q (F0 m (pc + 3) ls rest)) : W p l e R s m args below meth c H locs cells slots Q (F0 m pc ls (.int (iI a) :: rest)) :=
  lv_if_ne hexec hb hdg ht (fun h => kt (by have h2 : ¬ (a = 0) := fun z => h ((iI_eq (a := a) (b := 0) ha (by omega : (-2147483648 : Int) ≤ 0 ∧ (0 : Int) < 2147483648)).mpr z); omega)) (fun h => kf ((iI_eq (a := a) (b := 0) ha (by omega : (-2147483648 : Int) ≤ 0 ∧ (0 : Int) < 2147483648)).mp h))
theorem ob_icmp_lt (hexec : p.tables.exec = Jvm.exec) (hb : c.code = cc) {a b : Int} {off : Int} {tgt : Nat} (hdg : decode cc pc = .ok (.if_icmp .lt off, 3)) (ht : (pc : Int) + off = (tgt : Int)) (ha : -2147483648 ≤ a ∧ a < 2147483648) (hb2 : -2147483648 ≤ b ∧ b < 2147483648)
    (kt : a < b → W p l e R s m args below meth c H locs cells slots Q (F0 m tgt ls rest)) (kf : b ≤ a → W p l e R s m args below meth c H locs cells slots Q (F0 m (pc + 3) ls rest)) : W p l e R s m args below meth c H locs cells slots Q (F0 m pc ls (.int (iI b) :: .int (iI a) :: rest)) :=
  lv_icmp_lt hexec hb hdg ht (fun h => kt ((iI_lt ha hb2).mp h)) (fun h => kf (by have h2 : ¬ (a < b) := fun z => h ((iI_lt ha hb2).mpr z); omega))
theorem ob_if_lt (hexec : p.tables.exec = Jvm.exec) (hb : c.code = cc) {a : Int} {off : Int} {tgt : Nat} (hdg : decode cc pc = .ok (.ifCond .lt off, 3)) (ht : (pc : Int) + off = (tgt : Int)) (ha : -2147483648 ≤ a ∧ a < 2147483648)
    (kt : a < 0 → W p l e R s m args below meth c H locs cells slots Q (F0 m tgt ls rest)) (kf : 0 ≤ a → W p l e R s m args below meth c H locs cells slots Q (F0 m (pc + 3) ls rest)) : W p l e R s m args below meth c H locs cells slots Q (F0 m pc ls (.int (iI a) :: rest)) :=
  lv_if_lt hexec hb hdg ht (fun h => kt ((iI_lt (a := a) (b := 0) ha (by omega : (-2147483648 : Int) ≤ 0 ∧ (0 : Int) < 2147483648)).mp h)) (fun h => kf (by have h2 : ¬ (a < 0) := fun z => h ((iI_lt (a := a) (b := 0) ha (by omega : (-2147483648 : Int) ≤ 0 ∧ (0 : Int) < 2147483648)).mpr z); omega))
theorem ob_icmp_ge (hexec : p.tables.exec = Jvm.exec) (hb : c.code = cc) {a b : Int} {off : Int} {tgt : Nat} (hdg : decode cc pc = .ok (.if_icmp .ge off, 3)) (ht : (pc : Int) + off = (tgt : Int)) (ha : -2147483648 ≤ a ∧ a < 2147483648) (hb2 : -2147483648 ≤ b ∧ b < 2147483648)
    (kt : b ≤ a → W p l e R s m args below meth c H locs cells slots Q (F0 m tgt ls rest)) (kf : a < b → W p l e R s m args below meth c H locs cells slots Q (F0 m (pc + 3) ls rest)) : W p l e R s m args below meth c H locs cells slots Q (F0 m pc ls (.int (iI b) :: .int (iI a) :: rest)) :=
  lv_icmp_ge hexec hb hdg ht (fun h => kt ((iI_le hb2 ha).mp h)) (fun h => kf (by have h2 : ¬ (b ≤ a) := fun z => h ((iI_le hb2 ha).mpr z); omega))
theorem ob_if_ge (hexec : p.tables.exec = Jvm.exec) (hb : c.code = cc) {a : Int} {off : Int} {tgt : Nat} (hdg : decode cc pc = .ok (.ifCond .ge off, 3)) (ht : (pc : Int) + off = (tgt : Int)) (ha : -2147483648 ≤ a ∧ a < 2147483648)
    (kt : 0 ≤ a → W p l e R s m args below meth c H locs cells slots Q (F0 m tgt ls rest)) (kf : a < 0 → W p l e R s m args below meth c H locs cells slots Q (F0 m (pc + 3) ls rest)) : W p l e R s m args below meth c H locs cells slots Q (F0 m pc ls (.int (iI a) :: rest)) :=
  lv_if_ge hexec hb hdg ht (fun h => kt ((iI_le (b := a) (a := 0) (by omega : (-2147483648 : Int) ≤ 0 ∧ (0 : Int) < 2147483648) ha).mp h)) (fun h => kf (by have h2 : ¬ (0 ≤ a) := fun z => h ((iI_le (b := a) (a := 0) (by omega : (-2147483648 : Int) ≤ 0 ∧ (0 : Int) < 2147483648) ha).mpr z); omega))
theorem ob_icmp_gt (hexec : p.tables.exec = Jvm.exec) (hb : c.code = cc) {a b : Int} {off : Int} {tgt : Nat} (hdg : decode cc pc = .ok (.if_icmp .gt off, 3)) (ht : (pc : Int) + off = (tgt : Int)) (ha : -2147483648 ≤ a ∧ a < 2147483648) (hb2 : -2147483648 ≤ b ∧ b < 2147483648)
    (kt : b < a → W p l e R s m args below meth c H locs cells slots Q (F0 m tgt ls rest)) (kf : a ≤ b → W p l e R s m args below meth c H locs cells slots Q (F0 m (pc + 3) ls rest)) : W p l e R s m args below meth c H locs cells slots Q (F0 m pc ls (.int (iI b) :: .int (iI a) :: rest)) :=
  lv_icmp_gt hexec hb hdg ht (fun h => kt ((iI_lt hb2 ha).mp h)) (fun h => kf (by have h2 : ¬ (b < a) := fun z => h ((iI_lt hb2 ha).mpr z); omega))
theorem ob_if_gt (hexec : p.tables.exec = Jvm.exec) (hb : c.code = cc) {a : Int} {off : Int} {tgt : Nat} (hdg : decode cc pc = .ok (.ifCond .gt off, 3)) (ht : (pc : Int) + off = (tgt : Int)) (ha : -2147483648 ≤ a ∧ a < 2147483648)
    (kt : 0 < a → W p l e R s m args below meth c H locs cells slots Q (F0 m tgt ls rest)) (kf : a ≤ 0 → W p l e R s m args below meth c H locs cells slots Q (F0 m (pc + 3) ls rest)) : W p l e R s m args below meth c H locs cells slots Q (F0 m pc ls (.int (iI a) :: rest)) :=
  lv_if_gt hexec hb hdg ht (fun h => kt ((iI_lt (b := a) (a := 0) (by omega : (-2147483648 : Int) ≤ 0 ∧ (0 : Int) < 2147483648) ha).mp h)) (fun h => kf (by have h2 : ¬ (0 < a) := fun z => h ((iI_lt (b := a) (a := 0) (by omega : (-2147483648 : Int) ≤ 0 ∧ (0 : Int) < 2147483648) ha).mpr z); omega))
theorem ob_icmp_le (hexec : p.tables.exec = Jvm.exec) (hb : c.code = cc) {a b : Int} {off : Int} {tgt : Nat} (hdg : decode cc pc = .ok (.if_icmp .le off, 3)) (ht : (pc : Int) + off = (tgt : Int)) (ha : -2147483648 ≤ a ∧ a < 2147483648) (hb2 : -2147483648 ≤ b ∧ b < 2147483648)
    (kt : a ≤ b → W p l e R s m args below meth c H locs cells slots Q (F0 m tgt ls rest)) (kf : b < a → W p l e R s m args below meth c H locs cells slots Q (F0 m (pc + 3) ls rest)) : W p l e R s m args below meth c H locs cells slots Q (F0 m pc ls (.int (iI b) :: .int (iI a) :: rest)) :=
  lv_icmp_le hexec hb hdg ht (fun h => kt ((iI_le ha hb2).mp h)) (fun h => kf (by have h2 : ¬ (a ≤ b) := fun z => h ((iI_le ha hb2).mpr z); omega))
theorem ob_if_le (hexec : p.tables.exec = Jvm.exec) (hb : c.code = cc) {a : Int} {off : Int} {tgt : Nat} (hdg : decode cc pc = .ok (.ifCond .le off, 3)) (ht : (pc : Int) + off = (tgt : Int)) (ha : -2147483648 ≤ a ∧ a < 2147483648)
    (kt : a ≤ 0 → W p l e R s m args below meth c H locs cells slots Q (F0 m tgt ls rest)) (kf : 0 < a → W p l e R s m args below meth c H locs cells slots Q (F0 m (pc + 3) ls rest)) : W p l e R s m args below meth c H locs cells slots Q (F0 m pc ls (.int (iI a) :: rest)) :=
  lv_if_le hexec hb hdg ht (fun h => kt ((iI_le (a := a) (b := 0) ha (by omega : (-2147483648 : Int) ≤ 0 ∧ (0 : Int) < 2147483648)).mp h)) (fun h => kf (by have h2 : ¬ (a ≤ 0) := fun z => h ((iI_le (a := a) (b := 0) ha (by omega : (-2147483648 : Int) ≤ 0 ∧ (0 : Int) < 2147483648)).mpr z); omega))
theorem ob_iand1 (hexec : p.tables.exec = Jvm.exec) (hb : c.code = cc) {a : Int} (hdg : decode cc pc = .ok (.iand, 1)) (k : Nat) (ha : a = (k : Int)) (hk : k < 2147483648) (kk : W p l e R s m args below meth c H locs cells slots Q (F0 m (pc + 1) ls (.int (iI ((k % 2 : Nat) : Int)) :: rest))) : W p l e R s m args below meth c H locs cells slots Q (F0 m pc ls (.int (iI 1) :: .int (iI a) :: rest)) := ob_iand hexec hb hdg k 1 ha hk (by decide) kk
theorem ob_iand3 (hexec : p.tables.exec = Jvm.exec) (hb : c.code = cc) {a : Int} (hdg : decode cc pc = .ok (.iand, 1)) (k : Nat) (ha : a = (k : Int)) (hk : k < 2147483648) (kk : W p l e R s m args below meth c H locs cells slots Q (F0 m (pc + 1) ls (.int (iI ((k % 4 : Nat) : Int)) :: rest))) : W p l e R s m args below meth c H locs cells slots Q (F0 m pc ls (.int (iI 3) :: .int (iI a) :: rest)) := ob_iand hexec hb hdg k 2 ha hk (by decide) kk
theorem ob_iand31 (hexec : p.tables.exec = Jvm.exec) (hb : c.code = cc) {a : Int} (hdg : decode cc pc = .ok (.iand, 1)) (k : Nat) (ha : a = (k : Int)) (hk : k < 2147483648) (kk : W p l e R s m args below meth c H locs cells slots Q (F0 m (pc + 1) ls (.int (iI ((k % 32 : Nat) : Int)) :: rest))) : W p l e R s m args below meth c H locs cells slots Q (F0 m pc ls (.int (iI 31) :: .int (iI a) :: rest)) := ob_iand hexec hb hdg k 5 ha hk (by decide) kk
theorem ob_ishr1 (hexec : p.tables.exec = Jvm.exec) (hb : c.code = cc) {a : Int} (hdg : decode cc pc = .ok (.ishr, 1)) (k : Nat) (ha : a = (k : Int)) (hk : k < 2147483648) (kk : W p l e R s m args below meth c H locs cells slots Q (F0 m (pc + 1) ls (.int (iI ((k / 2 : Nat) : Int)) :: rest))) : W p l e R s m args below meth c H locs cells slots Q (F0 m pc ls (.int (iI 1) :: .int (iI a) :: rest)) := ob_ishr hexec hb hdg k 1 ha hk rfl (by decide) kk
theorem ob_ishr2 (hexec : p.tables.exec = Jvm.exec) (hb : c.code = cc) {a : Int} (hdg : decode cc pc = .ok (.ishr, 1)) (k : Nat) (ha : a = (k : Int)) (hk : k < 2147483648) (kk : W p l e R s m args below meth c H locs cells slots Q (F0 m (pc + 1) ls (.int (iI ((k / 4 : Nat) : Int)) :: rest))) : W p l e R s m args below meth c H locs cells slots Q (F0 m pc ls (.int (iI 2) :: .int (iI a) :: rest)) := ob_ishr hexec hb hdg k 2 ha hk rfl (by decide) kk
variable {G : va_G} {cl : List vw_C} {ws : va_W} {tys : List (ClassId × FieldType)} {A : Nat → Prop} {H0 : Heap} {a : Nat}
theorem ob_iald (hexec : p.tables.exec = Jvm.exec) (hb : c.code = cc) (hK : va_K G cl tys s) (hP : va_P G cl ws H) (q0 t0 : Nat) {cA : ClassId} {n : Nat} {f : Nat → Int} (ha : ws[q0]? = some (a, .inl (cA, n, .inl (iF f)))) (ht : tys[t0]? = some (cA, .int)) {z : Int} (k : Nat) (hz : z = (k : Int)) (hk : k < n) (hn : n < 2147483648) (hdg : decode cc pc = .ok (.iaload, 1))
    (kk : W p l e R s m args below meth c H locs cells slots Q (F0 m (pc + 1) ls (.int (iI (f k)) :: rest))) : W p l e R s m args below meth c H locs cells slots Q (F0 m pc ls (.int (iI z) :: .ref a :: rest)) := by
  obtain ⟨h1, h2⟩ := iI_in hz hk hn
  refine va_iald hexec hb hK hP q0 t0 ha ht h1 hdg ?_
  rw [h2]; exact kk
theorem ob_zald (hexec : p.tables.exec = Jvm.exec) (hb : c.code = cc) (hK : va_K G cl tys s) (hP : va_P G cl ws H) (q0 t0 : Nat) {cA : ClassId} {n : Nat} {f : Nat → Int} (ha : ws[q0]? = some (a, .inl (cA, n, .inl (iF f)))) (ht : tys[t0]? = some (cA, .boolean)) {z : Int} (k : Nat) (hz : z = (k : Int)) (hk : k < n) (hn : n < 2147483648) (hdg : decode cc pc = .ok (.baload, 1))
    (kk : W p l e R s m args below meth c H locs cells slots Q (F0 m (pc + 1) ls (.int (iI (f k)) :: rest))) : W p l e R s m args below meth c H locs cells slots Q (F0 m pc ls (.int (iI z) :: .ref a :: rest)) := by
  obtain ⟨h1, h2⟩ := iI_in hz hk hn
  refine va_zald hexec hb hK hP q0 t0 ha ht h1 hdg ?_
  rw [h2]; exact kk
theorem ob_iast (hexec : p.tables.exec = Jvm.exec) (hb : c.code = cc) (hK : va_K G cl tys s) (hP : va_P G cl ws H) (hD : va_D A ws) (hS : va_S A H0 H locs) (q0 t0 : Nat) {cA : ClassId} {n : Nat} {f : Nat → Int} (ha : ws[q0]? = some (a, .inl (cA, n, .inl (iF f)))) (ht : tys[t0]? = some (cA, .int)) {z x : Int} (k : Nat) (hz : z = (k : Int)) (hk : k < n) (hn : n < 2147483648) (hdg : decode cc pc = .ok (.iastore, 1))
    (kk : ∀ (H1 : Heap) (locs1 : List Loc), va_P G cl (ws.set q0 (a, .inl (cA, n, .inl (iF (va_up f k x))))) H1 → va_D A (ws.set q0 (a, .inl (cA, n, .inl (iF (va_up f k x))))) → va_S A H0 H1 locs1 → W p l e R s m args below meth c H1 locs1 cells slots Q (F0 m (pc + 1) ls rest)) : W p l e R s m args below meth c H locs cells slots Q (F0 m pc ls (.int (iI x) :: .int (iI z) :: .ref a :: rest)) := by
  obtain ⟨h1, h2⟩ := iI_in hz hk hn
  refine va_iast hexec hb hK hP hD hS q0 t0 ha ht h1 hdg (fun H1 locs1 g1 g2 g3 => ?_)
  rw [h2, iF_up] at g1 g2
  exact kk H1 locs1 g1 g2 g3
theorem ob_zast (hexec : p.tables.exec = Jvm.exec) (hb : c.code = cc) (hK : va_K G cl tys s) (hP : va_P G cl ws H) (hD : va_D A ws) (hS : va_S A H0 H locs) (q0 t0 : Nat) {cA : ClassId} {n : Nat} {f : Nat → Int} (ha : ws[q0]? = some (a, .inl (cA, n, .inl (iF f)))) (ht : tys[t0]? = some (cA, .boolean)) {z x : Int} (k : Nat) (hz : z = (k : Int)) (hk : k < n) (hn : n < 2147483648) (hx : x = 0 ∨ x = 1) (hdg : decode cc pc = .ok (.bastore, 1))
    (kk : ∀ (H1 : Heap) (locs1 : List Loc), va_P G cl (ws.set q0 (a, .inl (cA, n, .inl (iF (va_up f k x))))) H1 → va_D A (ws.set q0 (a, .inl (cA, n, .inl (iF (va_up f k x))))) → va_S A H0 H1 locs1 → W p l e R s m args below meth c H1 locs1 cells slots Q (F0 m (pc + 1) ls rest)) : W p l e R s m args below meth c H locs cells slots Q (F0 m pc ls (.int (iI x) :: .int (iI z) :: .ref a :: rest)) := by
  obtain ⟨h1, h2⟩ := iI_in hz hk hn
  have h3 : vp_nar .boolean (iI x) = iI x := by
    rcases hx with rfl | rfl <;> decide
  refine va_zast hexec hb hK hP hD hS q0 t0 ha ht h1 hdg (fun H1 locs1 g1 g2 g3 => ?_)
  rw [h2, h3, iF_up] at g1 g2
  exact kk H1 locs1 g1 g2 g3
theorem ob_iastN (hexec : p.tables.exec = Jvm.exec) (hb : c.code = cc) (hK : va_K G cl tys s) (hP : va_P G cl ws H) (hD : va_D A ws) (hS : va_S A H0 H locs) (q0 t0 : Nat) {cA : ClassId} {n : Nat} {f : Nat → Nat} (ha : ws[q0]? = some (a, .inl (cA, n, .inl (iN f)))) (ht : tys[t0]? = some (cA, .int)) {z x : Int} (k : Nat) (hz : z = (k : Int)) (hk : k < n) (hn : n < 2147483648) (v : Nat) (hx : x = (v : Int)) (hdg : decode cc pc = .ok (.iastore, 1))
    (kk : ∀ (H1 : Heap) (locs1 : List Loc), va_P G cl (ws.set q0 (a, .inl (cA, n, .inl (iN (va_up f k v))))) H1 → va_D A (ws.set q0 (a, .inl (cA, n, .inl (iN (va_up f k v))))) → va_S A H0 H1 locs1 → W p l e R s m args below meth c H1 locs1 cells slots Q (F0 m (pc + 1) ls rest)) : W p l e R s m args below meth c H locs cells slots Q (F0 m pc ls (.int (iI x) :: .int (iI z) :: .ref a :: rest)) := by
  subst hx
  refine ob_iast hexec hb hK hP hD hS q0 t0 ha ht k hz hk hn hdg (fun H1 locs1 g1 g2 g3 => ?_)
  rw [iN_up] at g1 g2
  exact kk H1 locs1 g1 g2 g3
end OB
/-! contracts: a method that only reads (obR), a method with a world of its own (obW) -/
def obR (G : va_G) (cl : List vw_C) (ws : va_W) (tys : List (ClassId × FieldType)) (av : List Value) : Array Value → State → Prop := va_Pc av (fun U => va_P G cl ws U.heap ∧ va_K G cl tys U)
def obW (G : va_G) (cl : List vw_C) (ws : va_W) (tys : List (ClassId × FieldType)) (sz : Nat) (av : List Value) : Array Value → State → Prop := va_Pc av (fun U => U.heap.size = sz ∧ va_P G cl ws U.heap ∧ va_K G cl tys U ∧ va_D (fun _ => True) ws)
def obB {U : Type} (G : va_G) (cl : List vw_C) (tys : List (ClassId × FieldType)) (A : Nat → Prop) (B : U → va_W) (u : U) (t : State) : Prop := va_P G cl (B u) t.heap ∧ va_K G cl tys t ∧ va_D A (B u)
theorem obR_blind {G : va_G} {cl : List vw_C} {ws : va_W} {tys : List (ClassId × FieldType)} {av : List Value} : FrameBlind (obR G cl ws tys av) := fun a U g mk q => by
  obtain ⟨q0, qP, qK⟩ := q
  exact ⟨q0, qP, va_K.moved (u := U) (U := U.calling g mk a) (Vm.Alike.refl U.vm) qK⟩
theorem obW_blind {G : va_G} {cl : List vw_C} {ws : va_W} {tys : List (ClassId × FieldType)} {sz : Nat} {av : List Value} : FrameBlind (obW G cl ws tys sz av) := fun a U g mk q => by
  obtain ⟨q0, q1, qP, qK, qD⟩ := q
  exact ⟨q0, q1, qP, va_K.moved (u := U) (U := U.calling g mk a) (Vm.Alike.refl U.vm) qK, qD⟩
section OC
variable {p : Program} {l : Launch} {e : Env} {R : Room} {s : State} {m : MethodId} {args : Array Value} {below : List Frame} {meth : Method} {c : Code} {H : Heap} {locs : List Loc} {cells slots : Nat} {Q : State → Prop}
variable {cc : ByteArray} {pc : Nat} {ls : Array Slot} {rest : List Value}
variable {G : va_G} {cl : List vw_C} {ws : va_W} {tys : List (ClassId × FieldType)} {A : Nat → Prop} {H0 : Heap}
variable {y : MethodName} {bytes : ByteArray} {maxL nL n index : Nat} {ret : Option FieldType} {wds : List Cond} {rm : Room} {Ts : List Cond} {own C : String} {b : Addr} {As : List Value} {g : JFrame}
/-- a call of a method that only reads: isC: its cells among ours -/
theorem ob_callR {post : Int32 → Prop} {wc : va_W} {tyc : List (ClassId × FieldType)} {ci : Nat} {qc : vw_C} {fs : List Value} (hM : Met l y wds rm (obR G cl wc tyc (.ref b :: As)) (vp_Si post) 0 0 (fun _ => False)) (S : CallFix p m c cc nL s args Ts own) (cw : CallW R s args own C index y bytes maxL ret wds rm 0 0 n)
    (hK : va_K G cl tys s) (hP : va_P G cl ws H) (isC isT : List Nat) (hC : isC.filterMap (fun i => ws[i]?) = wc) (hT : isT.filterMap (fun i => tys[i]?) = tyc) (hc : cl[ci]? = some qc) (hq : qc.1 = C) (he : wc[0]? = some (b, .inr (ci, fs))) (hn : As.length = n) (hsize : ls.size = nL) {st : List Value} (hst : st = As.reverse ++ .ref b :: rest) (hroom : (rest.map fun v => v.category).sum ≤ 8) (hdg : decode cc pc = .ok (.invokevirtual index, 3)) (hf : cells ≤ R.cells ∧ slots ≤ R.slots)
    (kk : ∀ r : Int32, post r → W p l e R s m args below meth c H locs cells slots Q (F0 m (pc + 3) ls (.int r :: rest))) : W p l e R s m args below meth c H locs cells slots Q (F0 m pc ls st) := by
  have hPc := hP.sub isC hC
  have hKc := hK.sub isT hT
  subst hq
  refine vp_callSi (W.runV (As := As) (rest := rest) S hM cw ⟨obR_blind, va_recv hKc hPc hc he, fun U hU hW => ⟨rfl, by rw [hU]; exact hPc, va_K.moved hW.alike hKc⟩⟩ rfl hn hsize hst (lv_room hroom) hdg ⟨hf.1, hf.2⟩) kk
/-- a call of a method with a world of its own, that answers an int -/
theorem ob_callI {U : Type} {post : Int32 → U → Prop} {B : U → va_W} {wc wr : va_W} {tyc : List (ClassId × FieldType)} {ci : Nat} {qc : vw_C} {fs : List Value} (hM : Met l y wds rm (obW G cl wc tyc H.size (.ref b :: As)) (va_Qi post (obB G cl tyc (va_A wc H.size) B) (va_A wc H.size)) 0 0 (va_A wc H.size)) (S : CallFix p m c cc nL s args Ts own) (cw : CallW R s args own C index y bytes maxL ret wds rm 0 0 n)
    (hK : va_K G cl tys s) (hP : va_P G cl ws H) (hD : va_D A ws) (hS : va_S A H0 H locs) (hA : ∀ q : Nat, H0.size ≤ q → A q) (isC isR isT : List Nat) (hC : isC.filterMap (fun i => ws[i]?) = wc) (hC2 : isC.map (fun i => ws[i]?) = wc.map some) (hR : isR.map (fun i => ws[i]?) = wr.map some) (hnd : va_nd isC = true) (hnr : va_nd isR = true) (hdis : ∀ i ∈ isR, i ∉ isC) (hT : isT.filterMap (fun i => tys[i]?) = tyc) (hc : cl[ci]? = some qc) (hq : qc.1 = C) (he : wc[0]? = some (b, .inr (ci, fs))) (hn : As.length = n) (hsize : ls.size = nL) {st : List Value} (hst : st = As.reverse ++ .ref b :: rest) (hroom : (rest.map fun v => v.category).sum ≤ 8) (hdg : decode cc pc = .ok (.invokevirtual index, 3)) (hf : cells ≤ R.cells ∧ slots ≤ R.slots)
    (kk : ∀ (r : Int32) (u : U) (H1 : Heap) (locs1 : List Loc), post r u → va_P G cl (wr ++ B u) H1 → va_D A (wr ++ B u) → va_S A H0 H1 locs1 → W p l e R s m args below meth c H1 locs1 cells slots Q (F0 m (pc + 3) ls (.int r :: rest))) : W p l e R s m args below meth c H locs cells slots Q (F0 m pc ls st) := by
  have hPc := hP.sub isC hC
  have hDc := hD.sub isC hnd hC2
  have hKc := hK.sub isT hT
  have hFc := va_free (wc := wc) hD hS hA isC hC2
  subst hq
  refine va_calli (va_runV (As := As) (rest := rest) S hM cw ⟨obW_blind, va_recv hKc hPc hc he, fun U hU hW => ⟨rfl, by rw [hU], by rw [hU]; exact hPc, va_K.moved hW.alike hKc, hDc.weaken (fun _ _ _ _ => trivial)⟩⟩ rfl hn hsize hst (lv_room hroom) hdg ⟨hf.1, hf.2⟩) hS (fun q _ h => hFc q h) hFc (fun r u t H1 locs1 ht hvm hw hB hz1 hk1 hS1 => ?_)
  obtain ⟨hP1, hK1, hD1⟩ := hB
  rw [ht] at hP1
  obtain ⟨hP2, hD2⟩ := va_join (wr := wr) (w1 := B u) hP hD isC isR hC2 hR hnr hdis hk1 hFc hP1 hD1
  exact kk r u H1 locs1 hw hP2 hD2 hS1
/-- the same for a method that answers nothing -/
theorem ob_callV {U : Type} {post : U → Prop} {B : U → va_W} {wc wr : va_W} {tyc : List (ClassId × FieldType)} {ci : Nat} {qc : vw_C} {fs : List Value} (hM : Met l y wds rm (obW G cl wc tyc H.size (.ref b :: As)) (va_Qv post (obB G cl tyc (va_A wc H.size) B) (va_A wc H.size)) 0 0 (va_A wc H.size)) (S : CallFix p m c cc nL s args Ts own) (cw : CallW R s args own C index y bytes maxL ret wds rm 0 0 n)
    (hK : va_K G cl tys s) (hP : va_P G cl ws H) (hD : va_D A ws) (hS : va_S A H0 H locs) (hA : ∀ q : Nat, H0.size ≤ q → A q) (isC isR isT : List Nat) (hC : isC.filterMap (fun i => ws[i]?) = wc) (hC2 : isC.map (fun i => ws[i]?) = wc.map some) (hR : isR.map (fun i => ws[i]?) = wr.map some) (hnd : va_nd isC = true) (hnr : va_nd isR = true) (hdis : ∀ i ∈ isR, i ∉ isC) (hT : isT.filterMap (fun i => tys[i]?) = tyc) (hc : cl[ci]? = some qc) (hq : qc.1 = C) (he : wc[0]? = some (b, .inr (ci, fs))) (hn : As.length = n) (hsize : ls.size = nL) {st : List Value} (hst : st = As.reverse ++ .ref b :: rest) (hroom : (rest.map fun v => v.category).sum ≤ 8) (hdg : decode cc pc = .ok (.invokevirtual index, 3)) (hf : cells ≤ R.cells ∧ slots ≤ R.slots)
    (kk : ∀ (u : U) (H1 : Heap) (locs1 : List Loc), post u → va_P G cl (wr ++ B u) H1 → va_D A (wr ++ B u) → va_S A H0 H1 locs1 → W p l e R s m args below meth c H1 locs1 cells slots Q (F0 m (pc + 3) ls rest)) : W p l e R s m args below meth c H locs cells slots Q (F0 m pc ls st) := by
  have hPc := hP.sub isC hC
  have hDc := hD.sub isC hnd hC2
  have hKc := hK.sub isT hT
  have hFc := va_free (wc := wc) hD hS hA isC hC2
  subst hq
  refine va_callv (va_runV (As := As) (rest := rest) S hM cw ⟨obW_blind, va_recv hKc hPc hc he, fun U hU hW => ⟨rfl, by rw [hU], by rw [hU]; exact hPc, va_K.moved hW.alike hKc, hDc.weaken (fun _ _ _ _ => trivial)⟩⟩ rfl hn hsize hst (lv_room hroom) hdg ⟨hf.1, hf.2⟩) hS (fun q _ h => hFc q h) hFc (fun u t H1 locs1 ht hvm hw hB hz1 hk1 hS1 => ?_)
  obtain ⟨hP1, hK1, hD1⟩ := hB
  rw [ht] at hP1
  obtain ⟨hP2, hD2⟩ := va_join (wr := wr) (w1 := B u) hP hD isC isR hC2 hR hnr hdis hk1 hFc hP1 hD1
  exact kk u H1 locs1 hw hP2 hD2 hS1
end OC
end
section
/-! WORLDS: both classes over one state: n firms, c debts, debtors D, creditors C, amounts A, flags O -/
abbrev vwCl : List vw_C := [(RX1, TX1, 11), (RX2, TX2, 7)]
def wN (ad : Nat → Nat) (cI cZ : ClassId) (n c : Nat) (D C : Nat → Nat) (A O S Ln Ar Rd : Nat → Int) : va_W :=
  [(ad 0, .inr (0, [.ref (ad 1), .ref (ad 2), .ref (ad 3), .ref (ad 4), .ref (ad 9), .ref (ad 5), .ref (ad 6), .ref (ad 7), .ref (ad 8), .int (iI n), .int (iI c)])),
   (ad 1, .inl (cI, 7, .inl (iN D))), (ad 2, .inl (cI, 7, .inl (iN C))), (ad 3, .inl (cI, 7, .inl (iF A))), (ad 4, .inl (cI, 7, .inl (iF S))),
   (ad 5, .inl (cZ, 5, .inl (iF O))), (ad 6, .inl (cI, 5, .inl (iF Ln))), (ad 7, .inl (cI, 5, .inl (iF Ar))), (ad 8, .inl (cI, 7, .inl (iF Rd)))]
def wM (bd : Nat → Nat) (cI cZ : ClassId) (n c : Nat) (D C : Nat → Nat) (A O Nt : Nat → Int) : va_W :=
  [(bd 0, .inr (1, [.int (iI n), .int (iI c), .ref (bd 1), .ref (bd 2), .ref (bd 3), .ref (bd 4), .ref (bd 5)])),
   (bd 1, .inl (cI, 7, .inl (iN D))), (bd 2, .inl (cI, 7, .inl (iN C))), (bd 3, .inl (cI, 7, .inl (iF A))), (bd 4, .inl (cZ, 5, .inl (iF O))), (bd 5, .inl (cI, 5, .inl (iF Nt)))]
abbrev sN : Type := Nat × (Nat → Nat) × (Nat → Nat) × (Nat → Int) × (Nat → Int) × (Nat → Int) × (Nat → Int) × (Nat → Int) × (Nat → Int)
abbrev sM : Type := Nat × (Nat → Nat) × (Nat → Nat) × (Nat → Int) × (Nat → Int) × (Nat → Int)
def BN (ad : Nat → Nat) (cI cZ : ClassId) (n : Nat) (u : sN) : va_W := wN ad cI cZ n u.1 u.2.1 u.2.2.1 u.2.2.2.1 u.2.2.2.2.1 u.2.2.2.2.2.1 u.2.2.2.2.2.2.1 u.2.2.2.2.2.2.2.1 u.2.2.2.2.2.2.2.2
def BM (bd : Nat → Nat) (cI cZ : ClassId) (n : Nat) (u : sM) : va_W := wM bd cI cZ n u.1 u.2.1 u.2.2.1 u.2.2.2.1 u.2.2.2.2.1 u.2.2.2.2.2
/-- what holds between the calls -/
def WF (n c : Nat) (D C : Nat → Nat) (A O : Nat → Int) : Prop := 2 ≤ n ∧ n ≤ 5 ∧ c ≤ 7 ∧ (∀ d, d < c → D d < n ∧ C d < n ∧ D d ≠ C d ∧ 0 ≤ A d ∧ A d ≤ 3) ∧ ∀ f, O f = 0 ∨ O f = 1
end
section
/-! FACTS for the walks -/
def tb (P : Prop) [Decidable P] : Int := if P then 1 else 0
theorem tb_1 {P : Prop} [Decidable P] (h : P) : tb P = 1 := if_pos h
theorem tb_0 {P : Prop} [Decidable P] (h : ¬ P) : tb P = 0 := if_neg h
theorem tb_f {P : Prop} [Decidable P] (h : tb P = 0) : ¬ P := fun q => by rw [tb_1 q] at h; exact absurd h (by decide)
theorem tb_t {P : Prop} [Decidable P] (h : ¬ tb P = 0) : P := by
  by_cases q : P
  · exact q
  · exact absurd (tb_0 q) h
theorem tb_bnd (P : Prop) [Decidable P] : -2147483648 ≤ tb P ∧ tb P < 2147483648 := by
  unfold tb
  split <;> omega
theorem p42 (k : Nat) : 2 ^ (2 * k) = 4 ^ k := by rw [Nat.pow_mul]
theorem rm_bnd {c : Nat} {D C : Nat → Nat} {A O : Nat → Int} {d : Nat} (h : 0 ≤ A d ∧ A d ≤ 3) : 0 ≤ rm D C A O d ∧ rm D C A O d ≤ 3 := by
  unfold rm
  split <;> omega
theorem WF.rm {n c : Nat} {D C : Nat → Nat} {A O : Nat → Int} (h : WF n c D C A O) : ∀ d, d < c → 0 ≤ rm D C A O d ∧ rm D C A O d ≤ 3 := fun d hd => rm_bnd (c := c) (h.2.2.2.1 d hd).2.2.2
theorem WF.DC {n c : Nat} {D C : Nat → Nat} {A O : Nat → Int} (h : WF n c D C A O) : ∀ d, d < c → D d < n ∧ C d < n ∧ D d ≠ C d := fun d hd => ⟨(h.2.2.2.1 d hd).1, (h.2.2.2.1 d hd).2.1, (h.2.2.2.1 d hd).2.2.1⟩
theorem WF.DC2 {n c : Nat} {D C : Nat → Nat} {A O : Nat → Int} (h : WF n c D C A O) : ∀ d, d < c → D d < n ∧ C d < n := fun d hd => ⟨(h.2.2.2.1 d hd).1, (h.2.2.2.1 d hd).2.1⟩
theorem WF.DC5 {n c : Nat} {D C : Nat → Nat} {A O : Nat → Int} (h : WF n c D C A O) : ∀ d, d < c → D d < 5 ∧ C d < 5 := fun d hd => by
  have h1 := h.DC d hd
  have h2 := h.2.1
  omega
theorem lfA_bnd {c : Nat} {R S : Nat → Int} (hR : ∀ d, d < c → 0 ≤ R d ∧ R d ≤ 3) (hS : ∀ d, d < c → 0 ≤ S d ∧ S d ≤ 3) {a : Nat} (ha : a < 2 * c) : -3 ≤ lfA R S a ∧ lfA R S a ≤ 3 := by
  have h1 := hR (a / 2) (by omega)
  have h2 := hS (a / 2) (by omega)
  unfold lfA
  split <;> omega
theorem gnA_bnd {c : Nat} (hc : c ≤ 7) (fav : Int) (d : Nat) : 0 ≤ gnA c fav d ∧ gnA c fav d ≤ 32768 := by
  unfold gnA
  have h1 : 4 ^ (c - 1 - d) ≤ 4 ^ 6 := Nat.pow_le_pow_right (by decide) (by omega)
  have h2 : (4 : Nat) ^ 6 = 4096 := by decide
  rw [h2] at h1
  generalize 4 ^ (c - 1 - d) = q at h1
  split
  · split <;> omega
  · omega
theorem wA_bnd {c : Nat} (hc : c ≤ 7) (fav : Int) (a : Nat) : -32768 ≤ wA (gnA c fav) a ∧ wA (gnA c fav) a ≤ 32768 := by
  have h1 := gnA_bnd hc fav (a / 2)
  unfold wA
  split <;> omega
theorem tlA_lt {n c : Nat} {D C : Nat → Nat} (h : ∀ d, d < c → D d < n ∧ C d < n ∧ D d ≠ C d) {a : Nat} (ha : a < 2 * c) : tlA D C a < n ∧ hdA D C a < n ∧ tlA D C a ≠ hdA D C a := by
  have h1 := h (a / 2) (by omega)
  unfold tlA hdA
  split <;> omega
/-- what a firm has coming, less what it owes, stays small -/
theorem tf_bnd {D C : Nat → Nat} {x : Nat → Int} (f : Nat) : ∀ c, (∀ d, d < c → 0 ≤ x d ∧ x d ≤ 3) → -(3 * (c : Int)) ≤ sZ (tf D C x f) c ∧ sZ (tf D C x f) c ≤ 3 * (c : Int) := by
  intro c
  induction c with
  | zero => intro _; simp [sZ]
  | succ c ih =>
    intro h
    have h1 := ih (fun d hd => h d (by omega))
    have h2 := h c (by omega)
    have e : sZ (tf D C x f) (c + 1) = sZ (tf D C x f) c + ((if C c = f then x c else 0) - (if D c = f then x c else 0)) := rfl
    rw [e]
    split <;> split <;> omega
/-- a row of debts behind the payment of one: k is gone, the rest moves up, below e -/
def sh {α : Type} (f : Nat → α) (k e : Nat) : Nat → α := fun j => if k ≤ j ∧ j + 1 < e then f (j + 1) else f j
theorem sh_0 {α : Type} (f : Nat → α) (k : Nat) : sh f k (k + 1) = f := by
  funext j
  unfold sh
  rw [if_neg (by omega)]
theorem sh_at {α : Type} (f : Nat → α) (k e : Nat) : sh f k (e + 1) (e + 1) = f (e + 1) := by
  unfold sh
  rw [if_neg (by omega)]
theorem sh_up {α : Type} (f : Nat → α) {k e : Nat} (h : k ≤ e) : va_up (sh f k (e + 1)) e (f (e + 1)) = sh f k (e + 2) := by
  funext j
  unfold va_up sh
  by_cases q : j = e
  · subst q
    rw [if_pos rfl, if_pos (by omega)]
  · rw [if_neg q]
    by_cases q2 : k ≤ j ∧ j + 1 < e + 1
    · rw [if_pos q2, if_pos (by omega)]
    · rw [if_neg q2, if_neg (by omega)]
/-- the amounts behind a clearing x of the first e debts -/
def sbt (A x : Nat → Int) (e : Nat) : Nat → Int := fun j => if j < e then A j - x j else A j
theorem sbt_0 (A x : Nat → Int) : sbt A x 0 = A := by
  funext j
  unfold sbt
  rw [if_neg (by omega)]
theorem sbt_at (A x : Nat → Int) (e : Nat) : sbt A x e e = A e := by
  unfold sbt
  rw [if_neg (by omega)]
theorem sbt_up (A x : Nat → Int) (e : Nat) : va_up (sbt A x e) e (A e - x e) = sbt A x (e + 1) := by
  funext j
  unfold va_up sbt
  by_cases q : j = e
  · subst q
    rw [if_pos rfl, if_pos (by omega)]
  · rw [if_neg q]
    by_cases q2 : j < e
    · rw [if_pos q2, if_pos (by omega)]
    · rw [if_neg q2, if_neg (by omega)]
theorem sbt_congr {A x y : Nat → Int} {e : Nat} (h : ∀ d, d < e → x d = y d) : sbt A x e = sbt A y e := by
  funext j
  unfold sbt
  by_cases q : j < e
  · rw [if_pos q, if_pos q, h j q]
  · rw [if_neg q, if_neg q]
/-- the code z is that of a clearing -/
def CC (n c : Nat) (D C : Nat → Nat) (R : Nat → Int) (z : Int) : Prop := 0 ≤ z ∧ z < ((4 ^ c : Nat) : Int) ∧ Clr n c D C R (dgZ c z.toNat)
/-- a positive balance -/
def pos (x : Int) : Int := if 0 < x then x else 0
theorem dgZ_bnd (c k d : Nat) : 0 ≤ dgZ c k d ∧ dgZ c k d ≤ 3 := by
  have := dgN_lt c k d
  unfold dgZ
  omega
theorem sZ_bnd3 {x : Nat → Int} {c : Nat} (hc : c ≤ 7) (h : ∀ d, d < c → 0 ≤ x d ∧ x d ≤ 3) : 0 ≤ sZ x c ∧ sZ x c ≤ 21 := by
  have h1 := sZ_bnd c 3 h
  omega
theorem Clr.b3 {n c : Nat} {D C : Nat → Nat} {A O x : Nat → Int} (hW : WF n c D C A O) (h : Clr n c D C (rm D C A O) x) : ∀ d, d < c → 0 ≤ x d ∧ x d ≤ 3 := fun d hd => by
  have h1 := h.1 d hd
  have h2 := hW.rm d hd
  omega
/-- the rounds of solve come to an end -/
theorem cnt_end {n c : Nat} {D C : Nat → Nat} {A O x g : Nat → Int} (hW : WF n c D C A O) (h : Clr n c D C (rm D C A O) x) : cnt (fun k => gG g (dgZ c k) c) (gG g x c) (4 ^ c) < 16384 := by
  obtain ⟨k, k1, k2, k3⟩ := cd_of c (h.b3 hW)
  have h1 : gG g (dgZ c k) c = gG g x c := gG_congr c k3
  have h2 := cnt_lt (fun k => gG g (dgZ c k) c) (t := gG g x c) k1 h1
  have h3 := p4_le hW.2.2.1
  omega
theorem cnt_more {n c : Nat} {D C : Nat → Nat} {A O x y g : Nat → Int} (hW : WF n c D C A O) (h : Clr n c D C (rm D C A O) x) (hg : gG g x c < gG g y c) : cnt (fun k => gG g (dgZ c k) c) (gG g x c) (4 ^ c) < cnt (fun k => gG g (dgZ c k) c) (gG g y c) (4 ^ c) := by
  obtain ⟨k, k1, k2, k3⟩ := cd_of c (h.b3 hW)
  have h1 : gG g (dgZ c k) c = gG g x c := gG_congr c k3
  exact cnt_grow (fun k => gG g (dgZ c k) c) k1 h1 hg
theorem up_lo {f : Nat → Int} {k : Nat} {v : Int} (h : ∀ j, j < k → f j = v) : ∀ j, j < k + 1 → va_up f k v j = v := fun j hj => by
  by_cases q : j = k
  · rw [q, up_eq]
  · rw [up_ne _ _ q]
    exact h j (by omega)
theorem dg_at {c k i : Nat} (h : i < c) : dgZ c k (c - 1 - i) = ((k / 4 ^ i % 4 : Nat) : Int) := by
  unfold dgZ dgN
  rw [show c - 1 - (c - 1 - i) = i by omega]
theorem tf_congr {D C : Nat → Nat} {x y : Nat → Int} {c : Nat} (f : Nat) (h : ∀ d, d < c → x d = y d) : sZ (tf D C x f) c = sZ (tf D C y f) c := sZ_congr c (fun d hd => by unfold tf; rw [h d hd])
theorem div4 {k c : Nat} (h : ((k / 4 ^ c : Nat) : Int) = 0) : k < 4 ^ c := by
  have h1 : k / 4 ^ c = 0 := by omega
  have h2 : 0 < 4 ^ c := Nat.pow_pos (by decide)
  rcases Nat.lt_or_ge k (4 ^ c) with q | q
  · exact q
  · have := Nat.div_pos q h2
    omega
theorem div4' {k c : Nat} (h : ¬ ((k / 4 ^ c : Nat) : Int) = 0) : ¬ k < 4 ^ c := fun q => h (by rw [Nat.div_eq_of_lt q]; rfl)
end
section
/-! WHAT THE PUBLIC METHODS ANSWER, for both classes -/
def oweR (n c : Nat) (z1 z2 z3 : Int) : Int := if ¬ (0 ≤ z1 ∧ z1 < (n : Int)) ∨ ¬ (0 ≤ z2 ∧ z2 < (n : Int)) then -1 else if z1 = z2 then -2 else if z3 < 0 ∨ 3 < z3 then -3 else if c = 7 then -4 else (c : Int)
def oweK (n c : Nat) (z1 z2 z3 : Int) : Prop := (0 ≤ z1 ∧ z1 < (n : Int)) ∧ (0 ≤ z2 ∧ z2 < (n : Int)) ∧ z1 ≠ z2 ∧ (0 ≤ z3 ∧ z3 ≤ 3) ∧ c ≠ 7
def chaR (c : Nat) (A : Nat → Int) (z1 z2 : Int) : Int := if ¬ (0 ≤ z1 ∧ z1 < (c : Int)) then -1 else if z2 < 0 ∨ 3 < z2 then -2 else A z1.toNat
def chaK (c : Nat) (z1 z2 : Int) : Prop := (0 ≤ z1 ∧ z1 < (c : Int)) ∧ 0 ≤ z2 ∧ z2 ≤ 3
theorem sh_self {α : Type} (f : Nat → α) (k d : Nat) : sh f k d d = f d := by
  unfold sh
  rw [if_neg (by omega)]
theorem sh_up2 {α : Type} (f : Nat → α) {k d : Nat} (h : k + 1 ≤ d) : va_up (sh f k d) (d - 1) (f d) = sh f k (d + 1) := by
  obtain ⟨e, rfl⟩ : ∃ e, d = e + 1 := ⟨d - 1, by omega⟩
  exact sh_up f (by omega)
theorem up_back {α : Type} (f : Nat → α) (k : Nat) (v : α) : va_up (va_up f k v) k (f k) = f := by
  funext j
  unfold va_up
  by_cases q : j = k
  · rw [if_pos q, q]
  · rw [if_neg q, if_neg q]
theorem WF.out {n c : Nat} {D C : Nat → Nat} {A O : Nat → Int} (h : WF n c D C A O) (k : Nat) {v : Int} (hv : v = 0 ∨ v = 1) : WF n c D C A (va_up O k v) := by
  obtain ⟨h1, h2, h3, h4, h5⟩ := h
  refine ⟨h1, h2, h3, h4, fun f => ?_⟩
  unfold va_up
  split
  · exact hv
  · exact h5 f
theorem WF.owe {n c : Nat} {D C : Nat → Nat} {A O : Nat → Int} (h : WF n c D C A O) {z1 z2 z3 : Int} (hk : oweK n c z1 z2 z3) : WF n (c + 1) (va_up D c z1.toNat) (va_up C c z2.toNat) (va_up A c z3) O := by
  obtain ⟨h1, h2, h3, h4, h5⟩ := h
  obtain ⟨k1, k2, k3, k4, k5⟩ := hk
  refine ⟨h1, h2, by omega, fun d hd => ?_, h5⟩
  by_cases q : d = c
  · subst q
    rw [up_eq, up_eq, up_eq]
    omega
  · rw [up_ne _ _ q, up_ne _ _ q, up_ne _ _ q]
    exact h4 d (by omega)
theorem WF.cha {n c : Nat} {D C : Nat → Nat} {A O : Nat → Int} (h : WF n c D C A O) {z1 z2 : Int} (hk : chaK c z1 z2) : WF n c D C (va_up A z1.toNat z2) O := by
  obtain ⟨h1, h2, h3, h4, h5⟩ := h
  obtain ⟨k1, k2⟩ := hk
  refine ⟨h1, h2, h3, fun d hd => ?_, h5⟩
  have h6 := h4 d hd
  by_cases q : d = z1.toNat
  · rw [q] at h6 ⊢
    rw [up_eq]
    omega
  · rw [up_ne _ _ q]
    exact h6
theorem WF.pay {n c : Nat} {D C : Nat → Nat} {A O : Nat → Int} (h : WF n c D C A O) (k : Nat) : WF n (c - 1) (sh D k c) (sh C k c) (sh A k c) O := by
  obtain ⟨h1, h2, h3, h4, h5⟩ := h
  refine ⟨h1, h2, by omega, fun d hd => ?_, h5⟩
  unfold sh
  by_cases q : k ≤ d ∧ d + 1 < c
  · rw [if_pos q, if_pos q, if_pos q]
    exact h4 (d + 1) (by omega)
  · rw [if_neg q, if_neg q, if_neg q]
    exact h4 d (by omega)
theorem wf_sbt {n c : Nat} {D C : Nat → Nat} {A O x : Nat → Int} (h : WF n c D C A O) (hx : Clr n c D C (rm D C A O) x) : WF n c D C (sbt A x c) O := by
  obtain ⟨h1, h2, h3, h4, h5⟩ := h
  refine ⟨h1, h2, h3, fun d hd => ?_, h5⟩
  have h6 := h4 d hd
  have h7 := hx.1 d hd
  have h8 : rm D C A O d ≤ A d := by
    unfold rm
    split <;> omega
  unfold sbt
  rw [if_pos hd]
  omega
end
section
/-! ObligationNetting: methods that only read -/
set_option maxHeartbeats 4000000 in
set_option maxRecDepth 100000 in
theorem metN_isFirm (l : Launch) (dC : Nat → ClassId) (dI : Nat → Nat → Nat) (ad : Nat → Nat) (cI cZ : ClassId) (n c : Nat) (D C : Nat → Nat) (A O S Ln Ar Rd : Nat → Int) (z : Int) (hz : -2147483648 ≤ z ∧ z < 2147483648) (hn : n ≤ 5) : Met l yX1_isFirm (ws_ yX1_isFirm cX1_isFirm 2 (some .boolean)) ({ frames := 0, cells := 0, slots := 0, locals := 0 }) (obR (dC, dI) vwCl (wN ad cI cZ n c D C A O S Ln Ar Rd) [(cI, .int), (cZ, .boolean)] [.ref (ad 0), .int (iI z)]) (vp_Si (fun r => r = iI (tb (0 ≤ z ∧ z < (n : Int))))) 0 0 (fun _ => False) := by
  refine Met.ofW (cc := cX1_isFirm) (maxL := 2) (ret := (some .boolean)) (by decide) rfl ?_
  intro p e s m args below meth cd s₁ B hml hv
  obtain ⟨rfl, hP, hK⟩ := hv
  have hx := B.exec
  have hb := B.bytes
  have hr := B.returns
  have hts := atoms_spec (ws := (ws_ yX1_isFirm cX1_isFirm 2 (some .boolean))) B.pre
  have hts : ∀ w ∈ lw_all, w.before _ s = true := fun w h => hts w (List.mem_cons_of_mem _ h)
  have hown : s.vm.findClass RX1 = some m.cls := findClass_of_methodNamed B.named
  have hlocks := B.notSynchronized
  have hl := lv_entry ([.ref (ad 0), .int (iI z)]) (n := 2) (Nat.le_of_ble_eq_true rfl)
  rw [lg_entry_eq]
  generalize (lg_sl ([.ref (ad 0), .int (iI z)]) ++ List.replicate (2 - (lg_sl ([.ref (ad 0), .int (iI z)])).length) Slot.unset).toArray = ls at hl ⊢
  have hl : lv_has ls 2 [(0, .ref (ad 0)), (1, .int (iI z))] := hl
  refine lv_iload_n hx hb dX1_isFirm_0 rfl (lv_at hl 1 rfl) ?_
  refine ob_if_lt (tgt := 16) hx hb dX1_isFirm_1 (by decide) (by omega) (fun h1 => ?_) (fun h1 => ?_)
  · refine ob_ic hx hb dX1_isFirm_16 ?_
    exact W.zret (v := iI 0) hx hb hr (by decide) (fun t ht hW => ⟨_, rfl, (by first | rw [tb_1 (by omega)] | rw [tb_0 (by omega)]), ht⟩) (fun q h => by cases h) dX1_isFirm_17
  · refine lv_iload_n hx hb dX1_isFirm_4 rfl (lv_at hl 1 rfl) ?_
    refine lv_aload_n hx hb dX1_isFirm_5 rfl (lv_at hl 0 rfl) ?_
    refine va_get (D := (dC, dI)) (ci := 0) (v := .int (iI n)) (C := RX1) (T := TX1) (N := 11) hx hb hts in_X1 hown hK hP 0 rfl rfl 9 (by decide) (hts _ q42) (fun _ h9 => h9) rfl dX1_isFirm_6 ?_
    refine ob_icmp_ge (tgt := 16) hx hb dX1_isFirm_9 (by decide) (by omega) (by omega) (fun h9 => ?_) (fun h9 => ?_)
    · refine ob_ic hx hb dX1_isFirm_16 ?_
      exact W.zret (v := iI 0) hx hb hr (by decide) (fun t ht hW => ⟨_, rfl, (by first | rw [tb_1 (by omega)] | rw [tb_0 (by omega)]), ht⟩) (fun q h => by cases h) dX1_isFirm_17
    · refine ob_ic hx hb dX1_isFirm_12 ?_
      refine lv_goto (tgt := 17) hx hb dX1_isFirm_13 (by decide) ?_
      exact W.zret (v := iI 1) hx hb hr (by decide) (fun t ht hW => ⟨_, rfl, (by first | rw [tb_1 (by omega)] | rw [tb_0 (by omega)]), ht⟩) (fun q h => by cases h) dX1_isFirm_17
set_option maxHeartbeats 4000000 in
set_option maxRecDepth 100000 in
theorem metN_isDebt (l : Launch) (dC : Nat → ClassId) (dI : Nat → Nat → Nat) (ad : Nat → Nat) (cI cZ : ClassId) (n c : Nat) (D C : Nat → Nat) (A O S Ln Ar Rd : Nat → Int) (z : Int) (hz : -2147483648 ≤ z ∧ z < 2147483648) (hc : c ≤ 7) : Met l yX1_isDebt (ws_ yX1_isDebt cX1_isDebt 2 (some .boolean)) ({ frames := 0, cells := 0, slots := 0, locals := 0 }) (obR (dC, dI) vwCl (wN ad cI cZ n c D C A O S Ln Ar Rd) [(cI, .int), (cZ, .boolean)] [.ref (ad 0), .int (iI z)]) (vp_Si (fun r => r = iI (tb (0 ≤ z ∧ z < (c : Int))))) 0 0 (fun _ => False) := by
  refine Met.ofW (cc := cX1_isDebt) (maxL := 2) (ret := (some .boolean)) (by decide) rfl ?_
  intro p e s m args below meth cd s₁ B hml hv
  obtain ⟨rfl, hP, hK⟩ := hv
  have hx := B.exec
  have hb := B.bytes
  have hr := B.returns
  have hts := atoms_spec (ws := (ws_ yX1_isDebt cX1_isDebt 2 (some .boolean))) B.pre
  have hts : ∀ w ∈ lw_all, w.before _ s = true := fun w h => hts w (List.mem_cons_of_mem _ h)
  have hown : s.vm.findClass RX1 = some m.cls := findClass_of_methodNamed B.named
  have hlocks := B.notSynchronized
  have hl := lv_entry ([.ref (ad 0), .int (iI z)]) (n := 2) (Nat.le_of_ble_eq_true rfl)
  rw [lg_entry_eq]
  generalize (lg_sl ([.ref (ad 0), .int (iI z)]) ++ List.replicate (2 - (lg_sl ([.ref (ad 0), .int (iI z)])).length) Slot.unset).toArray = ls at hl ⊢
  have hl : lv_has ls 2 [(0, .ref (ad 0)), (1, .int (iI z))] := hl
  refine lv_iload_n hx hb dX1_isDebt_0 rfl (lv_at hl 1 rfl) ?_
  refine ob_if_lt (tgt := 16) hx hb dX1_isDebt_1 (by decide) (by omega) (fun h1 => ?_) (fun h1 => ?_)
  · refine ob_ic hx hb dX1_isDebt_16 ?_
    exact W.zret (v := iI 0) hx hb hr (by decide) (fun t ht hW => ⟨_, rfl, (by first | rw [tb_1 (by omega)] | rw [tb_0 (by omega)]), ht⟩) (fun q h => by cases h) dX1_isDebt_17
  · refine lv_iload_n hx hb dX1_isDebt_4 rfl (lv_at hl 1 rfl) ?_
    refine lv_aload_n hx hb dX1_isDebt_5 rfl (lv_at hl 0 rfl) ?_
    refine va_get (D := (dC, dI)) (ci := 0) (v := .int (iI c)) (C := RX1) (T := TX1) (N := 11) hx hb hts in_X1 hown hK hP 0 rfl rfl 10 (by decide) (hts _ q43) (fun _ h9 => h9) rfl dX1_isDebt_6 ?_
    refine ob_icmp_ge (tgt := 16) hx hb dX1_isDebt_9 (by decide) (by omega) (by omega) (fun h9 => ?_) (fun h9 => ?_)
    · refine ob_ic hx hb dX1_isDebt_16 ?_
      exact W.zret (v := iI 0) hx hb hr (by decide) (fun t ht hW => ⟨_, rfl, (by first | rw [tb_1 (by omega)] | rw [tb_0 (by omega)]), ht⟩) (fun q h => by cases h) dX1_isDebt_17
    · refine ob_ic hx hb dX1_isDebt_12 ?_
      refine lv_goto (tgt := 17) hx hb dX1_isDebt_13 (by decide) ?_
      exact W.zret (v := iI 1) hx hb hr (by decide) (fun t ht hW => ⟨_, rfl, (by first | rw [tb_1 (by omega)] | rw [tb_0 (by omega)]), ht⟩) (fun q h => by cases h) dX1_isDebt_17
set_option maxHeartbeats 4000000 in
set_option maxRecDepth 100000 in
theorem metN_tailOf (l : Launch) (dC : Nat → ClassId) (dI : Nat → Nat → Nat) (ad : Nat → Nat) (cI cZ : ClassId) (n c : Nat) (D C : Nat → Nat) (A O S Ln Ar Rd : Nat → Int) (a : Nat) (ha : a < 14) : Met l yX1_tailOf (ws_ yX1_tailOf cX1_tailOf 2 (some .int)) ({ frames := 0, cells := 0, slots := 0, locals := 0 }) (obR (dC, dI) vwCl (wN ad cI cZ n c D C A O S Ln Ar Rd) [(cI, .int), (cZ, .boolean)] [.ref (ad 0), .int (iI a)]) (vp_Si (fun r => r = iI (tlA D C a))) 0 0 (fun _ => False) := by
  refine Met.ofW (cc := cX1_tailOf) (maxL := 2) (ret := (some .int)) (by decide) rfl ?_
  intro p e s m args below meth cd s₁ B hml hv
  obtain ⟨rfl, hP, hK⟩ := hv
  have hx := B.exec
  have hb := B.bytes
  have hr := B.returns
  have hts := atoms_spec (ws := (ws_ yX1_tailOf cX1_tailOf 2 (some .int))) B.pre
  have hts : ∀ w ∈ lw_all, w.before _ s = true := fun w h => hts w (List.mem_cons_of_mem _ h)
  have hown : s.vm.findClass RX1 = some m.cls := findClass_of_methodNamed B.named
  have hlocks := B.notSynchronized
  have hl := lv_entry ([.ref (ad 0), .int (iI a)]) (n := 2) (Nat.le_of_ble_eq_true rfl)
  rw [lg_entry_eq]
  generalize (lg_sl ([.ref (ad 0), .int (iI a)]) ++ List.replicate (2 - (lg_sl ([.ref (ad 0), .int (iI a)])).length) Slot.unset).toArray = ls at hl ⊢
  have hl : lv_has ls 2 [(0, .ref (ad 0)), (1, .int (iI a))] := hl
  refine lv_iload_n hx hb dX1_tailOf_0 rfl (lv_at hl 1 rfl) ?_
  refine ob_ic hx hb dX1_tailOf_1 ?_
  refine ob_iand1 hx hb dX1_tailOf_2 (a) (by omega) (by omega) ?_
  refine ob_if_ne (tgt := 17) hx hb dX1_tailOf_3 (by decide) (by omega) (fun h3 => ?_) (fun h3 => ?_)
  · refine lv_aload_n hx hb dX1_tailOf_17 rfl (lv_at hl 0 rfl) ?_
    refine va_get (D := (dC, dI)) (ci := 0) (v := .ref (ad 2)) (C := RX1) (T := TX1) (N := 11) hx hb hts in_X1 hown hK hP 0 rfl rfl 1 (by decide) (hts _ q34) (fun _ h9 => h9) rfl dX1_tailOf_18 ?_
    refine lv_iload_n hx hb dX1_tailOf_21 rfl (lv_at hl 1 rfl) ?_
    refine ob_ic hx hb dX1_tailOf_22 ?_
    refine ob_ishr1 hx hb dX1_tailOf_23 (a) (by omega) (by omega) ?_
    refine ob_iald hx hb hK hP 2 0 rfl rfl (a / 2) (by omega) (by omega) (by decide) dX1_tailOf_24 ?_
    exact W.iret (v := iI (C (a / 2))) hx hb hr (fun t ht hW => ⟨_, rfl, (by unfold tlA; first | rw [if_pos (by omega)] | rw [if_neg (by omega)]), ht⟩) (fun q h => by cases h) dX1_tailOf_25
  · refine lv_aload_n hx hb dX1_tailOf_6 rfl (lv_at hl 0 rfl) ?_
    refine va_get (D := (dC, dI)) (ci := 0) (v := .ref (ad 1)) (C := RX1) (T := TX1) (N := 11) hx hb hts in_X1 hown hK hP 0 rfl rfl 0 (by decide) (hts _ q33) (fun _ h9 => h9) rfl dX1_tailOf_7 ?_
    refine lv_iload_n hx hb dX1_tailOf_10 rfl (lv_at hl 1 rfl) ?_
    refine ob_ic hx hb dX1_tailOf_11 ?_
    refine ob_ishr1 hx hb dX1_tailOf_12 (a) (by omega) (by omega) ?_
    refine ob_iald hx hb hK hP 1 0 rfl rfl (a / 2) (by omega) (by omega) (by decide) dX1_tailOf_13 ?_
    refine lv_goto (tgt := 25) hx hb dX1_tailOf_14 (by decide) ?_
    exact W.iret (v := iI (D (a / 2))) hx hb hr (fun t ht hW => ⟨_, rfl, (by unfold tlA; first | rw [if_pos (by omega)] | rw [if_neg (by omega)]), ht⟩) (fun q h => by cases h) dX1_tailOf_25
set_option maxHeartbeats 4000000 in
set_option maxRecDepth 100000 in
theorem metN_headOf (l : Launch) (dC : Nat → ClassId) (dI : Nat → Nat → Nat) (ad : Nat → Nat) (cI cZ : ClassId) (n c : Nat) (D C : Nat → Nat) (A O S Ln Ar Rd : Nat → Int) (a : Nat) (ha : a < 14) : Met l yX1_headOf (ws_ yX1_headOf cX1_headOf 2 (some .int)) ({ frames := 0, cells := 0, slots := 0, locals := 0 }) (obR (dC, dI) vwCl (wN ad cI cZ n c D C A O S Ln Ar Rd) [(cI, .int), (cZ, .boolean)] [.ref (ad 0), .int (iI a)]) (vp_Si (fun r => r = iI (hdA D C a))) 0 0 (fun _ => False) := by
  refine Met.ofW (cc := cX1_headOf) (maxL := 2) (ret := (some .int)) (by decide) rfl ?_
  intro p e s m args below meth cd s₁ B hml hv
  obtain ⟨rfl, hP, hK⟩ := hv
  have hx := B.exec
  have hb := B.bytes
  have hr := B.returns
  have hts := atoms_spec (ws := (ws_ yX1_headOf cX1_headOf 2 (some .int))) B.pre
  have hts : ∀ w ∈ lw_all, w.before _ s = true := fun w h => hts w (List.mem_cons_of_mem _ h)
  have hown : s.vm.findClass RX1 = some m.cls := findClass_of_methodNamed B.named
  have hlocks := B.notSynchronized
  have hl := lv_entry ([.ref (ad 0), .int (iI a)]) (n := 2) (Nat.le_of_ble_eq_true rfl)
  rw [lg_entry_eq]
  generalize (lg_sl ([.ref (ad 0), .int (iI a)]) ++ List.replicate (2 - (lg_sl ([.ref (ad 0), .int (iI a)])).length) Slot.unset).toArray = ls at hl ⊢
  have hl : lv_has ls 2 [(0, .ref (ad 0)), (1, .int (iI a))] := hl
  refine lv_iload_n hx hb dX1_headOf_0 rfl (lv_at hl 1 rfl) ?_
  refine ob_ic hx hb dX1_headOf_1 ?_
  refine ob_iand1 hx hb dX1_headOf_2 (a) (by omega) (by omega) ?_
  refine ob_if_ne (tgt := 17) hx hb dX1_headOf_3 (by decide) (by omega) (fun h3 => ?_) (fun h3 => ?_)
  · refine lv_aload_n hx hb dX1_headOf_17 rfl (lv_at hl 0 rfl) ?_
    refine va_get (D := (dC, dI)) (ci := 0) (v := .ref (ad 1)) (C := RX1) (T := TX1) (N := 11) hx hb hts in_X1 hown hK hP 0 rfl rfl 0 (by decide) (hts _ q33) (fun _ h9 => h9) rfl dX1_headOf_18 ?_
    refine lv_iload_n hx hb dX1_headOf_21 rfl (lv_at hl 1 rfl) ?_
    refine ob_ic hx hb dX1_headOf_22 ?_
    refine ob_ishr1 hx hb dX1_headOf_23 (a) (by omega) (by omega) ?_
    refine ob_iald hx hb hK hP 1 0 rfl rfl (a / 2) (by omega) (by omega) (by decide) dX1_headOf_24 ?_
    exact W.iret (v := iI (D (a / 2))) hx hb hr (fun t ht hW => ⟨_, rfl, (by unfold hdA; first | rw [if_pos (by omega)] | rw [if_neg (by omega)]), ht⟩) (fun q h => by cases h) dX1_headOf_25
  · refine lv_aload_n hx hb dX1_headOf_6 rfl (lv_at hl 0 rfl) ?_
    refine va_get (D := (dC, dI)) (ci := 0) (v := .ref (ad 2)) (C := RX1) (T := TX1) (N := 11) hx hb hts in_X1 hown hK hP 0 rfl rfl 1 (by decide) (hts _ q34) (fun _ h9 => h9) rfl dX1_headOf_7 ?_
    refine lv_iload_n hx hb dX1_headOf_10 rfl (lv_at hl 1 rfl) ?_
    refine ob_ic hx hb dX1_headOf_11 ?_
    refine ob_ishr1 hx hb dX1_headOf_12 (a) (by omega) (by omega) ?_
    refine ob_iald hx hb hK hP 2 0 rfl rfl (a / 2) (by omega) (by omega) (by decide) dX1_headOf_13 ?_
    refine lv_goto (tgt := 25) hx hb dX1_headOf_14 (by decide) ?_
    exact W.iret (v := iI (C (a / 2))) hx hb hr (fun t ht hW => ⟨_, rfl, (by unfold hdA; first | rw [if_pos (by omega)] | rw [if_neg (by omega)]), ht⟩) (fun q h => by cases h) dX1_headOf_25
set_option maxHeartbeats 4000000 in
set_option maxRecDepth 100000 in
theorem metN_room (l : Launch) (dC : Nat → ClassId) (dI : Nat → Nat → Nat) (ad : Nat → Nat) (cI cZ : ClassId) (n c : Nat) (D C : Nat → Nat) (A O S Ln Ar Rd : Nat → Int) (d : Nat) (hd : d < 7) (hDC : D d < 5 ∧ C d < 5) (hO : ∀ f, O f = 0 ∨ O f = 1) : Met l yX1_room (ws_ yX1_room cX1_room 2 (some .int)) ({ frames := 0, cells := 0, slots := 0, locals := 0 }) (obR (dC, dI) vwCl (wN ad cI cZ n c D C A O S Ln Ar Rd) [(cI, .int), (cZ, .boolean)] [.ref (ad 0), .int (iI d)]) (vp_Si (fun r => r = iI (rm D C A O d))) 0 0 (fun _ => False) := by
  refine Met.ofW (cc := cX1_room) (maxL := 2) (ret := (some .int)) (by decide) rfl ?_
  intro p e s m args below meth cd s₁ B hml hv
  obtain ⟨rfl, hP, hK⟩ := hv
  have hx := B.exec
  have hb := B.bytes
  have hr := B.returns
  have hts := atoms_spec (ws := (ws_ yX1_room cX1_room 2 (some .int))) B.pre
  have hts : ∀ w ∈ lw_all, w.before _ s = true := fun w h => hts w (List.mem_cons_of_mem _ h)
  have hown : s.vm.findClass RX1 = some m.cls := findClass_of_methodNamed B.named
  have hlocks := B.notSynchronized
  have hl := lv_entry ([.ref (ad 0), .int (iI d)]) (n := 2) (Nat.le_of_ble_eq_true rfl)
  rw [lg_entry_eq]
  generalize (lg_sl ([.ref (ad 0), .int (iI d)]) ++ List.replicate (2 - (lg_sl ([.ref (ad 0), .int (iI d)])).length) Slot.unset).toArray = ls at hl ⊢
  have hl : lv_has ls 2 [(0, .ref (ad 0)), (1, .int (iI d))] := hl
  have o1 := hO (D d)
  have o2 := hO (C d)
  refine lv_aload_n hx hb dX1_room_0 rfl (lv_at hl 0 rfl) ?_
  refine va_get (D := (dC, dI)) (ci := 0) (v := .ref (ad 5)) (C := RX1) (T := TX1) (N := 11) hx hb hts in_X1 hown hK hP 0 rfl rfl 5 (by decide) (hts _ q38) (fun _ h9 => h9) rfl dX1_room_1 ?_
  refine lv_aload_n hx hb dX1_room_4 rfl (lv_at hl 0 rfl) ?_
  refine va_get (D := (dC, dI)) (ci := 0) (v := .ref (ad 1)) (C := RX1) (T := TX1) (N := 11) hx hb hts in_X1 hown hK hP 0 rfl rfl 0 (by decide) (hts _ q33) (fun _ h9 => h9) rfl dX1_room_5 ?_
  refine lv_iload_n hx hb dX1_room_8 rfl (lv_at hl 1 rfl) ?_
  refine ob_iald hx hb hK hP 1 0 rfl rfl (d) (by omega) (by omega) (by decide) dX1_room_9 ?_
  refine ob_zald hx hb hK hP 5 1 rfl rfl (D d) (by omega) (by omega) (by decide) dX1_room_10 ?_
  refine ob_if_ne (tgt := 28) hx hb dX1_room_11 (by decide) (by omega) (fun h11 => ?_) (fun h11 => ?_)
  · refine ob_ic hx hb dX1_room_28 ?_
    refine lv_goto (tgt := 38) hx hb dX1_room_29 (by decide) ?_
    exact W.iret (v := iI 0) hx hb hr (fun t ht hW => ⟨_, rfl, (by unfold rm; first | rw [if_pos (by omega)] | rw [if_neg (by omega)]), ht⟩) (fun q h => by cases h) dX1_room_38
  · refine lv_aload_n hx hb dX1_room_14 rfl (lv_at hl 0 rfl) ?_
    refine va_get (D := (dC, dI)) (ci := 0) (v := .ref (ad 5)) (C := RX1) (T := TX1) (N := 11) hx hb hts in_X1 hown hK hP 0 rfl rfl 5 (by decide) (hts _ q38) (fun _ h9 => h9) rfl dX1_room_15 ?_
    refine lv_aload_n hx hb dX1_room_18 rfl (lv_at hl 0 rfl) ?_
    refine va_get (D := (dC, dI)) (ci := 0) (v := .ref (ad 2)) (C := RX1) (T := TX1) (N := 11) hx hb hts in_X1 hown hK hP 0 rfl rfl 1 (by decide) (hts _ q34) (fun _ h9 => h9) rfl dX1_room_19 ?_
    refine lv_iload_n hx hb dX1_room_22 rfl (lv_at hl 1 rfl) ?_
    refine ob_iald hx hb hK hP 2 0 rfl rfl (d) (by omega) (by omega) (by decide) dX1_room_23 ?_
    refine ob_zald hx hb hK hP 5 1 rfl rfl (C d) (by omega) (by omega) (by decide) dX1_room_24 ?_
    refine ob_if_eq (tgt := 32) hx hb dX1_room_25 (by decide) (by omega) (fun h25 => ?_) (fun h25 => ?_)
    · refine lv_aload_n hx hb dX1_room_32 rfl (lv_at hl 0 rfl) ?_
      refine va_get (D := (dC, dI)) (ci := 0) (v := .ref (ad 3)) (C := RX1) (T := TX1) (N := 11) hx hb hts in_X1 hown hK hP 0 rfl rfl 2 (by decide) (hts _ q35) (fun _ h9 => h9) rfl dX1_room_33 ?_
      refine lv_iload_n hx hb dX1_room_36 rfl (lv_at hl 1 rfl) ?_
      refine ob_iald hx hb hK hP 3 0 rfl rfl (d) (by omega) (by omega) (by decide) dX1_room_37 ?_
      exact W.iret (v := iI (A d)) hx hb hr (fun t ht hW => ⟨_, rfl, (by unfold rm; first | rw [if_pos (by omega)] | rw [if_neg (by omega)]), ht⟩) (fun q h => by cases h) dX1_room_38
    · refine ob_ic hx hb dX1_room_28 ?_
      refine lv_goto (tgt := 38) hx hb dX1_room_29 (by decide) ?_
      exact W.iret (v := iI 0) hx hb hr (fun t ht hW => ⟨_, rfl, (by unfold rm; first | rw [if_pos (by omega)] | rw [if_neg (by omega)]), ht⟩) (fun q h => by cases h) dX1_room_38
set_option maxHeartbeats 4000000 in
set_option maxRecDepth 100000 in
theorem metN_gain (l : Launch) (dC : Nat → ClassId) (dI : Nat → Nat → Nat) (ad : Nat → Nat) (cI cZ : ClassId) (n c : Nat) (D C : Nat → Nat) (A O S Ln Ar Rd : Nat → Int) (d : Nat) (fav : Int) (hd : d < c) (hc : c ≤ 7) (hf : -1 ≤ fav ∧ fav < 7) : Met l yX1_gain (ws_ yX1_gain cX1_gain 3 (some .int)) ({ frames := 0, cells := 0, slots := 0, locals := 0 }) (obR (dC, dI) vwCl (wN ad cI cZ n c D C A O S Ln Ar Rd) [(cI, .int), (cZ, .boolean)] [.ref (ad 0), .int (iI d), .int (iI fav)]) (vp_Si (fun r => r = iI (gnA c fav d))) 0 0 (fun _ => False) := by
  refine Met.ofW (cc := cX1_gain) (maxL := 3) (ret := (some .int)) (by decide) rfl ?_
  intro p e s m args below meth cd s₁ B hml hv
  obtain ⟨rfl, hP, hK⟩ := hv
  have hx := B.exec
  have hb := B.bytes
  have hr := B.returns
  have hts := atoms_spec (ws := (ws_ yX1_gain cX1_gain 3 (some .int))) B.pre
  have hts : ∀ w ∈ lw_all, w.before _ s = true := fun w h => hts w (List.mem_cons_of_mem _ h)
  have hown : s.vm.findClass RX1 = some m.cls := findClass_of_methodNamed B.named
  have hlocks := B.notSynchronized
  have hl := lv_entry ([.ref (ad 0), .int (iI d), .int (iI fav)]) (n := 3) (Nat.le_of_ble_eq_true rfl)
  rw [lg_entry_eq]
  generalize (lg_sl ([.ref (ad 0), .int (iI d), .int (iI fav)]) ++ List.replicate (3 - (lg_sl ([.ref (ad 0), .int (iI d), .int (iI fav)])).length) Slot.unset).toArray = ls at hl ⊢
  have hl : lv_has ls 3 [(0, .ref (ad 0)), (1, .int (iI d)), (2, .int (iI fav))] := hl
  refine lv_iload_n hx hb dX1_gain_0 rfl (lv_at hl 2 rfl) ?_
  refine ob_if_lt (tgt := 15) hx hb dX1_gain_1 (by decide) (by omega) (fun h1 => ?_) (fun h1 => ?_)
  · refine lv_ldc (v := iI 32768) hx hb hown (hts _ q121) dX1_gain_15 ?_
    refine ob_ic hx hb dX1_gain_17 ?_
    refine ob_ic hx hb dX1_gain_18 ?_
    refine lv_aload_n hx hb dX1_gain_19 rfl (lv_at hl 0 rfl) ?_
    refine va_get (D := (dC, dI)) (ci := 0) (v := .int (iI c)) (C := RX1) (T := TX1) (N := 11) hx hb hts in_X1 hown hK hP 0 rfl rfl 10 (by decide) (hts _ q43) (fun _ h9 => h9) rfl dX1_gain_20 ?_
    refine ob_ic hx hb dX1_gain_23 ?_
    refine ob_isub hx hb dX1_gain_24 ?_
    refine lv_iload_n hx hb dX1_gain_25 rfl (lv_at hl 1 rfl) ?_
    refine ob_isub hx hb dX1_gain_26 ?_
    refine ob_imul hx hb dX1_gain_27 ?_
    refine ob_top (((2 * (c - 1 - d) : Nat) : Int)) (by omega) ?_
    refine ob_ishl hx hb dX1_gain_28 (2 * (c - 1 - d)) (by omega) (by omega) ?_
    refine ob_isub hx hb dX1_gain_29 ?_
    exact W.iret (v := iI (32768 - (((2 ^ (2 * (c - 1 - d)) : Nat) : Int)))) hx hb hr (fun t ht hW => ⟨_, rfl, (by unfold gnA; rw [if_neg (by omega), ← p42]), ht⟩) (fun q h => by cases h) dX1_gain_30
  · refine lv_iload_n hx hb dX1_gain_4 rfl (lv_at hl 1 rfl) ?_
    refine lv_iload_n hx hb dX1_gain_5 rfl (lv_at hl 2 rfl) ?_
    refine ob_icmp_ne (tgt := 13) hx hb dX1_gain_6 (by decide) (by omega) (by omega) (fun h6 => ?_) (fun h6 => ?_)
    · refine ob_ic hx hb dX1_gain_13 ?_
      exact W.iret (v := iI 0) hx hb hr (fun t ht hW => ⟨_, rfl, (by unfold gnA; rw [if_pos (by omega)]; first | rw [if_pos (by omega)] | rw [if_neg (by omega)]), ht⟩) (fun q h => by cases h) dX1_gain_14
    · refine ob_ic hx hb dX1_gain_9 ?_
      refine lv_goto (tgt := 14) hx hb dX1_gain_10 (by decide) ?_
      exact W.iret (v := iI 1) hx hb hr (fun t ht hW => ⟨_, rfl, (by unfold gnA; rw [if_pos (by omega)]; first | rw [if_pos (by omega)] | rw [if_neg (by omega)]), ht⟩) (fun q h => by cases h) dX1_gain_14
set_option maxHeartbeats 4000000 in
set_option maxRecDepth 100000 in
theorem metN_left (l : Launch) (dC : Nat → ClassId) (dI : Nat → Nat → Nat) (ad : Nat → Nat) (cI cZ : ClassId) (n c : Nat) (D C : Nat → Nat) (A O S Ln Ar Rd : Nat → Int) (a : Nat) (ha : a < 2 * c) (hc : c ≤ 7) (hDC : ∀ d, d < c → D d < 5 ∧ C d < 5) (hO : ∀ f, O f = 0 ∨ O f = 1) : Met l yX1_left (ws_ yX1_left cX1_left 3 (some .int)) ({ frames := 1, cells := 0, slots := 0, locals := 21 }) (obR (dC, dI) vwCl (wN ad cI cZ n c D C A O S Ln Ar Rd) [(cI, .int), (cZ, .boolean)] [.ref (ad 0), .int (iI a)]) (vp_Si (fun r => r = iI (lfA (rm D C A O) S a))) 0 0 (fun _ => False) := by
  refine Met.ofW (cc := cX1_left) (maxL := 3) (ret := (some .int)) (by decide) rfl ?_
  intro p e s m args below meth cd s₁ B hml hv
  obtain ⟨rfl, hP, hK⟩ := hv
  have hx := B.exec
  have hb := B.bytes
  have hr := B.returns
  have hts := atoms_spec (ws := (ws_ yX1_left cX1_left 3 (some .int))) B.pre
  have hts : ∀ w ∈ lw_all, w.before _ s = true := fun w h => hts w (List.mem_cons_of_mem _ h)
  have hown : s.vm.findClass RX1 = some m.cls := findClass_of_methodNamed B.named
  have hlocks := B.notSynchronized
  have hl := lv_entry ([.ref (ad 0), .int (iI a)]) (n := 3) (Nat.le_of_ble_eq_true rfl)
  rw [lg_entry_eq]
  generalize (lg_sl ([.ref (ad 0), .int (iI a)]) ++ List.replicate (3 - (lg_sl ([.ref (ad 0), .int (iI a)])).length) Slot.unset).toArray = ls at hl ⊢
  have hl : lv_has ls 3 [(0, .ref (ad 0)), (1, .int (iI a))] := hl
  refine lv_iload_n hx hb dX1_left_0 rfl (lv_at hl 1 rfl) ?_
  refine ob_ic hx hb dX1_left_1 ?_
  refine ob_ishr1 hx hb dX1_left_2 (a) (by omega) (by omega) ?_
  refine lv_istore_n (lv' := [(2, .int (iI (((a / 2 : Nat) : Int)))), (0, .ref (ad 0)), (1, .int (iI a))]) hx hb dX1_left_3 rfl hl (by decide) rfl (fun ls hl => ?_)
  refine lv_iload_n hx hb dX1_left_4 rfl (lv_at hl 2 rfl) ?_
  refine ob_ic hx hb dX1_left_5 ?_
  refine ob_iand1 hx hb dX1_left_6 (a) (by omega) (by omega) ?_
  refine ob_if_ne (tgt := 25) hx hb dX1_left_7 (by decide) (by omega) (fun h7 => ?_) (fun h7 => ?_)
  · refine lv_aload_n hx hb dX1_left_25 rfl (lv_at hl 1 rfl) ?_
    refine va_get (D := (dC, dI)) (ci := 0) (v := .ref (ad 4)) (C := RX1) (T := TX1) (N := 11) hx hb hts in_X1 hown hK hP 0 rfl rfl 3 (by decide) (hts _ q36) (fun _ h9 => h9) rfl dX1_left_26 ?_
    refine lv_iload_n hx hb dX1_left_29 rfl (lv_at hl 0 rfl) ?_
    refine ob_iald hx hb hK hP 4 0 rfl rfl (a / 2) (by omega) (by omega) (by decide) dX1_left_30 ?_
    exact W.iret (v := iI (S (a / 2))) hx hb hr (fun t ht hW => ⟨_, rfl, (by unfold lfA; first | rw [if_pos (by omega)] | rw [if_neg (by omega)]), ht⟩) (fun q h => by cases h) dX1_left_31
  · refine lv_aload_n hx hb dX1_left_10 rfl (lv_at hl 1 rfl) ?_
    refine lv_iload_n hx hb dX1_left_11 rfl (lv_at hl 0 rfl) ?_
    refine ob_callR (As := [.int (iI (((a / 2 : Nat) : Int)))]) (rest := []) (metN_room l dC dI ad cI cZ n c D C A O S Ln Ar Rd (a / 2) (by omega) (hDC _ (by omega)) hO) ⟨hx, hb, hml, hown, hts⟩ (cwV 1 hts (lw_V q113 q115 qs6 q23 q116) rfl rfl rfl (by decide +kernel) ⟨Nat.le_of_ble_eq_true rfl, Nat.le_of_ble_eq_true rfl⟩) hK hP [0, 1, 2, 3, 4, 5, 6, 7, 8] [0, 1] rfl rfl (ci := 0) rfl rfl rfl rfl hl.1 rfl (Nat.le_of_ble_eq_true rfl) dX1_left_12 ⟨Nat.zero_le _, Nat.zero_le _⟩ (fun r12 e12 => ?_)
    subst e12
    refine lv_aload_n hx hb dX1_left_15 rfl (lv_at hl 1 rfl) ?_
    refine va_get (D := (dC, dI)) (ci := 0) (v := .ref (ad 4)) (C := RX1) (T := TX1) (N := 11) hx hb hts in_X1 hown hK hP 0 rfl rfl 3 (by decide) (hts _ q36) (fun _ h9 => h9) rfl dX1_left_16 ?_
    refine lv_iload_n hx hb dX1_left_19 rfl (lv_at hl 0 rfl) ?_
    refine ob_iald hx hb hK hP 4 0 rfl rfl (a / 2) (by omega) (by omega) (by decide) dX1_left_20 ?_
    refine ob_isub hx hb dX1_left_21 ?_
    refine lv_goto (tgt := 31) hx hb dX1_left_22 (by decide) ?_
    exact W.iret (v := iI ((rm D C A O (a / 2)) - (S (a / 2)))) hx hb hr (fun t ht hW => ⟨_, rfl, (by unfold lfA; first | rw [if_pos (by omega)] | rw [if_neg (by omega)]), ht⟩) (fun q h => by cases h) dX1_left_31
set_option maxHeartbeats 4000000 in
set_option maxRecDepth 100000 in
theorem metN_totalNow (l : Launch) (dC : Nat → ClassId) (dI : Nat → Nat → Nat) (ad : Nat → Nat) (cI cZ : ClassId) (n c : Nat) (D C : Nat → Nat) (A O S Ln Ar Rd : Nat → Int) (hc : c ≤ 7) : Met l yX1_totalNow (ws_ yX1_totalNow cX1_totalNow 3 (some .int)) ({ frames := 0, cells := 0, slots := 0, locals := 0 }) (obR (dC, dI) vwCl (wN ad cI cZ n c D C A O S Ln Ar Rd) [(cI, .int), (cZ, .boolean)] [.ref (ad 0)]) (vp_Si (fun r => r = iI (sZ S c))) 0 0 (fun _ => False) := by
  refine Met.ofW (cc := cX1_totalNow) (maxL := 3) (ret := (some .int)) (by decide) rfl ?_
  intro p e s m args below meth cd s₁ B hml hv
  obtain ⟨rfl, hP, hK⟩ := hv
  have hx := B.exec
  have hb := B.bytes
  have hr := B.returns
  have hts := atoms_spec (ws := (ws_ yX1_totalNow cX1_totalNow 3 (some .int))) B.pre
  have hts : ∀ w ∈ lw_all, w.before _ s = true := fun w h => hts w (List.mem_cons_of_mem _ h)
  have hown : s.vm.findClass RX1 = some m.cls := findClass_of_methodNamed B.named
  have hlocks := B.notSynchronized
  have hl := lv_entry ([.ref (ad 0)]) (n := 3) (Nat.le_of_ble_eq_true rfl)
  rw [lg_entry_eq]
  generalize (lg_sl ([.ref (ad 0)]) ++ List.replicate (3 - (lg_sl ([.ref (ad 0)])).length) Slot.unset).toArray = ls at hl ⊢
  have hl : lv_has ls 3 [(0, .ref (ad 0))] := hl
  refine ob_ic hx hb dX1_totalNow_0 ?_
  refine lv_istore_n (lv' := [(1, .int (iI 0)), (0, .ref (ad 0))]) hx hb dX1_totalNow_1 rfl hl (by decide) rfl (fun ls hl => ?_)
  refine ob_ic hx hb dX1_totalNow_2 ?_
  refine lv_istore_n (lv' := [(2, .int (iI 0)), (1, .int (iI 0)), (0, .ref (ad 0))]) hx hb dX1_totalNow_3 rfl hl (by decide) rfl (fun ls hl => ?_)
  have lp_4 : ∀ (nn : Nat) (d : Nat), (c < d + nn) → (d ≤ c) → ∀ (ls : Array Slot), lv_has ls 3 [(0, .ref (ad 0)), (1, .int (iI (sZ S d))), (2, .int (iI d))] → W p l e (headSpec (ws_ yX1_totalNow cX1_totalNow 3 (some .int)) ({ frames := 0, cells := 0, slots := 0, locals := 0 })).room s m ([.ref (ad 0)] : List Value).toArray below meth cd s.heap [] 0 0 (MQ below (vp_Si (fun r => r = iI (sZ S c))) ([.ref (ad 0)] : List Value).toArray s 0 0 (fun _ => False)) (F0 m 4 ls []) := by
    intro nn
    induction nn with
    | zero => intro d hm hd; exfalso; omega
    | succ nn ih_4 =>
      intro d hm hd ls hl
      refine lv_iload_n hx hb dX1_totalNow_4 rfl (lv_at hl 2 rfl) ?_
      refine lv_aload_n hx hb dX1_totalNow_5 rfl (lv_at hl 0 rfl) ?_
      refine va_get (D := (dC, dI)) (ci := 0) (v := .int (iI c)) (C := RX1) (T := TX1) (N := 11) hx hb hts in_X1 hown hK hP 0 rfl rfl 10 (by decide) (hts _ q43) (fun _ h9 => h9) rfl dX1_totalNow_6 ?_
      refine ob_icmp_ge (tgt := 27) hx hb dX1_totalNow_9 (by decide) (by omega) (by omega) (fun h9 => ?_) (fun h9 => ?_)
      · have ed : d = c := by omega
        subst ed
        refine lv_iload_n hx hb dX1_totalNow_27 rfl (lv_at hl 1 rfl) ?_
        exact W.iret (v := iI (sZ S d)) hx hb hr (fun t ht hW => ⟨_, rfl, (by rfl), ht⟩) (fun q h => by cases h) dX1_totalNow_28
      · refine lv_iload_n hx hb dX1_totalNow_12 rfl (lv_at hl 1 rfl) ?_
        refine lv_aload_n hx hb dX1_totalNow_13 rfl (lv_at hl 0 rfl) ?_
        refine va_get (D := (dC, dI)) (ci := 0) (v := .ref (ad 4)) (C := RX1) (T := TX1) (N := 11) hx hb hts in_X1 hown hK hP 0 rfl rfl 3 (by decide) (hts _ q36) (fun _ h9 => h9) rfl dX1_totalNow_14 ?_
        refine lv_iload_n hx hb dX1_totalNow_17 rfl (lv_at hl 2 rfl) ?_
        refine ob_iald hx hb hK hP 4 0 rfl rfl (d) (by omega) (by omega) (by decide) dX1_totalNow_18 ?_
        refine ob_iadd hx hb dX1_totalNow_19 ?_
        refine lv_istore_n (lv' := [(1, .int (iI ((sZ S d) + (S d)))), (0, .ref (ad 0)), (2, .int (iI d))]) hx hb dX1_totalNow_20 rfl hl (by decide) rfl (fun ls hl => ?_)
        refine ob_iinc (k := 2) hx hb (((d + 1 : Nat) : Int)) (lv' := [(2, .int (iI (((d + 1 : Nat) : Int)))), (1, .int (iI ((sZ S d) + (S d)))), (0, .ref (ad 0))]) dX1_totalNow_21 hl rfl (by omega) (by decide) rfl (fun ls hl => ?_)
        refine lv_goto (tgt := 4) hx hb dX1_totalNow_24 (by decide) ?_
        exact ih_4 (d + 1) (by omega) (by omega) ls (lv_sub hl [2, 1, 0] rfl)
  exact lp_4 (c + 1) 0 (by omega) (by omega) ls (lv_sub hl [2, 1, 0] rfl)
set_option maxHeartbeats 4000000 in
set_option maxRecDepth 100000 in
theorem metN_outstanding (l : Launch) (dC : Nat → ClassId) (dI : Nat → Nat → Nat) (ad : Nat → Nat) (cI cZ : ClassId) (n c : Nat) (D C : Nat → Nat) (A O S Ln Ar Rd : Nat → Int) (hc : c ≤ 7) : Met l yX1_outstanding (ws_ yX1_outstanding cX1_outstanding 3 (some .int)) ({ frames := 0, cells := 0, slots := 0, locals := 0 }) (obR (dC, dI) vwCl (wN ad cI cZ n c D C A O S Ln Ar Rd) [(cI, .int), (cZ, .boolean)] [.ref (ad 0)]) (vp_Si (fun r => r = iI (sZ A c))) 0 0 (fun _ => False) := by
  refine Met.ofW (cc := cX1_outstanding) (maxL := 3) (ret := (some .int)) (by decide) rfl ?_
  intro p e s m args below meth cd s₁ B hml hv
  obtain ⟨rfl, hP, hK⟩ := hv
  have hx := B.exec
  have hb := B.bytes
  have hr := B.returns
  have hts := atoms_spec (ws := (ws_ yX1_outstanding cX1_outstanding 3 (some .int))) B.pre
  have hts : ∀ w ∈ lw_all, w.before _ s = true := fun w h => hts w (List.mem_cons_of_mem _ h)
  have hown : s.vm.findClass RX1 = some m.cls := findClass_of_methodNamed B.named
  have hlocks := B.notSynchronized
  have hl := lv_entry ([.ref (ad 0)]) (n := 3) (Nat.le_of_ble_eq_true rfl)
  rw [lg_entry_eq]
  generalize (lg_sl ([.ref (ad 0)]) ++ List.replicate (3 - (lg_sl ([.ref (ad 0)])).length) Slot.unset).toArray = ls at hl ⊢
  have hl : lv_has ls 3 [(0, .ref (ad 0))] := hl
  refine ob_ic hx hb dX1_outstanding_0 ?_
  refine lv_istore_n (lv' := [(1, .int (iI 0)), (0, .ref (ad 0))]) hx hb dX1_outstanding_1 rfl hl (by decide) rfl (fun ls hl => ?_)
  refine ob_ic hx hb dX1_outstanding_2 ?_
  refine lv_istore_n (lv' := [(2, .int (iI 0)), (1, .int (iI 0)), (0, .ref (ad 0))]) hx hb dX1_outstanding_3 rfl hl (by decide) rfl (fun ls hl => ?_)
  have lp_4 : ∀ (nn : Nat) (d : Nat), (c < d + nn) → (d ≤ c) → ∀ (ls : Array Slot), lv_has ls 3 [(0, .ref (ad 0)), (1, .int (iI (sZ A d))), (2, .int (iI d))] → W p l e (headSpec (ws_ yX1_outstanding cX1_outstanding 3 (some .int)) ({ frames := 0, cells := 0, slots := 0, locals := 0 })).room s m ([.ref (ad 0)] : List Value).toArray below meth cd s.heap [] 0 0 (MQ below (vp_Si (fun r => r = iI (sZ A c))) ([.ref (ad 0)] : List Value).toArray s 0 0 (fun _ => False)) (F0 m 4 ls []) := by
    intro nn
    induction nn with
    | zero => intro d hm hd; exfalso; omega
    | succ nn ih_4 =>
      intro d hm hd ls hl
      refine lv_iload_n hx hb dX1_outstanding_4 rfl (lv_at hl 2 rfl) ?_
      refine lv_aload_n hx hb dX1_outstanding_5 rfl (lv_at hl 0 rfl) ?_
      refine va_get (D := (dC, dI)) (ci := 0) (v := .int (iI c)) (C := RX1) (T := TX1) (N := 11) hx hb hts in_X1 hown hK hP 0 rfl rfl 10 (by decide) (hts _ q43) (fun _ h9 => h9) rfl dX1_outstanding_6 ?_
      refine ob_icmp_ge (tgt := 27) hx hb dX1_outstanding_9 (by decide) (by omega) (by omega) (fun h9 => ?_) (fun h9 => ?_)
      · have ed : d = c := by omega
        subst ed
        refine lv_iload_n hx hb dX1_outstanding_27 rfl (lv_at hl 1 rfl) ?_
        exact W.iret (v := iI (sZ A d)) hx hb hr (fun t ht hW => ⟨_, rfl, (by rfl), ht⟩) (fun q h => by cases h) dX1_outstanding_28
      · refine lv_iload_n hx hb dX1_outstanding_12 rfl (lv_at hl 1 rfl) ?_
        refine lv_aload_n hx hb dX1_outstanding_13 rfl (lv_at hl 0 rfl) ?_
        refine va_get (D := (dC, dI)) (ci := 0) (v := .ref (ad 3)) (C := RX1) (T := TX1) (N := 11) hx hb hts in_X1 hown hK hP 0 rfl rfl 2 (by decide) (hts _ q35) (fun _ h9 => h9) rfl dX1_outstanding_14 ?_
        refine lv_iload_n hx hb dX1_outstanding_17 rfl (lv_at hl 2 rfl) ?_
        refine ob_iald hx hb hK hP 3 0 rfl rfl (d) (by omega) (by omega) (by decide) dX1_outstanding_18 ?_
        refine ob_iadd hx hb dX1_outstanding_19 ?_
        refine lv_istore_n (lv' := [(1, .int (iI ((sZ A d) + (A d)))), (0, .ref (ad 0)), (2, .int (iI d))]) hx hb dX1_outstanding_20 rfl hl (by decide) rfl (fun ls hl => ?_)
        refine ob_iinc (k := 2) hx hb (((d + 1 : Nat) : Int)) (lv' := [(2, .int (iI (((d + 1 : Nat) : Int)))), (1, .int (iI ((sZ A d) + (A d)))), (0, .ref (ad 0))]) dX1_outstanding_21 hl rfl (by omega) (by decide) rfl (fun ls hl => ?_)
        refine lv_goto (tgt := 4) hx hb dX1_outstanding_24 (by decide) ?_
        exact ih_4 (d + 1) (by omega) (by omega) ls (lv_sub hl [2, 1, 0] rfl)
  exact lp_4 (c + 1) 0 (by omega) (by omega) ls (lv_sub hl [2, 1, 0] rfl)
set_option maxHeartbeats 4000000 in
set_option maxRecDepth 100000 in
theorem metN_balanceOf (l : Launch) (dC : Nat → ClassId) (dI : Nat → Nat → Nat) (ad : Nat → Nat) (cI cZ : ClassId) (n c : Nat) (D C : Nat → Nat) (A O S Ln Ar Rd : Nat → Int) (f : Nat) (hf : f < 5) (hc : c ≤ 7) (hDC : ∀ d, d < c → D d < 5 ∧ C d < 5) : Met l yX1_balanceOf (ws_ yX1_balanceOf cX1_balanceOf 4 (some .int)) ({ frames := 0, cells := 0, slots := 0, locals := 0 }) (obR (dC, dI) vwCl (wN ad cI cZ n c D C A O S Ln Ar Rd) [(cI, .int), (cZ, .boolean)] [.ref (ad 0), .int (iI f)]) (vp_Si (fun r => r = iI (sZ (tf D C A f) c))) 0 0 (fun _ => False) := by
  refine Met.ofW (cc := cX1_balanceOf) (maxL := 4) (ret := (some .int)) (by decide) rfl ?_
  intro p e s m args below meth cd s₁ B hml hv
  obtain ⟨rfl, hP, hK⟩ := hv
  have hx := B.exec
  have hb := B.bytes
  have hr := B.returns
  have hts := atoms_spec (ws := (ws_ yX1_balanceOf cX1_balanceOf 4 (some .int))) B.pre
  have hts : ∀ w ∈ lw_all, w.before _ s = true := fun w h => hts w (List.mem_cons_of_mem _ h)
  have hown : s.vm.findClass RX1 = some m.cls := findClass_of_methodNamed B.named
  have hlocks := B.notSynchronized
  have hl := lv_entry ([.ref (ad 0), .int (iI f)]) (n := 4) (Nat.le_of_ble_eq_true rfl)
  rw [lg_entry_eq]
  generalize (lg_sl ([.ref (ad 0), .int (iI f)]) ++ List.replicate (4 - (lg_sl ([.ref (ad 0), .int (iI f)])).length) Slot.unset).toArray = ls at hl ⊢
  have hl : lv_has ls 4 [(0, .ref (ad 0)), (1, .int (iI f))] := hl
  refine ob_ic hx hb dX1_balanceOf_0 ?_
  refine lv_istore_n (lv' := [(2, .int (iI 0)), (0, .ref (ad 0)), (1, .int (iI f))]) hx hb dX1_balanceOf_1 rfl hl (by decide) rfl (fun ls hl => ?_)
  refine ob_ic hx hb dX1_balanceOf_2 ?_
  refine lv_istore_n (lv' := [(3, .int (iI 0)), (2, .int (iI 0)), (0, .ref (ad 0)), (1, .int (iI f))]) hx hb dX1_balanceOf_3 rfl hl (by decide) rfl (fun ls hl => ?_)
  have lp_4 : ∀ (nn : Nat) (d : Nat), (c < d + nn) → (d ≤ c) → ∀ (ls : Array Slot), lv_has ls 4 [(0, .ref (ad 0)), (1, .int (iI f)), (2, .int (iI (sZ (tf D C A f) d))), (3, .int (iI d))] → W p l e (headSpec (ws_ yX1_balanceOf cX1_balanceOf 4 (some .int)) ({ frames := 0, cells := 0, slots := 0, locals := 0 })).room s m ([.ref (ad 0), .int (iI f)] : List Value).toArray below meth cd s.heap [] 0 0 (MQ below (vp_Si (fun r => r = iI (sZ (tf D C A f) c))) ([.ref (ad 0), .int (iI f)] : List Value).toArray s 0 0 (fun _ => False)) (F0 m 4 ls []) := by
    intro nn
    induction nn with
    | zero => intro d hm hd; exfalso; omega
    | succ nn ih_4 =>
      intro d hm hd ls hl
      refine lv_iload_n hx hb dX1_balanceOf_4 rfl (lv_at hl 3 rfl) ?_
      refine lv_aload_n hx hb dX1_balanceOf_5 rfl (lv_at hl 0 rfl) ?_
      refine va_get (D := (dC, dI)) (ci := 0) (v := .int (iI c)) (C := RX1) (T := TX1) (N := 11) hx hb hts in_X1 hown hK hP 0 rfl rfl 10 (by decide) (hts _ q43) (fun _ h9 => h9) rfl dX1_balanceOf_6 ?_
      refine ob_icmp_ge (tgt := 64) hx hb dX1_balanceOf_9 (by decide) (by omega) (by omega) (fun h9 => ?_) (fun h9 => ?_)
      · have ed : d = c := by omega
        subst ed
        refine lv_iload_n hx hb dX1_balanceOf_64 rfl (lv_at hl 2 rfl) ?_
        exact W.iret (v := iI (sZ (tf D C A f) d)) hx hb hr (fun t ht hW => ⟨_, rfl, (by rfl), ht⟩) (fun q h => by cases h) dX1_balanceOf_65
      · have dc := hDC d (by omega)
        refine lv_iload_n hx hb dX1_balanceOf_12 rfl (lv_at hl 2 rfl) ?_
        refine lv_aload_n hx hb dX1_balanceOf_13 rfl (lv_at hl 0 rfl) ?_
        refine va_get (D := (dC, dI)) (ci := 0) (v := .ref (ad 2)) (C := RX1) (T := TX1) (N := 11) hx hb hts in_X1 hown hK hP 0 rfl rfl 1 (by decide) (hts _ q34) (fun _ h9 => h9) rfl dX1_balanceOf_14 ?_
        refine lv_iload_n hx hb dX1_balanceOf_17 rfl (lv_at hl 3 rfl) ?_
        refine ob_iald hx hb hK hP 2 0 rfl rfl (d) (by omega) (by omega) (by decide) dX1_balanceOf_18 ?_
        refine lv_iload_n hx hb dX1_balanceOf_19 rfl (lv_at hl 1 rfl) ?_
        refine ob_icmp_ne (tgt := 32) hx hb dX1_balanceOf_20 (by decide) (by omega) (by omega) (fun h20 => ?_) (fun h20 => ?_)
        · refine ob_ic hx hb dX1_balanceOf_32 ?_
          refine ob_iadd hx hb dX1_balanceOf_33 ?_
          refine lv_istore_n (lv' := [(2, .int (iI ((sZ (tf D C A f) d) + 0))), (0, .ref (ad 0)), (1, .int (iI f)), (3, .int (iI d))]) hx hb dX1_balanceOf_34 rfl hl (by decide) rfl (fun ls hl => ?_)
          refine lv_iload_n hx hb dX1_balanceOf_35 rfl (lv_at hl 0 rfl) ?_
          refine lv_aload_n hx hb dX1_balanceOf_36 rfl (lv_at hl 1 rfl) ?_
          refine va_get (D := (dC, dI)) (ci := 0) (v := .ref (ad 1)) (C := RX1) (T := TX1) (N := 11) hx hb hts in_X1 hown hK hP 0 rfl rfl 0 (by decide) (hts _ q33) (fun _ h9 => h9) rfl dX1_balanceOf_37 ?_
          refine lv_iload_n hx hb dX1_balanceOf_40 rfl (lv_at hl 3 rfl) ?_
          refine ob_iald hx hb hK hP 1 0 rfl rfl (d) (by omega) (by omega) (by decide) dX1_balanceOf_41 ?_
          refine lv_iload_n hx hb dX1_balanceOf_42 rfl (lv_at hl 2 rfl) ?_
          refine ob_icmp_ne (tgt := 55) hx hb dX1_balanceOf_43 (by decide) (by omega) (by omega) (fun h43 => ?_) (fun h43 => ?_)
          · refine ob_ic hx hb dX1_balanceOf_55 ?_
            refine ob_isub hx hb dX1_balanceOf_56 ?_
            refine ob_top (sZ (tf D C A f) (d + 1)) (by show _ = sZ (tf D C A f) d + ((if C d = f then A d else 0) - (if D d = f then A d else 0)); split <;> split <;> omega) ?_
            refine lv_istore_n (lv' := [(2, .int (iI (sZ (tf D C A f) (d + 1)))), (0, .ref (ad 0)), (1, .int (iI f)), (3, .int (iI d))]) hx hb dX1_balanceOf_57 rfl hl (by decide) rfl (fun ls hl => ?_)
            refine ob_iinc (k := 3) hx hb (((d + 1 : Nat) : Int)) (lv' := [(3, .int (iI (((d + 1 : Nat) : Int)))), (2, .int (iI (sZ (tf D C A f) (d + 1)))), (0, .ref (ad 0)), (1, .int (iI f))]) dX1_balanceOf_58 hl rfl (by omega) (by decide) rfl (fun ls hl => ?_)
            refine lv_goto (tgt := 4) hx hb dX1_balanceOf_61 (by decide) ?_
            exact ih_4 (d + 1) (by omega) (by omega) ls (lv_sub hl [2, 3, 1, 0] rfl)
          · refine lv_aload_n hx hb dX1_balanceOf_46 rfl (lv_at hl 1 rfl) ?_
            refine va_get (D := (dC, dI)) (ci := 0) (v := .ref (ad 3)) (C := RX1) (T := TX1) (N := 11) hx hb hts in_X1 hown hK hP 0 rfl rfl 2 (by decide) (hts _ q35) (fun _ h9 => h9) rfl dX1_balanceOf_47 ?_
            refine lv_iload_n hx hb dX1_balanceOf_50 rfl (lv_at hl 3 rfl) ?_
            refine ob_iald hx hb hK hP 3 0 rfl rfl (d) (by omega) (by omega) (by decide) dX1_balanceOf_51 ?_
            refine lv_goto (tgt := 56) hx hb dX1_balanceOf_52 (by decide) ?_
            refine ob_isub hx hb dX1_balanceOf_56 ?_
            refine ob_top (sZ (tf D C A f) (d + 1)) (by show _ = sZ (tf D C A f) d + ((if C d = f then A d else 0) - (if D d = f then A d else 0)); split <;> split <;> omega) ?_
            refine lv_istore_n (lv' := [(2, .int (iI (sZ (tf D C A f) (d + 1)))), (0, .ref (ad 0)), (1, .int (iI f)), (3, .int (iI d))]) hx hb dX1_balanceOf_57 rfl hl (by decide) rfl (fun ls hl => ?_)
            refine ob_iinc (k := 3) hx hb (((d + 1 : Nat) : Int)) (lv' := [(3, .int (iI (((d + 1 : Nat) : Int)))), (2, .int (iI (sZ (tf D C A f) (d + 1)))), (0, .ref (ad 0)), (1, .int (iI f))]) dX1_balanceOf_58 hl rfl (by omega) (by decide) rfl (fun ls hl => ?_)
            refine lv_goto (tgt := 4) hx hb dX1_balanceOf_61 (by decide) ?_
            exact ih_4 (d + 1) (by omega) (by omega) ls (lv_sub hl [2, 3, 1, 0] rfl)
        · refine lv_aload_n hx hb dX1_balanceOf_23 rfl (lv_at hl 0 rfl) ?_
          refine va_get (D := (dC, dI)) (ci := 0) (v := .ref (ad 3)) (C := RX1) (T := TX1) (N := 11) hx hb hts in_X1 hown hK hP 0 rfl rfl 2 (by decide) (hts _ q35) (fun _ h9 => h9) rfl dX1_balanceOf_24 ?_
          refine lv_iload_n hx hb dX1_balanceOf_27 rfl (lv_at hl 3 rfl) ?_
          refine ob_iald hx hb hK hP 3 0 rfl rfl (d) (by omega) (by omega) (by decide) dX1_balanceOf_28 ?_
          refine lv_goto (tgt := 33) hx hb dX1_balanceOf_29 (by decide) ?_
          refine ob_iadd hx hb dX1_balanceOf_33 ?_
          refine lv_istore_n (lv' := [(2, .int (iI ((sZ (tf D C A f) d) + (A d)))), (0, .ref (ad 0)), (1, .int (iI f)), (3, .int (iI d))]) hx hb dX1_balanceOf_34 rfl hl (by decide) rfl (fun ls hl => ?_)
          refine lv_iload_n hx hb dX1_balanceOf_35 rfl (lv_at hl 0 rfl) ?_
          refine lv_aload_n hx hb dX1_balanceOf_36 rfl (lv_at hl 1 rfl) ?_
          refine va_get (D := (dC, dI)) (ci := 0) (v := .ref (ad 1)) (C := RX1) (T := TX1) (N := 11) hx hb hts in_X1 hown hK hP 0 rfl rfl 0 (by decide) (hts _ q33) (fun _ h9 => h9) rfl dX1_balanceOf_37 ?_
          refine lv_iload_n hx hb dX1_balanceOf_40 rfl (lv_at hl 3 rfl) ?_
          refine ob_iald hx hb hK hP 1 0 rfl rfl (d) (by omega) (by omega) (by decide) dX1_balanceOf_41 ?_
          refine lv_iload_n hx hb dX1_balanceOf_42 rfl (lv_at hl 2 rfl) ?_
          refine ob_icmp_ne (tgt := 55) hx hb dX1_balanceOf_43 (by decide) (by omega) (by omega) (fun h43 => ?_) (fun h43 => ?_)
          · refine ob_ic hx hb dX1_balanceOf_55 ?_
            refine ob_isub hx hb dX1_balanceOf_56 ?_
            refine ob_top (sZ (tf D C A f) (d + 1)) (by show _ = sZ (tf D C A f) d + ((if C d = f then A d else 0) - (if D d = f then A d else 0)); split <;> split <;> omega) ?_
            refine lv_istore_n (lv' := [(2, .int (iI (sZ (tf D C A f) (d + 1)))), (0, .ref (ad 0)), (1, .int (iI f)), (3, .int (iI d))]) hx hb dX1_balanceOf_57 rfl hl (by decide) rfl (fun ls hl => ?_)
            refine ob_iinc (k := 3) hx hb (((d + 1 : Nat) : Int)) (lv' := [(3, .int (iI (((d + 1 : Nat) : Int)))), (2, .int (iI (sZ (tf D C A f) (d + 1)))), (0, .ref (ad 0)), (1, .int (iI f))]) dX1_balanceOf_58 hl rfl (by omega) (by decide) rfl (fun ls hl => ?_)
            refine lv_goto (tgt := 4) hx hb dX1_balanceOf_61 (by decide) ?_
            exact ih_4 (d + 1) (by omega) (by omega) ls (lv_sub hl [2, 3, 1, 0] rfl)
          · refine lv_aload_n hx hb dX1_balanceOf_46 rfl (lv_at hl 1 rfl) ?_
            refine va_get (D := (dC, dI)) (ci := 0) (v := .ref (ad 3)) (C := RX1) (T := TX1) (N := 11) hx hb hts in_X1 hown hK hP 0 rfl rfl 2 (by decide) (hts _ q35) (fun _ h9 => h9) rfl dX1_balanceOf_47 ?_
            refine lv_iload_n hx hb dX1_balanceOf_50 rfl (lv_at hl 3 rfl) ?_
            refine ob_iald hx hb hK hP 3 0 rfl rfl (d) (by omega) (by omega) (by decide) dX1_balanceOf_51 ?_
            refine lv_goto (tgt := 56) hx hb dX1_balanceOf_52 (by decide) ?_
            refine ob_isub hx hb dX1_balanceOf_56 ?_
            refine ob_top (sZ (tf D C A f) (d + 1)) (by show _ = sZ (tf D C A f) d + ((if C d = f then A d else 0) - (if D d = f then A d else 0)); split <;> split <;> omega) ?_
            refine lv_istore_n (lv' := [(2, .int (iI (sZ (tf D C A f) (d + 1)))), (0, .ref (ad 0)), (1, .int (iI f)), (3, .int (iI d))]) hx hb dX1_balanceOf_57 rfl hl (by decide) rfl (fun ls hl => ?_)
            refine ob_iinc (k := 3) hx hb (((d + 1 : Nat) : Int)) (lv' := [(3, .int (iI (((d + 1 : Nat) : Int)))), (2, .int (iI (sZ (tf D C A f) (d + 1)))), (0, .ref (ad 0)), (1, .int (iI f))]) dX1_balanceOf_58 hl rfl (by omega) (by decide) rfl (fun ls hl => ?_)
            refine lv_goto (tgt := 4) hx hb dX1_balanceOf_61 (by decide) ?_
            exact ih_4 (d + 1) (by omega) (by omega) ls (lv_sub hl [2, 3, 1, 0] rfl)
  exact lp_4 (c + 1) 0 (by omega) (by omega) ls (lv_sub hl [2, 3, 1, 0] rfl)
set_option maxHeartbeats 4000000 in
set_option maxRecDepth 100000 in
theorem metN_least (l : Launch) (dC : Nat → ClassId) (dI : Nat → Nat → Nat) (ad : Nat → Nat) (cI cZ : ClassId) (n c : Nat) (D C : Nat → Nat) (A O S Ln Ar Rd : Nat → Int) (hn : n ≤ 5) (hc : c ≤ 7) (hDC : ∀ d, d < c → D d < 5 ∧ C d < 5) (hAb : ∀ d, d < c → 0 ≤ A d ∧ A d ≤ 3) : Met l yX1_least (ws_ yX1_least cX1_least 4 (some .int)) ({ frames := 1, cells := 0, slots := 0, locals := 23 }) (obR (dC, dI) vwCl (wN ad cI cZ n c D C A O S Ln Ar Rd) [(cI, .int), (cZ, .boolean)] [.ref (ad 0)]) (vp_Si (fun r => r = iI (sZ (fun f => pos (sZ (tf D C A f) c)) n))) 0 0 (fun _ => False) := by
  refine Met.ofW (cc := cX1_least) (maxL := 4) (ret := (some .int)) (by decide) rfl ?_
  intro p e s m args below meth cd s₁ B hml hv
  obtain ⟨rfl, hP, hK⟩ := hv
  have hx := B.exec
  have hb := B.bytes
  have hr := B.returns
  have hts := atoms_spec (ws := (ws_ yX1_least cX1_least 4 (some .int))) B.pre
  have hts : ∀ w ∈ lw_all, w.before _ s = true := fun w h => hts w (List.mem_cons_of_mem _ h)
  have hown : s.vm.findClass RX1 = some m.cls := findClass_of_methodNamed B.named
  have hlocks := B.notSynchronized
  have hl := lv_entry ([.ref (ad 0)]) (n := 4) (Nat.le_of_ble_eq_true rfl)
  rw [lg_entry_eq]
  generalize (lg_sl ([.ref (ad 0)]) ++ List.replicate (4 - (lg_sl ([.ref (ad 0)])).length) Slot.unset).toArray = ls at hl ⊢
  have hl : lv_has ls 4 [(0, .ref (ad 0))] := hl
  refine ob_ic hx hb dX1_least_0 ?_
  refine lv_istore_n (lv' := [(1, .int (iI 0)), (0, .ref (ad 0))]) hx hb dX1_least_1 rfl hl (by decide) rfl (fun ls hl => ?_)
  refine ob_ic hx hb dX1_least_2 ?_
  refine lv_istore_n (lv' := [(2, .int (iI 0)), (1, .int (iI 0)), (0, .ref (ad 0))]) hx hb dX1_least_3 rfl hl (by decide) rfl (fun ls hl => ?_)
  have lp_4 : ∀ (nn : Nat) (f : Nat), (n < f + nn) → (f ≤ n) → ∀ (ls : Array Slot), lv_has ls 4 [(0, .ref (ad 0)), (1, .int (iI (sZ (fun f => pos (sZ (tf D C A f) c)) f))), (2, .int (iI f))] → W p l e (headSpec (ws_ yX1_least cX1_least 4 (some .int)) ({ frames := 1, cells := 0, slots := 0, locals := 23 })).room s m ([.ref (ad 0)] : List Value).toArray below meth cd s.heap [] 0 0 (MQ below (vp_Si (fun r => r = iI (sZ (fun f => pos (sZ (tf D C A f) c)) n))) ([.ref (ad 0)] : List Value).toArray s 0 0 (fun _ => False)) (F0 m 4 ls []) := by
    intro nn
    induction nn with
    | zero => intro f hm hf; exfalso; omega
    | succ nn ih_4 =>
      intro f hm hf ls hl
      refine lv_iload_n hx hb dX1_least_4 rfl (lv_at hl 2 rfl) ?_
      refine lv_aload_n hx hb dX1_least_5 rfl (lv_at hl 0 rfl) ?_
      refine va_get (D := (dC, dI)) (ci := 0) (v := .int (iI n)) (C := RX1) (T := TX1) (N := 11) hx hb hts in_X1 hown hK hP 0 rfl rfl 9 (by decide) (hts _ q42) (fun _ h9 => h9) rfl dX1_least_6 ?_
      refine ob_icmp_ge (tgt := 36) hx hb dX1_least_9 (by decide) (by omega) (by omega) (fun h9 => ?_) (fun h9 => ?_)
      · have ed : f = n := by omega
        subst ed
        refine lv_iload_n hx hb dX1_least_36 rfl (lv_at hl 1 rfl) ?_
        exact W.iret (v := iI (sZ (fun f => pos (sZ (tf D C A f) c)) f)) hx hb hr (fun t ht hW => ⟨_, rfl, (by rfl), ht⟩) (fun q h => by cases h) dX1_least_37
      · have tb1 := tf_bnd (D := D) (C := C) f c hAb
        refine lv_aload_n hx hb dX1_least_12 rfl (lv_at hl 0 rfl) ?_
        refine lv_iload_n hx hb dX1_least_13 rfl (lv_at hl 2 rfl) ?_
        refine ob_callR (As := [.int (iI f)]) (rest := []) (metN_balanceOf l dC dI ad cI cZ n c D C A O S Ln Ar Rd f (by omega) hc hDC) ⟨hx, hb, hml, hown, hts⟩ (cwV 1 hts (lw_V q154 q156 qs12 q23 q157) rfl rfl rfl (by decide +kernel) ⟨Nat.le_of_ble_eq_true rfl, Nat.le_of_ble_eq_true rfl⟩) hK hP [0, 1, 2, 3, 4, 5, 6, 7, 8] [0, 1] rfl rfl (ci := 0) rfl rfl rfl rfl hl.1 rfl (Nat.le_of_ble_eq_true rfl) dX1_least_14 ⟨Nat.zero_le _, Nat.zero_le _⟩ (fun r14 e14 => ?_)
        subst e14
        refine lv_istore_n (lv' := [(3, .int (iI (sZ (tf D C A f) c))), (0, .ref (ad 0)), (1, .int (iI (sZ (fun f => pos (sZ (tf D C A f) c)) f))), (2, .int (iI f))]) hx hb dX1_least_17 rfl hl (by decide) rfl (fun ls hl => ?_)
        refine lv_iload_n hx hb dX1_least_18 rfl (lv_at hl 2 rfl) ?_
        refine lv_iload_n hx hb dX1_least_19 rfl (lv_at hl 0 rfl) ?_
        refine ob_if_le (tgt := 27) hx hb dX1_least_20 (by decide) (by omega) (fun h20 => ?_) (fun h20 => ?_)
        · refine ob_ic hx hb dX1_least_27 ?_
          refine ob_iadd hx hb dX1_least_28 ?_
          refine ob_top (sZ (fun f => pos (sZ (tf D C A f) c)) (f + 1)) (by show _ = sZ (fun f => pos (sZ (tf D C A f) c)) f + pos (sZ (tf D C A f) c); unfold pos; first | rw [if_pos (by omega)] | rw [if_neg (by omega)]) ?_
          refine lv_istore_n (lv' := [(1, .int (iI (sZ (fun f => pos (sZ (tf D C A f) c)) (f + 1)))), (3, .int (iI (sZ (tf D C A f) c))), (0, .ref (ad 0)), (2, .int (iI f))]) hx hb dX1_least_29 rfl hl (by decide) rfl (fun ls hl => ?_)
          refine ob_iinc (k := 3) hx hb (((f + 1 : Nat) : Int)) (lv' := [(2, .int (iI (((f + 1 : Nat) : Int)))), (1, .int (iI (sZ (fun f => pos (sZ (tf D C A f) c)) (f + 1)))), (3, .int (iI (sZ (tf D C A f) c))), (0, .ref (ad 0))]) dX1_least_30 hl rfl (by omega) (by decide) rfl (fun ls hl => ?_)
          refine lv_goto (tgt := 4) hx hb dX1_least_33 (by decide) ?_
          exact ih_4 (f + 1) (by omega) (by omega) ls (lv_sub hl [3, 1, 0] rfl)
        · refine lv_iload_n hx hb dX1_least_23 rfl (lv_at hl 0 rfl) ?_
          refine lv_goto (tgt := 28) hx hb dX1_least_24 (by decide) ?_
          refine ob_iadd hx hb dX1_least_28 ?_
          refine ob_top (sZ (fun f => pos (sZ (tf D C A f) c)) (f + 1)) (by show _ = sZ (fun f => pos (sZ (tf D C A f) c)) f + pos (sZ (tf D C A f) c); unfold pos; first | rw [if_pos (by omega)] | rw [if_neg (by omega)]) ?_
          refine lv_istore_n (lv' := [(1, .int (iI (sZ (fun f => pos (sZ (tf D C A f) c)) (f + 1)))), (3, .int (iI (sZ (tf D C A f) c))), (0, .ref (ad 0)), (2, .int (iI f))]) hx hb dX1_least_29 rfl hl (by decide) rfl (fun ls hl => ?_)
          refine ob_iinc (k := 3) hx hb (((f + 1 : Nat) : Int)) (lv' := [(2, .int (iI (((f + 1 : Nat) : Int)))), (1, .int (iI (sZ (fun f => pos (sZ (tf D C A f) c)) (f + 1)))), (3, .int (iI (sZ (tf D C A f) c))), (0, .ref (ad 0))]) dX1_least_30 hl rfl (by omega) (by decide) rfl (fun ls hl => ?_)
          refine lv_goto (tgt := 4) hx hb dX1_least_33 (by decide) ?_
          exact ih_4 (f + 1) (by omega) (by omega) ls (lv_sub hl [3, 1, 0] rfl)
  exact lp_4 (n + 1) 0 (by omega) (by omega) ls (lv_sub hl [2, 1, 0] rfl)
set_option maxHeartbeats 4000000 in
set_option maxRecDepth 100000 in
theorem metN_balance (l : Launch) (dC : Nat → ClassId) (dI : Nat → Nat → Nat) (ad : Nat → Nat) (cI cZ : ClassId) (n c : Nat) (D C : Nat → Nat) (A O S Ln Ar Rd : Nat → Int) (z : Int) (hz : -2147483648 ≤ z ∧ z < 2147483648) (hn : n ≤ 5) (hc : c ≤ 7) (hDC : ∀ d, d < c → D d < 5 ∧ C d < 5) : Met l yX1_balance (ws_ yX1_balance cX1_balance 2 (some .int)) ({ frames := 1, cells := 0, slots := 0, locals := 23 }) (obR (dC, dI) vwCl (wN ad cI cZ n c D C A O S Ln Ar Rd) [(cI, .int), (cZ, .boolean)] [.ref (ad 0), .int (iI z)]) (vp_Si (fun r => r = iI (if 0 ≤ z ∧ z < (n : Int) then sZ (tf D C A z.toNat) c else -1000))) 0 0 (fun _ => False) := by
  refine Met.ofW (cc := cX1_balance) (maxL := 2) (ret := (some .int)) (by decide) rfl ?_
  intro p e s m args below meth cd s₁ B hml hv
  obtain ⟨rfl, hP, hK⟩ := hv
  have hx := B.exec
  have hb := B.bytes
  have hr := B.returns
  have hts := atoms_spec (ws := (ws_ yX1_balance cX1_balance 2 (some .int))) B.pre
  have hts : ∀ w ∈ lw_all, w.before _ s = true := fun w h => hts w (List.mem_cons_of_mem _ h)
  have hown : s.vm.findClass RX1 = some m.cls := findClass_of_methodNamed B.named
  have hlocks := B.notSynchronized
  have hl := lv_entry ([.ref (ad 0), .int (iI z)]) (n := 2) (Nat.le_of_ble_eq_true rfl)
  rw [lg_entry_eq]
  generalize (lg_sl ([.ref (ad 0), .int (iI z)]) ++ List.replicate (2 - (lg_sl ([.ref (ad 0), .int (iI z)])).length) Slot.unset).toArray = ls at hl ⊢
  have hl : lv_has ls 2 [(0, .ref (ad 0)), (1, .int (iI z))] := hl
  refine lv_aload_n hx hb dX1_balance_0 rfl (lv_at hl 0 rfl) ?_
  refine lv_iload_n hx hb dX1_balance_1 rfl (lv_at hl 1 rfl) ?_
  refine ob_callR (As := [.int (iI z)]) (rest := []) (metN_isFirm l dC dI ad cI cZ n c D C A O S Ln Ar Rd z hz hn) ⟨hx, hb, hml, hown, hts⟩ (cwV 1 hts (lw_V q73 q75 qs0 q23 q76) rfl rfl rfl (by decide +kernel) ⟨Nat.le_of_ble_eq_true rfl, Nat.le_of_ble_eq_true rfl⟩) hK hP [0, 1, 2, 3, 4, 5, 6, 7, 8] [0, 1] rfl rfl (ci := 0) rfl rfl rfl rfl hl.1 rfl (Nat.le_of_ble_eq_true rfl) dX1_balance_2 ⟨Nat.zero_le _, Nat.zero_le _⟩ (fun r2 e2 => ?_)
  subst e2
  refine ob_if_eq (tgt := 16) hx hb dX1_balance_5 (by decide) (tb_bnd _) (fun h5 => ?_) (fun h5 => ?_)
  · have g5 := tb_f h5
    refine ob_si hx hb dX1_balance_16 (by decide) ?_
    exact W.iret (v := iI ((-1000))) hx hb hr (fun t ht hW => ⟨_, rfl, (by first | rw [if_pos (by omega)] | rw [if_neg (by omega)]), ht⟩) (fun q h => by cases h) dX1_balance_19
  · have g5 := tb_t h5
    refine lv_aload_n hx hb dX1_balance_8 rfl (lv_at hl 0 rfl) ?_
    refine lv_iload_n hx hb dX1_balance_9 rfl (lv_at hl 1 rfl) ?_
    refine ob_top (((z.toNat : Nat) : Int)) (by omega) ?_
    refine ob_callR (As := [.int (iI (((z.toNat : Nat) : Int)))]) (rest := []) (metN_balanceOf l dC dI ad cI cZ n c D C A O S Ln Ar Rd z.toNat (by omega) hc hDC) ⟨hx, hb, hml, hown, hts⟩ (cwV 1 hts (lw_V q154 q156 qs12 q23 q157) rfl rfl rfl (by decide +kernel) ⟨Nat.le_of_ble_eq_true rfl, Nat.le_of_ble_eq_true rfl⟩) hK hP [0, 1, 2, 3, 4, 5, 6, 7, 8] [0, 1] rfl rfl (ci := 0) rfl rfl rfl rfl hl.1 rfl (Nat.le_of_ble_eq_true rfl) dX1_balance_10 ⟨Nat.zero_le _, Nat.zero_le _⟩ (fun r10 e10 => ?_)
    subst e10
    refine lv_goto (tgt := 19) hx hb dX1_balance_13 (by decide) ?_
    exact W.iret (v := iI (sZ (tf D C A z.toNat) c)) hx hb hr (fun t ht hW => ⟨_, rfl, (by first | rw [if_pos (by omega)] | rw [if_neg (by omega)]), ht⟩) (fun q h => by cases h) dX1_balance_19
set_option maxHeartbeats 4000000 in
set_option maxRecDepth 100000 in
theorem metN_amount (l : Launch) (dC : Nat → ClassId) (dI : Nat → Nat → Nat) (ad : Nat → Nat) (cI cZ : ClassId) (n c : Nat) (D C : Nat → Nat) (A O S Ln Ar Rd : Nat → Int) (z : Int) (hz : -2147483648 ≤ z ∧ z < 2147483648) (hc : c ≤ 7) : Met l yX1_amount (ws_ yX1_amount cX1_amount 2 (some .int)) ({ frames := 1, cells := 0, slots := 0, locals := 21 }) (obR (dC, dI) vwCl (wN ad cI cZ n c D C A O S Ln Ar Rd) [(cI, .int), (cZ, .boolean)] [.ref (ad 0), .int (iI z)]) (vp_Si (fun r => r = iI (if 0 ≤ z ∧ z < (c : Int) then A z.toNat else -1))) 0 0 (fun _ => False) := by
  refine Met.ofW (cc := cX1_amount) (maxL := 2) (ret := (some .int)) (by decide) rfl ?_
  intro p e s m args below meth cd s₁ B hml hv
  obtain ⟨rfl, hP, hK⟩ := hv
  have hx := B.exec
  have hb := B.bytes
  have hr := B.returns
  have hts := atoms_spec (ws := (ws_ yX1_amount cX1_amount 2 (some .int))) B.pre
  have hts : ∀ w ∈ lw_all, w.before _ s = true := fun w h => hts w (List.mem_cons_of_mem _ h)
  have hown : s.vm.findClass RX1 = some m.cls := findClass_of_methodNamed B.named
  have hlocks := B.notSynchronized
  have hl := lv_entry ([.ref (ad 0), .int (iI z)]) (n := 2) (Nat.le_of_ble_eq_true rfl)
  rw [lg_entry_eq]
  generalize (lg_sl ([.ref (ad 0), .int (iI z)]) ++ List.replicate (2 - (lg_sl ([.ref (ad 0), .int (iI z)])).length) Slot.unset).toArray = ls at hl ⊢
  have hl : lv_has ls 2 [(0, .ref (ad 0)), (1, .int (iI z))] := hl
  refine lv_aload_n hx hb dX1_amount_0 rfl (lv_at hl 0 rfl) ?_
  refine lv_iload_n hx hb dX1_amount_1 rfl (lv_at hl 1 rfl) ?_
  refine ob_callR (As := [.int (iI z)]) (rest := []) (metN_isDebt l dC dI ad cI cZ n c D C A O S Ln Ar Rd z hz hc) ⟨hx, hb, hml, hown, hts⟩ (cwV 1 hts (lw_V q81 q83 qs1 q23 q84) rfl rfl rfl (by decide +kernel) ⟨Nat.le_of_ble_eq_true rfl, Nat.le_of_ble_eq_true rfl⟩) hK hP [0, 1, 2, 3, 4, 5, 6, 7, 8] [0, 1] rfl rfl (ci := 0) rfl rfl rfl rfl hl.1 rfl (Nat.le_of_ble_eq_true rfl) dX1_amount_2 ⟨Nat.zero_le _, Nat.zero_le _⟩ (fun r2 e2 => ?_)
  subst e2
  refine ob_if_eq (tgt := 17) hx hb dX1_amount_5 (by decide) (tb_bnd _) (fun h5 => ?_) (fun h5 => ?_)
  · have g5 := tb_f h5
    refine ob_ic hx hb dX1_amount_17 ?_
    exact W.iret (v := iI ((-1))) hx hb hr (fun t ht hW => ⟨_, rfl, (by first | rw [if_pos (by omega)] | rw [if_neg (by omega)]), ht⟩) (fun q h => by cases h) dX1_amount_18
  · have g5 := tb_t h5
    refine lv_aload_n hx hb dX1_amount_8 rfl (lv_at hl 0 rfl) ?_
    refine va_get (D := (dC, dI)) (ci := 0) (v := .ref (ad 3)) (C := RX1) (T := TX1) (N := 11) hx hb hts in_X1 hown hK hP 0 rfl rfl 2 (by decide) (hts _ q35) (fun _ h9 => h9) rfl dX1_amount_9 ?_
    refine lv_iload_n hx hb dX1_amount_12 rfl (lv_at hl 1 rfl) ?_
    refine ob_iald hx hb hK hP 3 0 rfl rfl (z.toNat) (by omega) (by omega) (by decide) dX1_amount_13 ?_
    refine lv_goto (tgt := 18) hx hb dX1_amount_14 (by decide) ?_
    exact W.iret (v := iI (A z.toNat)) hx hb hr (fun t ht hW => ⟨_, rfl, (by first | rw [if_pos (by omega)] | rw [if_neg (by omega)]), ht⟩) (fun q h => by cases h) dX1_amount_18
set_option maxHeartbeats 4000000 in
set_option maxRecDepth 100000 in
theorem metN_debts (l : Launch) (dC : Nat → ClassId) (dI : Nat → Nat → Nat) (ad : Nat → Nat) (cI cZ : ClassId) (n c : Nat) (D C : Nat → Nat) (A O S Ln Ar Rd : Nat → Int)  : Met l yX1_debts (ws_ yX1_debts cX1_debts 1 (some .int)) ({ frames := 0, cells := 0, slots := 0, locals := 0 }) (obR (dC, dI) vwCl (wN ad cI cZ n c D C A O S Ln Ar Rd) [(cI, .int), (cZ, .boolean)] [.ref (ad 0)]) (vp_Si (fun r => r = iI c)) 0 0 (fun _ => False) := by
  refine Met.ofW (cc := cX1_debts) (maxL := 1) (ret := (some .int)) (by decide) rfl ?_
  intro p e s m args below meth cd s₁ B hml hv
  obtain ⟨rfl, hP, hK⟩ := hv
  have hx := B.exec
  have hb := B.bytes
  have hr := B.returns
  have hts := atoms_spec (ws := (ws_ yX1_debts cX1_debts 1 (some .int))) B.pre
  have hts : ∀ w ∈ lw_all, w.before _ s = true := fun w h => hts w (List.mem_cons_of_mem _ h)
  have hown : s.vm.findClass RX1 = some m.cls := findClass_of_methodNamed B.named
  have hlocks := B.notSynchronized
  have hl := lv_entry ([.ref (ad 0)]) (n := 1) (Nat.le_of_ble_eq_true rfl)
  rw [lg_entry_eq]
  generalize (lg_sl ([.ref (ad 0)]) ++ List.replicate (1 - (lg_sl ([.ref (ad 0)])).length) Slot.unset).toArray = ls at hl ⊢
  have hl : lv_has ls 1 [(0, .ref (ad 0))] := hl
  refine lv_aload_n hx hb dX1_debts_0 rfl (lv_at hl 0 rfl) ?_
  refine va_get (D := (dC, dI)) (ci := 0) (v := .int (iI c)) (C := RX1) (T := TX1) (N := 11) hx hb hts in_X1 hown hK hP 0 rfl rfl 10 (by decide) (hts _ q43) (fun _ h9 => h9) rfl dX1_debts_1 ?_
  exact W.iret (v := iI c) hx hb hr (fun t ht hW => ⟨_, rfl, (by rfl), ht⟩) (fun q h => by cases h) dX1_debts_4
end
section
/-! ObligationNetting: relax, findCircle -/
set_option maxHeartbeats 4000000 in
set_option maxRecDepth 100000 in
theorem metN_relax (l : Launch) (dC : Nat → ClassId) (dI : Nat → Nat → Nat) (ad : Nat → Nat) (cI cZ : ClassId) (n c : Nat) (D C : Nat → Nat) (A O S Ln Ar Rd : Nat → Int) (sz : Nat) (a : Nat) (fav : Int) (hf : -1 ≤ fav ∧ fav < 7) (ha : a < 2 * c) (hW : WF n c D C A O) (hSt : ∀ d, d < c → 0 ≤ S d ∧ S d ≤ 3) (hLn : ∀ f, f < n → 0 ≤ Ln f ∧ Ln f ≤ 1000000000) : Met l yX1_relax (ws_ yX1_relax cX1_relax 7 (some .int)) ({ frames := 2, cells := 0, slots := 0, locals := 43 }) (obW (dC, dI) vwCl (wN ad cI cZ n c D C A O S Ln Ar Rd) [(cI, .int), (cZ, .boolean)] sz [.ref (ad 0), .int (iI a), .int (iI fav)]) (va_Qi (fun r u => ((0 < lfA (rm D C A O) S a ∧ Ln (hdA D C a) < Ln (tlA D C a) + wA (gnA c fav) a) ∧ r = iI (hdA D C a) ∧ u = (c, D, C, A, O, S, va_up Ln (hdA D C a) (Ln (tlA D C a) + wA (gnA c fav) a), va_up Ar (hdA D C a) (a : Int), Rd)) ∨ (¬ (0 < lfA (rm D C A O) S a ∧ Ln (hdA D C a) < Ln (tlA D C a) + wA (gnA c fav) a) ∧ r = iI (-1) ∧ u = (c, D, C, A, O, S, Ln, Ar, Rd))) (obB (dC, dI) vwCl [(cI, .int), (cZ, .boolean)] (va_A (wN ad cI cZ n c D C A O S Ln Ar Rd) sz) (BN ad cI cZ n)) (va_A (wN ad cI cZ n c D C A O S Ln Ar Rd) sz)) 0 0 (va_A (wN ad cI cZ n c D C A O S Ln Ar Rd) sz) := by
  refine Met.ofW (cc := cX1_relax) (maxL := 7) (ret := (some .int)) (by decide) rfl ?_
  intro p e s m args below meth cd s₁ B hml hv
  obtain ⟨rfl, hsz, hP, hK, hD0⟩ := hv
  have hx := B.exec
  have hb := B.bytes
  have hr := B.returns
  have hts := atoms_spec (ws := (ws_ yX1_relax cX1_relax 7 (some .int))) B.pre
  have hts : ∀ w ∈ lw_all, w.before _ s = true := fun w h => hts w (List.mem_cons_of_mem _ h)
  have hown : s.vm.findClass RX1 = some m.cls := findClass_of_methodNamed B.named
  have hlocks := B.notSynchronized
  subst hsz
  have hD := hD0.self (sz := s.heap.size)
  generalize hAe : va_A (wN ad cI cZ n c D C A O S Ln Ar Rd) s.heap.size = AA at hD ⊢
  have hA : ∀ q : Nat, s.heap.size ≤ q → AA q := fun q h => by rw [← hAe]; exact Or.inr h
  have hS : va_S AA s.heap s.heap [] := va_S.rf
  have hl := lv_entry ([.ref (ad 0), .int (iI a), .int (iI fav)]) (n := 7) (Nat.le_of_ble_eq_true rfl)
  rw [lg_entry_eq]
  generalize (lg_sl ([.ref (ad 0), .int (iI a), .int (iI fav)]) ++ List.replicate (7 - (lg_sl ([.ref (ad 0), .int (iI a), .int (iI fav)])).length) Slot.unset).toArray = ls at hl ⊢
  have hl : lv_has ls 7 [(0, .ref (ad 0)), (1, .int (iI a)), (2, .int (iI fav))] := hl
  have hc := hW.2.2.1
  have hn := hW.2.1
  have b1 := lfA_bnd hW.rm hSt ha
  have b2 := wA_bnd hc fav a
  have b3 := tlA_lt hW.DC ha
  have b4 := hLn _ b3.1
  have b5 := hLn _ b3.2.1
  refine lv_aload_n hx hb dX1_relax_0 rfl (lv_at hl 0 rfl) ?_
  refine lv_iload_n hx hb dX1_relax_1 rfl (lv_at hl 1 rfl) ?_
  refine ob_callR (As := [.int (iI a)]) (rest := []) (metN_left l dC dI ad cI cZ n c D C A O S Ln Ar Rd a ha hc hW.DC5 hW.2.2.2.2) ⟨hx, hb, hml, hown, hts⟩ (cwV 1 hts (lw_V q109 q111 qs5 q23 q112) rfl rfl rfl (by decide +kernel) ⟨Nat.le_of_ble_eq_true rfl, Nat.le_of_ble_eq_true rfl⟩) hK hP [0, 1, 2, 3, 4, 5, 6, 7, 8] [0, 1] rfl rfl (ci := 0) rfl rfl rfl rfl hl.1 rfl (Nat.le_of_ble_eq_true rfl) dX1_relax_2 ⟨Nat.zero_le _, Nat.zero_le _⟩ (fun r2 e2 => ?_)
  subst e2
  refine ob_if_gt (tgt := 10) hx hb dX1_relax_5 (by decide) (by omega) (fun h5 => ?_) (fun h5 => ?_)
  · refine lv_aload_n hx hb dX1_relax_10 rfl (lv_at hl 0 rfl) ?_
    refine lv_iload_n hx hb dX1_relax_11 rfl (lv_at hl 1 rfl) ?_
    refine ob_ic hx hb dX1_relax_12 ?_
    refine ob_ishr1 hx hb dX1_relax_13 (a) (by omega) (by omega) ?_
    refine lv_iload_n hx hb dX1_relax_14 rfl (lv_at hl 2 rfl) ?_
    refine ob_callR (As := [.int (iI (((a / 2 : Nat) : Int))), .int (iI fav)]) (rest := []) (metN_gain l dC dI ad cI cZ n c D C A O S Ln Ar Rd (a / 2) fav (by omega) hc hf) ⟨hx, hb, hml, hown, hts⟩ (cwV 2 hts (lw_V q117 q119 qs7 q23 q120) rfl rfl rfl (by decide +kernel) ⟨Nat.le_of_ble_eq_true rfl, Nat.le_of_ble_eq_true rfl⟩) hK hP [0, 1, 2, 3, 4, 5, 6, 7, 8] [0, 1] rfl rfl (ci := 0) rfl rfl rfl rfl hl.1 rfl (Nat.le_of_ble_eq_true rfl) dX1_relax_15 ⟨Nat.zero_le _, Nat.zero_le _⟩ (fun r15 e15 => ?_)
    subst e15
    refine lv_istore_n (lv' := [(3, .int (iI (gnA c fav (a / 2)))), (0, .ref (ad 0)), (1, .int (iI a)), (2, .int (iI fav))]) hx hb dX1_relax_18 rfl hl (by decide) rfl (fun ls hl => ?_)
    refine lv_aload_n hx hb dX1_relax_19 rfl (lv_at hl 1 rfl) ?_
    refine lv_iload_n hx hb dX1_relax_20 rfl (lv_at hl 2 rfl) ?_
    refine ob_callR (As := [.int (iI a)]) (rest := []) (metN_tailOf l dC dI ad cI cZ n c D C A O S Ln Ar Rd a (by omega)) ⟨hx, hb, hml, hown, hts⟩ (cwV 1 hts (lw_V q122 q124 qs8 q23 q125) rfl rfl rfl (by decide +kernel) ⟨Nat.le_of_ble_eq_true rfl, Nat.le_of_ble_eq_true rfl⟩) hK hP [0, 1, 2, 3, 4, 5, 6, 7, 8] [0, 1] rfl rfl (ci := 0) rfl rfl rfl rfl hl.1 rfl (Nat.le_of_ble_eq_true rfl) dX1_relax_21 ⟨Nat.zero_le _, Nat.zero_le _⟩ (fun r21 e21 => ?_)
    subst e21
    refine lv_istore (lv' := [(4, .int (iI (tlA D C a))), (3, .int (iI (gnA c fav (a / 2)))), (0, .ref (ad 0)), (1, .int (iI a)), (2, .int (iI fav))]) hx hb dX1_relax_24 hl (by decide) rfl (fun ls hl => ?_)
    refine lv_aload_n hx hb dX1_relax_26 rfl (lv_at hl 2 rfl) ?_
    refine lv_iload_n hx hb dX1_relax_27 rfl (lv_at hl 3 rfl) ?_
    refine ob_callR (As := [.int (iI a)]) (rest := []) (metN_headOf l dC dI ad cI cZ n c D C A O S Ln Ar Rd a (by omega)) ⟨hx, hb, hml, hown, hts⟩ (cwV 1 hts (lw_V q126 q128 qs9 q23 q129) rfl rfl rfl (by decide +kernel) ⟨Nat.le_of_ble_eq_true rfl, Nat.le_of_ble_eq_true rfl⟩) hK hP [0, 1, 2, 3, 4, 5, 6, 7, 8] [0, 1] rfl rfl (ci := 0) rfl rfl rfl rfl hl.1 rfl (Nat.le_of_ble_eq_true rfl) dX1_relax_28 ⟨Nat.zero_le _, Nat.zero_le _⟩ (fun r28 e28 => ?_)
    subst e28
    refine lv_istore (lv' := [(5, .int (iI (hdA D C a))), (4, .int (iI (tlA D C a))), (3, .int (iI (gnA c fav (a / 2)))), (0, .ref (ad 0)), (1, .int (iI a)), (2, .int (iI fav))]) hx hb dX1_relax_31 hl (by decide) rfl (fun ls hl => ?_)
    refine lv_aload_n hx hb dX1_relax_33 rfl (lv_at hl 3 rfl) ?_
    refine va_get (D := (dC, dI)) (ci := 0) (v := .ref (ad 6)) (C := RX1) (T := TX1) (N := 11) hx hb hts in_X1 hown hK hP 0 rfl rfl 6 (by decide) (hts _ q39) (fun _ h9 => h9) rfl dX1_relax_34 ?_
    refine lv_iload hx hb dX1_relax_37 (lv_at hl 1 rfl) ?_
    refine ob_iald hx hb hK hP 6 0 rfl rfl (tlA D C a) (by omega) (by omega) (by decide) dX1_relax_39 ?_
    refine lv_iload_n hx hb dX1_relax_40 rfl (lv_at hl 4 rfl) ?_
    refine ob_ic hx hb dX1_relax_41 ?_
    refine ob_iand1 hx hb dX1_relax_42 (a) (by omega) (by omega) ?_
    refine ob_if_ne (tgt := 50) hx hb dX1_relax_43 (by decide) (by omega) (fun h43 => ?_) (fun h43 => ?_)
    · refine lv_iload_n hx hb dX1_relax_50 rfl (lv_at hl 2 rfl) ?_
      refine ob_ineg hx hb dX1_relax_51 ?_
      refine ob_iadd hx hb dX1_relax_52 ?_
      refine ob_top (Ln (tlA D C a) + wA (gnA c fav) a) (by unfold wA; first | rw [if_pos (by omega)] | rw [if_neg (by omega)]) ?_
      refine lv_istore (lv' := [(6, .int (iI (Ln (tlA D C a) + wA (gnA c fav) a))), (5, .int (iI (hdA D C a))), (4, .int (iI (tlA D C a))), (3, .int (iI (gnA c fav (a / 2)))), (0, .ref (ad 0)), (1, .int (iI a)), (2, .int (iI fav))]) hx hb dX1_relax_53 hl (by decide) rfl (fun ls hl => ?_)
      refine lv_iload hx hb dX1_relax_55 (lv_at hl 0 rfl) ?_
      refine lv_aload_n hx hb dX1_relax_57 rfl (lv_at hl 4 rfl) ?_
      refine va_get (D := (dC, dI)) (ci := 0) (v := .ref (ad 6)) (C := RX1) (T := TX1) (N := 11) hx hb hts in_X1 hown hK hP 0 rfl rfl 6 (by decide) (hts _ q39) (fun _ h9 => h9) rfl dX1_relax_58 ?_
      refine lv_iload hx hb dX1_relax_61 (lv_at hl 1 rfl) ?_
      refine ob_iald hx hb hK hP 6 0 rfl rfl (hdA D C a) (by omega) (by omega) (by decide) dX1_relax_63 ?_
      refine ob_icmp_gt (tgt := 69) hx hb dX1_relax_64 (by decide) (by omega) (by omega) (fun h64 => ?_) (fun h64 => ?_)
      · refine lv_aload_n hx hb dX1_relax_69 rfl (lv_at hl 4 rfl) ?_
        refine va_get (D := (dC, dI)) (ci := 0) (v := .ref (ad 6)) (C := RX1) (T := TX1) (N := 11) hx hb hts in_X1 hown hK hP 0 rfl rfl 6 (by decide) (hts _ q39) (fun _ h9 => h9) rfl dX1_relax_70 ?_
        refine lv_iload hx hb dX1_relax_73 (lv_at hl 1 rfl) ?_
        refine lv_iload hx hb dX1_relax_75 (lv_at hl 0 rfl) ?_
        refine ob_iast hx hb hK hP hD hS 6 0 rfl rfl (hdA D C a) (by omega) (by omega) (by decide) dX1_relax_77 (fun H locs hP hD hS => ?_)
        have hP : va_P (dC, dI) vwCl (wN ad cI cZ n c D C A O S (va_up Ln (hdA D C a) (Ln (tlA D C a) + wA (gnA c fav) a)) Ar Rd) H := hP
        have hD : va_D AA (wN ad cI cZ n c D C A O S (va_up Ln (hdA D C a) (Ln (tlA D C a) + wA (gnA c fav) a)) Ar Rd) := hD
        refine lv_aload_n hx hb dX1_relax_78 rfl (lv_at hl 4 rfl) ?_
        refine va_get (D := (dC, dI)) (ci := 0) (v := .ref (ad 7)) (C := RX1) (T := TX1) (N := 11) hx hb hts in_X1 hown hK hP 0 rfl rfl 7 (by decide) (hts _ q40) (fun _ h9 => h9) rfl dX1_relax_79 ?_
        refine lv_iload hx hb dX1_relax_82 (lv_at hl 1 rfl) ?_
        refine lv_iload_n hx hb dX1_relax_84 rfl (lv_at hl 5 rfl) ?_
        refine ob_iast hx hb hK hP hD hS 7 0 rfl rfl (hdA D C a) (by omega) (by omega) (by decide) dX1_relax_85 (fun H locs hP hD hS => ?_)
        have hP : va_P (dC, dI) vwCl (wN ad cI cZ n c D C A O S (va_up Ln (hdA D C a) (Ln (tlA D C a) + wA (gnA c fav) a)) (va_up Ar (hdA D C a) a) Rd) H := hP
        have hD : va_D AA (wN ad cI cZ n c D C A O S (va_up Ln (hdA D C a) (Ln (tlA D C a) + wA (gnA c fav) a)) (va_up Ar (hdA D C a) a) Rd) := hD
        refine lv_iload hx hb dX1_relax_86 (lv_at hl 1 rfl) ?_
        exact W.iret (v := iI (hdA D C a)) hx hb hr (fun t ht hW => ⟨⟨_, (c, D, C, A, O, S, va_up Ln (hdA D C a) (Ln (tlA D C a) + wA (gnA c fav) a), va_up Ar (hdA D C a) a, Rd), rfl, (by exact Or.inl ⟨by omega, rfl, rfl⟩), by rw [ht]; exact hP, va_K.moved hW.alike hK, hD⟩, hS.F ht⟩) hS.2.2 dX1_relax_88
      · refine ob_ic hx hb dX1_relax_67 ?_
        exact W.iret (v := iI ((-1))) hx hb hr (fun t ht hW => ⟨⟨_, (c, D, C, A, O, S, Ln, Ar, Rd), rfl, (by exact Or.inr ⟨fun h => by omega, rfl, rfl⟩), by rw [ht]; exact hP, va_K.moved hW.alike hK, hD⟩, hS.F ht⟩) hS.2.2 dX1_relax_68
    · refine lv_iload_n hx hb dX1_relax_46 rfl (lv_at hl 2 rfl) ?_
      refine lv_goto (tgt := 52) hx hb dX1_relax_47 (by decide) ?_
      refine ob_iadd hx hb dX1_relax_52 ?_
      refine ob_top (Ln (tlA D C a) + wA (gnA c fav) a) (by unfold wA; first | rw [if_pos (by omega)] | rw [if_neg (by omega)]) ?_
      refine lv_istore (lv' := [(6, .int (iI (Ln (tlA D C a) + wA (gnA c fav) a))), (5, .int (iI (hdA D C a))), (4, .int (iI (tlA D C a))), (3, .int (iI (gnA c fav (a / 2)))), (0, .ref (ad 0)), (1, .int (iI a)), (2, .int (iI fav))]) hx hb dX1_relax_53 hl (by decide) rfl (fun ls hl => ?_)
      refine lv_iload hx hb dX1_relax_55 (lv_at hl 0 rfl) ?_
      refine lv_aload_n hx hb dX1_relax_57 rfl (lv_at hl 4 rfl) ?_
      refine va_get (D := (dC, dI)) (ci := 0) (v := .ref (ad 6)) (C := RX1) (T := TX1) (N := 11) hx hb hts in_X1 hown hK hP 0 rfl rfl 6 (by decide) (hts _ q39) (fun _ h9 => h9) rfl dX1_relax_58 ?_
      refine lv_iload hx hb dX1_relax_61 (lv_at hl 1 rfl) ?_
      refine ob_iald hx hb hK hP 6 0 rfl rfl (hdA D C a) (by omega) (by omega) (by decide) dX1_relax_63 ?_
      refine ob_icmp_gt (tgt := 69) hx hb dX1_relax_64 (by decide) (by omega) (by omega) (fun h64 => ?_) (fun h64 => ?_)
      · refine lv_aload_n hx hb dX1_relax_69 rfl (lv_at hl 4 rfl) ?_
        refine va_get (D := (dC, dI)) (ci := 0) (v := .ref (ad 6)) (C := RX1) (T := TX1) (N := 11) hx hb hts in_X1 hown hK hP 0 rfl rfl 6 (by decide) (hts _ q39) (fun _ h9 => h9) rfl dX1_relax_70 ?_
        refine lv_iload hx hb dX1_relax_73 (lv_at hl 1 rfl) ?_
        refine lv_iload hx hb dX1_relax_75 (lv_at hl 0 rfl) ?_
        refine ob_iast hx hb hK hP hD hS 6 0 rfl rfl (hdA D C a) (by omega) (by omega) (by decide) dX1_relax_77 (fun H locs hP hD hS => ?_)
        have hP : va_P (dC, dI) vwCl (wN ad cI cZ n c D C A O S (va_up Ln (hdA D C a) (Ln (tlA D C a) + wA (gnA c fav) a)) Ar Rd) H := hP
        have hD : va_D AA (wN ad cI cZ n c D C A O S (va_up Ln (hdA D C a) (Ln (tlA D C a) + wA (gnA c fav) a)) Ar Rd) := hD
        refine lv_aload_n hx hb dX1_relax_78 rfl (lv_at hl 4 rfl) ?_
        refine va_get (D := (dC, dI)) (ci := 0) (v := .ref (ad 7)) (C := RX1) (T := TX1) (N := 11) hx hb hts in_X1 hown hK hP 0 rfl rfl 7 (by decide) (hts _ q40) (fun _ h9 => h9) rfl dX1_relax_79 ?_
        refine lv_iload hx hb dX1_relax_82 (lv_at hl 1 rfl) ?_
        refine lv_iload_n hx hb dX1_relax_84 rfl (lv_at hl 5 rfl) ?_
        refine ob_iast hx hb hK hP hD hS 7 0 rfl rfl (hdA D C a) (by omega) (by omega) (by decide) dX1_relax_85 (fun H locs hP hD hS => ?_)
        have hP : va_P (dC, dI) vwCl (wN ad cI cZ n c D C A O S (va_up Ln (hdA D C a) (Ln (tlA D C a) + wA (gnA c fav) a)) (va_up Ar (hdA D C a) a) Rd) H := hP
        have hD : va_D AA (wN ad cI cZ n c D C A O S (va_up Ln (hdA D C a) (Ln (tlA D C a) + wA (gnA c fav) a)) (va_up Ar (hdA D C a) a) Rd) := hD
        refine lv_iload hx hb dX1_relax_86 (lv_at hl 1 rfl) ?_
        exact W.iret (v := iI (hdA D C a)) hx hb hr (fun t ht hW => ⟨⟨_, (c, D, C, A, O, S, va_up Ln (hdA D C a) (Ln (tlA D C a) + wA (gnA c fav) a), va_up Ar (hdA D C a) a, Rd), rfl, (by exact Or.inl ⟨by omega, rfl, rfl⟩), by rw [ht]; exact hP, va_K.moved hW.alike hK, hD⟩, hS.F ht⟩) hS.2.2 dX1_relax_88
      · refine ob_ic hx hb dX1_relax_67 ?_
        exact W.iret (v := iI ((-1))) hx hb hr (fun t ht hW => ⟨⟨_, (c, D, C, A, O, S, Ln, Ar, Rd), rfl, (by exact Or.inr ⟨fun h => by omega, rfl, rfl⟩), by rw [ht]; exact hP, va_K.moved hW.alike hK, hD⟩, hS.F ht⟩) hS.2.2 dX1_relax_68
  · refine ob_ic hx hb dX1_relax_8 ?_
    exact W.iret (v := iI ((-1))) hx hb hr (fun t ht hW => ⟨⟨_, (c, D, C, A, O, S, Ln, Ar, Rd), rfl, (by exact Or.inr ⟨fun h => by omega, rfl, rfl⟩), by rw [ht]; exact hP, va_K.moved hW.alike hK, hD⟩, hS.F ht⟩) hS.2.2 dX1_relax_9
set_option maxHeartbeats 4000000 in
set_option maxRecDepth 100000 in
theorem metN_findCircle (l : Launch) (dC : Nat → ClassId) (dI : Nat → Nat → Nat) (ad : Nat → Nat) (cI cZ : ClassId) (n c : Nat) (D C : Nat → Nat) (A O S Ln Ar Rd : Nat → Int) (sz : Nat) (fav : Int) (hf : -1 ≤ fav ∧ fav < 7) (hW : WF n c D C A O) (hSt : ∀ d, d < c → 0 ≤ S d ∧ S d ≤ 3) : Met l yX1_findCircle (ws_ yX1_findCircle cX1_findCircle 6 (some .int)) ({ frames := 3, cells := 0, slots := 0, locals := 69 }) (obW (dC, dI) vwCl (wN ad cI cZ n c D C A O S Ln Ar Rd) [(cI, .int), (cZ, .boolean)] sz [.ref (ad 0), .int (iI fav)]) (va_Qi (fun r u => ∃ Ln2 Ar2, u = (c, D, C, A, O, S, Ln2, Ar2, Rd) ∧ ((r = iI (-1) ∧ ∀ b, b < 2 * c → 0 < lfA (rm D C A O) S b → Ln2 (tlA D C b) + wA (gnA c fav) b ≤ Ln2 (hdA D C b)) ∨ ∃ v m, v < n ∧ r = iI (v : Nat) ∧ CY n (2 * c) (tlA D C) (hdA D C) (lfA (rm D C A O) S) (wA (gnA c fav)) Ar2 v m)) (obB (dC, dI) vwCl [(cI, .int), (cZ, .boolean)] (va_A (wN ad cI cZ n c D C A O S Ln Ar Rd) sz) (BN ad cI cZ n)) (va_A (wN ad cI cZ n c D C A O S Ln Ar Rd) sz)) 0 0 (va_A (wN ad cI cZ n c D C A O S Ln Ar Rd) sz) := by
  refine Met.ofW (cc := cX1_findCircle) (maxL := 6) (ret := (some .int)) (by decide) rfl ?_
  intro p e s m args below meth cd s₁ B hml hv
  obtain ⟨rfl, hsz, hP, hK, hD0⟩ := hv
  have hx := B.exec
  have hb := B.bytes
  have hr := B.returns
  have hts := atoms_spec (ws := (ws_ yX1_findCircle cX1_findCircle 6 (some .int))) B.pre
  have hts : ∀ w ∈ lw_all, w.before _ s = true := fun w h => hts w (List.mem_cons_of_mem _ h)
  have hown : s.vm.findClass RX1 = some m.cls := findClass_of_methodNamed B.named
  have hlocks := B.notSynchronized
  subst hsz
  have hD := hD0.self (sz := s.heap.size)
  generalize hAe : va_A (wN ad cI cZ n c D C A O S Ln Ar Rd) s.heap.size = AA at hD ⊢
  have hA : ∀ q : Nat, s.heap.size ≤ q → AA q := fun q h => by rw [← hAe]; exact Or.inr h
  have hS : va_S AA s.heap s.heap [] := va_S.rf
  have hl := lv_entry ([.ref (ad 0), .int (iI fav)]) (n := 6) (Nat.le_of_ble_eq_true rfl)
  rw [lg_entry_eq]
  generalize (lg_sl ([.ref (ad 0), .int (iI fav)]) ++ List.replicate (6 - (lg_sl ([.ref (ad 0), .int (iI fav)])).length) Slot.unset).toArray = ls at hl ⊢
  have hl : lv_has ls 6 [(0, .ref (ad 0)), (1, .int (iI fav))] := hl
  have hc := hW.2.2.1
  have hn := hW.2.1
  refine ob_ic hx hb dX1_findCircle_0 ?_
  refine lv_istore_n (lv' := [(2, .int (iI 0)), (0, .ref (ad 0)), (1, .int (iI fav))]) hx hb dX1_findCircle_1 rfl hl (by decide) rfl (fun ls hl => ?_)
  have lp_2 : ∀ (nn : Nat) (f : Nat) (Ln1 : Nat → Int) (Ar1 : Nat → Int), (n < f + nn) → (f ≤ n) → (∀ j, j < f → Ln1 j = 0) → ∀ (H : Heap) (locs : List Loc), va_P (dC, dI) vwCl (wN ad cI cZ n c D C A O S Ln1 Ar1 Rd) H → va_D AA (wN ad cI cZ n c D C A O S Ln1 Ar1 Rd) → va_S AA s.heap H locs → ∀ (ls : Array Slot), lv_has ls 6 [(0, .ref (ad 0)), (1, .int (iI fav)), (2, .int (iI f))] → W p l e (headSpec (ws_ yX1_findCircle cX1_findCircle 6 (some .int)) ({ frames := 3, cells := 0, slots := 0, locals := 69 })).room s m ([.ref (ad 0), .int (iI fav)] : List Value).toArray below meth cd H locs 0 0 (MQ below (va_Qi (fun r u => ∃ Ln2 Ar2, u = (c, D, C, A, O, S, Ln2, Ar2, Rd) ∧ ((r = iI (-1) ∧ ∀ b, b < 2 * c → 0 < lfA (rm D C A O) S b → Ln2 (tlA D C b) + wA (gnA c fav) b ≤ Ln2 (hdA D C b)) ∨ ∃ v m, v < n ∧ r = iI (v : Nat) ∧ CY n (2 * c) (tlA D C) (hdA D C) (lfA (rm D C A O) S) (wA (gnA c fav)) Ar2 v m)) (obB (dC, dI) vwCl [(cI, .int), (cZ, .boolean)] AA (BN ad cI cZ n)) AA) ([.ref (ad 0), .int (iI fav)] : List Value).toArray s 0 0 AA) (F0 m 2 ls []) := by
    intro nn
    induction nn with
    | zero => intro f Ln1 Ar1 hm hfn hz; exfalso; omega
    | succ nn ih_2 =>
      intro f Ln1 Ar1 hm hfn hz H locs hP hD hS ls hl
      refine lv_iload_n hx hb dX1_findCircle_2 rfl (lv_at hl 2 rfl) ?_
      refine lv_aload_n hx hb dX1_findCircle_3 rfl (lv_at hl 0 rfl) ?_
      refine va_get (D := (dC, dI)) (ci := 0) (v := .int (iI n)) (C := RX1) (T := TX1) (N := 11) hx hb hts in_X1 hown hK hP 0 rfl rfl 9 (by decide) (hts _ q42) (fun _ h9 => h9) rfl dX1_findCircle_4 ?_
      refine ob_icmp_ge (tgt := 30) hx hb dX1_findCircle_7 (by decide) (by omega) (by omega) (fun h7 => ?_) (fun h7 => ?_)
      · refine ob_ic hx hb dX1_findCircle_30 ?_
        refine lv_istore_n (lv' := [(2, .int (iI ((-1)))), (0, .ref (ad 0)), (1, .int (iI fav))]) hx hb dX1_findCircle_31 rfl hl (by decide) rfl (fun ls hl => ?_)
        refine ob_ic hx hb dX1_findCircle_32 ?_
        refine lv_istore_n (lv' := [(3, .int (iI 0)), (2, .int (iI ((-1)))), (0, .ref (ad 0)), (1, .int (iI fav))]) hx hb dX1_findCircle_33 rfl hl (by decide) rfl (fun ls hl => ?_)
        have lp_34 : ∀ (nn : Nat) (r : Nat) (last : Int) (Ln2 : Nat → Int) (Ar2 : Nat → Int), (n + 1 < r + nn) → (r ≤ n + 1) → ((r ≤ n ∧ BF n (2 * c) (tlA D C) (hdA D C) (lfA (rm D C A O) S) (wA (gnA c fav)) r 0 (-1) Ln2 Ar2) ∨ (r = n + 1 ∧ ∃ v : Nat, v < n ∧ last = (v : Int) ∧ BF n (2 * c) (tlA D C) (hdA D C) (lfA (rm D C A O) S) (wA (gnA c fav)) n (2 * c) (v : Int) Ln2 Ar2)) → ∀ (H : Heap) (locs : List Loc), va_P (dC, dI) vwCl (wN ad cI cZ n c D C A O S Ln2 Ar2 Rd) H → va_D AA (wN ad cI cZ n c D C A O S Ln2 Ar2 Rd) → va_S AA s.heap H locs → ∀ (ls : Array Slot), lv_has ls 6 [(0, .ref (ad 0)), (1, .int (iI fav)), (2, .int (iI last)), (3, .int (iI r))] → W p l e (headSpec (ws_ yX1_findCircle cX1_findCircle 6 (some .int)) ({ frames := 3, cells := 0, slots := 0, locals := 69 })).room s m ([.ref (ad 0), .int (iI fav)] : List Value).toArray below meth cd H locs 0 0 (MQ below (va_Qi (fun r u => ∃ Ln2 Ar2, u = (c, D, C, A, O, S, Ln2, Ar2, Rd) ∧ ((r = iI (-1) ∧ ∀ b, b < 2 * c → 0 < lfA (rm D C A O) S b → Ln2 (tlA D C b) + wA (gnA c fav) b ≤ Ln2 (hdA D C b)) ∨ ∃ v m, v < n ∧ r = iI (v : Nat) ∧ CY n (2 * c) (tlA D C) (hdA D C) (lfA (rm D C A O) S) (wA (gnA c fav)) Ar2 v m)) (obB (dC, dI) vwCl [(cI, .int), (cZ, .boolean)] AA (BN ad cI cZ n)) AA) ([.ref (ad 0), .int (iI fav)] : List Value).toArray s 0 0 AA) (F0 m 34 ls []) := by
          intro nn
          induction nn with
          | zero => intro r last Ln2 Ar2 hm hr1 hB; exfalso; omega
          | succ nn ih_34 =>
            intro r last Ln2 Ar2 hm hr1 hB H locs hP hD hS ls hl
            refine lv_iload_n hx hb dX1_findCircle_34 rfl (lv_at hl 3 rfl) ?_
            refine lv_aload_n hx hb dX1_findCircle_35 rfl (lv_at hl 0 rfl) ?_
            refine va_get (D := (dC, dI)) (ci := 0) (v := .int (iI n)) (C := RX1) (T := TX1) (N := 11) hx hb hts in_X1 hown hK hP 0 rfl rfl 9 (by decide) (hts _ q42) (fun _ h9 => h9) rfl dX1_findCircle_36 ?_
            refine ob_icmp_gt (tgt := 98) hx hb dX1_findCircle_39 (by decide) (by omega) (by omega) (fun h39 => ?_) (fun h39 => ?_)
            · obtain ⟨-, v, hv, hlast, hF⟩ : r = n + 1 ∧ ∃ v : Nat, v < n ∧ last = (v : Int) ∧ BF n (2 * c) (tlA D C) (hdA D C) (lfA (rm D C A O) S) (wA (gnA c fav)) n (2 * c) (v : Int) Ln2 Ar2 := by
                rcases hB with ⟨q, -⟩ | q
                · omega
                · exact q
              obtain ⟨hbk, m0, hcy⟩ := hF.back (fun b hb => (tlA_lt hW.DC hb).1)
              have hle : last = (((v : Nat) : Int) : Int) := hlast
              rw [hle] at hl
              clear hle
              have hl : lv_has ls 6 [(0, .ref (ad 0)), (1, .int (iI fav)), (2, .int (iI (((v : Nat) : Int)))), (3, .int (iI r))] := hl
              refine ob_ic hx hb dX1_findCircle_98 ?_
              refine lv_istore_n (lv' := [(3, .int (iI 0)), (0, .ref (ad 0)), (1, .int (iI fav)), (2, .int (iI (((v : Nat) : Int))))]) hx hb dX1_findCircle_99 rfl hl (by decide) rfl (fun ls hl => ?_)
              have lp_100 : ∀ (nn : Nat) (k : Nat), (n < k + nn) → (k ≤ n) → ∀ (H : Heap) (locs : List Loc), va_P (dC, dI) vwCl (wN ad cI cZ n c D C A O S Ln2 Ar2 Rd) H → va_D AA (wN ad cI cZ n c D C A O S Ln2 Ar2 Rd) → va_S AA s.heap H locs → ∀ (ls : Array Slot), lv_has ls 6 [(0, .ref (ad 0)), (2, .int (iI (itN (pr (tlA D C) Ar2) k v))), (3, .int (iI k))] → W p l e (headSpec (ws_ yX1_findCircle cX1_findCircle 6 (some .int)) ({ frames := 3, cells := 0, slots := 0, locals := 69 })).room s m ([.ref (ad 0), .int (iI fav)] : List Value).toArray below meth cd H locs 0 0 (MQ below (va_Qi (fun r u => ∃ Ln2 Ar2, u = (c, D, C, A, O, S, Ln2, Ar2, Rd) ∧ ((r = iI (-1) ∧ ∀ b, b < 2 * c → 0 < lfA (rm D C A O) S b → Ln2 (tlA D C b) + wA (gnA c fav) b ≤ Ln2 (hdA D C b)) ∨ ∃ v m, v < n ∧ r = iI (v : Nat) ∧ CY n (2 * c) (tlA D C) (hdA D C) (lfA (rm D C A O) S) (wA (gnA c fav)) Ar2 v m)) (obB (dC, dI) vwCl [(cI, .int), (cZ, .boolean)] AA (BN ad cI cZ n)) AA) ([.ref (ad 0), .int (iI fav)] : List Value).toArray s 0 0 AA) (F0 m 100 ls []) := by
                intro nn
                induction nn with
                | zero => intro k hm hk; exfalso; omega
                | succ nn ih_100 =>
                  intro k hm hk H locs hP hD hS ls hl
                  refine lv_iload_n hx hb dX1_findCircle_100 rfl (lv_at hl 2 rfl) ?_
                  refine lv_aload_n hx hb dX1_findCircle_101 rfl (lv_at hl 0 rfl) ?_
                  refine va_get (D := (dC, dI)) (ci := 0) (v := .int (iI n)) (C := RX1) (T := TX1) (N := 11) hx hb hts in_X1 hown hK hP 0 rfl rfl 9 (by decide) (hts _ q42) (fun _ h9 => h9) rfl dX1_findCircle_102 ?_
                  refine ob_icmp_ge (tgt := 125) hx hb dX1_findCircle_105 (by decide) (by omega) (by omega) (fun h105 => ?_) (fun h105 => ?_)
                  · have ek : k = n := by omega
                    subst ek
                    refine lv_iload_n hx hb dX1_findCircle_125 rfl (lv_at hl 1 rfl) ?_
                    exact W.iret (v := iI (itN (pr (tlA D C) Ar2) k v)) hx hb hr (fun t ht hW => ⟨⟨_, (c, D, C, A, O, S, Ln2, Ar2, Rd), rfl, (by exact ⟨Ln2, Ar2, rfl, Or.inr ⟨_, m0, (hbk k (Nat.le_refl k)).1, rfl, hcy⟩⟩), by rw [ht]; exact hP, va_K.moved hW.alike hK, hD⟩, hS.F ht⟩) hS.2.2 dX1_findCircle_126
                  · obtain ⟨i1, b0, i2, i3⟩ := hbk k hk
                    refine lv_aload_n hx hb dX1_findCircle_108 rfl (lv_at hl 0 rfl) ?_
                    refine lv_aload_n hx hb dX1_findCircle_109 rfl (lv_at hl 0 rfl) ?_
                    refine va_get (D := (dC, dI)) (ci := 0) (v := .ref (ad 7)) (C := RX1) (T := TX1) (N := 11) hx hb hts in_X1 hown hK hP 0 rfl rfl 7 (by decide) (hts _ q40) (fun _ h9 => h9) rfl dX1_findCircle_110 ?_
                    refine lv_iload_n hx hb dX1_findCircle_113 rfl (lv_at hl 1 rfl) ?_
                    refine ob_iald hx hb hK hP 7 0 rfl rfl (itN (pr (tlA D C) Ar2) k v) (by omega) (by omega) (by decide) dX1_findCircle_114 ?_
                    refine ob_top ((((Ar2 (itN (pr (tlA D C) Ar2) k v)).toNat : Nat) : Int)) (by omega) ?_
                    refine ob_callR (As := [.int (iI ((((Ar2 (itN (pr (tlA D C) Ar2) k v)).toNat : Nat) : Int)))]) (rest := []) (metN_tailOf l dC dI ad cI cZ n c D C A O S Ln2 Ar2 Rd (Ar2 (itN (pr (tlA D C) Ar2) k v)).toNat (by omega)) ⟨hx, hb, hml, hown, hts⟩ (cwV 1 hts (lw_V q122 q124 qs8 q23 q125) rfl rfl rfl (by decide +kernel) ⟨Nat.le_of_ble_eq_true rfl, Nat.le_of_ble_eq_true rfl⟩) hK hP [0, 1, 2, 3, 4, 5, 6, 7, 8] [0, 1] rfl rfl (ci := 0) rfl rfl rfl rfl hl.1 rfl (Nat.le_of_ble_eq_true rfl) dX1_findCircle_115 ⟨Nat.zero_le _, Nat.zero_le _⟩ (fun r115 e115 => ?_)
                    subst e115
                    refine lv_istore_n (lv' := [(2, .int (iI (tlA D C (Ar2 (itN (pr (tlA D C) Ar2) k v)).toNat))), (0, .ref (ad 0)), (3, .int (iI k))]) hx hb dX1_findCircle_118 rfl hl (by decide) rfl (fun ls hl => ?_)
                    refine ob_iinc (k := 2) hx hb (((k + 1 : Nat) : Int)) (lv' := [(3, .int (iI (((k + 1 : Nat) : Int)))), (2, .int (iI (tlA D C (Ar2 (itN (pr (tlA D C) Ar2) k v)).toNat))), (0, .ref (ad 0))]) dX1_findCircle_119 hl rfl (by omega) (by decide) rfl (fun ls hl => ?_)
                    refine lv_goto (tgt := 100) hx hb dX1_findCircle_122 (by decide) ?_
                    exact ih_100 (k + 1) (by omega) (by omega) _ _ hP hD hS ls (lv_sub hl [2, 1, 0] rfl)
              exact lp_100 (n + 1) 0 (by omega) (by omega) _ _ hP hD hS ls (lv_sub hl [1, 3, 0] rfl)
            · have hF0 : BF n (2 * c) (tlA D C) (hdA D C) (lfA (rm D C A O) S) (wA (gnA c fav)) r 0 (-1) Ln2 Ar2 := by
                rcases hB with ⟨-, q⟩ | ⟨q, -⟩
                · exact q
                · omega
              refine ob_ic hx hb dX1_findCircle_42 ?_
              refine lv_istore_n (lv' := [(2, .int (iI ((-1)))), (0, .ref (ad 0)), (1, .int (iI fav)), (3, .int (iI r))]) hx hb dX1_findCircle_43 rfl hl (by decide) rfl (fun ls hl => ?_)
              refine ob_ic hx hb dX1_findCircle_44 ?_
              refine lv_istore (lv' := [(4, .int (iI 0)), (2, .int (iI ((-1)))), (0, .ref (ad 0)), (1, .int (iI fav)), (3, .int (iI r))]) hx hb dX1_findCircle_45 hl (by decide) rfl (fun ls hl => ?_)
              have lp_47 : ∀ (nn : Nat) (a : Nat) (last3 : Int) (Ln3 : Nat → Int) (Ar3 : Nat → Int), (2 * c < a + nn) → (a ≤ 2 * c) → (BF n (2 * c) (tlA D C) (hdA D C) (lfA (rm D C A O) S) (wA (gnA c fav)) r a last3 Ln3 Ar3) → ∀ (H : Heap) (locs : List Loc), va_P (dC, dI) vwCl (wN ad cI cZ n c D C A O S Ln3 Ar3 Rd) H → va_D AA (wN ad cI cZ n c D C A O S Ln3 Ar3 Rd) → va_S AA s.heap H locs → ∀ (ls : Array Slot), lv_has ls 6 [(0, .ref (ad 0)), (1, .int (iI fav)), (2, .int (iI last3)), (3, .int (iI r)), (4, .int (iI a))] → W p l e (headSpec (ws_ yX1_findCircle cX1_findCircle 6 (some .int)) ({ frames := 3, cells := 0, slots := 0, locals := 69 })).room s m ([.ref (ad 0), .int (iI fav)] : List Value).toArray below meth cd H locs 0 0 (MQ below (va_Qi (fun r u => ∃ Ln2 Ar2, u = (c, D, C, A, O, S, Ln2, Ar2, Rd) ∧ ((r = iI (-1) ∧ ∀ b, b < 2 * c → 0 < lfA (rm D C A O) S b → Ln2 (tlA D C b) + wA (gnA c fav) b ≤ Ln2 (hdA D C b)) ∨ ∃ v m, v < n ∧ r = iI (v : Nat) ∧ CY n (2 * c) (tlA D C) (hdA D C) (lfA (rm D C A O) S) (wA (gnA c fav)) Ar2 v m)) (obB (dC, dI) vwCl [(cI, .int), (cZ, .boolean)] AA (BN ad cI cZ n)) AA) ([.ref (ad 0), .int (iI fav)] : List Value).toArray s 0 0 AA) (F0 m 47 ls []) := by
                intro nn
                induction nn with
                | zero => intro a last3 Ln3 Ar3 hm ha hF; exfalso; omega
                | succ nn ih_47 =>
                  intro a last3 Ln3 Ar3 hm ha hF H locs hP hD hS ls hl
                  refine lv_iload hx hb dX1_findCircle_47 (lv_at hl 4 rfl) ?_
                  refine ob_ic hx hb dX1_findCircle_49 ?_
                  refine lv_aload_n hx hb dX1_findCircle_50 rfl (lv_at hl 0 rfl) ?_
                  refine va_get (D := (dC, dI)) (ci := 0) (v := .int (iI c)) (C := RX1) (T := TX1) (N := 11) hx hb hts in_X1 hown hK hP 0 rfl rfl 10 (by decide) (hts _ q43) (fun _ h9 => h9) rfl dX1_findCircle_51 ?_
                  refine ob_imul hx hb dX1_findCircle_54 ?_
                  refine ob_icmp_ge (tgt := 85) hx hb dX1_findCircle_55 (by decide) (by omega) (by omega) (fun h55 => ?_) (fun h55 => ?_)
                  · have ea : a = 2 * c := by omega
                    rw [ea] at hF
                    have hlv := hF.lastv
                    refine lv_iload_n hx hb dX1_findCircle_85 rfl (lv_at hl 2 rfl) ?_
                    refine ob_ic hx hb dX1_findCircle_86 ?_
                    refine ob_icmp_ne (tgt := 92) hx hb dX1_findCircle_87 (by decide) (by rcases hlv with q | ⟨v, q1, q2⟩ <;> omega) (by omega) (fun h87 => ?_) (fun h87 => ?_)
                    · obtain ⟨v, hv, hlast⟩ : ∃ v : Nat, v < n ∧ last3 = (v : Int) := by
                        rcases hlv with q | q
                        · omega
                        · exact q
                      have hnx : (r + 1 ≤ n ∧ BF n (2 * c) (tlA D C) (hdA D C) (lfA (rm D C A O) S) (wA (gnA c fav)) (r + 1) 0 (-1) Ln3 Ar3) ∨ (r + 1 = n + 1 ∧ ∃ v : Nat, v < n ∧ last3 = (v : Int) ∧ BF n (2 * c) (tlA D C) (hdA D C) (lfA (rm D C A O) S) (wA (gnA c fav)) n (2 * c) (v : Int) Ln3 Ar3) := by
                        by_cases q : r + 1 ≤ n
                        · exact Or.inl ⟨q, hF.next (by omega)⟩
                        · have er : r = n := by omega
                          rw [er, hlast] at hF
                          exact Or.inr ⟨by omega, v, hv, hlast, hF⟩
                      refine ob_iinc (k := 3) hx hb (((r + 1 : Nat) : Int)) (lv' := [(3, .int (iI (((r + 1 : Nat) : Int)))), (0, .ref (ad 0)), (1, .int (iI fav)), (2, .int (iI last3)), (4, .int (iI a))]) dX1_findCircle_92 hl rfl (by omega) (by decide) rfl (fun ls hl => ?_)
                      refine lv_goto (tgt := 34) hx hb dX1_findCircle_95 (by decide) ?_
                      exact ih_34 (r + 1) last3 Ln3 Ar3 (by omega) (by omega) hnx _ _ hP hD hS ls (lv_sub hl [1, 2, 3, 0] rfl)
                    · rw [h87] at hF
                      refine ob_ic hx hb dX1_findCircle_90 ?_
                      exact W.iret (v := iI ((-1))) hx hb hr (fun t ht hW => ⟨⟨_, (c, D, C, A, O, S, Ln3, Ar3, Rd), rfl, (by exact ⟨Ln3, Ar3, rfl, Or.inl ⟨rfl, hF.none⟩⟩), by rw [ht]; exact hP, va_K.moved hW.alike hK, hD⟩, hS.F ht⟩) hS.2.2 dX1_findCircle_91
                  · have hLb : ∀ f, f < n → 0 ≤ Ln3 f ∧ Ln3 f ≤ 1000000000 := fun f hf => by
                      have q1 := hF.bnd f hf
                      omega
                    have b2 := wA_bnd hc fav a
                    have b3 := tlA_lt hW.DC (a := a) (by omega)
                    refine lv_aload_n hx hb dX1_findCircle_58 rfl (lv_at hl 0 rfl) ?_
                    refine lv_iload hx hb dX1_findCircle_59 (lv_at hl 4 rfl) ?_
                    refine lv_iload_n hx hb dX1_findCircle_61 rfl (lv_at hl 1 rfl) ?_
                    refine ob_callI (As := [.int (iI a), .int (iI fav)]) (rest := []) (wr := []) (metN_relax l dC dI ad cI cZ n c D C A O S Ln3 Ar3 Rd H.size a fav hf (by omega) hW hSt hLb) ⟨hx, hb, hml, hown, hts⟩ (cwV 2 hts (lw_V q105 q107 qs4 q23 q108) rfl rfl rfl (by decide +kernel) ⟨Nat.le_of_ble_eq_true rfl, Nat.le_of_ble_eq_true rfl⟩) hK hP hD hS hA [0, 1, 2, 3, 4, 5, 6, 7, 8] [] [0, 1] rfl rfl rfl (by decide) (by decide) (by decide) rfl (ci := 0) rfl rfl rfl rfl hl.1 rfl (Nat.le_of_ble_eq_true rfl) dX1_findCircle_62 ⟨Nat.zero_le _, Nat.zero_le _⟩ (fun r62 u62 H locs hw hP hD hS => ?_)
                    rcases hw with ⟨hy, rfl, rfl⟩ | ⟨hy, rfl, rfl⟩
                    · have hP : va_P (dC, dI) vwCl (wN ad cI cZ n c D C A O S (va_up Ln3 (hdA D C a) (Ln3 (tlA D C a) + wA (gnA c fav) a)) (va_up Ar3 (hdA D C a) (a : Int)) Rd) H := hP
                      have hD : va_D AA (wN ad cI cZ n c D C A O S (va_up Ln3 (hdA D C a) (Ln3 (tlA D C a) + wA (gnA c fav) a)) (va_up Ar3 (hdA D C a) (a : Int)) Rd) := hD
                      refine lv_istore (lv' := [(5, .int (iI (hdA D C a))), (0, .ref (ad 0)), (1, .int (iI fav)), (2, .int (iI last3)), (3, .int (iI r)), (4, .int (iI a))]) hx hb dX1_findCircle_65 hl (by decide) rfl (fun ls hl => ?_)
                      refine lv_iload hx hb dX1_findCircle_67 (lv_at hl 0 rfl) ?_
                      refine ob_if_lt (tgt := 77) hx hb dX1_findCircle_69 (by decide) (by omega) (fun h69 => ?_) (fun h69 => ?_)
                      · exfalso; omega
                      · refine lv_iload hx hb dX1_findCircle_72 (lv_at hl 0 rfl) ?_
                        refine lv_goto (tgt := 78) hx hb dX1_findCircle_74 (by decide) ?_
                        refine lv_istore_n (lv' := [(2, .int (iI (hdA D C a))), (5, .int (iI (hdA D C a))), (0, .ref (ad 0)), (1, .int (iI fav)), (3, .int (iI r)), (4, .int (iI a))]) hx hb dX1_findCircle_78 rfl hl (by decide) rfl (fun ls hl => ?_)
                        refine ob_iinc (k := 5) hx hb (((a + 1 : Nat) : Int)) (lv' := [(4, .int (iI (((a + 1 : Nat) : Int)))), (2, .int (iI (hdA D C a))), (5, .int (iI (hdA D C a))), (0, .ref (ad 0)), (1, .int (iI fav)), (3, .int (iI r))]) dX1_findCircle_79 hl rfl (by omega) (by decide) rfl (fun ls hl => ?_)
                        refine lv_goto (tgt := 47) hx hb dX1_findCircle_82 (by decide) ?_
                        exact ih_47 (a + 1) (hdA D C a) (va_up Ln3 (hdA D C a) (Ln3 (tlA D C a) + wA (gnA c fav) a)) (va_up Ar3 (hdA D C a) (a : Int)) (by omega) (by omega) (hF.yes (by omega) b3.1 b3.2.1 b3.2.2 b2.2 hy.1 hy.2) _ _ hP hD hS ls (lv_sub hl [3, 4, 1, 5, 0] rfl)
                    · have hP : va_P (dC, dI) vwCl (wN ad cI cZ n c D C A O S Ln3 Ar3 Rd) H := hP
                      have hD : va_D AA (wN ad cI cZ n c D C A O S Ln3 Ar3 Rd) := hD
                      refine lv_istore (lv' := [(5, .int (iI (-1))), (0, .ref (ad 0)), (1, .int (iI fav)), (2, .int (iI last3)), (3, .int (iI r)), (4, .int (iI a))]) hx hb dX1_findCircle_65 hl (by decide) rfl (fun ls hl => ?_)
                      refine lv_iload hx hb dX1_findCircle_67 (lv_at hl 0 rfl) ?_
                      refine ob_if_lt (tgt := 77) hx hb dX1_findCircle_69 (by decide) (by omega) (fun h69 => ?_) (fun h69 => ?_)
                      · refine lv_iload_n hx hb dX1_findCircle_77 rfl (lv_at hl 3 rfl) ?_
                        refine lv_istore_n (lv' := [(2, .int (iI last3)), (5, .int (iI (-1))), (0, .ref (ad 0)), (1, .int (iI fav)), (3, .int (iI r)), (4, .int (iI a))]) hx hb dX1_findCircle_78 rfl hl (by decide) rfl (fun ls hl => ?_)
                        refine ob_iinc (k := 5) hx hb (((a + 1 : Nat) : Int)) (lv' := [(4, .int (iI (((a + 1 : Nat) : Int)))), (2, .int (iI last3)), (5, .int (iI (-1))), (0, .ref (ad 0)), (1, .int (iI fav)), (3, .int (iI r))]) dX1_findCircle_79 hl rfl (by omega) (by decide) rfl (fun ls hl => ?_)
                        refine lv_goto (tgt := 47) hx hb dX1_findCircle_82 (by decide) ?_
                        exact ih_47 (a + 1) last3 Ln3 Ar3 (by omega) (by omega) (hF.no hy) _ _ hP hD hS ls (lv_sub hl [3, 4, 1, 5, 0] rfl)
                      · exfalso; omega
              exact lp_47 (2 * c + 1) 0 (-1) Ln2 Ar2 (by omega) (by omega) hF0 _ _ hP hD hS ls (lv_sub hl [2, 3, 1, 4, 0] rfl)
        exact lp_34 (n + 2) 0 (-1) Ln1 Ar1 (by omega) (by omega) (Or.inl ⟨by omega, BF.init (fun j hj => hz j (by omega))⟩) _ _ hP hD hS ls (lv_sub hl [2, 3, 1, 0] rfl)
      · refine lv_aload_n hx hb dX1_findCircle_10 rfl (lv_at hl 0 rfl) ?_
        refine va_get (D := (dC, dI)) (ci := 0) (v := .ref (ad 6)) (C := RX1) (T := TX1) (N := 11) hx hb hts in_X1 hown hK hP 0 rfl rfl 6 (by decide) (hts _ q39) (fun _ h9 => h9) rfl dX1_findCircle_11 ?_
        refine lv_iload_n hx hb dX1_findCircle_14 rfl (lv_at hl 2 rfl) ?_
        refine ob_ic hx hb dX1_findCircle_15 ?_
        refine ob_iast hx hb hK hP hD hS 6 0 rfl rfl (f) (by omega) (by omega) (by decide) dX1_findCircle_16 (fun H locs hP hD hS => ?_)
        have hP : va_P (dC, dI) vwCl (wN ad cI cZ n c D C A O S (va_up Ln1 f 0) Ar1 Rd) H := hP
        have hD : va_D AA (wN ad cI cZ n c D C A O S (va_up Ln1 f 0) Ar1 Rd) := hD
        refine lv_aload_n hx hb dX1_findCircle_17 rfl (lv_at hl 0 rfl) ?_
        refine va_get (D := (dC, dI)) (ci := 0) (v := .ref (ad 7)) (C := RX1) (T := TX1) (N := 11) hx hb hts in_X1 hown hK hP 0 rfl rfl 7 (by decide) (hts _ q40) (fun _ h9 => h9) rfl dX1_findCircle_18 ?_
        refine lv_iload_n hx hb dX1_findCircle_21 rfl (lv_at hl 2 rfl) ?_
        refine ob_ic hx hb dX1_findCircle_22 ?_
        refine ob_iast hx hb hK hP hD hS 7 0 rfl rfl (f) (by omega) (by omega) (by decide) dX1_findCircle_23 (fun H locs hP hD hS => ?_)
        have hP : va_P (dC, dI) vwCl (wN ad cI cZ n c D C A O S (va_up Ln1 f 0) (va_up Ar1 f ((-1))) Rd) H := hP
        have hD : va_D AA (wN ad cI cZ n c D C A O S (va_up Ln1 f 0) (va_up Ar1 f ((-1))) Rd) := hD
        refine ob_iinc (k := 2) hx hb (((f + 1 : Nat) : Int)) (lv' := [(2, .int (iI (((f + 1 : Nat) : Int)))), (0, .ref (ad 0)), (1, .int (iI fav))]) dX1_findCircle_24 hl rfl (by omega) (by decide) rfl (fun ls hl => ?_)
        refine lv_goto (tgt := 2) hx hb dX1_findCircle_27 (by decide) ?_
        exact ih_2 (f + 1) (va_up Ln1 f 0) (va_up Ar1 f (-1)) (by omega) (by omega) (up_lo hz) _ _ hP hD hS ls (lv_sub hl [1, 2, 0] rfl)
  exact lp_2 (n + 1) 0 Ln Ar (by omega) (by omega) (fun j h => absurd h (by omega)) _ _ hP hD hS ls (lv_sub hl [1, 2, 0] rfl)
end
section
/-! ObligationNetting: fillCircle, solve -/
set_option maxHeartbeats 4000000 in
set_option maxRecDepth 100000 in
theorem metN_fillCircle (l : Launch) (dC : Nat → ClassId) (dI : Nat → Nat → Nat) (ad : Nat → Nat) (cI cZ : ClassId) (n c : Nat) (D C : Nat → Nat) (A O S Ln Ar Rd : Nat → Int) (sz : Nat) (v mm : Nat) (g : Nat → Int) (hW : WF n c D C A O) (hSt : ∀ d, d < c → 0 ≤ S d ∧ S d ≤ 3) (hC : CY n (2 * c) (tlA D C) (hdA D C) (lfA (rm D C A O) S) (wA g) Ar v mm) : Met l yX1_fillCircle (ws_ yX1_fillCircle cX1_fillCircle 7 none) ({ frames := 2, cells := 0, slots := 0, locals := 43 }) (obW (dC, dI) vwCl (wN ad cI cZ n c D C A O S Ln Ar Rd) [(cI, .int), (cZ, .boolean)] sz [.ref (ad 0), .int (iI v)]) (va_Qv (fun u => ∃ am, 0 < am ∧ (∀ k, k < mm → am ≤ lfA (rm D C A O) S (Ar (itN (pr (tlA D C) Ar) k v)).toNat) ∧ u = (c, D, C, A, O, fS am (fun k => (Ar (itN (pr (tlA D C) Ar) k v)).toNat) S mm, Ln, Ar, Rd)) (obB (dC, dI) vwCl [(cI, .int), (cZ, .boolean)] (va_A (wN ad cI cZ n c D C A O S Ln Ar Rd) sz) (BN ad cI cZ n)) (va_A (wN ad cI cZ n c D C A O S Ln Ar Rd) sz)) 0 0 (va_A (wN ad cI cZ n c D C A O S Ln Ar Rd) sz) := by
  refine Met.ofW (cc := cX1_fillCircle) (maxL := 7) (ret := none) (by decide) rfl ?_
  intro p e s m args below meth cd s₁ B hml hv
  obtain ⟨rfl, hsz, hP, hK, hD0⟩ := hv
  have hx := B.exec
  have hb := B.bytes
  have hr := B.returns
  have hts := atoms_spec (ws := (ws_ yX1_fillCircle cX1_fillCircle 7 none)) B.pre
  have hts : ∀ w ∈ lw_all, w.before _ s = true := fun w h => hts w (List.mem_cons_of_mem _ h)
  have hown : s.vm.findClass RX1 = some m.cls := findClass_of_methodNamed B.named
  have hlocks := B.notSynchronized
  subst hsz
  have hD := hD0.self (sz := s.heap.size)
  generalize hAe : va_A (wN ad cI cZ n c D C A O S Ln Ar Rd) s.heap.size = AA at hD ⊢
  have hA : ∀ q : Nat, s.heap.size ≤ q → AA q := fun q h => by rw [← hAe]; exact Or.inr h
  have hS : va_S AA s.heap s.heap [] := va_S.rf
  have hl := lv_entry ([.ref (ad 0), .int (iI v)]) (n := 7) (Nat.le_of_ble_eq_true rfl)
  rw [lg_entry_eq]
  generalize (lg_sl ([.ref (ad 0), .int (iI v)]) ++ List.replicate (7 - (lg_sl ([.ref (ad 0), .int (iI v)])).length) Slot.unset).toArray = ls at hl ⊢
  have hl : lv_has ls 7 [(0, .ref (ad 0)), (1, .int (iI v))] := hl
  have hc := hW.2.2.1
  have hn := hW.2.1
  have hm1 := hC.1
  have hm2 := hC.2.1
  have hv5 : v < n := (hC.2.2.2.2.1 0).1
  refine ob_ic hx hb dX1_fillCircle_0 ?_
  refine lv_istore_n (lv' := [(2, .int (iI 3)), (0, .ref (ad 0)), (1, .int (iI v))]) hx hb dX1_fillCircle_1 rfl hl (by decide) rfl (fun ls hl => ?_)
  refine lv_iload_n hx hb dX1_fillCircle_2 rfl (lv_at hl 2 rfl) ?_
  refine lv_istore_n (lv' := [(3, .int (iI v)), (2, .int (iI 3)), (0, .ref (ad 0)), (1, .int (iI v))]) hx hb dX1_fillCircle_3 rfl hl (by decide) rfl (fun ls hl => ?_)
  refine ob_ic hx hb dX1_fillCircle_4 ?_
  refine lv_istore (lv' := [(4, .int (iI 0)), (3, .int (iI v)), (2, .int (iI 3)), (0, .ref (ad 0)), (1, .int (iI v))]) hx hb dX1_fillCircle_5 hl (by decide) rfl (fun ls hl => ?_)
  have lp_7 : ∀ (nn : Nat) (k : Nat) (am : Int), (mm ≤ k + nn) → (k < mm) → (0 < am ∧ am ≤ 3) → (∀ i, i < k → am ≤ lfA (rm D C A O) S ((fun k => (Ar (itN (pr (tlA D C) Ar) k v)).toNat) i)) → ∀ (H : Heap) (locs : List Loc), va_P (dC, dI) vwCl (wN ad cI cZ n c D C A O S Ln Ar Rd) H → va_D AA (wN ad cI cZ n c D C A O S Ln Ar Rd) → va_S AA s.heap H locs → ∀ (ls : Array Slot), lv_has ls 7 [(0, .ref (ad 0)), (1, .int (iI v)), (2, .int (iI am)), (3, .int (iI (itN (pr (tlA D C) Ar) k v))), (4, .int (iI k))] → W p l e (headSpec (ws_ yX1_fillCircle cX1_fillCircle 7 none) ({ frames := 2, cells := 0, slots := 0, locals := 43 })).room s m ([.ref (ad 0), .int (iI v)] : List Value).toArray below meth cd H locs 0 0 (MQ below (va_Qv (fun u => ∃ am, 0 < am ∧ (∀ k, k < mm → am ≤ lfA (rm D C A O) S (Ar (itN (pr (tlA D C) Ar) k v)).toNat) ∧ u = (c, D, C, A, O, fS am (fun k => (Ar (itN (pr (tlA D C) Ar) k v)).toNat) S mm, Ln, Ar, Rd)) (obB (dC, dI) vwCl [(cI, .int), (cZ, .boolean)] AA (BN ad cI cZ n)) AA) ([.ref (ad 0), .int (iI v)] : List Value).toArray s 0 0 AA) (F0 m 7 ls []) := by
    intro nn
    induction nn with
    | zero => intro k am hm hk ham0 hal0; exfalso; omega
    | succ nn ih_7 =>
      intro k am hm hk ham0 hal0 H locs hP hD hS ls hl
      refine lv_iload hx hb dX1_fillCircle_7 (lv_at hl 4 rfl) ?_
      refine ob_ic hx hb dX1_fillCircle_9 ?_
      refine ob_icmp_ge (tgt := 63) hx hb dX1_fillCircle_10 (by decide) (by omega) (by omega) (fun h10 => ?_) (fun h10 => ?_)
      · exfalso; omega
      · obtain ⟨i1, b0, i2, i3, i4, i5⟩ := hC.2.2.2.2.1 k
        have ib : (Ar (itN (pr (tlA D C) Ar) k v)).toNat = b0 := by rw [i3]; rfl
        have il : -3 ≤ lfA (rm D C A O) S (Ar (itN (pr (tlA D C) Ar) k v)).toNat ∧ lfA (rm D C A O) S (Ar (itN (pr (tlA D C) Ar) k v)).toNat ≤ 3 := lfA_bnd hW.rm hSt (by omega)
        have il2 : 0 < lfA (rm D C A O) S (Ar (itN (pr (tlA D C) Ar) k v)).toNat := by rw [ib]; exact i5
        have itl := (tlA_lt hW.DC (a := (Ar (itN (pr (tlA D C) Ar) k v)).toNat) (by omega)).1
        refine lv_aload_n hx hb dX1_fillCircle_13 rfl (lv_at hl 0 rfl) ?_
        refine va_get (D := (dC, dI)) (ci := 0) (v := .ref (ad 7)) (C := RX1) (T := TX1) (N := 11) hx hb hts in_X1 hown hK hP 0 rfl rfl 7 (by decide) (hts _ q40) (fun _ h9 => h9) rfl dX1_fillCircle_14 ?_
        refine lv_iload_n hx hb dX1_fillCircle_17 rfl (lv_at hl 3 rfl) ?_
        refine ob_iald hx hb hK hP 7 0 rfl rfl (itN (pr (tlA D C) Ar) k v) (by omega) (by omega) (by decide) dX1_fillCircle_18 ?_
        refine ob_top ((((Ar (itN (pr (tlA D C) Ar) k v)).toNat : Nat) : Int)) (by omega) ?_
        refine lv_istore (lv' := [(5, .int (iI ((((Ar (itN (pr (tlA D C) Ar) k v)).toNat : Nat) : Int)))), (0, .ref (ad 0)), (1, .int (iI v)), (2, .int (iI am)), (3, .int (iI (itN (pr (tlA D C) Ar) k v))), (4, .int (iI k))]) hx hb dX1_fillCircle_19 hl (by decide) rfl (fun ls hl => ?_)
        refine lv_aload_n hx hb dX1_fillCircle_21 rfl (lv_at hl 1 rfl) ?_
        refine lv_iload hx hb dX1_fillCircle_22 (lv_at hl 0 rfl) ?_
        refine ob_callR (As := [.int (iI ((((Ar (itN (pr (tlA D C) Ar) k v)).toNat : Nat) : Int)))]) (rest := []) (metN_left l dC dI ad cI cZ n c D C A O S Ln Ar Rd (Ar (itN (pr (tlA D C) Ar) k v)).toNat (by omega) hc hW.DC5 hW.2.2.2.2) ⟨hx, hb, hml, hown, hts⟩ (cwV 1 hts (lw_V q109 q111 qs5 q23 q112) rfl rfl rfl (by decide +kernel) ⟨Nat.le_of_ble_eq_true rfl, Nat.le_of_ble_eq_true rfl⟩) hK hP [0, 1, 2, 3, 4, 5, 6, 7, 8] [0, 1] rfl rfl (ci := 0) rfl rfl rfl rfl hl.1 rfl (Nat.le_of_ble_eq_true rfl) dX1_fillCircle_24 ⟨Nat.zero_le _, Nat.zero_le _⟩ (fun r24 e24 => ?_)
        subst e24
        refine lv_istore (lv' := [(6, .int (iI (lfA (rm D C A O) S (Ar (itN (pr (tlA D C) Ar) k v)).toNat))), (5, .int (iI ((((Ar (itN (pr (tlA D C) Ar) k v)).toNat : Nat) : Int)))), (0, .ref (ad 0)), (1, .int (iI v)), (2, .int (iI am)), (3, .int (iI (itN (pr (tlA D C) Ar) k v))), (4, .int (iI k))]) hx hb dX1_fillCircle_27 hl (by decide) rfl (fun ls hl => ?_)
        refine lv_iload hx hb dX1_fillCircle_29 (lv_at hl 0 rfl) ?_
        refine lv_iload_n hx hb dX1_fillCircle_31 rfl (lv_at hl 4 rfl) ?_
        refine ob_icmp_ge (tgt := 40) hx hb dX1_fillCircle_32 (by decide) (by omega) (by omega) (fun h32 => ?_) (fun h32 => ?_)
        · refine lv_iload_n hx hb dX1_fillCircle_40 rfl (lv_at hl 4 rfl) ?_
          refine lv_istore_n (lv' := [(2, .int (iI am)), (6, .int (iI (lfA (rm D C A O) S (Ar (itN (pr (tlA D C) Ar) k v)).toNat))), (5, .int (iI ((((Ar (itN (pr (tlA D C) Ar) k v)).toNat : Nat) : Int)))), (0, .ref (ad 0)), (1, .int (iI v)), (3, .int (iI (itN (pr (tlA D C) Ar) k v))), (4, .int (iI k))]) hx hb dX1_fillCircle_41 rfl hl (by decide) rfl (fun ls hl => ?_)
          refine lv_aload_n hx hb dX1_fillCircle_42 rfl (lv_at hl 3 rfl) ?_
          refine lv_iload hx hb dX1_fillCircle_43 (lv_at hl 2 rfl) ?_
          refine ob_callR (As := [.int (iI ((((Ar (itN (pr (tlA D C) Ar) k v)).toNat : Nat) : Int)))]) (rest := []) (metN_tailOf l dC dI ad cI cZ n c D C A O S Ln Ar Rd (Ar (itN (pr (tlA D C) Ar) k v)).toNat (by omega)) ⟨hx, hb, hml, hown, hts⟩ (cwV 1 hts (lw_V q122 q124 qs8 q23 q125) rfl rfl rfl (by decide +kernel) ⟨Nat.le_of_ble_eq_true rfl, Nat.le_of_ble_eq_true rfl⟩) hK hP [0, 1, 2, 3, 4, 5, 6, 7, 8] [0, 1] rfl rfl (ci := 0) rfl rfl rfl rfl hl.1 rfl (Nat.le_of_ble_eq_true rfl) dX1_fillCircle_45 ⟨Nat.zero_le _, Nat.zero_le _⟩ (fun r45 e45 => ?_)
          subst e45
          refine lv_istore_n (lv' := [(3, .int (iI (tlA D C (Ar (itN (pr (tlA D C) Ar) k v)).toNat))), (2, .int (iI am)), (6, .int (iI (lfA (rm D C A O) S (Ar (itN (pr (tlA D C) Ar) k v)).toNat))), (5, .int (iI ((((Ar (itN (pr (tlA D C) Ar) k v)).toNat : Nat) : Int)))), (0, .ref (ad 0)), (1, .int (iI v)), (4, .int (iI k))]) hx hb dX1_fillCircle_48 rfl hl (by decide) rfl (fun ls hl => ?_)
          have hal : ∀ i, i < k + 1 → am ≤ lfA (rm D C A O) S ((fun k => (Ar (itN (pr (tlA D C) Ar) k v)).toNat) i) := fun i hi => by
            by_cases q : i = k
            · subst q
              show _ ≤ lfA (rm D C A O) S (Ar (itN (pr (tlA D C) Ar) i v)).toNat
              omega
            · have q2 := hal0 i (by omega)
              omega
          have ham : 0 < am ∧ am ≤ 3 := by omega
          refine lv_iload_n hx hb dX1_fillCircle_49 rfl (lv_at hl 0 rfl) ?_
          refine lv_iload_n hx hb dX1_fillCircle_50 rfl (lv_at hl 5 rfl) ?_
          refine ob_icmp_ne (tgt := 57) hx hb dX1_fillCircle_51 (by decide) (by omega) (by omega) (fun h51 => ?_) (fun h51 => ?_)
          · have ekm : k + 1 < mm := by
              rcases Nat.lt_or_ge (k + 1) mm with q | q
              · exact q
              · exfalso
                have e9 : k + 1 = mm := by omega
                exact h51 (congrArg Int.ofNat (show itN (pr (tlA D C) Ar) (k + 1) v = v by rw [e9]; exact hC.2.2.1))
            refine ob_iinc (k := 6) hx hb (((k + 1 : Nat) : Int)) (lv' := [(4, .int (iI (((k + 1 : Nat) : Int)))), (3, .int (iI (tlA D C (Ar (itN (pr (tlA D C) Ar) k v)).toNat))), (2, .int (iI am)), (6, .int (iI (lfA (rm D C A O) S (Ar (itN (pr (tlA D C) Ar) k v)).toNat))), (5, .int (iI ((((Ar (itN (pr (tlA D C) Ar) k v)).toNat : Nat) : Int)))), (0, .ref (ad 0)), (1, .int (iI v))]) dX1_fillCircle_57 hl rfl (by omega) (by decide) rfl (fun ls hl => ?_)
            refine lv_goto (tgt := 7) hx hb dX1_fillCircle_60 (by decide) ?_
            exact ih_7 (k + 1) am (by omega) ekm ham hal _ _ hP hD hS ls (lv_sub hl [5, 6, 2, 1, 0] rfl)
          · have ekm : k + 1 = mm := by
              rcases Nat.lt_or_ge (k + 1) mm with q | q
              · exact absurd (show itN (pr (tlA D C) Ar) (k + 1) v = v from Int.ofNat.inj h51) (hC.2.2.2.1 (k + 1) (by omega) q)
              · omega
            refine lv_goto (tgt := 63) hx hb dX1_fillCircle_54 (by decide) ?_
            have hl : lv_has ls 7 [(0, .ref (ad 0)), (1, .int (iI v)), (2, .int (iI am))] := lv_sub hl [4, 5, 1] rfl
            rw [ekm] at hal
            obtain ⟨am2, eam⟩ : ∃ z, z = am := ⟨_, rfl⟩
            rw [← eam] at hal ham
            have hle : am = (am2 : Int) := eam.symm
            rw [hle] at hl
            clear hle
            have hl : lv_has ls 7 [(0, .ref (ad 0)), (1, .int (iI v)), (2, .int (iI am2))] := hl
            refine lv_iload_n hx hb dX1_fillCircle_63 rfl (lv_at hl 1 rfl) ?_
            refine lv_istore_n (lv' := [(3, .int (iI v)), (0, .ref (ad 0)), (1, .int (iI v)), (2, .int (iI am2))]) hx hb dX1_fillCircle_64 rfl hl (by decide) rfl (fun ls hl => ?_)
            refine ob_ic hx hb dX1_fillCircle_65 ?_
            refine lv_istore (lv' := [(4, .int (iI 0)), (3, .int (iI v)), (0, .ref (ad 0)), (1, .int (iI v)), (2, .int (iI am2))]) hx hb dX1_fillCircle_66 hl (by decide) rfl (fun ls hl => ?_)
            have lp_68 : ∀ (nn : Nat) (k : Nat), (mm ≤ k + nn) → (k < mm) → ∀ (H : Heap) (locs : List Loc), va_P (dC, dI) vwCl (wN ad cI cZ n c D C A O (fS am2 (fun k => (Ar (itN (pr (tlA D C) Ar) k v)).toNat) S k) Ln Ar Rd) H → va_D AA (wN ad cI cZ n c D C A O (fS am2 (fun k => (Ar (itN (pr (tlA D C) Ar) k v)).toNat) S k) Ln Ar Rd) → va_S AA s.heap H locs → ∀ (ls : Array Slot), lv_has ls 7 [(0, .ref (ad 0)), (1, .int (iI v)), (2, .int (iI am2)), (3, .int (iI (itN (pr (tlA D C) Ar) k v))), (4, .int (iI k))] → W p l e (headSpec (ws_ yX1_fillCircle cX1_fillCircle 7 none) ({ frames := 2, cells := 0, slots := 0, locals := 43 })).room s m ([.ref (ad 0), .int (iI v)] : List Value).toArray below meth cd H locs 0 0 (MQ below (va_Qv (fun u => ∃ am, 0 < am ∧ (∀ k, k < mm → am ≤ lfA (rm D C A O) S (Ar (itN (pr (tlA D C) Ar) k v)).toNat) ∧ u = (c, D, C, A, O, fS am (fun k => (Ar (itN (pr (tlA D C) Ar) k v)).toNat) S mm, Ln, Ar, Rd)) (obB (dC, dI) vwCl [(cI, .int), (cZ, .boolean)] AA (BN ad cI cZ n)) AA) ([.ref (ad 0), .int (iI v)] : List Value).toArray s 0 0 AA) (F0 m 68 ls []) := by
              intro nn
              induction nn with
              | zero => intro k hm hk; exfalso; omega
              | succ nn ih_68 =>
                intro k hm hk H locs hP hD hS ls hl
                refine lv_iload hx hb dX1_fillCircle_68 (lv_at hl 4 rfl) ?_
                refine ob_ic hx hb dX1_fillCircle_70 ?_
                refine ob_icmp_ge (tgt := 128) hx hb dX1_fillCircle_71 (by decide) (by omega) (by omega) (fun h71 => ?_) (fun h71 => ?_)
                · exfalso; omega
                · obtain ⟨i1, b0, i2, i3, i4, i5⟩ := hC.2.2.2.2.1 k
                  have ib : (Ar (itN (pr (tlA D C) Ar) k v)).toNat = b0 := by rw [i3]; rfl
                  have il : -3 ≤ lfA (rm D C A O) S (Ar (itN (pr (tlA D C) Ar) k v)).toNat ∧ lfA (rm D C A O) S (Ar (itN (pr (tlA D C) Ar) k v)).toNat ≤ 3 := lfA_bnd hW.rm hSt (by omega)
                  have il2 : 0 < lfA (rm D C A O) S (Ar (itN (pr (tlA D C) Ar) k v)).toNat := by rw [ib]; exact i5
                  have itl := (tlA_lt hW.DC (a := (Ar (itN (pr (tlA D C) Ar) k v)).toNat) (by omega)).1
                  refine lv_aload_n hx hb dX1_fillCircle_74 rfl (lv_at hl 0 rfl) ?_
                  refine va_get (D := (dC, dI)) (ci := 0) (v := .ref (ad 7)) (C := RX1) (T := TX1) (N := 11) hx hb hts in_X1 hown hK hP 0 rfl rfl 7 (by decide) (hts _ q40) (fun _ h9 => h9) rfl dX1_fillCircle_75 ?_
                  refine lv_iload_n hx hb dX1_fillCircle_78 rfl (lv_at hl 3 rfl) ?_
                  refine ob_iald hx hb hK hP 7 0 rfl rfl (itN (pr (tlA D C) Ar) k v) (by omega) (by omega) (by decide) dX1_fillCircle_79 ?_
                  refine ob_top ((((Ar (itN (pr (tlA D C) Ar) k v)).toNat : Nat) : Int)) (by omega) ?_
                  refine lv_istore (lv' := [(5, .int (iI ((((Ar (itN (pr (tlA D C) Ar) k v)).toNat : Nat) : Int)))), (0, .ref (ad 0)), (1, .int (iI v)), (2, .int (iI am2)), (3, .int (iI (itN (pr (tlA D C) Ar) k v))), (4, .int (iI k))]) hx hb dX1_fillCircle_80 hl (by decide) rfl (fun ls hl => ?_)
                  refine lv_aload_n hx hb dX1_fillCircle_82 rfl (lv_at hl 1 rfl) ?_
                  refine va_get (D := (dC, dI)) (ci := 0) (v := .ref (ad 4)) (C := RX1) (T := TX1) (N := 11) hx hb hts in_X1 hown hK hP 0 rfl rfl 3 (by decide) (hts _ q36) (fun _ h9 => h9) rfl dX1_fillCircle_83 ?_
                  refine lv_iload hx hb dX1_fillCircle_86 (lv_at hl 0 rfl) ?_
                  refine ob_ic hx hb dX1_fillCircle_88 ?_
                  refine ob_ishr1 hx hb dX1_fillCircle_89 ((Ar (itN (pr (tlA D C) Ar) k v)).toNat) (by omega) (by omega) ?_
                  refine lv_dup2_11 hx hb dX1_fillCircle_90 rfl rfl ?_
                  refine ob_iald hx hb hK hP 4 0 rfl rfl (((Ar (itN (pr (tlA D C) Ar) k v)).toNat) / 2) (by omega) (by omega) (by decide) dX1_fillCircle_91 ?_
                  refine lv_iload hx hb dX1_fillCircle_92 (lv_at hl 0 rfl) ?_
                  refine ob_ic hx hb dX1_fillCircle_94 ?_
                  refine ob_iand1 hx hb dX1_fillCircle_95 ((Ar (itN (pr (tlA D C) Ar) k v)).toNat) (by omega) (by omega) ?_
                  refine ob_if_ne (tgt := 103) hx hb dX1_fillCircle_96 (by decide) (by omega) (fun h96 => ?_) (fun h96 => ?_)
                  · refine lv_iload_n hx hb dX1_fillCircle_103 rfl (lv_at hl 3 rfl) ?_
                    refine ob_ineg hx hb dX1_fillCircle_104 ?_
                    refine ob_iadd hx hb dX1_fillCircle_105 ?_
                    refine ob_top (fS am2 (fun k => (Ar (itN (pr (tlA D C) Ar) k v)).toNat) S k ((Ar (itN (pr (tlA D C) Ar) k v)).toNat / 2) + (if (Ar (itN (pr (tlA D C) Ar) k v)).toNat % 2 = 0 then am2 else -am2)) (by first | rw [if_pos (by omega)] | rw [if_neg (by omega)]) ?_
                    refine ob_iast hx hb hK hP hD hS 4 0 rfl rfl (((Ar (itN (pr (tlA D C) Ar) k v)).toNat) / 2) (by omega) (by omega) (by decide) dX1_fillCircle_106 (fun H locs hP hD hS => ?_)
                    have hP : va_P (dC, dI) vwCl (wN ad cI cZ n c D C A O (va_up (fS am2 (fun k => (Ar (itN (pr (tlA D C) Ar) k v)).toNat) S k) (((Ar (itN (pr (tlA D C) Ar) k v)).toNat) / 2) (fS am2 (fun k => (Ar (itN (pr (tlA D C) Ar) k v)).toNat) S k ((Ar (itN (pr (tlA D C) Ar) k v)).toNat / 2) + (if (Ar (itN (pr (tlA D C) Ar) k v)).toNat % 2 = 0 then am2 else -am2))) Ln Ar Rd) H := hP
                    have hD : va_D AA (wN ad cI cZ n c D C A O (va_up (fS am2 (fun k => (Ar (itN (pr (tlA D C) Ar) k v)).toNat) S k) (((Ar (itN (pr (tlA D C) Ar) k v)).toNat) / 2) (fS am2 (fun k => (Ar (itN (pr (tlA D C) Ar) k v)).toNat) S k ((Ar (itN (pr (tlA D C) Ar) k v)).toNat / 2) + (if (Ar (itN (pr (tlA D C) Ar) k v)).toNat % 2 = 0 then am2 else -am2))) Ln Ar Rd) := hD
                    have hP : va_P (dC, dI) vwCl (wN ad cI cZ n c D C A O (fS am2 (fun k => (Ar (itN (pr (tlA D C) Ar) k v)).toNat) S (k + 1)) Ln Ar Rd) H := hP
                    have hD : va_D AA (wN ad cI cZ n c D C A O (fS am2 (fun k => (Ar (itN (pr (tlA D C) Ar) k v)).toNat) S (k + 1)) Ln Ar Rd) := hD
                    refine lv_aload_n hx hb dX1_fillCircle_107 rfl (lv_at hl 1 rfl) ?_
                    refine lv_iload hx hb dX1_fillCircle_108 (lv_at hl 0 rfl) ?_
                    refine ob_callR (As := [.int (iI ((((Ar (itN (pr (tlA D C) Ar) k v)).toNat : Nat) : Int)))]) (rest := []) (metN_tailOf l dC dI ad cI cZ n c D C A O (fS am2 (fun k => (Ar (itN (pr (tlA D C) Ar) k v)).toNat) S (k + 1)) Ln Ar Rd (Ar (itN (pr (tlA D C) Ar) k v)).toNat (by omega)) ⟨hx, hb, hml, hown, hts⟩ (cwV 1 hts (lw_V q122 q124 qs8 q23 q125) rfl rfl rfl (by decide +kernel) ⟨Nat.le_of_ble_eq_true rfl, Nat.le_of_ble_eq_true rfl⟩) hK hP [0, 1, 2, 3, 4, 5, 6, 7, 8] [0, 1] rfl rfl (ci := 0) rfl rfl rfl rfl hl.1 rfl (Nat.le_of_ble_eq_true rfl) dX1_fillCircle_110 ⟨Nat.zero_le _, Nat.zero_le _⟩ (fun r110 e110 => ?_)
                    subst e110
                    refine lv_istore_n (lv' := [(3, .int (iI (tlA D C (Ar (itN (pr (tlA D C) Ar) k v)).toNat))), (5, .int (iI ((((Ar (itN (pr (tlA D C) Ar) k v)).toNat : Nat) : Int)))), (0, .ref (ad 0)), (1, .int (iI v)), (2, .int (iI am2)), (4, .int (iI k))]) hx hb dX1_fillCircle_113 rfl hl (by decide) rfl (fun ls hl => ?_)
                    refine lv_iload_n hx hb dX1_fillCircle_114 rfl (lv_at hl 0 rfl) ?_
                    refine lv_iload_n hx hb dX1_fillCircle_115 rfl (lv_at hl 3 rfl) ?_
                    refine ob_icmp_ne (tgt := 122) hx hb dX1_fillCircle_116 (by decide) (by omega) (by omega) (fun h116 => ?_) (fun h116 => ?_)
                    · have ekm : k + 1 < mm := by
                        rcases Nat.lt_or_ge (k + 1) mm with q | q
                        · exact q
                        · exfalso
                          have e9 : k + 1 = mm := by omega
                          exact h116 (congrArg Int.ofNat (show itN (pr (tlA D C) Ar) (k + 1) v = v by rw [e9]; exact hC.2.2.1))
                      refine ob_iinc (k := 5) hx hb (((k + 1 : Nat) : Int)) (lv' := [(4, .int (iI (((k + 1 : Nat) : Int)))), (3, .int (iI (tlA D C (Ar (itN (pr (tlA D C) Ar) k v)).toNat))), (5, .int (iI ((((Ar (itN (pr (tlA D C) Ar) k v)).toNat : Nat) : Int)))), (0, .ref (ad 0)), (1, .int (iI v)), (2, .int (iI am2))]) dX1_fillCircle_122 hl rfl (by omega) (by decide) rfl (fun ls hl => ?_)
                      refine lv_goto (tgt := 68) hx hb dX1_fillCircle_125 (by decide) ?_
                      exact ih_68 (k + 1) (by omega) ekm _ _ hP hD hS ls (lv_sub hl [3, 4, 5, 1, 0] rfl)
                    · have ekm : k + 1 = mm := by
                        rcases Nat.lt_or_ge (k + 1) mm with q | q
                        · exact absurd (show itN (pr (tlA D C) Ar) (k + 1) v = v from Int.ofNat.inj h116) (hC.2.2.2.1 (k + 1) (by omega) q)
                        · omega
                      refine lv_goto (tgt := 128) hx hb dX1_fillCircle_119 (by decide) ?_
                      rw [ekm] at hP hD
                      have hP : va_P (dC, dI) vwCl (wN ad cI cZ n c D C A O (fS am2 (fun k => (Ar (itN (pr (tlA D C) Ar) k v)).toNat) S mm) Ln Ar Rd) H := hP
                      have hD : va_D AA (wN ad cI cZ n c D C A O (fS am2 (fun k => (Ar (itN (pr (tlA D C) Ar) k v)).toNat) S mm) Ln Ar Rd) := hD
                      exact W.vret hx hb hr (fun t ht hWm => ⟨⟨(c, D, C, A, O, fS am2 (fun k => (Ar (itN (pr (tlA D C) Ar) k v)).toNat) S mm, Ln, Ar, Rd), rfl, (by exact ⟨am2, ham.1, fun k hk => hal k hk, rfl⟩), by rw [ht]; exact hP, va_K.moved hWm.alike hK, hD⟩, hS.F ht⟩) hS.2.2 dX1_fillCircle_128
                  · refine lv_iload_n hx hb dX1_fillCircle_99 rfl (lv_at hl 3 rfl) ?_
                    refine lv_goto (tgt := 105) hx hb dX1_fillCircle_100 (by decide) ?_
                    refine ob_iadd hx hb dX1_fillCircle_105 ?_
                    refine ob_top (fS am2 (fun k => (Ar (itN (pr (tlA D C) Ar) k v)).toNat) S k ((Ar (itN (pr (tlA D C) Ar) k v)).toNat / 2) + (if (Ar (itN (pr (tlA D C) Ar) k v)).toNat % 2 = 0 then am2 else -am2)) (by first | rw [if_pos (by omega)] | rw [if_neg (by omega)]) ?_
                    refine ob_iast hx hb hK hP hD hS 4 0 rfl rfl (((Ar (itN (pr (tlA D C) Ar) k v)).toNat) / 2) (by omega) (by omega) (by decide) dX1_fillCircle_106 (fun H locs hP hD hS => ?_)
                    have hP : va_P (dC, dI) vwCl (wN ad cI cZ n c D C A O (va_up (fS am2 (fun k => (Ar (itN (pr (tlA D C) Ar) k v)).toNat) S k) (((Ar (itN (pr (tlA D C) Ar) k v)).toNat) / 2) (fS am2 (fun k => (Ar (itN (pr (tlA D C) Ar) k v)).toNat) S k ((Ar (itN (pr (tlA D C) Ar) k v)).toNat / 2) + (if (Ar (itN (pr (tlA D C) Ar) k v)).toNat % 2 = 0 then am2 else -am2))) Ln Ar Rd) H := hP
                    have hD : va_D AA (wN ad cI cZ n c D C A O (va_up (fS am2 (fun k => (Ar (itN (pr (tlA D C) Ar) k v)).toNat) S k) (((Ar (itN (pr (tlA D C) Ar) k v)).toNat) / 2) (fS am2 (fun k => (Ar (itN (pr (tlA D C) Ar) k v)).toNat) S k ((Ar (itN (pr (tlA D C) Ar) k v)).toNat / 2) + (if (Ar (itN (pr (tlA D C) Ar) k v)).toNat % 2 = 0 then am2 else -am2))) Ln Ar Rd) := hD
                    have hP : va_P (dC, dI) vwCl (wN ad cI cZ n c D C A O (fS am2 (fun k => (Ar (itN (pr (tlA D C) Ar) k v)).toNat) S (k + 1)) Ln Ar Rd) H := hP
                    have hD : va_D AA (wN ad cI cZ n c D C A O (fS am2 (fun k => (Ar (itN (pr (tlA D C) Ar) k v)).toNat) S (k + 1)) Ln Ar Rd) := hD
                    refine lv_aload_n hx hb dX1_fillCircle_107 rfl (lv_at hl 1 rfl) ?_
                    refine lv_iload hx hb dX1_fillCircle_108 (lv_at hl 0 rfl) ?_
                    refine ob_callR (As := [.int (iI ((((Ar (itN (pr (tlA D C) Ar) k v)).toNat : Nat) : Int)))]) (rest := []) (metN_tailOf l dC dI ad cI cZ n c D C A O (fS am2 (fun k => (Ar (itN (pr (tlA D C) Ar) k v)).toNat) S (k + 1)) Ln Ar Rd (Ar (itN (pr (tlA D C) Ar) k v)).toNat (by omega)) ⟨hx, hb, hml, hown, hts⟩ (cwV 1 hts (lw_V q122 q124 qs8 q23 q125) rfl rfl rfl (by decide +kernel) ⟨Nat.le_of_ble_eq_true rfl, Nat.le_of_ble_eq_true rfl⟩) hK hP [0, 1, 2, 3, 4, 5, 6, 7, 8] [0, 1] rfl rfl (ci := 0) rfl rfl rfl rfl hl.1 rfl (Nat.le_of_ble_eq_true rfl) dX1_fillCircle_110 ⟨Nat.zero_le _, Nat.zero_le _⟩ (fun r110 e110 => ?_)
                    subst e110
                    refine lv_istore_n (lv' := [(3, .int (iI (tlA D C (Ar (itN (pr (tlA D C) Ar) k v)).toNat))), (5, .int (iI ((((Ar (itN (pr (tlA D C) Ar) k v)).toNat : Nat) : Int)))), (0, .ref (ad 0)), (1, .int (iI v)), (2, .int (iI am2)), (4, .int (iI k))]) hx hb dX1_fillCircle_113 rfl hl (by decide) rfl (fun ls hl => ?_)
                    refine lv_iload_n hx hb dX1_fillCircle_114 rfl (lv_at hl 0 rfl) ?_
                    refine lv_iload_n hx hb dX1_fillCircle_115 rfl (lv_at hl 3 rfl) ?_
                    refine ob_icmp_ne (tgt := 122) hx hb dX1_fillCircle_116 (by decide) (by omega) (by omega) (fun h116 => ?_) (fun h116 => ?_)
                    · have ekm : k + 1 < mm := by
                        rcases Nat.lt_or_ge (k + 1) mm with q | q
                        · exact q
                        · exfalso
                          have e9 : k + 1 = mm := by omega
                          exact h116 (congrArg Int.ofNat (show itN (pr (tlA D C) Ar) (k + 1) v = v by rw [e9]; exact hC.2.2.1))
                      refine ob_iinc (k := 5) hx hb (((k + 1 : Nat) : Int)) (lv' := [(4, .int (iI (((k + 1 : Nat) : Int)))), (3, .int (iI (tlA D C (Ar (itN (pr (tlA D C) Ar) k v)).toNat))), (5, .int (iI ((((Ar (itN (pr (tlA D C) Ar) k v)).toNat : Nat) : Int)))), (0, .ref (ad 0)), (1, .int (iI v)), (2, .int (iI am2))]) dX1_fillCircle_122 hl rfl (by omega) (by decide) rfl (fun ls hl => ?_)
                      refine lv_goto (tgt := 68) hx hb dX1_fillCircle_125 (by decide) ?_
                      exact ih_68 (k + 1) (by omega) ekm _ _ hP hD hS ls (lv_sub hl [3, 4, 5, 1, 0] rfl)
                    · have ekm : k + 1 = mm := by
                        rcases Nat.lt_or_ge (k + 1) mm with q | q
                        · exact absurd (show itN (pr (tlA D C) Ar) (k + 1) v = v from Int.ofNat.inj h116) (hC.2.2.2.1 (k + 1) (by omega) q)
                        · omega
                      refine lv_goto (tgt := 128) hx hb dX1_fillCircle_119 (by decide) ?_
                      rw [ekm] at hP hD
                      have hP : va_P (dC, dI) vwCl (wN ad cI cZ n c D C A O (fS am2 (fun k => (Ar (itN (pr (tlA D C) Ar) k v)).toNat) S mm) Ln Ar Rd) H := hP
                      have hD : va_D AA (wN ad cI cZ n c D C A O (fS am2 (fun k => (Ar (itN (pr (tlA D C) Ar) k v)).toNat) S mm) Ln Ar Rd) := hD
                      exact W.vret hx hb hr (fun t ht hWm => ⟨⟨(c, D, C, A, O, fS am2 (fun k => (Ar (itN (pr (tlA D C) Ar) k v)).toNat) S mm, Ln, Ar, Rd), rfl, (by exact ⟨am2, ham.1, fun k hk => hal k hk, rfl⟩), by rw [ht]; exact hP, va_K.moved hWm.alike hK, hD⟩, hS.F ht⟩) hS.2.2 dX1_fillCircle_128
            exact lp_68 mm 0 (by omega) (by omega) _ _ hP hD hS ls (lv_sub hl [2, 3, 4, 1, 0] rfl)
        · refine lv_iload hx hb dX1_fillCircle_35 (lv_at hl 0 rfl) ?_
          refine lv_goto (tgt := 41) hx hb dX1_fillCircle_37 (by decide) ?_
          refine lv_istore_n (lv' := [(2, .int (iI (lfA (rm D C A O) S (Ar (itN (pr (tlA D C) Ar) k v)).toNat))), (6, .int (iI (lfA (rm D C A O) S (Ar (itN (pr (tlA D C) Ar) k v)).toNat))), (5, .int (iI ((((Ar (itN (pr (tlA D C) Ar) k v)).toNat : Nat) : Int)))), (0, .ref (ad 0)), (1, .int (iI v)), (3, .int (iI (itN (pr (tlA D C) Ar) k v))), (4, .int (iI k))]) hx hb dX1_fillCircle_41 rfl hl (by decide) rfl (fun ls hl => ?_)
          refine lv_aload_n hx hb dX1_fillCircle_42 rfl (lv_at hl 3 rfl) ?_
          refine lv_iload hx hb dX1_fillCircle_43 (lv_at hl 2 rfl) ?_
          refine ob_callR (As := [.int (iI ((((Ar (itN (pr (tlA D C) Ar) k v)).toNat : Nat) : Int)))]) (rest := []) (metN_tailOf l dC dI ad cI cZ n c D C A O S Ln Ar Rd (Ar (itN (pr (tlA D C) Ar) k v)).toNat (by omega)) ⟨hx, hb, hml, hown, hts⟩ (cwV 1 hts (lw_V q122 q124 qs8 q23 q125) rfl rfl rfl (by decide +kernel) ⟨Nat.le_of_ble_eq_true rfl, Nat.le_of_ble_eq_true rfl⟩) hK hP [0, 1, 2, 3, 4, 5, 6, 7, 8] [0, 1] rfl rfl (ci := 0) rfl rfl rfl rfl hl.1 rfl (Nat.le_of_ble_eq_true rfl) dX1_fillCircle_45 ⟨Nat.zero_le _, Nat.zero_le _⟩ (fun r45 e45 => ?_)
          subst e45
          refine lv_istore_n (lv' := [(3, .int (iI (tlA D C (Ar (itN (pr (tlA D C) Ar) k v)).toNat))), (2, .int (iI (lfA (rm D C A O) S (Ar (itN (pr (tlA D C) Ar) k v)).toNat))), (6, .int (iI (lfA (rm D C A O) S (Ar (itN (pr (tlA D C) Ar) k v)).toNat))), (5, .int (iI ((((Ar (itN (pr (tlA D C) Ar) k v)).toNat : Nat) : Int)))), (0, .ref (ad 0)), (1, .int (iI v)), (4, .int (iI k))]) hx hb dX1_fillCircle_48 rfl hl (by decide) rfl (fun ls hl => ?_)
          have hal : ∀ i, i < k + 1 → lfA (rm D C A O) S (Ar (itN (pr (tlA D C) Ar) k v)).toNat ≤ lfA (rm D C A O) S ((fun k => (Ar (itN (pr (tlA D C) Ar) k v)).toNat) i) := fun i hi => by
            by_cases q : i = k
            · subst q
              show _ ≤ lfA (rm D C A O) S (Ar (itN (pr (tlA D C) Ar) i v)).toNat
              omega
            · have q2 := hal0 i (by omega)
              omega
          have ham : 0 < lfA (rm D C A O) S (Ar (itN (pr (tlA D C) Ar) k v)).toNat ∧ lfA (rm D C A O) S (Ar (itN (pr (tlA D C) Ar) k v)).toNat ≤ 3 := by omega
          refine lv_iload_n hx hb dX1_fillCircle_49 rfl (lv_at hl 0 rfl) ?_
          refine lv_iload_n hx hb dX1_fillCircle_50 rfl (lv_at hl 5 rfl) ?_
          refine ob_icmp_ne (tgt := 57) hx hb dX1_fillCircle_51 (by decide) (by omega) (by omega) (fun h51 => ?_) (fun h51 => ?_)
          · have ekm : k + 1 < mm := by
              rcases Nat.lt_or_ge (k + 1) mm with q | q
              · exact q
              · exfalso
                have e9 : k + 1 = mm := by omega
                exact h51 (congrArg Int.ofNat (show itN (pr (tlA D C) Ar) (k + 1) v = v by rw [e9]; exact hC.2.2.1))
            refine ob_iinc (k := 6) hx hb (((k + 1 : Nat) : Int)) (lv' := [(4, .int (iI (((k + 1 : Nat) : Int)))), (3, .int (iI (tlA D C (Ar (itN (pr (tlA D C) Ar) k v)).toNat))), (2, .int (iI (lfA (rm D C A O) S (Ar (itN (pr (tlA D C) Ar) k v)).toNat))), (6, .int (iI (lfA (rm D C A O) S (Ar (itN (pr (tlA D C) Ar) k v)).toNat))), (5, .int (iI ((((Ar (itN (pr (tlA D C) Ar) k v)).toNat : Nat) : Int)))), (0, .ref (ad 0)), (1, .int (iI v))]) dX1_fillCircle_57 hl rfl (by omega) (by decide) rfl (fun ls hl => ?_)
            refine lv_goto (tgt := 7) hx hb dX1_fillCircle_60 (by decide) ?_
            exact ih_7 (k + 1) (lfA (rm D C A O) S (Ar (itN (pr (tlA D C) Ar) k v)).toNat) (by omega) ekm ham hal _ _ hP hD hS ls (lv_sub hl [5, 6, 2, 1, 0] rfl)
          · have ekm : k + 1 = mm := by
              rcases Nat.lt_or_ge (k + 1) mm with q | q
              · exact absurd (show itN (pr (tlA D C) Ar) (k + 1) v = v from Int.ofNat.inj h51) (hC.2.2.2.1 (k + 1) (by omega) q)
              · omega
            refine lv_goto (tgt := 63) hx hb dX1_fillCircle_54 (by decide) ?_
            have hl : lv_has ls 7 [(0, .ref (ad 0)), (1, .int (iI v)), (2, .int (iI (lfA (rm D C A O) S (Ar (itN (pr (tlA D C) Ar) k v)).toNat)))] := lv_sub hl [4, 5, 1] rfl
            rw [ekm] at hal
            obtain ⟨am2, eam⟩ : ∃ z, z = lfA (rm D C A O) S (Ar (itN (pr (tlA D C) Ar) k v)).toNat := ⟨_, rfl⟩
            rw [← eam] at hal ham
            have hle : (lfA (rm D C A O) S (Ar (itN (pr (tlA D C) Ar) k v)).toNat) = (am2 : Int) := eam.symm
            rw [hle] at hl
            clear hle
            have hl : lv_has ls 7 [(0, .ref (ad 0)), (1, .int (iI v)), (2, .int (iI am2))] := hl
            refine lv_iload_n hx hb dX1_fillCircle_63 rfl (lv_at hl 1 rfl) ?_
            refine lv_istore_n (lv' := [(3, .int (iI v)), (0, .ref (ad 0)), (1, .int (iI v)), (2, .int (iI am2))]) hx hb dX1_fillCircle_64 rfl hl (by decide) rfl (fun ls hl => ?_)
            refine ob_ic hx hb dX1_fillCircle_65 ?_
            refine lv_istore (lv' := [(4, .int (iI 0)), (3, .int (iI v)), (0, .ref (ad 0)), (1, .int (iI v)), (2, .int (iI am2))]) hx hb dX1_fillCircle_66 hl (by decide) rfl (fun ls hl => ?_)
            have lp_68 : ∀ (nn : Nat) (k : Nat), (mm ≤ k + nn) → (k < mm) → ∀ (H : Heap) (locs : List Loc), va_P (dC, dI) vwCl (wN ad cI cZ n c D C A O (fS am2 (fun k => (Ar (itN (pr (tlA D C) Ar) k v)).toNat) S k) Ln Ar Rd) H → va_D AA (wN ad cI cZ n c D C A O (fS am2 (fun k => (Ar (itN (pr (tlA D C) Ar) k v)).toNat) S k) Ln Ar Rd) → va_S AA s.heap H locs → ∀ (ls : Array Slot), lv_has ls 7 [(0, .ref (ad 0)), (1, .int (iI v)), (2, .int (iI am2)), (3, .int (iI (itN (pr (tlA D C) Ar) k v))), (4, .int (iI k))] → W p l e (headSpec (ws_ yX1_fillCircle cX1_fillCircle 7 none) ({ frames := 2, cells := 0, slots := 0, locals := 43 })).room s m ([.ref (ad 0), .int (iI v)] : List Value).toArray below meth cd H locs 0 0 (MQ below (va_Qv (fun u => ∃ am, 0 < am ∧ (∀ k, k < mm → am ≤ lfA (rm D C A O) S (Ar (itN (pr (tlA D C) Ar) k v)).toNat) ∧ u = (c, D, C, A, O, fS am (fun k => (Ar (itN (pr (tlA D C) Ar) k v)).toNat) S mm, Ln, Ar, Rd)) (obB (dC, dI) vwCl [(cI, .int), (cZ, .boolean)] AA (BN ad cI cZ n)) AA) ([.ref (ad 0), .int (iI v)] : List Value).toArray s 0 0 AA) (F0 m 68 ls []) := by
              intro nn
              induction nn with
              | zero => intro k hm hk; exfalso; omega
              | succ nn ih_68 =>
                intro k hm hk H locs hP hD hS ls hl
                refine lv_iload hx hb dX1_fillCircle_68 (lv_at hl 4 rfl) ?_
                refine ob_ic hx hb dX1_fillCircle_70 ?_
                refine ob_icmp_ge (tgt := 128) hx hb dX1_fillCircle_71 (by decide) (by omega) (by omega) (fun h71 => ?_) (fun h71 => ?_)
                · exfalso; omega
                · obtain ⟨i1, b0, i2, i3, i4, i5⟩ := hC.2.2.2.2.1 k
                  have ib : (Ar (itN (pr (tlA D C) Ar) k v)).toNat = b0 := by rw [i3]; rfl
                  have il : -3 ≤ lfA (rm D C A O) S (Ar (itN (pr (tlA D C) Ar) k v)).toNat ∧ lfA (rm D C A O) S (Ar (itN (pr (tlA D C) Ar) k v)).toNat ≤ 3 := lfA_bnd hW.rm hSt (by omega)
                  have il2 : 0 < lfA (rm D C A O) S (Ar (itN (pr (tlA D C) Ar) k v)).toNat := by rw [ib]; exact i5
                  have itl := (tlA_lt hW.DC (a := (Ar (itN (pr (tlA D C) Ar) k v)).toNat) (by omega)).1
                  refine lv_aload_n hx hb dX1_fillCircle_74 rfl (lv_at hl 0 rfl) ?_
                  refine va_get (D := (dC, dI)) (ci := 0) (v := .ref (ad 7)) (C := RX1) (T := TX1) (N := 11) hx hb hts in_X1 hown hK hP 0 rfl rfl 7 (by decide) (hts _ q40) (fun _ h9 => h9) rfl dX1_fillCircle_75 ?_
                  refine lv_iload_n hx hb dX1_fillCircle_78 rfl (lv_at hl 3 rfl) ?_
                  refine ob_iald hx hb hK hP 7 0 rfl rfl (itN (pr (tlA D C) Ar) k v) (by omega) (by omega) (by decide) dX1_fillCircle_79 ?_
                  refine ob_top ((((Ar (itN (pr (tlA D C) Ar) k v)).toNat : Nat) : Int)) (by omega) ?_
                  refine lv_istore (lv' := [(5, .int (iI ((((Ar (itN (pr (tlA D C) Ar) k v)).toNat : Nat) : Int)))), (0, .ref (ad 0)), (1, .int (iI v)), (2, .int (iI am2)), (3, .int (iI (itN (pr (tlA D C) Ar) k v))), (4, .int (iI k))]) hx hb dX1_fillCircle_80 hl (by decide) rfl (fun ls hl => ?_)
                  refine lv_aload_n hx hb dX1_fillCircle_82 rfl (lv_at hl 1 rfl) ?_
                  refine va_get (D := (dC, dI)) (ci := 0) (v := .ref (ad 4)) (C := RX1) (T := TX1) (N := 11) hx hb hts in_X1 hown hK hP 0 rfl rfl 3 (by decide) (hts _ q36) (fun _ h9 => h9) rfl dX1_fillCircle_83 ?_
                  refine lv_iload hx hb dX1_fillCircle_86 (lv_at hl 0 rfl) ?_
                  refine ob_ic hx hb dX1_fillCircle_88 ?_
                  refine ob_ishr1 hx hb dX1_fillCircle_89 ((Ar (itN (pr (tlA D C) Ar) k v)).toNat) (by omega) (by omega) ?_
                  refine lv_dup2_11 hx hb dX1_fillCircle_90 rfl rfl ?_
                  refine ob_iald hx hb hK hP 4 0 rfl rfl (((Ar (itN (pr (tlA D C) Ar) k v)).toNat) / 2) (by omega) (by omega) (by decide) dX1_fillCircle_91 ?_
                  refine lv_iload hx hb dX1_fillCircle_92 (lv_at hl 0 rfl) ?_
                  refine ob_ic hx hb dX1_fillCircle_94 ?_
                  refine ob_iand1 hx hb dX1_fillCircle_95 ((Ar (itN (pr (tlA D C) Ar) k v)).toNat) (by omega) (by omega) ?_
                  refine ob_if_ne (tgt := 103) hx hb dX1_fillCircle_96 (by decide) (by omega) (fun h96 => ?_) (fun h96 => ?_)
                  · refine lv_iload_n hx hb dX1_fillCircle_103 rfl (lv_at hl 3 rfl) ?_
                    refine ob_ineg hx hb dX1_fillCircle_104 ?_
                    refine ob_iadd hx hb dX1_fillCircle_105 ?_
                    refine ob_top (fS am2 (fun k => (Ar (itN (pr (tlA D C) Ar) k v)).toNat) S k ((Ar (itN (pr (tlA D C) Ar) k v)).toNat / 2) + (if (Ar (itN (pr (tlA D C) Ar) k v)).toNat % 2 = 0 then am2 else -am2)) (by first | rw [if_pos (by omega)] | rw [if_neg (by omega)]) ?_
                    refine ob_iast hx hb hK hP hD hS 4 0 rfl rfl (((Ar (itN (pr (tlA D C) Ar) k v)).toNat) / 2) (by omega) (by omega) (by decide) dX1_fillCircle_106 (fun H locs hP hD hS => ?_)
                    have hP : va_P (dC, dI) vwCl (wN ad cI cZ n c D C A O (va_up (fS am2 (fun k => (Ar (itN (pr (tlA D C) Ar) k v)).toNat) S k) (((Ar (itN (pr (tlA D C) Ar) k v)).toNat) / 2) (fS am2 (fun k => (Ar (itN (pr (tlA D C) Ar) k v)).toNat) S k ((Ar (itN (pr (tlA D C) Ar) k v)).toNat / 2) + (if (Ar (itN (pr (tlA D C) Ar) k v)).toNat % 2 = 0 then am2 else -am2))) Ln Ar Rd) H := hP
                    have hD : va_D AA (wN ad cI cZ n c D C A O (va_up (fS am2 (fun k => (Ar (itN (pr (tlA D C) Ar) k v)).toNat) S k) (((Ar (itN (pr (tlA D C) Ar) k v)).toNat) / 2) (fS am2 (fun k => (Ar (itN (pr (tlA D C) Ar) k v)).toNat) S k ((Ar (itN (pr (tlA D C) Ar) k v)).toNat / 2) + (if (Ar (itN (pr (tlA D C) Ar) k v)).toNat % 2 = 0 then am2 else -am2))) Ln Ar Rd) := hD
                    have hP : va_P (dC, dI) vwCl (wN ad cI cZ n c D C A O (fS am2 (fun k => (Ar (itN (pr (tlA D C) Ar) k v)).toNat) S (k + 1)) Ln Ar Rd) H := hP
                    have hD : va_D AA (wN ad cI cZ n c D C A O (fS am2 (fun k => (Ar (itN (pr (tlA D C) Ar) k v)).toNat) S (k + 1)) Ln Ar Rd) := hD
                    refine lv_aload_n hx hb dX1_fillCircle_107 rfl (lv_at hl 1 rfl) ?_
                    refine lv_iload hx hb dX1_fillCircle_108 (lv_at hl 0 rfl) ?_
                    refine ob_callR (As := [.int (iI ((((Ar (itN (pr (tlA D C) Ar) k v)).toNat : Nat) : Int)))]) (rest := []) (metN_tailOf l dC dI ad cI cZ n c D C A O (fS am2 (fun k => (Ar (itN (pr (tlA D C) Ar) k v)).toNat) S (k + 1)) Ln Ar Rd (Ar (itN (pr (tlA D C) Ar) k v)).toNat (by omega)) ⟨hx, hb, hml, hown, hts⟩ (cwV 1 hts (lw_V q122 q124 qs8 q23 q125) rfl rfl rfl (by decide +kernel) ⟨Nat.le_of_ble_eq_true rfl, Nat.le_of_ble_eq_true rfl⟩) hK hP [0, 1, 2, 3, 4, 5, 6, 7, 8] [0, 1] rfl rfl (ci := 0) rfl rfl rfl rfl hl.1 rfl (Nat.le_of_ble_eq_true rfl) dX1_fillCircle_110 ⟨Nat.zero_le _, Nat.zero_le _⟩ (fun r110 e110 => ?_)
                    subst e110
                    refine lv_istore_n (lv' := [(3, .int (iI (tlA D C (Ar (itN (pr (tlA D C) Ar) k v)).toNat))), (5, .int (iI ((((Ar (itN (pr (tlA D C) Ar) k v)).toNat : Nat) : Int)))), (0, .ref (ad 0)), (1, .int (iI v)), (2, .int (iI am2)), (4, .int (iI k))]) hx hb dX1_fillCircle_113 rfl hl (by decide) rfl (fun ls hl => ?_)
                    refine lv_iload_n hx hb dX1_fillCircle_114 rfl (lv_at hl 0 rfl) ?_
                    refine lv_iload_n hx hb dX1_fillCircle_115 rfl (lv_at hl 3 rfl) ?_
                    refine ob_icmp_ne (tgt := 122) hx hb dX1_fillCircle_116 (by decide) (by omega) (by omega) (fun h116 => ?_) (fun h116 => ?_)
                    · have ekm : k + 1 < mm := by
                        rcases Nat.lt_or_ge (k + 1) mm with q | q
                        · exact q
                        · exfalso
                          have e9 : k + 1 = mm := by omega
                          exact h116 (congrArg Int.ofNat (show itN (pr (tlA D C) Ar) (k + 1) v = v by rw [e9]; exact hC.2.2.1))
                      refine ob_iinc (k := 5) hx hb (((k + 1 : Nat) : Int)) (lv' := [(4, .int (iI (((k + 1 : Nat) : Int)))), (3, .int (iI (tlA D C (Ar (itN (pr (tlA D C) Ar) k v)).toNat))), (5, .int (iI ((((Ar (itN (pr (tlA D C) Ar) k v)).toNat : Nat) : Int)))), (0, .ref (ad 0)), (1, .int (iI v)), (2, .int (iI am2))]) dX1_fillCircle_122 hl rfl (by omega) (by decide) rfl (fun ls hl => ?_)
                      refine lv_goto (tgt := 68) hx hb dX1_fillCircle_125 (by decide) ?_
                      exact ih_68 (k + 1) (by omega) ekm _ _ hP hD hS ls (lv_sub hl [3, 4, 5, 1, 0] rfl)
                    · have ekm : k + 1 = mm := by
                        rcases Nat.lt_or_ge (k + 1) mm with q | q
                        · exact absurd (show itN (pr (tlA D C) Ar) (k + 1) v = v from Int.ofNat.inj h116) (hC.2.2.2.1 (k + 1) (by omega) q)
                        · omega
                      refine lv_goto (tgt := 128) hx hb dX1_fillCircle_119 (by decide) ?_
                      rw [ekm] at hP hD
                      have hP : va_P (dC, dI) vwCl (wN ad cI cZ n c D C A O (fS am2 (fun k => (Ar (itN (pr (tlA D C) Ar) k v)).toNat) S mm) Ln Ar Rd) H := hP
                      have hD : va_D AA (wN ad cI cZ n c D C A O (fS am2 (fun k => (Ar (itN (pr (tlA D C) Ar) k v)).toNat) S mm) Ln Ar Rd) := hD
                      exact W.vret hx hb hr (fun t ht hWm => ⟨⟨(c, D, C, A, O, fS am2 (fun k => (Ar (itN (pr (tlA D C) Ar) k v)).toNat) S mm, Ln, Ar, Rd), rfl, (by exact ⟨am2, ham.1, fun k hk => hal k hk, rfl⟩), by rw [ht]; exact hP, va_K.moved hWm.alike hK, hD⟩, hS.F ht⟩) hS.2.2 dX1_fillCircle_128
                  · refine lv_iload_n hx hb dX1_fillCircle_99 rfl (lv_at hl 3 rfl) ?_
                    refine lv_goto (tgt := 105) hx hb dX1_fillCircle_100 (by decide) ?_
                    refine ob_iadd hx hb dX1_fillCircle_105 ?_
                    refine ob_top (fS am2 (fun k => (Ar (itN (pr (tlA D C) Ar) k v)).toNat) S k ((Ar (itN (pr (tlA D C) Ar) k v)).toNat / 2) + (if (Ar (itN (pr (tlA D C) Ar) k v)).toNat % 2 = 0 then am2 else -am2)) (by first | rw [if_pos (by omega)] | rw [if_neg (by omega)]) ?_
                    refine ob_iast hx hb hK hP hD hS 4 0 rfl rfl (((Ar (itN (pr (tlA D C) Ar) k v)).toNat) / 2) (by omega) (by omega) (by decide) dX1_fillCircle_106 (fun H locs hP hD hS => ?_)
                    have hP : va_P (dC, dI) vwCl (wN ad cI cZ n c D C A O (va_up (fS am2 (fun k => (Ar (itN (pr (tlA D C) Ar) k v)).toNat) S k) (((Ar (itN (pr (tlA D C) Ar) k v)).toNat) / 2) (fS am2 (fun k => (Ar (itN (pr (tlA D C) Ar) k v)).toNat) S k ((Ar (itN (pr (tlA D C) Ar) k v)).toNat / 2) + (if (Ar (itN (pr (tlA D C) Ar) k v)).toNat % 2 = 0 then am2 else -am2))) Ln Ar Rd) H := hP
                    have hD : va_D AA (wN ad cI cZ n c D C A O (va_up (fS am2 (fun k => (Ar (itN (pr (tlA D C) Ar) k v)).toNat) S k) (((Ar (itN (pr (tlA D C) Ar) k v)).toNat) / 2) (fS am2 (fun k => (Ar (itN (pr (tlA D C) Ar) k v)).toNat) S k ((Ar (itN (pr (tlA D C) Ar) k v)).toNat / 2) + (if (Ar (itN (pr (tlA D C) Ar) k v)).toNat % 2 = 0 then am2 else -am2))) Ln Ar Rd) := hD
                    have hP : va_P (dC, dI) vwCl (wN ad cI cZ n c D C A O (fS am2 (fun k => (Ar (itN (pr (tlA D C) Ar) k v)).toNat) S (k + 1)) Ln Ar Rd) H := hP
                    have hD : va_D AA (wN ad cI cZ n c D C A O (fS am2 (fun k => (Ar (itN (pr (tlA D C) Ar) k v)).toNat) S (k + 1)) Ln Ar Rd) := hD
                    refine lv_aload_n hx hb dX1_fillCircle_107 rfl (lv_at hl 1 rfl) ?_
                    refine lv_iload hx hb dX1_fillCircle_108 (lv_at hl 0 rfl) ?_
                    refine ob_callR (As := [.int (iI ((((Ar (itN (pr (tlA D C) Ar) k v)).toNat : Nat) : Int)))]) (rest := []) (metN_tailOf l dC dI ad cI cZ n c D C A O (fS am2 (fun k => (Ar (itN (pr (tlA D C) Ar) k v)).toNat) S (k + 1)) Ln Ar Rd (Ar (itN (pr (tlA D C) Ar) k v)).toNat (by omega)) ⟨hx, hb, hml, hown, hts⟩ (cwV 1 hts (lw_V q122 q124 qs8 q23 q125) rfl rfl rfl (by decide +kernel) ⟨Nat.le_of_ble_eq_true rfl, Nat.le_of_ble_eq_true rfl⟩) hK hP [0, 1, 2, 3, 4, 5, 6, 7, 8] [0, 1] rfl rfl (ci := 0) rfl rfl rfl rfl hl.1 rfl (Nat.le_of_ble_eq_true rfl) dX1_fillCircle_110 ⟨Nat.zero_le _, Nat.zero_le _⟩ (fun r110 e110 => ?_)
                    subst e110
                    refine lv_istore_n (lv' := [(3, .int (iI (tlA D C (Ar (itN (pr (tlA D C) Ar) k v)).toNat))), (5, .int (iI ((((Ar (itN (pr (tlA D C) Ar) k v)).toNat : Nat) : Int)))), (0, .ref (ad 0)), (1, .int (iI v)), (2, .int (iI am2)), (4, .int (iI k))]) hx hb dX1_fillCircle_113 rfl hl (by decide) rfl (fun ls hl => ?_)
                    refine lv_iload_n hx hb dX1_fillCircle_114 rfl (lv_at hl 0 rfl) ?_
                    refine lv_iload_n hx hb dX1_fillCircle_115 rfl (lv_at hl 3 rfl) ?_
                    refine ob_icmp_ne (tgt := 122) hx hb dX1_fillCircle_116 (by decide) (by omega) (by omega) (fun h116 => ?_) (fun h116 => ?_)
                    · have ekm : k + 1 < mm := by
                        rcases Nat.lt_or_ge (k + 1) mm with q | q
                        · exact q
                        · exfalso
                          have e9 : k + 1 = mm := by omega
                          exact h116 (congrArg Int.ofNat (show itN (pr (tlA D C) Ar) (k + 1) v = v by rw [e9]; exact hC.2.2.1))
                      refine ob_iinc (k := 5) hx hb (((k + 1 : Nat) : Int)) (lv' := [(4, .int (iI (((k + 1 : Nat) : Int)))), (3, .int (iI (tlA D C (Ar (itN (pr (tlA D C) Ar) k v)).toNat))), (5, .int (iI ((((Ar (itN (pr (tlA D C) Ar) k v)).toNat : Nat) : Int)))), (0, .ref (ad 0)), (1, .int (iI v)), (2, .int (iI am2))]) dX1_fillCircle_122 hl rfl (by omega) (by decide) rfl (fun ls hl => ?_)
                      refine lv_goto (tgt := 68) hx hb dX1_fillCircle_125 (by decide) ?_
                      exact ih_68 (k + 1) (by omega) ekm _ _ hP hD hS ls (lv_sub hl [3, 4, 5, 1, 0] rfl)
                    · have ekm : k + 1 = mm := by
                        rcases Nat.lt_or_ge (k + 1) mm with q | q
                        · exact absurd (show itN (pr (tlA D C) Ar) (k + 1) v = v from Int.ofNat.inj h116) (hC.2.2.2.1 (k + 1) (by omega) q)
                        · omega
                      refine lv_goto (tgt := 128) hx hb dX1_fillCircle_119 (by decide) ?_
                      rw [ekm] at hP hD
                      have hP : va_P (dC, dI) vwCl (wN ad cI cZ n c D C A O (fS am2 (fun k => (Ar (itN (pr (tlA D C) Ar) k v)).toNat) S mm) Ln Ar Rd) H := hP
                      have hD : va_D AA (wN ad cI cZ n c D C A O (fS am2 (fun k => (Ar (itN (pr (tlA D C) Ar) k v)).toNat) S mm) Ln Ar Rd) := hD
                      exact W.vret hx hb hr (fun t ht hWm => ⟨⟨(c, D, C, A, O, fS am2 (fun k => (Ar (itN (pr (tlA D C) Ar) k v)).toNat) S mm, Ln, Ar, Rd), rfl, (by exact ⟨am2, ham.1, fun k hk => hal k hk, rfl⟩), by rw [ht]; exact hP, va_K.moved hWm.alike hK, hD⟩, hS.F ht⟩) hS.2.2 dX1_fillCircle_128
            exact lp_68 mm 0 (by omega) (by omega) _ _ hP hD hS ls (lv_sub hl [2, 3, 4, 1, 0] rfl)
  exact lp_7 mm 0 3 (by omega) (by omega) (by omega) (fun i h => absurd h (by omega)) _ _ hP hD hS ls (lv_sub hl [3, 4, 2, 1, 0] rfl)
set_option maxHeartbeats 4000000 in
set_option maxRecDepth 100000 in
theorem metN_solve (l : Launch) (dC : Nat → ClassId) (dI : Nat → Nat → Nat) (ad : Nat → Nat) (cI cZ : ClassId) (n c : Nat) (D C : Nat → Nat) (A O S Ln Ar Rd : Nat → Int) (sz : Nat) (fav : Int) (hf : -1 ≤ fav ∧ fav < 7) (hW : WF n c D C A O) : Met l yX1_solve (ws_ yX1_solve cX1_solve 4 none) ({ frames := 4, cells := 0, slots := 0, locals := 94 }) (obW (dC, dI) vwCl (wN ad cI cZ n c D C A O S Ln Ar Rd) [(cI, .int), (cZ, .boolean)] sz [.ref (ad 0), .int (iI fav)]) (va_Qv (fun u => ∃ S2 Ln2 Ar2, u = (c, D, C, A, O, S2, Ln2, Ar2, Rd) ∧ Opt n c D C (rm D C A O) (gnA c fav) S2) (obB (dC, dI) vwCl [(cI, .int), (cZ, .boolean)] (va_A (wN ad cI cZ n c D C A O S Ln Ar Rd) sz) (BN ad cI cZ n)) (va_A (wN ad cI cZ n c D C A O S Ln Ar Rd) sz)) 0 0 (va_A (wN ad cI cZ n c D C A O S Ln Ar Rd) sz) := by
  refine Met.ofW (cc := cX1_solve) (maxL := 4) (ret := none) (by decide) rfl ?_
  intro p e s m args below meth cd s₁ B hml hv
  obtain ⟨rfl, hsz, hP, hK, hD0⟩ := hv
  have hx := B.exec
  have hb := B.bytes
  have hr := B.returns
  have hts := atoms_spec (ws := (ws_ yX1_solve cX1_solve 4 none)) B.pre
  have hts : ∀ w ∈ lw_all, w.before _ s = true := fun w h => hts w (List.mem_cons_of_mem _ h)
  have hown : s.vm.findClass RX1 = some m.cls := findClass_of_methodNamed B.named
  have hlocks := B.notSynchronized
  subst hsz
  have hD := hD0.self (sz := s.heap.size)
  generalize hAe : va_A (wN ad cI cZ n c D C A O S Ln Ar Rd) s.heap.size = AA at hD ⊢
  have hA : ∀ q : Nat, s.heap.size ≤ q → AA q := fun q h => by rw [← hAe]; exact Or.inr h
  have hS : va_S AA s.heap s.heap [] := va_S.rf
  have hl := lv_entry ([.ref (ad 0), .int (iI fav)]) (n := 4) (Nat.le_of_ble_eq_true rfl)
  rw [lg_entry_eq]
  generalize (lg_sl ([.ref (ad 0), .int (iI fav)]) ++ List.replicate (4 - (lg_sl ([.ref (ad 0), .int (iI fav)])).length) Slot.unset).toArray = ls at hl ⊢
  have hl : lv_has ls 4 [(0, .ref (ad 0)), (1, .int (iI fav))] := hl
  have hc := hW.2.2.1
  have hn := hW.2.1
  refine ob_ic hx hb dX1_solve_0 ?_
  refine lv_istore_n (lv' := [(2, .int (iI 0)), (0, .ref (ad 0)), (1, .int (iI fav))]) hx hb dX1_solve_1 rfl hl (by decide) rfl (fun ls hl => ?_)
  have lp_2 : ∀ (nn : Nat) (d : Nat) (S1 : Nat → Int), (7 < d + nn) → (d ≤ 7) → (∀ j, j < d → S1 j = 0) → ∀ (H : Heap) (locs : List Loc), va_P (dC, dI) vwCl (wN ad cI cZ n c D C A O S1 Ln Ar Rd) H → va_D AA (wN ad cI cZ n c D C A O S1 Ln Ar Rd) → va_S AA s.heap H locs → ∀ (ls : Array Slot), lv_has ls 4 [(0, .ref (ad 0)), (1, .int (iI fav)), (2, .int (iI d))] → W p l e (headSpec (ws_ yX1_solve cX1_solve 4 none) ({ frames := 4, cells := 0, slots := 0, locals := 94 })).room s m ([.ref (ad 0), .int (iI fav)] : List Value).toArray below meth cd H locs 0 0 (MQ below (va_Qv (fun u => ∃ S2 Ln2 Ar2, u = (c, D, C, A, O, S2, Ln2, Ar2, Rd) ∧ Opt n c D C (rm D C A O) (gnA c fav) S2) (obB (dC, dI) vwCl [(cI, .int), (cZ, .boolean)] AA (BN ad cI cZ n)) AA) ([.ref (ad 0), .int (iI fav)] : List Value).toArray s 0 0 AA) (F0 m 2 ls []) := by
    intro nn
    induction nn with
    | zero => intro d S1 hm hd hz; exfalso; omega
    | succ nn ih_2 =>
      intro d S1 hm hd hz H locs hP hD hS ls hl
      refine lv_iload_n hx hb dX1_solve_2 rfl (lv_at hl 2 rfl) ?_
      refine ob_bi hx hb dX1_solve_3 (by decide) ?_
      refine ob_icmp_ge (tgt := 21) hx hb dX1_solve_5 (by decide) (by omega) (by omega) (fun h5 => ?_) (fun h5 => ?_)
      · refine ob_ic hx hb dX1_solve_21 ?_
        refine lv_istore_n (lv' := [(2, .int (iI 0)), (0, .ref (ad 0)), (1, .int (iI fav))]) hx hb dX1_solve_22 rfl hl (by decide) rfl (fun ls hl => ?_)
        have lp_23 : ∀ (nn : Nat) (j : Nat) (S2 : Nat → Int) (Ln2 : Nat → Int) (Ar2 : Nat → Int), (16384 < j + nn) → (j ≤ 16384) → (Clr n c D C (rm D C A O) S2) → (j ≤ cnt (fun k => gG (gnA c fav) (dgZ c k) c) (gG (gnA c fav) S2 c) (4 ^ c)) → ∀ (H : Heap) (locs : List Loc), va_P (dC, dI) vwCl (wN ad cI cZ n c D C A O S2 Ln2 Ar2 Rd) H → va_D AA (wN ad cI cZ n c D C A O S2 Ln2 Ar2 Rd) → va_S AA s.heap H locs → ∀ (ls : Array Slot), lv_has ls 4 [(0, .ref (ad 0)), (1, .int (iI fav)), (2, .int (iI j))] → W p l e (headSpec (ws_ yX1_solve cX1_solve 4 none) ({ frames := 4, cells := 0, slots := 0, locals := 94 })).room s m ([.ref (ad 0), .int (iI fav)] : List Value).toArray below meth cd H locs 0 0 (MQ below (va_Qv (fun u => ∃ S2 Ln2 Ar2, u = (c, D, C, A, O, S2, Ln2, Ar2, Rd) ∧ Opt n c D C (rm D C A O) (gnA c fav) S2) (obB (dC, dI) vwCl [(cI, .int), (cZ, .boolean)] AA (BN ad cI cZ n)) AA) ([.ref (ad 0), .int (iI fav)] : List Value).toArray s 0 0 AA) (F0 m 23 ls []) := by
          intro nn
          induction nn with
          | zero => intro j S2 Ln2 Ar2 hm hj hCl hct; exfalso; omega
          | succ nn ih_23 =>
            intro j S2 Ln2 Ar2 hm hj hCl hct H locs hP hD hS ls hl
            refine lv_iload_n hx hb dX1_solve_23 rfl (lv_at hl 2 rfl) ?_
            refine ob_si hx hb dX1_solve_24 (by decide) ?_
            refine ob_icmp_ge (tgt := 53) hx hb dX1_solve_27 (by decide) (by omega) (by omega) (fun h27 => ?_) (fun h27 => ?_)
            · exact absurd (cnt_end (g := gnA c fav) hW hCl) (by omega)
            · refine lv_aload_n hx hb dX1_solve_30 rfl (lv_at hl 0 rfl) ?_
              refine lv_iload_n hx hb dX1_solve_31 rfl (lv_at hl 1 rfl) ?_
              refine ob_callI (As := [.int (iI fav)]) (rest := []) (wr := []) (metN_findCircle l dC dI ad cI cZ n c D C A O S2 Ln2 Ar2 Rd H.size fav hf hW (hCl.b3 hW)) ⟨hx, hb, hml, hown, hts⟩ (cwV 1 hts (lw_V q101 q103 qs3 q23 q104) rfl rfl rfl (by decide +kernel) ⟨Nat.le_of_ble_eq_true rfl, Nat.le_of_ble_eq_true rfl⟩) hK hP hD hS hA [0, 1, 2, 3, 4, 5, 6, 7, 8] [] [0, 1] rfl rfl rfl (by decide) (by decide) (by decide) rfl (ci := 0) rfl rfl rfl rfl hl.1 rfl (Nat.le_of_ble_eq_true rfl) dX1_solve_32 ⟨Nat.zero_le _, Nat.zero_le _⟩ (fun r32 u32 H locs hw hP hD hS => ?_)
              obtain ⟨Ln3, Ar3, rfl, hw⟩ := hw
              rcases hw with ⟨rfl, hrest⟩ | ⟨v, m2, hv, rfl, hcy⟩
              · have hP : va_P (dC, dI) vwCl (wN ad cI cZ n c D C A O S2 Ln3 Ar3 Rd) H := hP
                have hD : va_D AA (wN ad cI cZ n c D C A O S2 Ln3 Ar3 Rd) := hD
                refine lv_istore_n (lv' := [(3, .int (iI (-1))), (0, .ref (ad 0)), (1, .int (iI fav)), (2, .int (iI j))]) hx hb dX1_solve_35 rfl hl (by decide) rfl (fun ls hl => ?_)
                refine lv_iload_n hx hb dX1_solve_36 rfl (lv_at hl 0 rfl) ?_
                refine ob_ic hx hb dX1_solve_37 ?_
                refine ob_icmp_ne (tgt := 42) hx hb dX1_solve_38 (by decide) (by omega) (by omega) (fun h38 => ?_) (fun h38 => ?_)
                · exfalso; omega
                · exact W.vret hx hb hr (fun t ht hWm => ⟨⟨(c, D, C, A, O, S2, Ln3, Ar3, Rd), rfl, (by exact ⟨S2, Ln3, Ar3, rfl, opt_of_rest hW.DC2 hCl hrest⟩), by rw [ht]; exact hP, va_K.moved hWm.alike hK, hD⟩, hS.F ht⟩) hS.2.2 dX1_solve_41
              · have hP : va_P (dC, dI) vwCl (wN ad cI cZ n c D C A O S2 Ln3 Ar3 Rd) H := hP
                have hD : va_D AA (wN ad cI cZ n c D C A O S2 Ln3 Ar3 Rd) := hD
                refine lv_istore_n (lv' := [(3, .int (iI v)), (0, .ref (ad 0)), (1, .int (iI fav)), (2, .int (iI j))]) hx hb dX1_solve_35 rfl hl (by decide) rfl (fun ls hl => ?_)
                refine lv_iload_n hx hb dX1_solve_36 rfl (lv_at hl 0 rfl) ?_
                refine ob_ic hx hb dX1_solve_37 ?_
                refine ob_icmp_ne (tgt := 42) hx hb dX1_solve_38 (by decide) (by omega) (by omega) (fun h38 => ?_) (fun h38 => ?_)
                · refine lv_aload_n hx hb dX1_solve_42 rfl (lv_at hl 1 rfl) ?_
                  refine lv_iload_n hx hb dX1_solve_43 rfl (lv_at hl 0 rfl) ?_
                  refine ob_callV (As := [.int (iI v)]) (rest := []) (wr := []) (metN_fillCircle l dC dI ad cI cZ n c D C A O S2 Ln3 Ar3 Rd H.size v m2 (gnA c fav) hW (hCl.b3 hW) hcy) ⟨hx, hb, hml, hown, hts⟩ (cwV 1 hts (lw_V q130 q132 qs10 q23 q133) rfl rfl rfl (by decide +kernel) ⟨Nat.le_of_ble_eq_true rfl, Nat.le_of_ble_eq_true rfl⟩) hK hP hD hS hA [0, 1, 2, 3, 4, 5, 6, 7, 8] [] [0, 1] rfl rfl rfl (by decide) (by decide) (by decide) rfl (ci := 0) rfl rfl rfl rfl hl.1 rfl (Nat.le_of_ble_eq_true rfl) dX1_solve_44 ⟨Nat.zero_le _, Nat.zero_le _⟩ (fun u44 H locs hw hP hD hS => ?_)
                  obtain ⟨am, a1, a2, rfl⟩ := hw
                  have hP : va_P (dC, dI) vwCl (wN ad cI cZ n c D C A O (fS am (fun k => (Ar3 (itN (pr (tlA D C) Ar3) k v)).toNat) S2 m2) Ln3 Ar3 Rd) H := hP
                  have hD : va_D AA (wN ad cI cZ n c D C A O (fS am (fun k => (Ar3 (itN (pr (tlA D C) Ar3) k v)).toNat) S2 m2) Ln3 Ar3 Rd) := hD
                  have hok := fS_ok hW.DC hCl hcy a1 a2
                  refine ob_iinc (k := 3) hx hb (((j + 1 : Nat) : Int)) (lv' := [(2, .int (iI (((j + 1 : Nat) : Int)))), (3, .int (iI v)), (0, .ref (ad 0)), (1, .int (iI fav))]) dX1_solve_47 hl rfl (by omega) (by decide) rfl (fun ls hl => ?_)
                  refine lv_goto (tgt := 23) hx hb dX1_solve_50 (by decide) ?_
                  exact ih_23 (j + 1) (fS am (fun k => (Ar3 (itN (pr (tlA D C) Ar3) k v)).toNat) S2 m2) Ln3 Ar3 (by omega) (by omega) hok.1 (by have q := cnt_more (g := gnA c fav) hW hCl hok.2; omega) _ _ hP hD hS ls (lv_sub hl [2, 3, 0] rfl)
                · exfalso; omega
        exact lp_23 16385 0 S1 Ln Ar (by omega) (by omega) (Clr.zero (fun d hd => (hW.rm d hd).1) (fun j hj => hz j (by omega))) (Nat.zero_le _) _ _ hP hD hS ls (lv_sub hl [1, 2, 0] rfl)
      · refine lv_aload_n hx hb dX1_solve_8 rfl (lv_at hl 0 rfl) ?_
        refine va_get (D := (dC, dI)) (ci := 0) (v := .ref (ad 4)) (C := RX1) (T := TX1) (N := 11) hx hb hts in_X1 hown hK hP 0 rfl rfl 3 (by decide) (hts _ q36) (fun _ h9 => h9) rfl dX1_solve_9 ?_
        refine lv_iload_n hx hb dX1_solve_12 rfl (lv_at hl 2 rfl) ?_
        refine ob_ic hx hb dX1_solve_13 ?_
        refine ob_iast hx hb hK hP hD hS 4 0 rfl rfl (d) (by omega) (by omega) (by decide) dX1_solve_14 (fun H locs hP hD hS => ?_)
        have hP : va_P (dC, dI) vwCl (wN ad cI cZ n c D C A O (va_up S1 d 0) Ln Ar Rd) H := hP
        have hD : va_D AA (wN ad cI cZ n c D C A O (va_up S1 d 0) Ln Ar Rd) := hD
        refine ob_iinc (k := 2) hx hb (((d + 1 : Nat) : Int)) (lv' := [(2, .int (iI (((d + 1 : Nat) : Int)))), (0, .ref (ad 0)), (1, .int (iI fav))]) dX1_solve_15 hl rfl (by omega) (by decide) rfl (fun ls hl => ?_)
        refine lv_goto (tgt := 2) hx hb dX1_solve_18 (by decide) ?_
        exact ih_2 (d + 1) (va_up S1 d 0) (by omega) (by omega) (up_lo hz) _ _ hP hD hS ls (lv_sub hl [1, 2, 0] rfl)
  exact lp_2 8 0 S (by omega) (by omega) (fun j h => absurd h (by omega)) _ _ hP hD hS ls (lv_sub hl [1, 2, 0] rfl)
end
section
/-! ObligationNetting: load -/
set_option maxHeartbeats 4000000 in
set_option maxRecDepth 100000 in
theorem metN_load (l : Launch) (dC : Nat → ClassId) (dI : Nat → Nat → Nat) (ad : Nat → Nat) (cI cZ : ClassId) (n c : Nat) (D C : Nat → Nat) (A O S Ln Ar Rd : Nat → Int) (sz : Nat) (z : Int) (hz : -2147483648 ≤ z ∧ z < 2147483648) (hW : WF n c D C A O) : Met l yX1_load (ws_ yX1_load cX1_load 6 (some .boolean)) ({ frames := 1, cells := 0, slots := 0, locals := 21 }) (obW (dC, dI) vwCl (wN ad cI cZ n c D C A O S Ln Ar Rd) [(cI, .int), (cZ, .boolean)] sz [.ref (ad 0), .int (iI z)]) (va_Qi (fun r u => ∃ Rd2, u = (c, D, C, A, O, S, Ln, Ar, Rd2) ∧ ((CC n c D C (rm D C A O) z ∧ r = iI 1 ∧ ∀ d, d < c → Rd2 d = dgZ c z.toNat d) ∨ (¬ CC n c D C (rm D C A O) z ∧ r = iI 0))) (obB (dC, dI) vwCl [(cI, .int), (cZ, .boolean)] (va_A (wN ad cI cZ n c D C A O S Ln Ar Rd) sz) (BN ad cI cZ n)) (va_A (wN ad cI cZ n c D C A O S Ln Ar Rd) sz)) 0 0 (va_A (wN ad cI cZ n c D C A O S Ln Ar Rd) sz) := by
  refine Met.ofW (cc := cX1_load) (maxL := 6) (ret := (some .boolean)) (by decide) rfl ?_
  intro p e s m args below meth cd s₁ B hml hv
  obtain ⟨rfl, hsz, hP, hK, hD0⟩ := hv
  have hx := B.exec
  have hb := B.bytes
  have hr := B.returns
  have hts := atoms_spec (ws := (ws_ yX1_load cX1_load 6 (some .boolean))) B.pre
  have hts : ∀ w ∈ lw_all, w.before _ s = true := fun w h => hts w (List.mem_cons_of_mem _ h)
  have hown : s.vm.findClass RX1 = some m.cls := findClass_of_methodNamed B.named
  have hlocks := B.notSynchronized
  subst hsz
  have hD := hD0.self (sz := s.heap.size)
  generalize hAe : va_A (wN ad cI cZ n c D C A O S Ln Ar Rd) s.heap.size = AA at hD ⊢
  have hA : ∀ q : Nat, s.heap.size ≤ q → AA q := fun q h => by rw [← hAe]; exact Or.inr h
  have hS : va_S AA s.heap s.heap [] := va_S.rf
  have hl := lv_entry ([.ref (ad 0), .int (iI z)]) (n := 6) (Nat.le_of_ble_eq_true rfl)
  rw [lg_entry_eq]
  generalize (lg_sl ([.ref (ad 0), .int (iI z)]) ++ List.replicate (6 - (lg_sl ([.ref (ad 0), .int (iI z)])).length) Slot.unset).toArray = ls at hl ⊢
  have hl : lv_has ls 6 [(0, .ref (ad 0)), (1, .int (iI z))] := hl
  have hc := hW.2.2.1
  have hn := hW.2.1
  refine lv_iload_n hx hb dX1_load_0 rfl (lv_at hl 1 rfl) ?_
  refine ob_if_ge (tgt := 6) hx hb dX1_load_1 (by decide) (by omega) (fun h1 => ?_) (fun h1 => ?_)
  · refine lv_iload_n hx hb dX1_load_6 rfl (lv_at hl 1 rfl) ?_
    refine ob_top (((z.toNat / 4 ^ 0 : Nat) : Int)) (by rw [Nat.pow_zero, Nat.div_one]; omega) ?_
    refine lv_istore_n (lv' := [(2, .int (iI (((z.toNat / 4 ^ 0 : Nat) : Int)))), (0, .ref (ad 0)), (1, .int (iI z))]) hx hb dX1_load_7 rfl hl (by decide) rfl (fun ls hl => ?_)
    refine lv_aload_n hx hb dX1_load_8 rfl (lv_at hl 1 rfl) ?_
    refine va_get (D := (dC, dI)) (ci := 0) (v := .int (iI c)) (C := RX1) (T := TX1) (N := 11) hx hb hts in_X1 hown hK hP 0 rfl rfl 10 (by decide) (hts _ q43) (fun _ h9 => h9) rfl dX1_load_9 ?_
    refine ob_ic hx hb dX1_load_12 ?_
    refine ob_isub hx hb dX1_load_13 ?_
    refine ob_top ((c : Int) - 1 - ((0 : Nat) : Int)) (by omega) ?_
    refine lv_istore_n (lv' := [(3, .int (iI ((c : Int) - 1 - ((0 : Nat) : Int)))), (2, .int (iI (((z.toNat / 4 ^ 0 : Nat) : Int)))), (0, .ref (ad 0)), (1, .int (iI z))]) hx hb dX1_load_14 rfl hl (by decide) rfl (fun ls hl => ?_)
    have lp_15 : ∀ (nn : Nat) (i : Nat) (Rd1 : Nat → Int), (c < i + nn) → (i ≤ c) → (∀ d, c ≤ d + i → d < c → Rd1 d = dgZ c z.toNat d ∧ dgZ c z.toNat d ≤ rm D C A O d) → ∀ (H : Heap) (locs : List Loc), va_P (dC, dI) vwCl (wN ad cI cZ n c D C A O S Ln Ar Rd1) H → va_D AA (wN ad cI cZ n c D C A O S Ln Ar Rd1) → va_S AA s.heap H locs → ∀ (ls : Array Slot), lv_has ls 6 [(0, .ref (ad 0)), (2, .int (iI (((z.toNat / 4 ^ i : Nat) : Int)))), (3, .int (iI ((c : Int) - 1 - ((i : Nat) : Int))))] → W p l e (headSpec (ws_ yX1_load cX1_load 6 (some .boolean)) ({ frames := 1, cells := 0, slots := 0, locals := 21 })).room s m ([.ref (ad 0), .int (iI z)] : List Value).toArray below meth cd H locs 0 0 (MQ below (va_Qi (fun r u => ∃ Rd2, u = (c, D, C, A, O, S, Ln, Ar, Rd2) ∧ ((CC n c D C (rm D C A O) z ∧ r = iI 1 ∧ ∀ d, d < c → Rd2 d = dgZ c z.toNat d) ∨ (¬ CC n c D C (rm D C A O) z ∧ r = iI 0))) (obB (dC, dI) vwCl [(cI, .int), (cZ, .boolean)] AA (BN ad cI cZ n)) AA) ([.ref (ad 0), .int (iI z)] : List Value).toArray s 0 0 AA) (F0 m 15 ls []) := by
      intro nn
      induction nn with
      | zero => intro i Rd1 hm hi hRd; exfalso; omega
      | succ nn ih_15 =>
        intro i Rd1 hm hi hRd H locs hP hD hS ls hl
        refine lv_iload_n hx hb dX1_load_15 rfl (lv_at hl 2 rfl) ?_
        refine ob_if_lt (tgt := 54) hx hb dX1_load_16 (by decide) (by omega) (fun h16 => ?_) (fun h16 => ?_)
        · have ei : i = c := by omega
          have hR3 : ∀ d, d < c → Rd1 d = dgZ c z.toNat d ∧ dgZ c z.toNat d ≤ rm D C A O d := fun d hd => hRd d (by omega) hd
          have hR4 : ∀ d, d < c → 0 ≤ Rd1 d ∧ Rd1 d ≤ 3 := fun d hd => by rw [(hR3 d hd).1]; exact dgZ_bnd _ _ _
          have hl : lv_has ls 6 [(0, .ref (ad 0)), (2, .int (iI (((z.toNat / 4 ^ i : Nat) : Int))))] := lv_sub hl [0, 1] rfl
          have hle : (((z.toNat / 4 ^ i : Nat) : Int)) = (((z.toNat / 4 ^ c : Nat) : Int) : Int) := by rw [ei]
          rw [hle] at hl
          clear hle
          have hl : lv_has ls 6 [(0, .ref (ad 0)), (2, .int (iI (((z.toNat / 4 ^ c : Nat) : Int))))] := hl
          have zb : z.toNat / 4 ^ c ≤ z.toNat := Nat.div_le_self _ _
          have zb0 := Int.natCast_nonneg (z.toNat / 4 ^ c)
          refine ob_ic hx hb dX1_load_54 ?_
          refine lv_istore_n (lv' := [(3, .int (iI 0)), (0, .ref (ad 0)), (2, .int (iI (((z.toNat / 4 ^ c : Nat) : Int))))]) hx hb dX1_load_55 rfl hl (by decide) rfl (fun ls hl => ?_)
          have lp_56 : ∀ (nn : Nat) (f : Nat), (n < f + nn) → (f ≤ n) → (∀ g, g < f → sZ (tf D C Rd1 g) c = 0) → ∀ (H : Heap) (locs : List Loc), va_P (dC, dI) vwCl (wN ad cI cZ n c D C A O S Ln Ar Rd1) H → va_D AA (wN ad cI cZ n c D C A O S Ln Ar Rd1) → va_S AA s.heap H locs → ∀ (ls : Array Slot), lv_has ls 6 [(0, .ref (ad 0)), (2, .int (iI (((z.toNat / 4 ^ c : Nat) : Int)))), (3, .int (iI f))] → W p l e (headSpec (ws_ yX1_load cX1_load 6 (some .boolean)) ({ frames := 1, cells := 0, slots := 0, locals := 21 })).room s m ([.ref (ad 0), .int (iI z)] : List Value).toArray below meth cd H locs 0 0 (MQ below (va_Qi (fun r u => ∃ Rd2, u = (c, D, C, A, O, S, Ln, Ar, Rd2) ∧ ((CC n c D C (rm D C A O) z ∧ r = iI 1 ∧ ∀ d, d < c → Rd2 d = dgZ c z.toNat d) ∨ (¬ CC n c D C (rm D C A O) z ∧ r = iI 0))) (obB (dC, dI) vwCl [(cI, .int), (cZ, .boolean)] AA (BN ad cI cZ n)) AA) ([.ref (ad 0), .int (iI z)] : List Value).toArray s 0 0 AA) (F0 m 56 ls []) := by
            intro nn
            induction nn with
            | zero => intro f hm hf hnet; exfalso; omega
            | succ nn ih_56 =>
              intro f hm hf hnet H locs hP hD hS ls hl
              refine lv_iload_n hx hb dX1_load_56 rfl (lv_at hl 2 rfl) ?_
              refine lv_aload_n hx hb dX1_load_57 rfl (lv_at hl 0 rfl) ?_
              refine va_get (D := (dC, dI)) (ci := 0) (v := .int (iI n)) (C := RX1) (T := TX1) (N := 11) hx hb hts in_X1 hown hK hP 0 rfl rfl 9 (by decide) (hts _ q42) (fun _ h9 => h9) rfl dX1_load_58 ?_
              refine ob_icmp_ge (tgt := 152) hx hb dX1_load_61 (by decide) (by omega) (by omega) (fun h61 => ?_) (fun h61 => ?_)
              · have ef : f = n := by omega
                refine lv_iload_n hx hb dX1_load_152 rfl (lv_at hl 1 rfl) ?_
                refine ob_if_ne (tgt := 160) hx hb dX1_load_153 (by decide) (by omega) (fun h153 => ?_) (fun h153 => ?_)
                · have hno : ¬ CC n c D C (rm D C A O) z := fun h => by
                    have q := div4' h153
                    have q2 := h.2.1
                    omega
                  refine ob_ic hx hb dX1_load_160 ?_
                  exact W.zret (v := iI 0) hx hb hr (by decide) (fun t ht hWm => ⟨⟨_, (c, D, C, A, O, S, Ln, Ar, Rd1), rfl, (by first | exact ⟨_, rfl, Or.inr ⟨hno, rfl⟩⟩ | exact ⟨_, rfl, Or.inl ⟨hcc, rfl, fun d hd => (hR3 d hd).1⟩⟩), by rw [ht]; exact hP, va_K.moved hWm.alike hK, hD⟩, hS.F ht⟩) hS.2.2 dX1_load_161
                · have q := div4 h153
                  have hcc : CC n c D C (rm D C A O) z := by
                    refine ⟨by omega, by omega, fun d hd => ⟨(dgZ_bnd _ _ _).1, (hR3 d hd).2⟩, fun g hg => ?_⟩
                    rw [← tf_congr g (fun d hd => (hR3 d hd).1)]
                    exact hnet g (by omega)
                  refine ob_ic hx hb dX1_load_156 ?_
                  refine lv_goto (tgt := 161) hx hb dX1_load_157 (by decide) ?_
                  exact W.zret (v := iI 1) hx hb hr (by decide) (fun t ht hWm => ⟨⟨_, (c, D, C, A, O, S, Ln, Ar, Rd1), rfl, (by first | exact ⟨_, rfl, Or.inr ⟨hno, rfl⟩⟩ | exact ⟨_, rfl, Or.inl ⟨hcc, rfl, fun d hd => (hR3 d hd).1⟩⟩), by rw [ht]; exact hP, va_K.moved hWm.alike hK, hD⟩, hS.F ht⟩) hS.2.2 dX1_load_161
              · refine ob_ic hx hb dX1_load_64 ?_
                refine lv_istore (lv' := [(4, .int (iI 0)), (0, .ref (ad 0)), (2, .int (iI (((z.toNat / 4 ^ c : Nat) : Int)))), (3, .int (iI f))]) hx hb dX1_load_65 hl (by decide) rfl (fun ls hl => ?_)
                refine ob_ic hx hb dX1_load_67 ?_
                refine lv_istore (lv' := [(5, .int (iI 0)), (4, .int (iI 0)), (0, .ref (ad 0)), (2, .int (iI (((z.toNat / 4 ^ c : Nat) : Int)))), (3, .int (iI f))]) hx hb dX1_load_68 hl (by decide) rfl (fun ls hl => ?_)
                have lp_70 : ∀ (nn : Nat) (d : Nat), (c < d + nn) → (d ≤ c) → ∀ (H : Heap) (locs : List Loc), va_P (dC, dI) vwCl (wN ad cI cZ n c D C A O S Ln Ar Rd1) H → va_D AA (wN ad cI cZ n c D C A O S Ln Ar Rd1) → va_S AA s.heap H locs → ∀ (ls : Array Slot), lv_has ls 6 [(0, .ref (ad 0)), (2, .int (iI (((z.toNat / 4 ^ c : Nat) : Int)))), (3, .int (iI f)), (4, .int (iI (sZ (tf D C Rd1 f) d))), (5, .int (iI d))] → W p l e (headSpec (ws_ yX1_load cX1_load 6 (some .boolean)) ({ frames := 1, cells := 0, slots := 0, locals := 21 })).room s m ([.ref (ad 0), .int (iI z)] : List Value).toArray below meth cd H locs 0 0 (MQ below (va_Qi (fun r u => ∃ Rd2, u = (c, D, C, A, O, S, Ln, Ar, Rd2) ∧ ((CC n c D C (rm D C A O) z ∧ r = iI 1 ∧ ∀ d, d < c → Rd2 d = dgZ c z.toNat d) ∨ (¬ CC n c D C (rm D C A O) z ∧ r = iI 0))) (obB (dC, dI) vwCl [(cI, .int), (cZ, .boolean)] AA (BN ad cI cZ n)) AA) ([.ref (ad 0), .int (iI z)] : List Value).toArray s 0 0 AA) (F0 m 70 ls []) := by
                  intro nn
                  induction nn with
                  | zero => intro d hm hd; exfalso; omega
                  | succ nn ih_70 =>
                    intro d hm hd H locs hP hD hS ls hl
                    refine lv_iload hx hb dX1_load_70 (lv_at hl 4 rfl) ?_
                    refine lv_aload_n hx hb dX1_load_72 rfl (lv_at hl 0 rfl) ?_
                    refine va_get (D := (dC, dI)) (ci := 0) (v := .int (iI c)) (C := RX1) (T := TX1) (N := 11) hx hb hts in_X1 hown hK hP 0 rfl rfl 10 (by decide) (hts _ q43) (fun _ h9 => h9) rfl dX1_load_73 ?_
                    refine ob_icmp_ge (tgt := 139) hx hb dX1_load_76 (by decide) (by omega) (by omega) (fun h76 => ?_) (fun h76 => ?_)
                    · have ed : d = c := by omega
                      have hle : (sZ (tf D C Rd1 f) d) = (sZ (tf D C Rd1 f) c : Int) := by rw [ed]
                      rw [hle] at hl
                      clear hle
                      have hl : lv_has ls 6 [(0, .ref (ad 0)), (2, .int (iI (((z.toNat / 4 ^ c : Nat) : Int)))), (3, .int (iI f)), (4, .int (iI (sZ (tf D C Rd1 f) c))), (5, .int (iI d))] := hl
                      have tb1 := tf_bnd (D := D) (C := C) f c hR4
                      refine lv_iload hx hb dX1_load_139 (lv_at hl 3 rfl) ?_
                      refine ob_if_eq (tgt := 146) hx hb dX1_load_141 (by decide) (by omega) (fun h141 => ?_) (fun h141 => ?_)
                      · have hnet2 : ∀ g, g < f + 1 → sZ (tf D C Rd1 g) c = 0 := fun g hg => by
                          by_cases q : g = f
                          · rw [q]; exact h141
                          · exact hnet g (by omega)
                        refine ob_iinc (k := 2) hx hb (((f + 1 : Nat) : Int)) (lv' := [(3, .int (iI (((f + 1 : Nat) : Int)))), (0, .ref (ad 0)), (2, .int (iI (((z.toNat / 4 ^ c : Nat) : Int)))), (4, .int (iI (sZ (tf D C Rd1 f) c))), (5, .int (iI d))]) dX1_load_146 hl rfl (by omega) (by decide) rfl (fun ls hl => ?_)
                        refine lv_goto (tgt := 56) hx hb dX1_load_149 (by decide) ?_
                        exact ih_56 (f + 1) (by omega) (by omega) hnet2 _ _ hP hD hS ls (lv_sub hl [1, 2, 0] rfl)
                      · have hno : ¬ CC n c D C (rm D C A O) z := fun h => by
                          have q := h.2.2.2 f (by omega)
                          rw [← tf_congr f (fun d hd => (hR3 d hd).1)] at q
                          exact h141 q
                        refine ob_ic hx hb dX1_load_144 ?_
                        exact W.zret (v := iI 0) hx hb hr (by decide) (fun t ht hWm => ⟨⟨_, (c, D, C, A, O, S, Ln, Ar, Rd1), rfl, (by exact ⟨_, rfl, Or.inr ⟨hno, rfl⟩⟩), by rw [ht]; exact hP, va_K.moved hWm.alike hK, hD⟩, hS.F ht⟩) hS.2.2 dX1_load_145
                    · have dc := hW.DC5 d (by omega)
                      refine lv_iload hx hb dX1_load_79 (lv_at hl 3 rfl) ?_
                      refine lv_aload_n hx hb dX1_load_81 rfl (lv_at hl 0 rfl) ?_
                      refine va_get (D := (dC, dI)) (ci := 0) (v := .ref (ad 2)) (C := RX1) (T := TX1) (N := 11) hx hb hts in_X1 hown hK hP 0 rfl rfl 1 (by decide) (hts _ q34) (fun _ h9 => h9) rfl dX1_load_82 ?_
                      refine lv_iload hx hb dX1_load_85 (lv_at hl 4 rfl) ?_
                      refine ob_iald hx hb hK hP 2 0 rfl rfl (d) (by omega) (by omega) (by decide) dX1_load_87 ?_
                      refine lv_iload_n hx hb dX1_load_88 rfl (lv_at hl 2 rfl) ?_
                      refine ob_icmp_ne (tgt := 102) hx hb dX1_load_89 (by decide) (by omega) (by omega) (fun h89 => ?_) (fun h89 => ?_)
                      · refine ob_ic hx hb dX1_load_102 ?_
                        refine ob_iadd hx hb dX1_load_103 ?_
                        refine lv_istore (lv' := [(4, .int (iI ((sZ (tf D C Rd1 f) d) + 0))), (0, .ref (ad 0)), (2, .int (iI (((z.toNat / 4 ^ c : Nat) : Int)))), (3, .int (iI f)), (5, .int (iI d))]) hx hb dX1_load_104 hl (by decide) rfl (fun ls hl => ?_)
                        refine lv_iload hx hb dX1_load_106 (lv_at hl 0 rfl) ?_
                        refine lv_aload_n hx hb dX1_load_108 rfl (lv_at hl 1 rfl) ?_
                        refine va_get (D := (dC, dI)) (ci := 0) (v := .ref (ad 1)) (C := RX1) (T := TX1) (N := 11) hx hb hts in_X1 hown hK hP 0 rfl rfl 0 (by decide) (hts _ q33) (fun _ h9 => h9) rfl dX1_load_109 ?_
                        refine lv_iload hx hb dX1_load_112 (lv_at hl 4 rfl) ?_
                        refine ob_iald hx hb hK hP 1 0 rfl rfl (d) (by omega) (by omega) (by decide) dX1_load_114 ?_
                        refine lv_iload_n hx hb dX1_load_115 rfl (lv_at hl 3 rfl) ?_
                        refine ob_icmp_ne (tgt := 129) hx hb dX1_load_116 (by decide) (by omega) (by omega) (fun h116 => ?_) (fun h116 => ?_)
                        · refine ob_ic hx hb dX1_load_129 ?_
                          refine ob_isub hx hb dX1_load_130 ?_
                          refine ob_top (sZ (tf D C Rd1 f) (d + 1)) (by show _ = sZ (tf D C Rd1 f) d + ((if C d = f then Rd1 d else 0) - (if D d = f then Rd1 d else 0)); split <;> split <;> omega) ?_
                          refine lv_istore (lv' := [(4, .int (iI (sZ (tf D C Rd1 f) (d + 1)))), (0, .ref (ad 0)), (2, .int (iI (((z.toNat / 4 ^ c : Nat) : Int)))), (3, .int (iI f)), (5, .int (iI d))]) hx hb dX1_load_131 hl (by decide) rfl (fun ls hl => ?_)
                          refine ob_iinc (k := 4) hx hb (((d + 1 : Nat) : Int)) (lv' := [(5, .int (iI (((d + 1 : Nat) : Int)))), (4, .int (iI (sZ (tf D C Rd1 f) (d + 1)))), (0, .ref (ad 0)), (2, .int (iI (((z.toNat / 4 ^ c : Nat) : Int)))), (3, .int (iI f))]) dX1_load_133 hl rfl (by omega) (by decide) rfl (fun ls hl => ?_)
                          refine lv_goto (tgt := 70) hx hb dX1_load_136 (by decide) ?_
                          exact ih_70 (d + 1) (by omega) (by omega) _ _ hP hD hS ls (lv_sub hl [2, 3, 4, 1, 0] rfl)
                        · refine lv_aload_n hx hb dX1_load_119 rfl (lv_at hl 1 rfl) ?_
                          refine va_get (D := (dC, dI)) (ci := 0) (v := .ref (ad 8)) (C := RX1) (T := TX1) (N := 11) hx hb hts in_X1 hown hK hP 0 rfl rfl 8 (by decide) (hts _ q41) (fun _ h9 => h9) rfl dX1_load_120 ?_
                          refine lv_iload hx hb dX1_load_123 (lv_at hl 4 rfl) ?_
                          refine ob_iald hx hb hK hP 8 0 rfl rfl (d) (by omega) (by omega) (by decide) dX1_load_125 ?_
                          refine lv_goto (tgt := 130) hx hb dX1_load_126 (by decide) ?_
                          refine ob_isub hx hb dX1_load_130 ?_
                          refine ob_top (sZ (tf D C Rd1 f) (d + 1)) (by show _ = sZ (tf D C Rd1 f) d + ((if C d = f then Rd1 d else 0) - (if D d = f then Rd1 d else 0)); split <;> split <;> omega) ?_
                          refine lv_istore (lv' := [(4, .int (iI (sZ (tf D C Rd1 f) (d + 1)))), (0, .ref (ad 0)), (2, .int (iI (((z.toNat / 4 ^ c : Nat) : Int)))), (3, .int (iI f)), (5, .int (iI d))]) hx hb dX1_load_131 hl (by decide) rfl (fun ls hl => ?_)
                          refine ob_iinc (k := 4) hx hb (((d + 1 : Nat) : Int)) (lv' := [(5, .int (iI (((d + 1 : Nat) : Int)))), (4, .int (iI (sZ (tf D C Rd1 f) (d + 1)))), (0, .ref (ad 0)), (2, .int (iI (((z.toNat / 4 ^ c : Nat) : Int)))), (3, .int (iI f))]) dX1_load_133 hl rfl (by omega) (by decide) rfl (fun ls hl => ?_)
                          refine lv_goto (tgt := 70) hx hb dX1_load_136 (by decide) ?_
                          exact ih_70 (d + 1) (by omega) (by omega) _ _ hP hD hS ls (lv_sub hl [2, 3, 4, 1, 0] rfl)
                      · refine lv_aload_n hx hb dX1_load_92 rfl (lv_at hl 0 rfl) ?_
                        refine va_get (D := (dC, dI)) (ci := 0) (v := .ref (ad 8)) (C := RX1) (T := TX1) (N := 11) hx hb hts in_X1 hown hK hP 0 rfl rfl 8 (by decide) (hts _ q41) (fun _ h9 => h9) rfl dX1_load_93 ?_
                        refine lv_iload hx hb dX1_load_96 (lv_at hl 4 rfl) ?_
                        refine ob_iald hx hb hK hP 8 0 rfl rfl (d) (by omega) (by omega) (by decide) dX1_load_98 ?_
                        refine lv_goto (tgt := 103) hx hb dX1_load_99 (by decide) ?_
                        refine ob_iadd hx hb dX1_load_103 ?_
                        refine lv_istore (lv' := [(4, .int (iI ((sZ (tf D C Rd1 f) d) + (Rd1 d)))), (0, .ref (ad 0)), (2, .int (iI (((z.toNat / 4 ^ c : Nat) : Int)))), (3, .int (iI f)), (5, .int (iI d))]) hx hb dX1_load_104 hl (by decide) rfl (fun ls hl => ?_)
                        refine lv_iload hx hb dX1_load_106 (lv_at hl 0 rfl) ?_
                        refine lv_aload_n hx hb dX1_load_108 rfl (lv_at hl 1 rfl) ?_
                        refine va_get (D := (dC, dI)) (ci := 0) (v := .ref (ad 1)) (C := RX1) (T := TX1) (N := 11) hx hb hts in_X1 hown hK hP 0 rfl rfl 0 (by decide) (hts _ q33) (fun _ h9 => h9) rfl dX1_load_109 ?_
                        refine lv_iload hx hb dX1_load_112 (lv_at hl 4 rfl) ?_
                        refine ob_iald hx hb hK hP 1 0 rfl rfl (d) (by omega) (by omega) (by decide) dX1_load_114 ?_
                        refine lv_iload_n hx hb dX1_load_115 rfl (lv_at hl 3 rfl) ?_
                        refine ob_icmp_ne (tgt := 129) hx hb dX1_load_116 (by decide) (by omega) (by omega) (fun h116 => ?_) (fun h116 => ?_)
                        · refine ob_ic hx hb dX1_load_129 ?_
                          refine ob_isub hx hb dX1_load_130 ?_
                          refine ob_top (sZ (tf D C Rd1 f) (d + 1)) (by show _ = sZ (tf D C Rd1 f) d + ((if C d = f then Rd1 d else 0) - (if D d = f then Rd1 d else 0)); split <;> split <;> omega) ?_
                          refine lv_istore (lv' := [(4, .int (iI (sZ (tf D C Rd1 f) (d + 1)))), (0, .ref (ad 0)), (2, .int (iI (((z.toNat / 4 ^ c : Nat) : Int)))), (3, .int (iI f)), (5, .int (iI d))]) hx hb dX1_load_131 hl (by decide) rfl (fun ls hl => ?_)
                          refine ob_iinc (k := 4) hx hb (((d + 1 : Nat) : Int)) (lv' := [(5, .int (iI (((d + 1 : Nat) : Int)))), (4, .int (iI (sZ (tf D C Rd1 f) (d + 1)))), (0, .ref (ad 0)), (2, .int (iI (((z.toNat / 4 ^ c : Nat) : Int)))), (3, .int (iI f))]) dX1_load_133 hl rfl (by omega) (by decide) rfl (fun ls hl => ?_)
                          refine lv_goto (tgt := 70) hx hb dX1_load_136 (by decide) ?_
                          exact ih_70 (d + 1) (by omega) (by omega) _ _ hP hD hS ls (lv_sub hl [2, 3, 4, 1, 0] rfl)
                        · refine lv_aload_n hx hb dX1_load_119 rfl (lv_at hl 1 rfl) ?_
                          refine va_get (D := (dC, dI)) (ci := 0) (v := .ref (ad 8)) (C := RX1) (T := TX1) (N := 11) hx hb hts in_X1 hown hK hP 0 rfl rfl 8 (by decide) (hts _ q41) (fun _ h9 => h9) rfl dX1_load_120 ?_
                          refine lv_iload hx hb dX1_load_123 (lv_at hl 4 rfl) ?_
                          refine ob_iald hx hb hK hP 8 0 rfl rfl (d) (by omega) (by omega) (by decide) dX1_load_125 ?_
                          refine lv_goto (tgt := 130) hx hb dX1_load_126 (by decide) ?_
                          refine ob_isub hx hb dX1_load_130 ?_
                          refine ob_top (sZ (tf D C Rd1 f) (d + 1)) (by show _ = sZ (tf D C Rd1 f) d + ((if C d = f then Rd1 d else 0) - (if D d = f then Rd1 d else 0)); split <;> split <;> omega) ?_
                          refine lv_istore (lv' := [(4, .int (iI (sZ (tf D C Rd1 f) (d + 1)))), (0, .ref (ad 0)), (2, .int (iI (((z.toNat / 4 ^ c : Nat) : Int)))), (3, .int (iI f)), (5, .int (iI d))]) hx hb dX1_load_131 hl (by decide) rfl (fun ls hl => ?_)
                          refine ob_iinc (k := 4) hx hb (((d + 1 : Nat) : Int)) (lv' := [(5, .int (iI (((d + 1 : Nat) : Int)))), (4, .int (iI (sZ (tf D C Rd1 f) (d + 1)))), (0, .ref (ad 0)), (2, .int (iI (((z.toNat / 4 ^ c : Nat) : Int)))), (3, .int (iI f))]) dX1_load_133 hl rfl (by omega) (by decide) rfl (fun ls hl => ?_)
                          refine lv_goto (tgt := 70) hx hb dX1_load_136 (by decide) ?_
                          exact ih_70 (d + 1) (by omega) (by omega) _ _ hP hD hS ls (lv_sub hl [2, 3, 4, 1, 0] rfl)
                exact lp_70 (c + 1) 0 (by omega) (by omega) _ _ hP hD hS ls (lv_sub hl [2, 3, 4, 1, 0] rfl)
          exact lp_56 (n + 1) 0 (by omega) (by omega) (fun g h => absurd h (by omega)) _ _ hP hD hS ls (lv_sub hl [1, 2, 0] rfl)
        · have hle : ((c : Int) - 1 - ((i : Nat) : Int)) = (((c - 1 - i : Nat) : Int) : Int) := by omega
          rw [hle] at hl
          clear hle
          have hl : lv_has ls 6 [(0, .ref (ad 0)), (2, .int (iI (((z.toNat / 4 ^ i : Nat) : Int)))), (3, .int (iI (((c - 1 - i : Nat) : Int))))] := hl
          have hdg := dg_at (k := z.toNat) (show i < c by omega)
          have zb : z.toNat / 4 ^ i ≤ z.toNat := Nat.div_le_self _ _
          have rb := hW.rm (c - 1 - i) (by omega)
          refine lv_aload_n hx hb dX1_load_19 rfl (lv_at hl 0 rfl) ?_
          refine va_get (D := (dC, dI)) (ci := 0) (v := .ref (ad 8)) (C := RX1) (T := TX1) (N := 11) hx hb hts in_X1 hown hK hP 0 rfl rfl 8 (by decide) (hts _ q41) (fun _ h9 => h9) rfl dX1_load_20 ?_
          refine lv_iload_n hx hb dX1_load_23 rfl (lv_at hl 2 rfl) ?_
          refine lv_iload_n hx hb dX1_load_24 rfl (lv_at hl 1 rfl) ?_
          refine ob_ic hx hb dX1_load_25 ?_
          refine ob_iand3 hx hb dX1_load_26 (z.toNat / 4 ^ i) (by omega) (by omega) ?_
          refine ob_iast hx hb hK hP hD hS 8 0 rfl rfl (c - 1 - i) (by omega) (by omega) (by decide) dX1_load_27 (fun H locs hP hD hS => ?_)
          have hP : va_P (dC, dI) vwCl (wN ad cI cZ n c D C A O S Ln Ar (va_up Rd1 (c - 1 - i) ((((z.toNat / 4 ^ i) % 4 : Nat) : Int)))) H := hP
          have hD : va_D AA (wN ad cI cZ n c D C A O S Ln Ar (va_up Rd1 (c - 1 - i) ((((z.toNat / 4 ^ i) % 4 : Nat) : Int)))) := hD
          refine lv_iload_n hx hb dX1_load_28 rfl (lv_at hl 1 rfl) ?_
          refine ob_ic hx hb dX1_load_29 ?_
          refine ob_ishr2 hx hb dX1_load_30 (z.toNat / 4 ^ i) (by omega) (by omega) ?_
          refine ob_top (((z.toNat / 4 ^ (i + 1) : Nat) : Int)) (by rw [Nat.pow_succ, ← Nat.div_div_eq_div_mul]) ?_
          refine lv_istore_n (lv' := [(2, .int (iI (((z.toNat / 4 ^ (i + 1) : Nat) : Int)))), (0, .ref (ad 0)), (3, .int (iI (((c - 1 - i : Nat) : Int))))]) hx hb dX1_load_31 rfl hl (by decide) rfl (fun ls hl => ?_)
          refine lv_aload_n hx hb dX1_load_32 rfl (lv_at hl 1 rfl) ?_
          refine va_get (D := (dC, dI)) (ci := 0) (v := .ref (ad 8)) (C := RX1) (T := TX1) (N := 11) hx hb hts in_X1 hown hK hP 0 rfl rfl 8 (by decide) (hts _ q41) (fun _ h9 => h9) rfl dX1_load_33 ?_
          refine lv_iload_n hx hb dX1_load_36 rfl (lv_at hl 2 rfl) ?_
          refine ob_iald hx hb hK hP 8 0 rfl rfl (c - 1 - i) (by omega) (by omega) (by decide) dX1_load_37 ?_
          refine ob_top (((z.toNat / 4 ^ i % 4 : Nat) : Int)) (up_eq _ _ _) ?_
          refine lv_aload_n hx hb dX1_load_38 rfl (lv_at hl 1 rfl) ?_
          refine lv_iload_n hx hb dX1_load_39 rfl (lv_at hl 2 rfl) ?_
          refine ob_callR (As := [.int (iI (((c - 1 - i : Nat) : Int)))]) (rest := [.int (iI (((z.toNat / 4 ^ i % 4 : Nat) : Int)))]) (metN_room l dC dI ad cI cZ n c D C A O S Ln Ar (va_up Rd1 (c - 1 - i) ((((z.toNat / 4 ^ i) % 4 : Nat) : Int))) (c - 1 - i) (by omega) (hW.DC5 _ (by omega)) hW.2.2.2.2) ⟨hx, hb, hml, hown, hts⟩ (cwV 1 hts (lw_V q113 q115 qs6 q23 q116) rfl rfl rfl (by decide +kernel) ⟨Nat.le_of_ble_eq_true rfl, Nat.le_of_ble_eq_true rfl⟩) hK hP [0, 1, 2, 3, 4, 5, 6, 7, 8] [0, 1] rfl rfl (ci := 0) rfl rfl rfl rfl hl.1 rfl (Nat.le_of_ble_eq_true rfl) dX1_load_40 ⟨Nat.zero_le _, Nat.zero_le _⟩ (fun r40 e40 => ?_)
          subst e40
          refine ob_icmp_le (tgt := 48) hx hb dX1_load_43 (by decide) (by omega) (by omega) (fun h43 => ?_) (fun h43 => ?_)
          · have hRd2 : ∀ d, c ≤ d + (i + 1) → d < c → va_up Rd1 (c - 1 - i) ((z.toNat / 4 ^ i % 4 : Nat) : Int) d = dgZ c z.toNat d ∧ dgZ c z.toNat d ≤ rm D C A O d := fun d q1 q2 => by
              by_cases q : d = c - 1 - i
              · subst q
                rw [up_eq, hdg]
                exact ⟨rfl, h43⟩
              · rw [up_ne _ _ q]
                exact hRd d (by omega) q2
            refine ob_iinc (k := 2) hx hb ((c : Int) - 1 - ((i + 1 : Nat) : Int)) (lv' := [(3, .int (iI ((c : Int) - 1 - ((i + 1 : Nat) : Int)))), (2, .int (iI (((z.toNat / 4 ^ (i + 1) : Nat) : Int)))), (0, .ref (ad 0))]) dX1_load_48 hl rfl (by omega) (by decide) rfl (fun ls hl => ?_)
            refine lv_goto (tgt := 15) hx hb dX1_load_51 (by decide) ?_
            exact ih_15 (i + 1) (va_up Rd1 (c - 1 - i) ((z.toNat / 4 ^ i % 4 : Nat) : Int)) (by omega) (by omega) hRd2 _ _ hP hD hS ls (lv_sub hl [2, 1, 0] rfl)
          · have hno : ¬ CC n c D C (rm D C A O) z := fun h => by
              have q := (h.2.2.1 (c - 1 - i) (by omega)).2
              omega
            refine ob_ic hx hb dX1_load_46 ?_
            exact W.zret (v := iI 0) hx hb hr (by decide) (fun t ht hWm => ⟨⟨_, (c, D, C, A, O, S, Ln, Ar, va_up Rd1 (c - 1 - i) ((((z.toNat / 4 ^ i) % 4 : Nat) : Int))), rfl, (by exact ⟨_, rfl, Or.inr ⟨hno, rfl⟩⟩), by rw [ht]; exact hP, va_K.moved hWm.alike hK, hD⟩, hS.F ht⟩) hS.2.2 dX1_load_47
    exact lp_15 (c + 1) 0 Rd (by omega) (by omega) (fun d h1 h2 => absurd h2 (by omega)) _ _ hP hD hS ls (lv_sub hl [2, 1, 0] rfl)
  · refine ob_ic hx hb dX1_load_4 ?_
    exact W.zret (v := iI 0) hx hb hr (by decide) (fun t ht hWm => ⟨⟨_, (c, D, C, A, O, S, Ln, Ar, Rd), rfl, (by exact ⟨Rd, rfl, Or.inr ⟨fun h => by have q := h.1; omega, rfl⟩⟩), by rw [ht]; exact hP, va_K.moved hWm.alike hK, hD⟩, hS.F ht⟩) hS.2.2 dX1_load_5
end
section
/-! ObligationNetting: the public methods -/
set_option maxHeartbeats 4000000 in
set_option maxRecDepth 100000 in
theorem metN_owe (l : Launch) (dC : Nat → ClassId) (dI : Nat → Nat → Nat) (ad : Nat → Nat) (cI cZ : ClassId) (n c : Nat) (D C : Nat → Nat) (A O S Ln Ar Rd : Nat → Int) (sz : Nat) (z1 : Int) (hz1 : -2147483648 ≤ z1 ∧ z1 < 2147483648) (z2 : Int) (hz2 : -2147483648 ≤ z2 ∧ z2 < 2147483648) (z3 : Int) (hz3 : -2147483648 ≤ z3 ∧ z3 < 2147483648) (hW : WF n c D C A O) : Met l yX1_owe (ws_ yX1_owe cX1_owe 4 (some .int)) ({ frames := 1, cells := 0, slots := 0, locals := 21 }) (obW (dC, dI) vwCl (wN ad cI cZ n c D C A O S Ln Ar Rd) [(cI, .int), (cZ, .boolean)] sz [.ref (ad 0), .int (iI z1), .int (iI z2), .int (iI z3)]) (va_Qi (fun r u => r = iI (oweR n c z1 z2 z3) ∧ ((oweK n c z1 z2 z3 ∧ u = (c + 1, va_up D c z1.toNat, va_up C c z2.toNat, va_up A c z3, O, S, Ln, Ar, Rd)) ∨ (¬ oweK n c z1 z2 z3 ∧ u = (c, D, C, A, O, S, Ln, Ar, Rd)))) (obB (dC, dI) vwCl [(cI, .int), (cZ, .boolean)] (va_A (wN ad cI cZ n c D C A O S Ln Ar Rd) sz) (BN ad cI cZ n)) (va_A (wN ad cI cZ n c D C A O S Ln Ar Rd) sz)) 0 0 (va_A (wN ad cI cZ n c D C A O S Ln Ar Rd) sz) := by
  refine Met.ofW (cc := cX1_owe) (maxL := 4) (ret := (some .int)) (by decide) rfl ?_
  intro p e s m args below meth cd s₁ B hml hv
  obtain ⟨rfl, hsz, hP, hK, hD0⟩ := hv
  have hx := B.exec
  have hb := B.bytes
  have hr := B.returns
  have hts := atoms_spec (ws := (ws_ yX1_owe cX1_owe 4 (some .int))) B.pre
  have hts : ∀ w ∈ lw_all, w.before _ s = true := fun w h => hts w (List.mem_cons_of_mem _ h)
  have hown : s.vm.findClass RX1 = some m.cls := findClass_of_methodNamed B.named
  have hlocks := B.notSynchronized
  subst hsz
  have hD := hD0.self (sz := s.heap.size)
  generalize hAe : va_A (wN ad cI cZ n c D C A O S Ln Ar Rd) s.heap.size = AA at hD ⊢
  have hA : ∀ q : Nat, s.heap.size ≤ q → AA q := fun q h => by rw [← hAe]; exact Or.inr h
  have hS : va_S AA s.heap s.heap [] := va_S.rf
  have hl := lv_entry ([.ref (ad 0), .int (iI z1), .int (iI z2), .int (iI z3)]) (n := 4) (Nat.le_of_ble_eq_true rfl)
  rw [lg_entry_eq]
  generalize (lg_sl ([.ref (ad 0), .int (iI z1), .int (iI z2), .int (iI z3)]) ++ List.replicate (4 - (lg_sl ([.ref (ad 0), .int (iI z1), .int (iI z2), .int (iI z3)])).length) Slot.unset).toArray = ls at hl ⊢
  have hl : lv_has ls 4 [(0, .ref (ad 0)), (1, .int (iI z1)), (2, .int (iI z2)), (3, .int (iI z3))] := hl
  have hc := hW.2.2.1
  have hn := hW.2.1
  refine lv_aload_n hx hb dX1_owe_0 rfl (lv_at hl 0 rfl) ?_
  refine lv_iload_n hx hb dX1_owe_1 rfl (lv_at hl 1 rfl) ?_
  refine ob_callR (As := [.int (iI z1)]) (rest := []) (metN_isFirm l dC dI ad cI cZ n c D C A O S Ln Ar Rd z1 hz1 hn) ⟨hx, hb, hml, hown, hts⟩ (cwV 1 hts (lw_V q73 q75 qs0 q23 q76) rfl rfl rfl (by decide +kernel) ⟨Nat.le_of_ble_eq_true rfl, Nat.le_of_ble_eq_true rfl⟩) hK hP [0, 1, 2, 3, 4, 5, 6, 7, 8] [0, 1] rfl rfl (ci := 0) rfl rfl rfl rfl hl.1 rfl (Nat.le_of_ble_eq_true rfl) dX1_owe_2 ⟨Nat.zero_le _, Nat.zero_le _⟩ (fun r2 e2 => ?_)
  subst e2
  refine ob_if_eq (tgt := 16) hx hb dX1_owe_5 (by decide) (tb_bnd _) (fun h5 => ?_) (fun h5 => ?_)
  · have g5 := tb_f h5
    refine ob_ic hx hb dX1_owe_16 ?_
    exact W.iret (v := iI ((-1))) hx hb hr (fun t ht hWm => ⟨⟨_, (c, D, C, A, O, S, Ln, Ar, Rd), rfl, (by exact ⟨by unfold oweR; (repeat' split) <;> first | (exfalso; omega) | rfl, Or.inr ⟨fun h => by unfold oweK at h; omega, rfl⟩⟩), by rw [ht]; exact hP, va_K.moved hWm.alike hK, hD⟩, hS.F ht⟩) hS.2.2 dX1_owe_17
  · have g5 := tb_t h5
    refine lv_aload_n hx hb dX1_owe_8 rfl (lv_at hl 0 rfl) ?_
    refine lv_iload_n hx hb dX1_owe_9 rfl (lv_at hl 2 rfl) ?_
    refine ob_callR (As := [.int (iI z2)]) (rest := []) (metN_isFirm l dC dI ad cI cZ n c D C A O S Ln Ar Rd z2 hz2 hn) ⟨hx, hb, hml, hown, hts⟩ (cwV 1 hts (lw_V q73 q75 qs0 q23 q76) rfl rfl rfl (by decide +kernel) ⟨Nat.le_of_ble_eq_true rfl, Nat.le_of_ble_eq_true rfl⟩) hK hP [0, 1, 2, 3, 4, 5, 6, 7, 8] [0, 1] rfl rfl (ci := 0) rfl rfl rfl rfl hl.1 rfl (Nat.le_of_ble_eq_true rfl) dX1_owe_10 ⟨Nat.zero_le _, Nat.zero_le _⟩ (fun r10 e10 => ?_)
    subst e10
    refine ob_if_ne (tgt := 18) hx hb dX1_owe_13 (by decide) (tb_bnd _) (fun h13 => ?_) (fun h13 => ?_)
    · have g13 := tb_t h13
      refine lv_iload_n hx hb dX1_owe_18 rfl (lv_at hl 1 rfl) ?_
      refine lv_iload_n hx hb dX1_owe_19 rfl (lv_at hl 2 rfl) ?_
      refine ob_icmp_ne (tgt := 26) hx hb dX1_owe_20 (by decide) (by omega) (by omega) (fun h20 => ?_) (fun h20 => ?_)
      · refine lv_iload_n hx hb dX1_owe_26 rfl (lv_at hl 3 rfl) ?_
        refine ob_if_lt (tgt := 35) hx hb dX1_owe_27 (by decide) (by omega) (fun h27 => ?_) (fun h27 => ?_)
        · refine ob_bi hx hb dX1_owe_35 (by decide) ?_
          exact W.iret (v := iI ((-3))) hx hb hr (fun t ht hWm => ⟨⟨_, (c, D, C, A, O, S, Ln, Ar, Rd), rfl, (by exact ⟨by unfold oweR; (repeat' split) <;> first | (exfalso; omega) | rfl, Or.inr ⟨fun h => by unfold oweK at h; omega, rfl⟩⟩), by rw [ht]; exact hP, va_K.moved hWm.alike hK, hD⟩, hS.F ht⟩) hS.2.2 dX1_owe_37
        · refine lv_iload_n hx hb dX1_owe_30 rfl (lv_at hl 3 rfl) ?_
          refine ob_ic hx hb dX1_owe_31 ?_
          refine ob_icmp_le (tgt := 38) hx hb dX1_owe_32 (by decide) (by omega) (by omega) (fun h32 => ?_) (fun h32 => ?_)
          · refine lv_aload_n hx hb dX1_owe_38 rfl (lv_at hl 0 rfl) ?_
            refine va_get (D := (dC, dI)) (ci := 0) (v := .int (iI c)) (C := RX1) (T := TX1) (N := 11) hx hb hts in_X1 hown hK hP 0 rfl rfl 10 (by decide) (hts _ q43) (fun _ h9 => h9) rfl dX1_owe_39 ?_
            refine ob_bi hx hb dX1_owe_42 (by decide) ?_
            refine ob_icmp_ne (tgt := 50) hx hb dX1_owe_44 (by decide) (by omega) (by omega) (fun h44 => ?_) (fun h44 => ?_)
            · refine lv_aload_n hx hb dX1_owe_50 rfl (lv_at hl 0 rfl) ?_
              refine va_get (D := (dC, dI)) (ci := 0) (v := .ref (ad 1)) (C := RX1) (T := TX1) (N := 11) hx hb hts in_X1 hown hK hP 0 rfl rfl 0 (by decide) (hts _ q33) (fun _ h9 => h9) rfl dX1_owe_51 ?_
              refine lv_aload_n hx hb dX1_owe_54 rfl (lv_at hl 0 rfl) ?_
              refine va_get (D := (dC, dI)) (ci := 0) (v := .int (iI c)) (C := RX1) (T := TX1) (N := 11) hx hb hts in_X1 hown hK hP 0 rfl rfl 10 (by decide) (hts _ q43) (fun _ h9 => h9) rfl dX1_owe_55 ?_
              refine lv_iload_n hx hb dX1_owe_58 rfl (lv_at hl 1 rfl) ?_
              refine ob_iastN hx hb hK hP hD hS 1 0 rfl rfl (c) (by omega) (by omega) (by decide) (z1.toNat) (by omega) dX1_owe_59 (fun H locs hP hD hS => ?_)
              have hP : va_P (dC, dI) vwCl (wN ad cI cZ n c (va_up D c z1.toNat) C A O S Ln Ar Rd) H := hP
              have hD : va_D AA (wN ad cI cZ n c (va_up D c z1.toNat) C A O S Ln Ar Rd) := hD
              refine lv_aload_n hx hb dX1_owe_60 rfl (lv_at hl 0 rfl) ?_
              refine va_get (D := (dC, dI)) (ci := 0) (v := .ref (ad 2)) (C := RX1) (T := TX1) (N := 11) hx hb hts in_X1 hown hK hP 0 rfl rfl 1 (by decide) (hts _ q34) (fun _ h9 => h9) rfl dX1_owe_61 ?_
              refine lv_aload_n hx hb dX1_owe_64 rfl (lv_at hl 0 rfl) ?_
              refine va_get (D := (dC, dI)) (ci := 0) (v := .int (iI c)) (C := RX1) (T := TX1) (N := 11) hx hb hts in_X1 hown hK hP 0 rfl rfl 10 (by decide) (hts _ q43) (fun _ h9 => h9) rfl dX1_owe_65 ?_
              refine lv_iload_n hx hb dX1_owe_68 rfl (lv_at hl 2 rfl) ?_
              refine ob_iastN hx hb hK hP hD hS 2 0 rfl rfl (c) (by omega) (by omega) (by decide) (z2.toNat) (by omega) dX1_owe_69 (fun H locs hP hD hS => ?_)
              have hP : va_P (dC, dI) vwCl (wN ad cI cZ n c (va_up D c z1.toNat) (va_up C c z2.toNat) A O S Ln Ar Rd) H := hP
              have hD : va_D AA (wN ad cI cZ n c (va_up D c z1.toNat) (va_up C c z2.toNat) A O S Ln Ar Rd) := hD
              refine lv_aload_n hx hb dX1_owe_70 rfl (lv_at hl 0 rfl) ?_
              refine va_get (D := (dC, dI)) (ci := 0) (v := .ref (ad 3)) (C := RX1) (T := TX1) (N := 11) hx hb hts in_X1 hown hK hP 0 rfl rfl 2 (by decide) (hts _ q35) (fun _ h9 => h9) rfl dX1_owe_71 ?_
              refine lv_aload_n hx hb dX1_owe_74 rfl (lv_at hl 0 rfl) ?_
              refine va_get (D := (dC, dI)) (ci := 0) (v := .int (iI c)) (C := RX1) (T := TX1) (N := 11) hx hb hts in_X1 hown hK hP 0 rfl rfl 10 (by decide) (hts _ q43) (fun _ h9 => h9) rfl dX1_owe_75 ?_
              refine lv_iload_n hx hb dX1_owe_78 rfl (lv_at hl 3 rfl) ?_
              refine ob_iast hx hb hK hP hD hS 3 0 rfl rfl (c) (by omega) (by omega) (by decide) dX1_owe_79 (fun H locs hP hD hS => ?_)
              have hP : va_P (dC, dI) vwCl (wN ad cI cZ n c (va_up D c z1.toNat) (va_up C c z2.toNat) (va_up A c z3) O S Ln Ar Rd) H := hP
              have hD : va_D AA (wN ad cI cZ n c (va_up D c z1.toNat) (va_up C c z2.toNat) (va_up A c z3) O S Ln Ar Rd) := hD
              refine lv_aload_n hx hb dX1_owe_80 rfl (lv_at hl 0 rfl) ?_
              refine lv_dup hx hb dX1_owe_81 rfl ?_
              refine va_get (D := (dC, dI)) (ci := 0) (v := .int (iI c)) (C := RX1) (T := TX1) (N := 11) hx hb hts in_X1 hown hK hP 0 rfl rfl 10 (by decide) (hts _ q43) (fun _ h9 => h9) rfl dX1_owe_82 ?_
              refine ob_ic hx hb dX1_owe_85 ?_
              refine ob_iadd hx hb dX1_owe_86 ?_
              refine ob_top (((c + 1 : Nat) : Int)) (by omega) ?_
              refine va_put (D := (dC, dI)) (ci := 0) (v := .int (iI (((c + 1 : Nat) : Int)))) (ty := .int) (C := RX1) (T := TX1) (N := 11) hx hb hts in_X1 tyX1 tyX1_ok nmX1 hown hK hP hD hS 0 rfl rfl 10 (by decide) (hts _ q43) (fun _ h9 => h9) rfl (by decide +kernel) rfl rfl (Nat.le_of_ble_eq_true rfl) dX1_owe_87 (fun H locs hP hD hS => ?_)
              have hP : va_P (dC, dI) vwCl (wN ad cI cZ n (c + 1) (va_up D c z1.toNat) (va_up C c z2.toNat) (va_up A c z3) O S Ln Ar Rd) H := hP
              have hD : va_D AA (wN ad cI cZ n (c + 1) (va_up D c z1.toNat) (va_up C c z2.toNat) (va_up A c z3) O S Ln Ar Rd) := hD
              refine lv_aload_n hx hb dX1_owe_90 rfl (lv_at hl 0 rfl) ?_
              refine va_get (D := (dC, dI)) (ci := 0) (v := .int (iI (((c + 1 : Nat) : Int)))) (C := RX1) (T := TX1) (N := 11) hx hb hts in_X1 hown hK hP 0 rfl rfl 10 (by decide) (hts _ q43) (fun _ h9 => h9) rfl dX1_owe_91 ?_
              refine ob_ic hx hb dX1_owe_94 ?_
              refine ob_isub hx hb dX1_owe_95 ?_
              refine ob_top ((c : Int)) (by omega) ?_
              exact W.iret (v := iI ((c : Int))) hx hb hr (fun t ht hWm => ⟨⟨_, (c + 1, va_up D c z1.toNat, va_up C c z2.toNat, va_up A c z3, O, S, Ln, Ar, Rd), rfl, (by exact ⟨by unfold oweR; (repeat' split) <;> first | (exfalso; omega) | rfl, Or.inl ⟨by unfold oweK; omega, rfl⟩⟩), by rw [ht]; exact hP, va_K.moved hWm.alike hK, hD⟩, hS.F ht⟩) hS.2.2 dX1_owe_96
            · refine ob_bi hx hb dX1_owe_47 (by decide) ?_
              exact W.iret (v := iI ((-4))) hx hb hr (fun t ht hWm => ⟨⟨_, (c, D, C, A, O, S, Ln, Ar, Rd), rfl, (by exact ⟨by unfold oweR; (repeat' split) <;> first | (exfalso; omega) | rfl, Or.inr ⟨fun h => by unfold oweK at h; omega, rfl⟩⟩), by rw [ht]; exact hP, va_K.moved hWm.alike hK, hD⟩, hS.F ht⟩) hS.2.2 dX1_owe_49
          · refine ob_bi hx hb dX1_owe_35 (by decide) ?_
            exact W.iret (v := iI ((-3))) hx hb hr (fun t ht hWm => ⟨⟨_, (c, D, C, A, O, S, Ln, Ar, Rd), rfl, (by exact ⟨by unfold oweR; (repeat' split) <;> first | (exfalso; omega) | rfl, Or.inr ⟨fun h => by unfold oweK at h; omega, rfl⟩⟩), by rw [ht]; exact hP, va_K.moved hWm.alike hK, hD⟩, hS.F ht⟩) hS.2.2 dX1_owe_37
      · refine ob_bi hx hb dX1_owe_23 (by decide) ?_
        exact W.iret (v := iI ((-2))) hx hb hr (fun t ht hWm => ⟨⟨_, (c, D, C, A, O, S, Ln, Ar, Rd), rfl, (by exact ⟨by unfold oweR; (repeat' split) <;> first | (exfalso; omega) | rfl, Or.inr ⟨fun h => by unfold oweK at h; omega, rfl⟩⟩), by rw [ht]; exact hP, va_K.moved hWm.alike hK, hD⟩, hS.F ht⟩) hS.2.2 dX1_owe_25
    · have g13 := tb_f h13
      refine ob_ic hx hb dX1_owe_16 ?_
      exact W.iret (v := iI ((-1))) hx hb hr (fun t ht hWm => ⟨⟨_, (c, D, C, A, O, S, Ln, Ar, Rd), rfl, (by exact ⟨by unfold oweR; (repeat' split) <;> first | (exfalso; omega) | rfl, Or.inr ⟨fun h => by unfold oweK at h; omega, rfl⟩⟩), by rw [ht]; exact hP, va_K.moved hWm.alike hK, hD⟩, hS.F ht⟩) hS.2.2 dX1_owe_17
set_option maxHeartbeats 4000000 in
set_option maxRecDepth 100000 in
theorem metN_change (l : Launch) (dC : Nat → ClassId) (dI : Nat → Nat → Nat) (ad : Nat → Nat) (cI cZ : ClassId) (n c : Nat) (D C : Nat → Nat) (A O S Ln Ar Rd : Nat → Int) (sz : Nat) (z1 : Int) (hz1 : -2147483648 ≤ z1 ∧ z1 < 2147483648) (z2 : Int) (hz2 : -2147483648 ≤ z2 ∧ z2 < 2147483648) (hW : WF n c D C A O) : Met l yX1_change (ws_ yX1_change cX1_change 4 (some .int)) ({ frames := 1, cells := 0, slots := 0, locals := 21 }) (obW (dC, dI) vwCl (wN ad cI cZ n c D C A O S Ln Ar Rd) [(cI, .int), (cZ, .boolean)] sz [.ref (ad 0), .int (iI z1), .int (iI z2)]) (va_Qi (fun r u => r = iI (chaR c A z1 z2) ∧ ((chaK c z1 z2 ∧ u = (c, D, C, va_up A z1.toNat z2, O, S, Ln, Ar, Rd)) ∨ (¬ chaK c z1 z2 ∧ u = (c, D, C, A, O, S, Ln, Ar, Rd)))) (obB (dC, dI) vwCl [(cI, .int), (cZ, .boolean)] (va_A (wN ad cI cZ n c D C A O S Ln Ar Rd) sz) (BN ad cI cZ n)) (va_A (wN ad cI cZ n c D C A O S Ln Ar Rd) sz)) 0 0 (va_A (wN ad cI cZ n c D C A O S Ln Ar Rd) sz) := by
  refine Met.ofW (cc := cX1_change) (maxL := 4) (ret := (some .int)) (by decide) rfl ?_
  intro p e s m args below meth cd s₁ B hml hv
  obtain ⟨rfl, hsz, hP, hK, hD0⟩ := hv
  have hx := B.exec
  have hb := B.bytes
  have hr := B.returns
  have hts := atoms_spec (ws := (ws_ yX1_change cX1_change 4 (some .int))) B.pre
  have hts : ∀ w ∈ lw_all, w.before _ s = true := fun w h => hts w (List.mem_cons_of_mem _ h)
  have hown : s.vm.findClass RX1 = some m.cls := findClass_of_methodNamed B.named
  have hlocks := B.notSynchronized
  subst hsz
  have hD := hD0.self (sz := s.heap.size)
  generalize hAe : va_A (wN ad cI cZ n c D C A O S Ln Ar Rd) s.heap.size = AA at hD ⊢
  have hA : ∀ q : Nat, s.heap.size ≤ q → AA q := fun q h => by rw [← hAe]; exact Or.inr h
  have hS : va_S AA s.heap s.heap [] := va_S.rf
  have hl := lv_entry ([.ref (ad 0), .int (iI z1), .int (iI z2)]) (n := 4) (Nat.le_of_ble_eq_true rfl)
  rw [lg_entry_eq]
  generalize (lg_sl ([.ref (ad 0), .int (iI z1), .int (iI z2)]) ++ List.replicate (4 - (lg_sl ([.ref (ad 0), .int (iI z1), .int (iI z2)])).length) Slot.unset).toArray = ls at hl ⊢
  have hl : lv_has ls 4 [(0, .ref (ad 0)), (1, .int (iI z1)), (2, .int (iI z2))] := hl
  have hc := hW.2.2.1
  have hn := hW.2.1
  refine lv_aload_n hx hb dX1_change_0 rfl (lv_at hl 0 rfl) ?_
  refine lv_iload_n hx hb dX1_change_1 rfl (lv_at hl 1 rfl) ?_
  refine ob_callR (As := [.int (iI z1)]) (rest := []) (metN_isDebt l dC dI ad cI cZ n c D C A O S Ln Ar Rd z1 hz1 hc) ⟨hx, hb, hml, hown, hts⟩ (cwV 1 hts (lw_V q81 q83 qs1 q23 q84) rfl rfl rfl (by decide +kernel) ⟨Nat.le_of_ble_eq_true rfl, Nat.le_of_ble_eq_true rfl⟩) hK hP [0, 1, 2, 3, 4, 5, 6, 7, 8] [0, 1] rfl rfl (ci := 0) rfl rfl rfl rfl hl.1 rfl (Nat.le_of_ble_eq_true rfl) dX1_change_2 ⟨Nat.zero_le _, Nat.zero_le _⟩ (fun r2 e2 => ?_)
  subst e2
  refine ob_if_ne (tgt := 10) hx hb dX1_change_5 (by decide) (tb_bnd _) (fun h5 => ?_) (fun h5 => ?_)
  · have g5 := tb_t h5
    refine lv_iload_n hx hb dX1_change_10 rfl (lv_at hl 2 rfl) ?_
    refine ob_if_lt (tgt := 19) hx hb dX1_change_11 (by decide) (by omega) (fun h11 => ?_) (fun h11 => ?_)
    · refine ob_bi hx hb dX1_change_19 (by decide) ?_
      exact W.iret (v := iI ((-2))) hx hb hr (fun t ht hWm => ⟨⟨_, (c, D, C, A, O, S, Ln, Ar, Rd), rfl, (by exact ⟨by unfold chaR; (repeat' split) <;> first | (exfalso; omega) | rfl, Or.inr ⟨fun h => by unfold chaK at h; omega, rfl⟩⟩), by rw [ht]; exact hP, va_K.moved hWm.alike hK, hD⟩, hS.F ht⟩) hS.2.2 dX1_change_21
    · refine lv_iload_n hx hb dX1_change_14 rfl (lv_at hl 2 rfl) ?_
      refine ob_ic hx hb dX1_change_15 ?_
      refine ob_icmp_le (tgt := 22) hx hb dX1_change_16 (by decide) (by omega) (by omega) (fun h16 => ?_) (fun h16 => ?_)
      · refine lv_aload_n hx hb dX1_change_22 rfl (lv_at hl 0 rfl) ?_
        refine va_get (D := (dC, dI)) (ci := 0) (v := .ref (ad 3)) (C := RX1) (T := TX1) (N := 11) hx hb hts in_X1 hown hK hP 0 rfl rfl 2 (by decide) (hts _ q35) (fun _ h9 => h9) rfl dX1_change_23 ?_
        refine lv_iload_n hx hb dX1_change_26 rfl (lv_at hl 1 rfl) ?_
        refine ob_iald hx hb hK hP 3 0 rfl rfl (z1.toNat) (by omega) (by omega) (by decide) dX1_change_27 ?_
        refine lv_istore_n (lv' := [(3, .int (iI (A z1.toNat))), (0, .ref (ad 0)), (1, .int (iI z1)), (2, .int (iI z2))]) hx hb dX1_change_28 rfl hl (by decide) rfl (fun ls hl => ?_)
        refine lv_aload_n hx hb dX1_change_29 rfl (lv_at hl 1 rfl) ?_
        refine va_get (D := (dC, dI)) (ci := 0) (v := .ref (ad 3)) (C := RX1) (T := TX1) (N := 11) hx hb hts in_X1 hown hK hP 0 rfl rfl 2 (by decide) (hts _ q35) (fun _ h9 => h9) rfl dX1_change_30 ?_
        refine lv_iload_n hx hb dX1_change_33 rfl (lv_at hl 2 rfl) ?_
        refine lv_iload_n hx hb dX1_change_34 rfl (lv_at hl 3 rfl) ?_
        refine ob_iast hx hb hK hP hD hS 3 0 rfl rfl (z1.toNat) (by omega) (by omega) (by decide) dX1_change_35 (fun H locs hP hD hS => ?_)
        have hP : va_P (dC, dI) vwCl (wN ad cI cZ n c D C (va_up A z1.toNat z2) O S Ln Ar Rd) H := hP
        have hD : va_D AA (wN ad cI cZ n c D C (va_up A z1.toNat z2) O S Ln Ar Rd) := hD
        refine lv_iload_n hx hb dX1_change_36 rfl (lv_at hl 0 rfl) ?_
        exact W.iret (v := iI (A z1.toNat)) hx hb hr (fun t ht hWm => ⟨⟨_, (c, D, C, va_up A z1.toNat z2, O, S, Ln, Ar, Rd), rfl, (by exact ⟨by unfold chaR; (repeat' split) <;> first | (exfalso; omega) | rfl, Or.inl ⟨by unfold chaK; omega, rfl⟩⟩), by rw [ht]; exact hP, va_K.moved hWm.alike hK, hD⟩, hS.F ht⟩) hS.2.2 dX1_change_37
      · refine ob_bi hx hb dX1_change_19 (by decide) ?_
        exact W.iret (v := iI ((-2))) hx hb hr (fun t ht hWm => ⟨⟨_, (c, D, C, A, O, S, Ln, Ar, Rd), rfl, (by exact ⟨by unfold chaR; (repeat' split) <;> first | (exfalso; omega) | rfl, Or.inr ⟨fun h => by unfold chaK at h; omega, rfl⟩⟩), by rw [ht]; exact hP, va_K.moved hWm.alike hK, hD⟩, hS.F ht⟩) hS.2.2 dX1_change_21
  · have g5 := tb_f h5
    refine ob_ic hx hb dX1_change_8 ?_
    exact W.iret (v := iI ((-1))) hx hb hr (fun t ht hWm => ⟨⟨_, (c, D, C, A, O, S, Ln, Ar, Rd), rfl, (by exact ⟨by unfold chaR; (repeat' split) <;> first | (exfalso; omega) | rfl, Or.inr ⟨fun h => by unfold chaK at h; omega, rfl⟩⟩), by rw [ht]; exact hP, va_K.moved hWm.alike hK, hD⟩, hS.F ht⟩) hS.2.2 dX1_change_9
set_option maxHeartbeats 4000000 in
set_option maxRecDepth 100000 in
theorem metN_pay (l : Launch) (dC : Nat → ClassId) (dI : Nat → Nat → Nat) (ad : Nat → Nat) (cI cZ : ClassId) (n c : Nat) (D C : Nat → Nat) (A O S Ln Ar Rd : Nat → Int) (sz : Nat) (z : Int) (hz : -2147483648 ≤ z ∧ z < 2147483648) (hW : WF n c D C A O) : Met l yX1_pay (ws_ yX1_pay cX1_pay 3 (some .int)) ({ frames := 1, cells := 0, slots := 0, locals := 21 }) (obW (dC, dI) vwCl (wN ad cI cZ n c D C A O S Ln Ar Rd) [(cI, .int), (cZ, .boolean)] sz [.ref (ad 0), .int (iI z)]) (va_Qi (fun r u => r = iI (if (0 ≤ z ∧ z < (c : Int)) then (c : Int) - 1 else -1) ∧ (((0 ≤ z ∧ z < (c : Int)) ∧ u = (c - 1, sh D z.toNat c, sh C z.toNat c, sh A z.toNat c, O, S, Ln, Ar, Rd)) ∨ (¬ (0 ≤ z ∧ z < (c : Int)) ∧ u = (c, D, C, A, O, S, Ln, Ar, Rd)))) (obB (dC, dI) vwCl [(cI, .int), (cZ, .boolean)] (va_A (wN ad cI cZ n c D C A O S Ln Ar Rd) sz) (BN ad cI cZ n)) (va_A (wN ad cI cZ n c D C A O S Ln Ar Rd) sz)) 0 0 (va_A (wN ad cI cZ n c D C A O S Ln Ar Rd) sz) := by
  refine Met.ofW (cc := cX1_pay) (maxL := 3) (ret := (some .int)) (by decide) rfl ?_
  intro p e s m args below meth cd s₁ B hml hv
  obtain ⟨rfl, hsz, hP, hK, hD0⟩ := hv
  have hx := B.exec
  have hb := B.bytes
  have hr := B.returns
  have hts := atoms_spec (ws := (ws_ yX1_pay cX1_pay 3 (some .int))) B.pre
  have hts : ∀ w ∈ lw_all, w.before _ s = true := fun w h => hts w (List.mem_cons_of_mem _ h)
  have hown : s.vm.findClass RX1 = some m.cls := findClass_of_methodNamed B.named
  have hlocks := B.notSynchronized
  subst hsz
  have hD := hD0.self (sz := s.heap.size)
  generalize hAe : va_A (wN ad cI cZ n c D C A O S Ln Ar Rd) s.heap.size = AA at hD ⊢
  have hA : ∀ q : Nat, s.heap.size ≤ q → AA q := fun q h => by rw [← hAe]; exact Or.inr h
  have hS : va_S AA s.heap s.heap [] := va_S.rf
  have hl := lv_entry ([.ref (ad 0), .int (iI z)]) (n := 3) (Nat.le_of_ble_eq_true rfl)
  rw [lg_entry_eq]
  generalize (lg_sl ([.ref (ad 0), .int (iI z)]) ++ List.replicate (3 - (lg_sl ([.ref (ad 0), .int (iI z)])).length) Slot.unset).toArray = ls at hl ⊢
  have hl : lv_has ls 3 [(0, .ref (ad 0)), (1, .int (iI z))] := hl
  have hc := hW.2.2.1
  have hn := hW.2.1
  refine lv_aload_n hx hb dX1_pay_0 rfl (lv_at hl 0 rfl) ?_
  refine lv_iload_n hx hb dX1_pay_1 rfl (lv_at hl 1 rfl) ?_
  refine ob_callR (As := [.int (iI z)]) (rest := []) (metN_isDebt l dC dI ad cI cZ n c D C A O S Ln Ar Rd z hz hc) ⟨hx, hb, hml, hown, hts⟩ (cwV 1 hts (lw_V q81 q83 qs1 q23 q84) rfl rfl rfl (by decide +kernel) ⟨Nat.le_of_ble_eq_true rfl, Nat.le_of_ble_eq_true rfl⟩) hK hP [0, 1, 2, 3, 4, 5, 6, 7, 8] [0, 1] rfl rfl (ci := 0) rfl rfl rfl rfl hl.1 rfl (Nat.le_of_ble_eq_true rfl) dX1_pay_2 ⟨Nat.zero_le _, Nat.zero_le _⟩ (fun r2 e2 => ?_)
  subst e2
  refine ob_if_ne (tgt := 10) hx hb dX1_pay_5 (by decide) (tb_bnd _) (fun h5 => ?_) (fun h5 => ?_)
  · have g5 := tb_t h5
    refine lv_iload_n hx hb dX1_pay_10 rfl (lv_at hl 1 rfl) ?_
    refine ob_ic hx hb dX1_pay_11 ?_
    refine ob_iadd hx hb dX1_pay_12 ?_
    refine ob_top (((z.toNat + 1 : Nat) : Int)) (by omega) ?_
    have hwe : D = sh D z.toNat (z.toNat + 1) := (sh_0 _ _).symm
    rw [hwe] at hP hD
    clear hwe
    have hP : va_P (dC, dI) vwCl (wN ad cI cZ n c (sh D z.toNat (z.toNat + 1)) C A O S Ln Ar Rd) s.heap := hP
    have hD : va_D AA (wN ad cI cZ n c (sh D z.toNat (z.toNat + 1)) C A O S Ln Ar Rd) := hD
    have hwe : C = sh C z.toNat (z.toNat + 1) := (sh_0 _ _).symm
    rw [hwe] at hP hD
    clear hwe
    have hP : va_P (dC, dI) vwCl (wN ad cI cZ n c (sh D z.toNat (z.toNat + 1)) (sh C z.toNat (z.toNat + 1)) A O S Ln Ar Rd) s.heap := hP
    have hD : va_D AA (wN ad cI cZ n c (sh D z.toNat (z.toNat + 1)) (sh C z.toNat (z.toNat + 1)) A O S Ln Ar Rd) := hD
    have hwe : A = sh A z.toNat (z.toNat + 1) := (sh_0 _ _).symm
    rw [hwe] at hP hD
    clear hwe
    have hP : va_P (dC, dI) vwCl (wN ad cI cZ n c (sh D z.toNat (z.toNat + 1)) (sh C z.toNat (z.toNat + 1)) (sh A z.toNat (z.toNat + 1)) O S Ln Ar Rd) s.heap := hP
    have hD : va_D AA (wN ad cI cZ n c (sh D z.toNat (z.toNat + 1)) (sh C z.toNat (z.toNat + 1)) (sh A z.toNat (z.toNat + 1)) O S Ln Ar Rd) := hD
    refine lv_istore_n (lv' := [(2, .int (iI (((z.toNat + 1 : Nat) : Int)))), (0, .ref (ad 0)), (1, .int (iI z))]) hx hb dX1_pay_13 rfl hl (by decide) rfl (fun ls hl => ?_)
    have lp_14 : ∀ (nn : Nat) (d : Nat), (c < d + nn) → (z.toNat + 1 ≤ d) → (d ≤ c) → ∀ (H : Heap) (locs : List Loc), va_P (dC, dI) vwCl (wN ad cI cZ n c (sh D z.toNat d) (sh C z.toNat d) (sh A z.toNat d) O S Ln Ar Rd) H → va_D AA (wN ad cI cZ n c (sh D z.toNat d) (sh C z.toNat d) (sh A z.toNat d) O S Ln Ar Rd) → va_S AA s.heap H locs → ∀ (ls : Array Slot), lv_has ls 3 [(0, .ref (ad 0)), (2, .int (iI d))] → W p l e (headSpec (ws_ yX1_pay cX1_pay 3 (some .int)) ({ frames := 1, cells := 0, slots := 0, locals := 21 })).room s m ([.ref (ad 0), .int (iI z)] : List Value).toArray below meth cd H locs 0 0 (MQ below (va_Qi (fun r u => r = iI (if (0 ≤ z ∧ z < (c : Int)) then (c : Int) - 1 else -1) ∧ (((0 ≤ z ∧ z < (c : Int)) ∧ u = (c - 1, sh D z.toNat c, sh C z.toNat c, sh A z.toNat c, O, S, Ln, Ar, Rd)) ∨ (¬ (0 ≤ z ∧ z < (c : Int)) ∧ u = (c, D, C, A, O, S, Ln, Ar, Rd)))) (obB (dC, dI) vwCl [(cI, .int), (cZ, .boolean)] AA (BN ad cI cZ n)) AA) ([.ref (ad 0), .int (iI z)] : List Value).toArray s 0 0 AA) (F0 m 14 ls []) := by
      intro nn
      induction nn with
      | zero => intro d hm hd1 hd; exfalso; omega
      | succ nn ih_14 =>
        intro d hm hd1 hd H locs hP hD hS ls hl
        refine lv_iload_n hx hb dX1_pay_14 rfl (lv_at hl 1 rfl) ?_
        refine lv_aload_n hx hb dX1_pay_15 rfl (lv_at hl 0 rfl) ?_
        refine va_get (D := (dC, dI)) (ci := 0) (v := .int (iI c)) (C := RX1) (T := TX1) (N := 11) hx hb hts in_X1 hown hK hP 0 rfl rfl 10 (by decide) (hts _ q43) (fun _ h9 => h9) rfl dX1_pay_16 ?_
        refine ob_icmp_ge (tgt := 70) hx hb dX1_pay_19 (by decide) (by omega) (by omega) (fun h19 => ?_) (fun h19 => ?_)
        · have ed : d = c := by omega
          have hwe : sh D z.toNat d = sh D z.toNat c := by rw [ed]
          rw [hwe] at hP hD
          clear hwe
          have hP : va_P (dC, dI) vwCl (wN ad cI cZ n c (sh D z.toNat c) (sh C z.toNat d) (sh A z.toNat d) O S Ln Ar Rd) H := hP
          have hD : va_D AA (wN ad cI cZ n c (sh D z.toNat c) (sh C z.toNat d) (sh A z.toNat d) O S Ln Ar Rd) := hD
          have hwe : sh C z.toNat d = sh C z.toNat c := by rw [ed]
          rw [hwe] at hP hD
          clear hwe
          have hP : va_P (dC, dI) vwCl (wN ad cI cZ n c (sh D z.toNat c) (sh C z.toNat c) (sh A z.toNat d) O S Ln Ar Rd) H := hP
          have hD : va_D AA (wN ad cI cZ n c (sh D z.toNat c) (sh C z.toNat c) (sh A z.toNat d) O S Ln Ar Rd) := hD
          have hwe : sh A z.toNat d = sh A z.toNat c := by rw [ed]
          rw [hwe] at hP hD
          clear hwe
          have hP : va_P (dC, dI) vwCl (wN ad cI cZ n c (sh D z.toNat c) (sh C z.toNat c) (sh A z.toNat c) O S Ln Ar Rd) H := hP
          have hD : va_D AA (wN ad cI cZ n c (sh D z.toNat c) (sh C z.toNat c) (sh A z.toNat c) O S Ln Ar Rd) := hD
          refine lv_aload_n hx hb dX1_pay_70 rfl (lv_at hl 0 rfl) ?_
          refine lv_dup hx hb dX1_pay_71 rfl ?_
          refine va_get (D := (dC, dI)) (ci := 0) (v := .int (iI c)) (C := RX1) (T := TX1) (N := 11) hx hb hts in_X1 hown hK hP 0 rfl rfl 10 (by decide) (hts _ q43) (fun _ h9 => h9) rfl dX1_pay_72 ?_
          refine ob_ic hx hb dX1_pay_75 ?_
          refine ob_isub hx hb dX1_pay_76 ?_
          refine ob_top (((c - 1 : Nat) : Int)) (by omega) ?_
          refine va_put (D := (dC, dI)) (ci := 0) (v := .int (iI (((c - 1 : Nat) : Int)))) (ty := .int) (C := RX1) (T := TX1) (N := 11) hx hb hts in_X1 tyX1 tyX1_ok nmX1 hown hK hP hD hS 0 rfl rfl 10 (by decide) (hts _ q43) (fun _ h9 => h9) rfl (by decide +kernel) rfl rfl (Nat.le_of_ble_eq_true rfl) dX1_pay_77 (fun H locs hP hD hS => ?_)
          have hP : va_P (dC, dI) vwCl (wN ad cI cZ n (c - 1) (sh D z.toNat c) (sh C z.toNat c) (sh A z.toNat c) O S Ln Ar Rd) H := hP
          have hD : va_D AA (wN ad cI cZ n (c - 1) (sh D z.toNat c) (sh C z.toNat c) (sh A z.toNat c) O S Ln Ar Rd) := hD
          refine lv_aload_n hx hb dX1_pay_80 rfl (lv_at hl 0 rfl) ?_
          refine va_get (D := (dC, dI)) (ci := 0) (v := .int (iI (((c - 1 : Nat) : Int)))) (C := RX1) (T := TX1) (N := 11) hx hb hts in_X1 hown hK hP 0 rfl rfl 10 (by decide) (hts _ q43) (fun _ h9 => h9) rfl dX1_pay_81 ?_
          exact W.iret (v := iI (((c - 1 : Nat) : Int))) hx hb hr (fun t ht hWm => ⟨⟨_, (c - 1, sh D z.toNat c, sh C z.toNat c, sh A z.toNat c, O, S, Ln, Ar, Rd), rfl, (by exact ⟨by rw [if_pos g5]; congr 1; omega, Or.inl ⟨g5, rfl⟩⟩), by rw [ht]; exact hP, va_K.moved hWm.alike hK, hD⟩, hS.F ht⟩) hS.2.2 dX1_pay_84
        · refine lv_aload_n hx hb dX1_pay_22 rfl (lv_at hl 0 rfl) ?_
          refine va_get (D := (dC, dI)) (ci := 0) (v := .ref (ad 1)) (C := RX1) (T := TX1) (N := 11) hx hb hts in_X1 hown hK hP 0 rfl rfl 0 (by decide) (hts _ q33) (fun _ h9 => h9) rfl dX1_pay_23 ?_
          refine lv_iload_n hx hb dX1_pay_26 rfl (lv_at hl 1 rfl) ?_
          refine ob_ic hx hb dX1_pay_27 ?_
          refine ob_isub hx hb dX1_pay_28 ?_
          refine ob_top (((d - 1 : Nat) : Int)) (by omega) ?_
          refine lv_aload_n hx hb dX1_pay_29 rfl (lv_at hl 0 rfl) ?_
          refine va_get (D := (dC, dI)) (ci := 0) (v := .ref (ad 1)) (C := RX1) (T := TX1) (N := 11) hx hb hts in_X1 hown hK hP 0 rfl rfl 0 (by decide) (hts _ q33) (fun _ h9 => h9) rfl dX1_pay_30 ?_
          refine lv_iload_n hx hb dX1_pay_33 rfl (lv_at hl 1 rfl) ?_
          refine ob_iald hx hb hK hP 1 0 rfl rfl (d) (by omega) (by omega) (by decide) dX1_pay_34 ?_
          refine ob_top (D d) (by rw [sh_self]) ?_
          refine ob_iastN hx hb hK hP hD hS 1 0 rfl rfl (d - 1) (by omega) (by omega) (by decide) (D d) (by omega) dX1_pay_35 (fun H locs hP hD hS => ?_)
          have hP : va_P (dC, dI) vwCl (wN ad cI cZ n c (va_up (sh D z.toNat d) (d - 1) (D d)) (sh C z.toNat d) (sh A z.toNat d) O S Ln Ar Rd) H := hP
          have hD : va_D AA (wN ad cI cZ n c (va_up (sh D z.toNat d) (d - 1) (D d)) (sh C z.toNat d) (sh A z.toNat d) O S Ln Ar Rd) := hD
          have hwe : va_up (sh D z.toNat d) (d - 1) (D d) = sh D z.toNat (d + 1) := sh_up2 _ hd1
          rw [hwe] at hP hD
          clear hwe
          have hP : va_P (dC, dI) vwCl (wN ad cI cZ n c (sh D z.toNat (d + 1)) (sh C z.toNat d) (sh A z.toNat d) O S Ln Ar Rd) H := hP
          have hD : va_D AA (wN ad cI cZ n c (sh D z.toNat (d + 1)) (sh C z.toNat d) (sh A z.toNat d) O S Ln Ar Rd) := hD
          refine lv_aload_n hx hb dX1_pay_36 rfl (lv_at hl 0 rfl) ?_
          refine va_get (D := (dC, dI)) (ci := 0) (v := .ref (ad 2)) (C := RX1) (T := TX1) (N := 11) hx hb hts in_X1 hown hK hP 0 rfl rfl 1 (by decide) (hts _ q34) (fun _ h9 => h9) rfl dX1_pay_37 ?_
          refine lv_iload_n hx hb dX1_pay_40 rfl (lv_at hl 1 rfl) ?_
          refine ob_ic hx hb dX1_pay_41 ?_
          refine ob_isub hx hb dX1_pay_42 ?_
          refine ob_top (((d - 1 : Nat) : Int)) (by omega) ?_
          refine lv_aload_n hx hb dX1_pay_43 rfl (lv_at hl 0 rfl) ?_
          refine va_get (D := (dC, dI)) (ci := 0) (v := .ref (ad 2)) (C := RX1) (T := TX1) (N := 11) hx hb hts in_X1 hown hK hP 0 rfl rfl 1 (by decide) (hts _ q34) (fun _ h9 => h9) rfl dX1_pay_44 ?_
          refine lv_iload_n hx hb dX1_pay_47 rfl (lv_at hl 1 rfl) ?_
          refine ob_iald hx hb hK hP 2 0 rfl rfl (d) (by omega) (by omega) (by decide) dX1_pay_48 ?_
          refine ob_top (C d) (by rw [sh_self]) ?_
          refine ob_iastN hx hb hK hP hD hS 2 0 rfl rfl (d - 1) (by omega) (by omega) (by decide) (C d) (by omega) dX1_pay_49 (fun H locs hP hD hS => ?_)
          have hP : va_P (dC, dI) vwCl (wN ad cI cZ n c (sh D z.toNat (d + 1)) (va_up (sh C z.toNat d) (d - 1) (C d)) (sh A z.toNat d) O S Ln Ar Rd) H := hP
          have hD : va_D AA (wN ad cI cZ n c (sh D z.toNat (d + 1)) (va_up (sh C z.toNat d) (d - 1) (C d)) (sh A z.toNat d) O S Ln Ar Rd) := hD
          have hwe : va_up (sh C z.toNat d) (d - 1) (C d) = sh C z.toNat (d + 1) := sh_up2 _ hd1
          rw [hwe] at hP hD
          clear hwe
          have hP : va_P (dC, dI) vwCl (wN ad cI cZ n c (sh D z.toNat (d + 1)) (sh C z.toNat (d + 1)) (sh A z.toNat d) O S Ln Ar Rd) H := hP
          have hD : va_D AA (wN ad cI cZ n c (sh D z.toNat (d + 1)) (sh C z.toNat (d + 1)) (sh A z.toNat d) O S Ln Ar Rd) := hD
          refine lv_aload_n hx hb dX1_pay_50 rfl (lv_at hl 0 rfl) ?_
          refine va_get (D := (dC, dI)) (ci := 0) (v := .ref (ad 3)) (C := RX1) (T := TX1) (N := 11) hx hb hts in_X1 hown hK hP 0 rfl rfl 2 (by decide) (hts _ q35) (fun _ h9 => h9) rfl dX1_pay_51 ?_
          refine lv_iload_n hx hb dX1_pay_54 rfl (lv_at hl 1 rfl) ?_
          refine ob_ic hx hb dX1_pay_55 ?_
          refine ob_isub hx hb dX1_pay_56 ?_
          refine ob_top (((d - 1 : Nat) : Int)) (by omega) ?_
          refine lv_aload_n hx hb dX1_pay_57 rfl (lv_at hl 0 rfl) ?_
          refine va_get (D := (dC, dI)) (ci := 0) (v := .ref (ad 3)) (C := RX1) (T := TX1) (N := 11) hx hb hts in_X1 hown hK hP 0 rfl rfl 2 (by decide) (hts _ q35) (fun _ h9 => h9) rfl dX1_pay_58 ?_
          refine lv_iload_n hx hb dX1_pay_61 rfl (lv_at hl 1 rfl) ?_
          refine ob_iald hx hb hK hP 3 0 rfl rfl (d) (by omega) (by omega) (by decide) dX1_pay_62 ?_
          refine ob_top (A d) (by rw [sh_self]) ?_
          refine ob_iast hx hb hK hP hD hS 3 0 rfl rfl (d - 1) (by omega) (by omega) (by decide) dX1_pay_63 (fun H locs hP hD hS => ?_)
          have hP : va_P (dC, dI) vwCl (wN ad cI cZ n c (sh D z.toNat (d + 1)) (sh C z.toNat (d + 1)) (va_up (sh A z.toNat d) (d - 1) (A d)) O S Ln Ar Rd) H := hP
          have hD : va_D AA (wN ad cI cZ n c (sh D z.toNat (d + 1)) (sh C z.toNat (d + 1)) (va_up (sh A z.toNat d) (d - 1) (A d)) O S Ln Ar Rd) := hD
          have hwe : va_up (sh A z.toNat d) (d - 1) (A d) = sh A z.toNat (d + 1) := sh_up2 _ hd1
          rw [hwe] at hP hD
          clear hwe
          have hP : va_P (dC, dI) vwCl (wN ad cI cZ n c (sh D z.toNat (d + 1)) (sh C z.toNat (d + 1)) (sh A z.toNat (d + 1)) O S Ln Ar Rd) H := hP
          have hD : va_D AA (wN ad cI cZ n c (sh D z.toNat (d + 1)) (sh C z.toNat (d + 1)) (sh A z.toNat (d + 1)) O S Ln Ar Rd) := hD
          refine ob_iinc (k := 1) hx hb (((d + 1 : Nat) : Int)) (lv' := [(2, .int (iI (((d + 1 : Nat) : Int)))), (0, .ref (ad 0))]) dX1_pay_64 hl rfl (by omega) (by decide) rfl (fun ls hl => ?_)
          refine lv_goto (tgt := 14) hx hb dX1_pay_67 (by decide) ?_
          exact ih_14 (d + 1) (by omega) (by omega) (by omega) _ _ hP hD hS ls (lv_sub hl [1, 0] rfl)
    exact lp_14 (c + 1) (z.toNat + 1) (by omega) (by omega) (by omega) _ _ hP hD hS ls (lv_sub hl [1, 0] rfl)
  · have g5 := tb_f h5
    refine ob_ic hx hb dX1_pay_8 ?_
    exact W.iret (v := iI ((-1))) hx hb hr (fun t ht hWm => ⟨⟨_, (c, D, C, A, O, S, Ln, Ar, Rd), rfl, (by exact ⟨by rw [if_neg g5], Or.inr ⟨g5, rfl⟩⟩), by rw [ht]; exact hP, va_K.moved hWm.alike hK, hD⟩, hS.F ht⟩) hS.2.2 dX1_pay_9
set_option maxHeartbeats 4000000 in
set_option maxRecDepth 100000 in
theorem metN_exclude (l : Launch) (dC : Nat → ClassId) (dI : Nat → Nat → Nat) (ad : Nat → Nat) (cI cZ : ClassId) (n c : Nat) (D C : Nat → Nat) (A O S Ln Ar Rd : Nat → Int) (sz : Nat) (z1 : Int) (hz1 : -2147483648 ≤ z1 ∧ z1 < 2147483648) (z2 : Int) (hz2 : -2147483648 ≤ z2 ∧ z2 < 2147483648) (hW : WF n c D C A O) : Met l yX1_exclude (ws_ yX1_exclude cX1_exclude 4 (some .int)) ({ frames := 1, cells := 0, slots := 0, locals := 21 }) (obW (dC, dI) vwCl (wN ad cI cZ n c D C A O S Ln Ar Rd) [(cI, .int), (cZ, .boolean)] sz [.ref (ad 0), .int (iI z1), .int (iI z2)]) (va_Qi (fun r u => r = iI (if (0 ≤ z1 ∧ z1 < (n : Int)) then O z1.toNat else -1) ∧ (((0 ≤ z1 ∧ z1 < (n : Int)) ∧ u = (c, D, C, A, va_up O z1.toNat (if z2 = 0 then 0 else 1), S, Ln, Ar, Rd)) ∨ (¬ (0 ≤ z1 ∧ z1 < (n : Int)) ∧ u = (c, D, C, A, O, S, Ln, Ar, Rd)))) (obB (dC, dI) vwCl [(cI, .int), (cZ, .boolean)] (va_A (wN ad cI cZ n c D C A O S Ln Ar Rd) sz) (BN ad cI cZ n)) (va_A (wN ad cI cZ n c D C A O S Ln Ar Rd) sz)) 0 0 (va_A (wN ad cI cZ n c D C A O S Ln Ar Rd) sz) := by
  refine Met.ofW (cc := cX1_exclude) (maxL := 4) (ret := (some .int)) (by decide) rfl ?_
  intro p e s m args below meth cd s₁ B hml hv
  obtain ⟨rfl, hsz, hP, hK, hD0⟩ := hv
  have hx := B.exec
  have hb := B.bytes
  have hr := B.returns
  have hts := atoms_spec (ws := (ws_ yX1_exclude cX1_exclude 4 (some .int))) B.pre
  have hts : ∀ w ∈ lw_all, w.before _ s = true := fun w h => hts w (List.mem_cons_of_mem _ h)
  have hown : s.vm.findClass RX1 = some m.cls := findClass_of_methodNamed B.named
  have hlocks := B.notSynchronized
  subst hsz
  have hD := hD0.self (sz := s.heap.size)
  generalize hAe : va_A (wN ad cI cZ n c D C A O S Ln Ar Rd) s.heap.size = AA at hD ⊢
  have hA : ∀ q : Nat, s.heap.size ≤ q → AA q := fun q h => by rw [← hAe]; exact Or.inr h
  have hS : va_S AA s.heap s.heap [] := va_S.rf
  have hl := lv_entry ([.ref (ad 0), .int (iI z1), .int (iI z2)]) (n := 4) (Nat.le_of_ble_eq_true rfl)
  rw [lg_entry_eq]
  generalize (lg_sl ([.ref (ad 0), .int (iI z1), .int (iI z2)]) ++ List.replicate (4 - (lg_sl ([.ref (ad 0), .int (iI z1), .int (iI z2)])).length) Slot.unset).toArray = ls at hl ⊢
  have hl : lv_has ls 4 [(0, .ref (ad 0)), (1, .int (iI z1)), (2, .int (iI z2))] := hl
  have hc := hW.2.2.1
  have hn := hW.2.1
  have o1 := hW.2.2.2.2 z1.toNat
  refine lv_aload_n hx hb dX1_exclude_0 rfl (lv_at hl 0 rfl) ?_
  refine lv_iload_n hx hb dX1_exclude_1 rfl (lv_at hl 1 rfl) ?_
  refine ob_callR (As := [.int (iI z1)]) (rest := []) (metN_isFirm l dC dI ad cI cZ n c D C A O S Ln Ar Rd z1 hz1 hn) ⟨hx, hb, hml, hown, hts⟩ (cwV 1 hts (lw_V q73 q75 qs0 q23 q76) rfl rfl rfl (by decide +kernel) ⟨Nat.le_of_ble_eq_true rfl, Nat.le_of_ble_eq_true rfl⟩) hK hP [0, 1, 2, 3, 4, 5, 6, 7, 8] [0, 1] rfl rfl (ci := 0) rfl rfl rfl rfl hl.1 rfl (Nat.le_of_ble_eq_true rfl) dX1_exclude_2 ⟨Nat.zero_le _, Nat.zero_le _⟩ (fun r2 e2 => ?_)
  subst e2
  refine ob_if_ne (tgt := 10) hx hb dX1_exclude_5 (by decide) (tb_bnd _) (fun h5 => ?_) (fun h5 => ?_)
  · have g5 := tb_t h5
    refine lv_aload_n hx hb dX1_exclude_10 rfl (lv_at hl 0 rfl) ?_
    refine va_get (D := (dC, dI)) (ci := 0) (v := .ref (ad 5)) (C := RX1) (T := TX1) (N := 11) hx hb hts in_X1 hown hK hP 0 rfl rfl 5 (by decide) (hts _ q38) (fun _ h9 => h9) rfl dX1_exclude_11 ?_
    refine lv_iload_n hx hb dX1_exclude_14 rfl (lv_at hl 1 rfl) ?_
    refine ob_zald hx hb hK hP 5 1 rfl rfl (z1.toNat) (by omega) (by omega) (by decide) dX1_exclude_15 ?_
    refine ob_if_eq (tgt := 23) hx hb dX1_exclude_16 (by decide) (by omega) (fun h16 => ?_) (fun h16 => ?_)
    · refine ob_ic hx hb dX1_exclude_23 ?_
      refine ob_top (O z1.toNat) (by omega) ?_
      refine lv_istore_n (lv' := [(3, .int (iI (O z1.toNat))), (0, .ref (ad 0)), (1, .int (iI z1)), (2, .int (iI z2))]) hx hb dX1_exclude_24 rfl hl (by decide) rfl (fun ls hl => ?_)
      refine lv_aload_n hx hb dX1_exclude_25 rfl (lv_at hl 1 rfl) ?_
      refine va_get (D := (dC, dI)) (ci := 0) (v := .ref (ad 5)) (C := RX1) (T := TX1) (N := 11) hx hb hts in_X1 hown hK hP 0 rfl rfl 5 (by decide) (hts _ q38) (fun _ h9 => h9) rfl dX1_exclude_26 ?_
      refine lv_iload_n hx hb dX1_exclude_29 rfl (lv_at hl 2 rfl) ?_
      refine lv_iload_n hx hb dX1_exclude_30 rfl (lv_at hl 3 rfl) ?_
      refine ob_if_eq (tgt := 38) hx hb dX1_exclude_31 (by decide) (by omega) (fun h31 => ?_) (fun h31 => ?_)
      · refine ob_ic hx hb dX1_exclude_38 ?_
        refine ob_top (if z2 = 0 then 0 else 1) (by first | rw [if_pos (by omega)] | rw [if_neg (by omega)]) ?_
        refine ob_zast hx hb hK hP hD hS 5 1 rfl rfl (z1.toNat) (by omega) (by omega) (by decide) (by split <;> simp) dX1_exclude_39 (fun H locs hP hD hS => ?_)
        have hP : va_P (dC, dI) vwCl (wN ad cI cZ n c D C A (va_up O z1.toNat (if z2 = 0 then 0 else 1)) S Ln Ar Rd) H := hP
        have hD : va_D AA (wN ad cI cZ n c D C A (va_up O z1.toNat (if z2 = 0 then 0 else 1)) S Ln Ar Rd) := hD
        refine lv_iload_n hx hb dX1_exclude_40 rfl (lv_at hl 0 rfl) ?_
        exact W.iret (v := iI (O z1.toNat)) hx hb hr (fun t ht hWm => ⟨⟨_, (c, D, C, A, va_up O z1.toNat (if z2 = 0 then 0 else 1), S, Ln, Ar, Rd), rfl, (by exact ⟨by rw [if_pos g5], Or.inl ⟨g5, rfl⟩⟩), by rw [ht]; exact hP, va_K.moved hWm.alike hK, hD⟩, hS.F ht⟩) hS.2.2 dX1_exclude_41
      · refine ob_ic hx hb dX1_exclude_34 ?_
        refine lv_goto (tgt := 39) hx hb dX1_exclude_35 (by decide) ?_
        refine ob_top (if z2 = 0 then 0 else 1) (by first | rw [if_pos (by omega)] | rw [if_neg (by omega)]) ?_
        refine ob_zast hx hb hK hP hD hS 5 1 rfl rfl (z1.toNat) (by omega) (by omega) (by decide) (by split <;> simp) dX1_exclude_39 (fun H locs hP hD hS => ?_)
        have hP : va_P (dC, dI) vwCl (wN ad cI cZ n c D C A (va_up O z1.toNat (if z2 = 0 then 0 else 1)) S Ln Ar Rd) H := hP
        have hD : va_D AA (wN ad cI cZ n c D C A (va_up O z1.toNat (if z2 = 0 then 0 else 1)) S Ln Ar Rd) := hD
        refine lv_iload_n hx hb dX1_exclude_40 rfl (lv_at hl 0 rfl) ?_
        exact W.iret (v := iI (O z1.toNat)) hx hb hr (fun t ht hWm => ⟨⟨_, (c, D, C, A, va_up O z1.toNat (if z2 = 0 then 0 else 1), S, Ln, Ar, Rd), rfl, (by exact ⟨by rw [if_pos g5], Or.inl ⟨g5, rfl⟩⟩), by rw [ht]; exact hP, va_K.moved hWm.alike hK, hD⟩, hS.F ht⟩) hS.2.2 dX1_exclude_41
    · refine ob_ic hx hb dX1_exclude_19 ?_
      refine lv_goto (tgt := 24) hx hb dX1_exclude_20 (by decide) ?_
      refine ob_top (O z1.toNat) (by omega) ?_
      refine lv_istore_n (lv' := [(3, .int (iI (O z1.toNat))), (0, .ref (ad 0)), (1, .int (iI z1)), (2, .int (iI z2))]) hx hb dX1_exclude_24 rfl hl (by decide) rfl (fun ls hl => ?_)
      refine lv_aload_n hx hb dX1_exclude_25 rfl (lv_at hl 1 rfl) ?_
      refine va_get (D := (dC, dI)) (ci := 0) (v := .ref (ad 5)) (C := RX1) (T := TX1) (N := 11) hx hb hts in_X1 hown hK hP 0 rfl rfl 5 (by decide) (hts _ q38) (fun _ h9 => h9) rfl dX1_exclude_26 ?_
      refine lv_iload_n hx hb dX1_exclude_29 rfl (lv_at hl 2 rfl) ?_
      refine lv_iload_n hx hb dX1_exclude_30 rfl (lv_at hl 3 rfl) ?_
      refine ob_if_eq (tgt := 38) hx hb dX1_exclude_31 (by decide) (by omega) (fun h31 => ?_) (fun h31 => ?_)
      · refine ob_ic hx hb dX1_exclude_38 ?_
        refine ob_top (if z2 = 0 then 0 else 1) (by first | rw [if_pos (by omega)] | rw [if_neg (by omega)]) ?_
        refine ob_zast hx hb hK hP hD hS 5 1 rfl rfl (z1.toNat) (by omega) (by omega) (by decide) (by split <;> simp) dX1_exclude_39 (fun H locs hP hD hS => ?_)
        have hP : va_P (dC, dI) vwCl (wN ad cI cZ n c D C A (va_up O z1.toNat (if z2 = 0 then 0 else 1)) S Ln Ar Rd) H := hP
        have hD : va_D AA (wN ad cI cZ n c D C A (va_up O z1.toNat (if z2 = 0 then 0 else 1)) S Ln Ar Rd) := hD
        refine lv_iload_n hx hb dX1_exclude_40 rfl (lv_at hl 0 rfl) ?_
        exact W.iret (v := iI (O z1.toNat)) hx hb hr (fun t ht hWm => ⟨⟨_, (c, D, C, A, va_up O z1.toNat (if z2 = 0 then 0 else 1), S, Ln, Ar, Rd), rfl, (by exact ⟨by rw [if_pos g5], Or.inl ⟨g5, rfl⟩⟩), by rw [ht]; exact hP, va_K.moved hWm.alike hK, hD⟩, hS.F ht⟩) hS.2.2 dX1_exclude_41
      · refine ob_ic hx hb dX1_exclude_34 ?_
        refine lv_goto (tgt := 39) hx hb dX1_exclude_35 (by decide) ?_
        refine ob_top (if z2 = 0 then 0 else 1) (by first | rw [if_pos (by omega)] | rw [if_neg (by omega)]) ?_
        refine ob_zast hx hb hK hP hD hS 5 1 rfl rfl (z1.toNat) (by omega) (by omega) (by decide) (by split <;> simp) dX1_exclude_39 (fun H locs hP hD hS => ?_)
        have hP : va_P (dC, dI) vwCl (wN ad cI cZ n c D C A (va_up O z1.toNat (if z2 = 0 then 0 else 1)) S Ln Ar Rd) H := hP
        have hD : va_D AA (wN ad cI cZ n c D C A (va_up O z1.toNat (if z2 = 0 then 0 else 1)) S Ln Ar Rd) := hD
        refine lv_iload_n hx hb dX1_exclude_40 rfl (lv_at hl 0 rfl) ?_
        exact W.iret (v := iI (O z1.toNat)) hx hb hr (fun t ht hWm => ⟨⟨_, (c, D, C, A, va_up O z1.toNat (if z2 = 0 then 0 else 1), S, Ln, Ar, Rd), rfl, (by exact ⟨by rw [if_pos g5], Or.inl ⟨g5, rfl⟩⟩), by rw [ht]; exact hP, va_K.moved hWm.alike hK, hD⟩, hS.F ht⟩) hS.2.2 dX1_exclude_41
  · have g5 := tb_f h5
    refine ob_ic hx hb dX1_exclude_8 ?_
    exact W.iret (v := iI ((-1))) hx hb hr (fun t ht hWm => ⟨⟨_, (c, D, C, A, O, S, Ln, Ar, Rd), rfl, (by exact ⟨by rw [if_neg g5], Or.inr ⟨g5, rfl⟩⟩), by rw [ht]; exact hP, va_K.moved hWm.alike hK, hD⟩, hS.F ht⟩) hS.2.2 dX1_exclude_9
set_option maxHeartbeats 4000000 in
set_option maxRecDepth 100000 in
theorem metN_clear (l : Launch) (dC : Nat → ClassId) (dI : Nat → Nat → Nat) (ad : Nat → Nat) (cI cZ : ClassId) (n c : Nat) (D C : Nat → Nat) (A O S Ln Ar Rd : Nat → Int) (sz : Nat) (hW : WF n c D C A O) : Met l yX1_clear (ws_ yX1_clear cX1_clear 3 (some .int)) ({ frames := 5, cells := 0, slots := 0, locals := 117 }) (obW (dC, dI) vwCl (wN ad cI cZ n c D C A O S Ln Ar Rd) [(cI, .int), (cZ, .boolean)] sz [.ref (ad 0)]) (va_Qi (fun r u => ∃ x S2 Ln2 Ar2, Opt n c D C (rm D C A O) (gnA c (-1)) x ∧ r = iI (sZ x c) ∧ u = (c, D, C, sbt A x c, O, S2, Ln2, Ar2, Rd)) (obB (dC, dI) vwCl [(cI, .int), (cZ, .boolean)] (va_A (wN ad cI cZ n c D C A O S Ln Ar Rd) sz) (BN ad cI cZ n)) (va_A (wN ad cI cZ n c D C A O S Ln Ar Rd) sz)) 0 0 (va_A (wN ad cI cZ n c D C A O S Ln Ar Rd) sz) := by
  refine Met.ofW (cc := cX1_clear) (maxL := 3) (ret := (some .int)) (by decide) rfl ?_
  intro p e s m args below meth cd s₁ B hml hv
  obtain ⟨rfl, hsz, hP, hK, hD0⟩ := hv
  have hx := B.exec
  have hb := B.bytes
  have hr := B.returns
  have hts := atoms_spec (ws := (ws_ yX1_clear cX1_clear 3 (some .int))) B.pre
  have hts : ∀ w ∈ lw_all, w.before _ s = true := fun w h => hts w (List.mem_cons_of_mem _ h)
  have hown : s.vm.findClass RX1 = some m.cls := findClass_of_methodNamed B.named
  have hlocks := B.notSynchronized
  subst hsz
  have hD := hD0.self (sz := s.heap.size)
  generalize hAe : va_A (wN ad cI cZ n c D C A O S Ln Ar Rd) s.heap.size = AA at hD ⊢
  have hA : ∀ q : Nat, s.heap.size ≤ q → AA q := fun q h => by rw [← hAe]; exact Or.inr h
  have hS : va_S AA s.heap s.heap [] := va_S.rf
  have hl := lv_entry ([.ref (ad 0)]) (n := 3) (Nat.le_of_ble_eq_true rfl)
  rw [lg_entry_eq]
  generalize (lg_sl ([.ref (ad 0)]) ++ List.replicate (3 - (lg_sl ([.ref (ad 0)])).length) Slot.unset).toArray = ls at hl ⊢
  have hl : lv_has ls 3 [(0, .ref (ad 0))] := hl
  have hc := hW.2.2.1
  have hn := hW.2.1
  refine lv_aload_n hx hb dX1_clear_0 rfl (lv_at hl 0 rfl) ?_
  refine ob_ic hx hb dX1_clear_1 ?_
  refine ob_callV (As := [.int (iI ((-1)))]) (rest := []) (wr := []) (metN_solve l dC dI ad cI cZ n c D C A O S Ln Ar Rd s.heap.size (-1) (by omega) hW) ⟨hx, hb, hml, hown, hts⟩ (cwV 1 hts (lw_V q97 q99 qs2 q23 q100) rfl rfl rfl (by decide +kernel) ⟨Nat.le_of_ble_eq_true rfl, Nat.le_of_ble_eq_true rfl⟩) hK hP hD hS hA [0, 1, 2, 3, 4, 5, 6, 7, 8] [] [0, 1] rfl rfl rfl (by decide) (by decide) (by decide) rfl (ci := 0) rfl rfl rfl rfl hl.1 rfl (Nat.le_of_ble_eq_true rfl) dX1_clear_2 ⟨Nat.zero_le _, Nat.zero_le _⟩ (fun u2 H locs hw hP hD hS => ?_)
  obtain ⟨S2, Ln2, Ar2, rfl, hop⟩ := hw
  have hP : va_P (dC, dI) vwCl (wN ad cI cZ n c D C A O S2 Ln2 Ar2 Rd) H := hP
  have hD : va_D AA (wN ad cI cZ n c D C A O S2 Ln2 Ar2 Rd) := hD
  refine ob_ic hx hb dX1_clear_5 ?_
  refine lv_istore_n (lv' := [(1, .int (iI 0)), (0, .ref (ad 0))]) hx hb dX1_clear_6 rfl hl (by decide) rfl (fun ls hl => ?_)
  refine ob_ic hx hb dX1_clear_7 ?_
  have hwe : A = sbt A S2 0 := (sbt_0 _ _).symm
  rw [hwe] at hP hD
  clear hwe
  have hP : va_P (dC, dI) vwCl (wN ad cI cZ n c D C (sbt A S2 0) O S2 Ln2 Ar2 Rd) H := hP
  have hD : va_D AA (wN ad cI cZ n c D C (sbt A S2 0) O S2 Ln2 Ar2 Rd) := hD
  refine lv_istore_n (lv' := [(2, .int (iI 0)), (1, .int (iI 0)), (0, .ref (ad 0))]) hx hb dX1_clear_8 rfl hl (by decide) rfl (fun ls hl => ?_)
  have lp_9 : ∀ (nn : Nat) (d : Nat), (c < d + nn) → (d ≤ c) → ∀ (H : Heap) (locs : List Loc), va_P (dC, dI) vwCl (wN ad cI cZ n c D C (sbt A S2 d) O S2 Ln2 Ar2 Rd) H → va_D AA (wN ad cI cZ n c D C (sbt A S2 d) O S2 Ln2 Ar2 Rd) → va_S AA s.heap H locs → ∀ (ls : Array Slot), lv_has ls 3 [(0, .ref (ad 0)), (1, .int (iI (sZ S2 d))), (2, .int (iI d))] → W p l e (headSpec (ws_ yX1_clear cX1_clear 3 (some .int)) ({ frames := 5, cells := 0, slots := 0, locals := 117 })).room s m ([.ref (ad 0)] : List Value).toArray below meth cd H locs 0 0 (MQ below (va_Qi (fun r u => ∃ x S2 Ln2 Ar2, Opt n c D C (rm D C A O) (gnA c (-1)) x ∧ r = iI (sZ x c) ∧ u = (c, D, C, sbt A x c, O, S2, Ln2, Ar2, Rd)) (obB (dC, dI) vwCl [(cI, .int), (cZ, .boolean)] AA (BN ad cI cZ n)) AA) ([.ref (ad 0)] : List Value).toArray s 0 0 AA) (F0 m 9 ls []) := by
    intro nn
    induction nn with
    | zero => intro d hm hd; exfalso; omega
    | succ nn ih_9 =>
      intro d hm hd H locs hP hD hS ls hl
      refine lv_iload_n hx hb dX1_clear_9 rfl (lv_at hl 2 rfl) ?_
      refine lv_aload_n hx hb dX1_clear_10 rfl (lv_at hl 0 rfl) ?_
      refine va_get (D := (dC, dI)) (ci := 0) (v := .int (iI c)) (C := RX1) (T := TX1) (N := 11) hx hb hts in_X1 hown hK hP 0 rfl rfl 10 (by decide) (hts _ q43) (fun _ h9 => h9) rfl dX1_clear_11 ?_
      refine ob_icmp_ge (tgt := 47) hx hb dX1_clear_14 (by decide) (by omega) (by omega) (fun h14 => ?_) (fun h14 => ?_)
      · have ed : d = c := by omega
        have hwe : sbt A S2 d = sbt A S2 c := by rw [ed]
        rw [hwe] at hP hD
        clear hwe
        have hP : va_P (dC, dI) vwCl (wN ad cI cZ n c D C (sbt A S2 c) O S2 Ln2 Ar2 Rd) H := hP
        have hD : va_D AA (wN ad cI cZ n c D C (sbt A S2 c) O S2 Ln2 Ar2 Rd) := hD
        have hle : (sZ S2 d) = (sZ S2 c : Int) := by rw [ed]
        rw [hle] at hl
        clear hle
        have hl : lv_has ls 3 [(0, .ref (ad 0)), (1, .int (iI (sZ S2 c))), (2, .int (iI d))] := hl
        refine lv_iload_n hx hb dX1_clear_47 rfl (lv_at hl 1 rfl) ?_
        exact W.iret (v := iI (sZ S2 c)) hx hb hr (fun t ht hWm => ⟨⟨_, (c, D, C, sbt A S2 c, O, S2, Ln2, Ar2, Rd), rfl, (by exact ⟨S2, S2, Ln2, Ar2, hop, rfl, rfl⟩), by rw [ht]; exact hP, va_K.moved hWm.alike hK, hD⟩, hS.F ht⟩) hS.2.2 dX1_clear_48
      · refine lv_aload_n hx hb dX1_clear_17 rfl (lv_at hl 0 rfl) ?_
        refine va_get (D := (dC, dI)) (ci := 0) (v := .ref (ad 3)) (C := RX1) (T := TX1) (N := 11) hx hb hts in_X1 hown hK hP 0 rfl rfl 2 (by decide) (hts _ q35) (fun _ h9 => h9) rfl dX1_clear_18 ?_
        refine lv_iload_n hx hb dX1_clear_21 rfl (lv_at hl 2 rfl) ?_
        refine lv_dup2_11 hx hb dX1_clear_22 rfl rfl ?_
        refine ob_iald hx hb hK hP 3 0 rfl rfl (d) (by omega) (by omega) (by decide) dX1_clear_23 ?_
        refine ob_top (A d) (sbt_at _ _ _) ?_
        refine lv_aload_n hx hb dX1_clear_24 rfl (lv_at hl 0 rfl) ?_
        refine va_get (D := (dC, dI)) (ci := 0) (v := .ref (ad 4)) (C := RX1) (T := TX1) (N := 11) hx hb hts in_X1 hown hK hP 0 rfl rfl 3 (by decide) (hts _ q36) (fun _ h9 => h9) rfl dX1_clear_25 ?_
        refine lv_iload_n hx hb dX1_clear_28 rfl (lv_at hl 2 rfl) ?_
        refine ob_iald hx hb hK hP 4 0 rfl rfl (d) (by omega) (by omega) (by decide) dX1_clear_29 ?_
        refine ob_isub hx hb dX1_clear_30 ?_
        refine ob_iast hx hb hK hP hD hS 3 0 rfl rfl (d) (by omega) (by omega) (by decide) dX1_clear_31 (fun H locs hP hD hS => ?_)
        have hP : va_P (dC, dI) vwCl (wN ad cI cZ n c D C (va_up (sbt A S2 d) d ((A d) - (S2 d))) O S2 Ln2 Ar2 Rd) H := hP
        have hD : va_D AA (wN ad cI cZ n c D C (va_up (sbt A S2 d) d ((A d) - (S2 d))) O S2 Ln2 Ar2 Rd) := hD
        have hwe : va_up (sbt A S2 d) d ((A d) - (S2 d)) = sbt A S2 (d + 1) := sbt_up _ _ _
        rw [hwe] at hP hD
        clear hwe
        have hP : va_P (dC, dI) vwCl (wN ad cI cZ n c D C (sbt A S2 (d + 1)) O S2 Ln2 Ar2 Rd) H := hP
        have hD : va_D AA (wN ad cI cZ n c D C (sbt A S2 (d + 1)) O S2 Ln2 Ar2 Rd) := hD
        refine lv_iload_n hx hb dX1_clear_32 rfl (lv_at hl 1 rfl) ?_
        refine lv_aload_n hx hb dX1_clear_33 rfl (lv_at hl 0 rfl) ?_
        refine va_get (D := (dC, dI)) (ci := 0) (v := .ref (ad 4)) (C := RX1) (T := TX1) (N := 11) hx hb hts in_X1 hown hK hP 0 rfl rfl 3 (by decide) (hts _ q36) (fun _ h9 => h9) rfl dX1_clear_34 ?_
        refine lv_iload_n hx hb dX1_clear_37 rfl (lv_at hl 2 rfl) ?_
        refine ob_iald hx hb hK hP 4 0 rfl rfl (d) (by omega) (by omega) (by decide) dX1_clear_38 ?_
        refine ob_iadd hx hb dX1_clear_39 ?_
        refine lv_istore_n (lv' := [(1, .int (iI ((sZ S2 d) + (S2 d)))), (0, .ref (ad 0)), (2, .int (iI d))]) hx hb dX1_clear_40 rfl hl (by decide) rfl (fun ls hl => ?_)
        refine ob_iinc (k := 2) hx hb (((d + 1 : Nat) : Int)) (lv' := [(2, .int (iI (((d + 1 : Nat) : Int)))), (1, .int (iI ((sZ S2 d) + (S2 d)))), (0, .ref (ad 0))]) dX1_clear_41 hl rfl (by omega) (by decide) rfl (fun ls hl => ?_)
        refine lv_goto (tgt := 9) hx hb dX1_clear_44 (by decide) ?_
        exact ih_9 (d + 1) (by omega) (by omega) _ _ hP hD hS ls (lv_sub hl [2, 1, 0] rfl)
  exact lp_9 (c + 1) 0 (by omega) (by omega) _ _ hP hD hS ls (lv_sub hl [2, 1, 0] rfl)
set_option maxHeartbeats 4000000 in
set_option maxRecDepth 100000 in
theorem metN_carryOut (l : Launch) (dC : Nat → ClassId) (dI : Nat → Nat → Nat) (ad : Nat → Nat) (cI cZ : ClassId) (n c : Nat) (D C : Nat → Nat) (A O S Ln Ar Rd : Nat → Int) (sz : Nat) (z : Int) (hz : -2147483648 ≤ z ∧ z < 2147483648) (hW : WF n c D C A O) : Met l yX1_carryOut (ws_ yX1_carryOut cX1_carryOut 4 (some .int)) ({ frames := 2, cells := 0, slots := 0, locals := 46 }) (obW (dC, dI) vwCl (wN ad cI cZ n c D C A O S Ln Ar Rd) [(cI, .int), (cZ, .boolean)] sz [.ref (ad 0), .int (iI z)]) (va_Qi (fun r u => ∃ Rd2, (CC n c D C (rm D C A O) z ∧ r = iI (sZ (dgZ c z.toNat) c) ∧ u = (c, D, C, sbt A (dgZ c z.toNat) c, O, S, Ln, Ar, Rd2)) ∨ (¬ CC n c D C (rm D C A O) z ∧ r = iI (-1) ∧ u = (c, D, C, A, O, S, Ln, Ar, Rd2))) (obB (dC, dI) vwCl [(cI, .int), (cZ, .boolean)] (va_A (wN ad cI cZ n c D C A O S Ln Ar Rd) sz) (BN ad cI cZ n)) (va_A (wN ad cI cZ n c D C A O S Ln Ar Rd) sz)) 0 0 (va_A (wN ad cI cZ n c D C A O S Ln Ar Rd) sz) := by
  refine Met.ofW (cc := cX1_carryOut) (maxL := 4) (ret := (some .int)) (by decide) rfl ?_
  intro p e s m args below meth cd s₁ B hml hv
  obtain ⟨rfl, hsz, hP, hK, hD0⟩ := hv
  have hx := B.exec
  have hb := B.bytes
  have hr := B.returns
  have hts := atoms_spec (ws := (ws_ yX1_carryOut cX1_carryOut 4 (some .int))) B.pre
  have hts : ∀ w ∈ lw_all, w.before _ s = true := fun w h => hts w (List.mem_cons_of_mem _ h)
  have hown : s.vm.findClass RX1 = some m.cls := findClass_of_methodNamed B.named
  have hlocks := B.notSynchronized
  subst hsz
  have hD := hD0.self (sz := s.heap.size)
  generalize hAe : va_A (wN ad cI cZ n c D C A O S Ln Ar Rd) s.heap.size = AA at hD ⊢
  have hA : ∀ q : Nat, s.heap.size ≤ q → AA q := fun q h => by rw [← hAe]; exact Or.inr h
  have hS : va_S AA s.heap s.heap [] := va_S.rf
  have hl := lv_entry ([.ref (ad 0), .int (iI z)]) (n := 4) (Nat.le_of_ble_eq_true rfl)
  rw [lg_entry_eq]
  generalize (lg_sl ([.ref (ad 0), .int (iI z)]) ++ List.replicate (4 - (lg_sl ([.ref (ad 0), .int (iI z)])).length) Slot.unset).toArray = ls at hl ⊢
  have hl : lv_has ls 4 [(0, .ref (ad 0)), (1, .int (iI z))] := hl
  have hc := hW.2.2.1
  have hn := hW.2.1
  refine lv_aload_n hx hb dX1_carryOut_0 rfl (lv_at hl 0 rfl) ?_
  refine lv_iload_n hx hb dX1_carryOut_1 rfl (lv_at hl 1 rfl) ?_
  refine ob_callI (As := [.int (iI z)]) (rest := []) (wr := []) (metN_load l dC dI ad cI cZ n c D C A O S Ln Ar Rd s.heap.size z hz hW) ⟨hx, hb, hml, hown, hts⟩ (cwV 1 hts (lw_V q138 q140 qs11 q23 q141) rfl rfl rfl (by decide +kernel) ⟨Nat.le_of_ble_eq_true rfl, Nat.le_of_ble_eq_true rfl⟩) hK hP hD hS hA [0, 1, 2, 3, 4, 5, 6, 7, 8] [] [0, 1] rfl rfl rfl (by decide) (by decide) (by decide) rfl (ci := 0) rfl rfl rfl rfl hl.1 rfl (Nat.le_of_ble_eq_true rfl) dX1_carryOut_2 ⟨Nat.zero_le _, Nat.zero_le _⟩ (fun r2 u2 H locs hw hP hD hS => ?_)
  obtain ⟨Rd2, rfl, hw⟩ := hw
  rcases hw with ⟨hcc, rfl, hrd⟩ | ⟨hno, rfl⟩
  · have hP : va_P (dC, dI) vwCl (wN ad cI cZ n c D C A O S Ln Ar Rd2) H := hP
    have hD : va_D AA (wN ad cI cZ n c D C A O S Ln Ar Rd2) := hD
    refine ob_if_ne (tgt := 10) hx hb dX1_carryOut_5 (by decide) (by omega) (fun h5 => ?_) (fun h5 => ?_)
    · refine ob_ic hx hb dX1_carryOut_10 ?_
      refine lv_istore_n (lv' := [(2, .int (iI 0)), (0, .ref (ad 0)), (1, .int (iI z))]) hx hb dX1_carryOut_11 rfl hl (by decide) rfl (fun ls hl => ?_)
      refine ob_ic hx hb dX1_carryOut_12 ?_
      have hwe : A = sbt A Rd2 0 := (sbt_0 _ _).symm
      rw [hwe] at hP hD
      clear hwe
      have hP : va_P (dC, dI) vwCl (wN ad cI cZ n c D C (sbt A Rd2 0) O S Ln Ar Rd2) H := hP
      have hD : va_D AA (wN ad cI cZ n c D C (sbt A Rd2 0) O S Ln Ar Rd2) := hD
      refine lv_istore_n (lv' := [(3, .int (iI 0)), (2, .int (iI 0)), (0, .ref (ad 0)), (1, .int (iI z))]) hx hb dX1_carryOut_13 rfl hl (by decide) rfl (fun ls hl => ?_)
      have lp_14 : ∀ (nn : Nat) (d : Nat), (c < d + nn) → (d ≤ c) → ∀ (H : Heap) (locs : List Loc), va_P (dC, dI) vwCl (wN ad cI cZ n c D C (sbt A Rd2 d) O S Ln Ar Rd2) H → va_D AA (wN ad cI cZ n c D C (sbt A Rd2 d) O S Ln Ar Rd2) → va_S AA s.heap H locs → ∀ (ls : Array Slot), lv_has ls 4 [(0, .ref (ad 0)), (2, .int (iI (sZ Rd2 d))), (3, .int (iI d))] → W p l e (headSpec (ws_ yX1_carryOut cX1_carryOut 4 (some .int)) ({ frames := 2, cells := 0, slots := 0, locals := 46 })).room s m ([.ref (ad 0), .int (iI z)] : List Value).toArray below meth cd H locs 0 0 (MQ below (va_Qi (fun r u => ∃ Rd2, (CC n c D C (rm D C A O) z ∧ r = iI (sZ (dgZ c z.toNat) c) ∧ u = (c, D, C, sbt A (dgZ c z.toNat) c, O, S, Ln, Ar, Rd2)) ∨ (¬ CC n c D C (rm D C A O) z ∧ r = iI (-1) ∧ u = (c, D, C, A, O, S, Ln, Ar, Rd2))) (obB (dC, dI) vwCl [(cI, .int), (cZ, .boolean)] AA (BN ad cI cZ n)) AA) ([.ref (ad 0), .int (iI z)] : List Value).toArray s 0 0 AA) (F0 m 14 ls []) := by
        intro nn
        induction nn with
        | zero => intro d hm hd; exfalso; omega
        | succ nn ih_14 =>
          intro d hm hd H locs hP hD hS ls hl
          refine lv_iload_n hx hb dX1_carryOut_14 rfl (lv_at hl 2 rfl) ?_
          refine lv_aload_n hx hb dX1_carryOut_15 rfl (lv_at hl 0 rfl) ?_
          refine va_get (D := (dC, dI)) (ci := 0) (v := .int (iI c)) (C := RX1) (T := TX1) (N := 11) hx hb hts in_X1 hown hK hP 0 rfl rfl 10 (by decide) (hts _ q43) (fun _ h9 => h9) rfl dX1_carryOut_16 ?_
          refine ob_icmp_ge (tgt := 52) hx hb dX1_carryOut_19 (by decide) (by omega) (by omega) (fun h19 => ?_) (fun h19 => ?_)
          · have ed : d = c := by omega
            have hwe : sbt A Rd2 d = sbt A (dgZ c z.toNat) c := by rw [ed, sbt_congr hrd]
            rw [hwe] at hP hD
            clear hwe
            have hP : va_P (dC, dI) vwCl (wN ad cI cZ n c D C (sbt A (dgZ c z.toNat) c) O S Ln Ar Rd2) H := hP
            have hD : va_D AA (wN ad cI cZ n c D C (sbt A (dgZ c z.toNat) c) O S Ln Ar Rd2) := hD
            refine lv_iload_n hx hb dX1_carryOut_52 rfl (lv_at hl 1 rfl) ?_
            exact W.iret (v := iI (sZ Rd2 d)) hx hb hr (fun t ht hWm => ⟨⟨_, (c, D, C, sbt A (dgZ c z.toNat) c, O, S, Ln, Ar, Rd2), rfl, (by exact ⟨_, Or.inl ⟨hcc, by rw [ed, sZ_congr c hrd], rfl⟩⟩), by rw [ht]; exact hP, va_K.moved hWm.alike hK, hD⟩, hS.F ht⟩) hS.2.2 dX1_carryOut_53
          · refine lv_aload_n hx hb dX1_carryOut_22 rfl (lv_at hl 0 rfl) ?_
            refine va_get (D := (dC, dI)) (ci := 0) (v := .ref (ad 3)) (C := RX1) (T := TX1) (N := 11) hx hb hts in_X1 hown hK hP 0 rfl rfl 2 (by decide) (hts _ q35) (fun _ h9 => h9) rfl dX1_carryOut_23 ?_
            refine lv_iload_n hx hb dX1_carryOut_26 rfl (lv_at hl 2 rfl) ?_
            refine lv_dup2_11 hx hb dX1_carryOut_27 rfl rfl ?_
            refine ob_iald hx hb hK hP 3 0 rfl rfl (d) (by omega) (by omega) (by decide) dX1_carryOut_28 ?_
            refine ob_top (A d) (sbt_at _ _ _) ?_
            refine lv_aload_n hx hb dX1_carryOut_29 rfl (lv_at hl 0 rfl) ?_
            refine va_get (D := (dC, dI)) (ci := 0) (v := .ref (ad 8)) (C := RX1) (T := TX1) (N := 11) hx hb hts in_X1 hown hK hP 0 rfl rfl 8 (by decide) (hts _ q41) (fun _ h9 => h9) rfl dX1_carryOut_30 ?_
            refine lv_iload_n hx hb dX1_carryOut_33 rfl (lv_at hl 2 rfl) ?_
            refine ob_iald hx hb hK hP 8 0 rfl rfl (d) (by omega) (by omega) (by decide) dX1_carryOut_34 ?_
            refine ob_isub hx hb dX1_carryOut_35 ?_
            refine ob_iast hx hb hK hP hD hS 3 0 rfl rfl (d) (by omega) (by omega) (by decide) dX1_carryOut_36 (fun H locs hP hD hS => ?_)
            have hP : va_P (dC, dI) vwCl (wN ad cI cZ n c D C (va_up (sbt A Rd2 d) d ((A d) - (Rd2 d))) O S Ln Ar Rd2) H := hP
            have hD : va_D AA (wN ad cI cZ n c D C (va_up (sbt A Rd2 d) d ((A d) - (Rd2 d))) O S Ln Ar Rd2) := hD
            have hwe : va_up (sbt A Rd2 d) d ((A d) - (Rd2 d)) = sbt A Rd2 (d + 1) := sbt_up _ _ _
            rw [hwe] at hP hD
            clear hwe
            have hP : va_P (dC, dI) vwCl (wN ad cI cZ n c D C (sbt A Rd2 (d + 1)) O S Ln Ar Rd2) H := hP
            have hD : va_D AA (wN ad cI cZ n c D C (sbt A Rd2 (d + 1)) O S Ln Ar Rd2) := hD
            refine lv_iload_n hx hb dX1_carryOut_37 rfl (lv_at hl 1 rfl) ?_
            refine lv_aload_n hx hb dX1_carryOut_38 rfl (lv_at hl 0 rfl) ?_
            refine va_get (D := (dC, dI)) (ci := 0) (v := .ref (ad 8)) (C := RX1) (T := TX1) (N := 11) hx hb hts in_X1 hown hK hP 0 rfl rfl 8 (by decide) (hts _ q41) (fun _ h9 => h9) rfl dX1_carryOut_39 ?_
            refine lv_iload_n hx hb dX1_carryOut_42 rfl (lv_at hl 2 rfl) ?_
            refine ob_iald hx hb hK hP 8 0 rfl rfl (d) (by omega) (by omega) (by decide) dX1_carryOut_43 ?_
            refine ob_iadd hx hb dX1_carryOut_44 ?_
            refine lv_istore_n (lv' := [(2, .int (iI ((sZ Rd2 d) + (Rd2 d)))), (0, .ref (ad 0)), (3, .int (iI d))]) hx hb dX1_carryOut_45 rfl hl (by decide) rfl (fun ls hl => ?_)
            refine ob_iinc (k := 2) hx hb (((d + 1 : Nat) : Int)) (lv' := [(3, .int (iI (((d + 1 : Nat) : Int)))), (2, .int (iI ((sZ Rd2 d) + (Rd2 d)))), (0, .ref (ad 0))]) dX1_carryOut_46 hl rfl (by omega) (by decide) rfl (fun ls hl => ?_)
            refine lv_goto (tgt := 14) hx hb dX1_carryOut_49 (by decide) ?_
            exact ih_14 (d + 1) (by omega) (by omega) _ _ hP hD hS ls (lv_sub hl [2, 1, 0] rfl)
      exact lp_14 (c + 1) 0 (by omega) (by omega) _ _ hP hD hS ls (lv_sub hl [2, 1, 0] rfl)
    · exfalso; omega
  · have hP : va_P (dC, dI) vwCl (wN ad cI cZ n c D C A O S Ln Ar Rd2) H := hP
    have hD : va_D AA (wN ad cI cZ n c D C A O S Ln Ar Rd2) := hD
    refine ob_if_ne (tgt := 10) hx hb dX1_carryOut_5 (by decide) (by omega) (fun h5 => ?_) (fun h5 => ?_)
    · exfalso; omega
    · refine ob_ic hx hb dX1_carryOut_8 ?_
      exact W.iret (v := iI ((-1))) hx hb hr (fun t ht hWm => ⟨⟨_, (c, D, C, A, O, S, Ln, Ar, Rd2), rfl, (by exact ⟨_, Or.inr ⟨hno, rfl, rfl⟩⟩), by rw [ht]; exact hP, va_K.moved hWm.alike hK, hD⟩, hS.F ht⟩) hS.2.2 dX1_carryOut_9
set_option maxHeartbeats 4000000 in
set_option maxRecDepth 100000 in
theorem metN_best (l : Launch) (dC : Nat → ClassId) (dI : Nat → Nat → Nat) (ad : Nat → Nat) (cI cZ : ClassId) (n c : Nat) (D C : Nat → Nat) (A O S Ln Ar Rd : Nat → Int) (sz : Nat) (hW : WF n c D C A O) : Met l yX1_best (ws_ yX1_best cX1_best 1 (some .int)) ({ frames := 5, cells := 0, slots := 0, locals := 117 }) (obW (dC, dI) vwCl (wN ad cI cZ n c D C A O S Ln Ar Rd) [(cI, .int), (cZ, .boolean)] sz [.ref (ad 0)]) (va_Qi (fun r u => ∃ x S2 Ln2 Ar2, Opt n c D C (rm D C A O) (gnA c (-1)) x ∧ r = iI (sZ x c) ∧ u = (c, D, C, A, O, S2, Ln2, Ar2, Rd)) (obB (dC, dI) vwCl [(cI, .int), (cZ, .boolean)] (va_A (wN ad cI cZ n c D C A O S Ln Ar Rd) sz) (BN ad cI cZ n)) (va_A (wN ad cI cZ n c D C A O S Ln Ar Rd) sz)) 0 0 (va_A (wN ad cI cZ n c D C A O S Ln Ar Rd) sz) := by
  refine Met.ofW (cc := cX1_best) (maxL := 1) (ret := (some .int)) (by decide) rfl ?_
  intro p e s m args below meth cd s₁ B hml hv
  obtain ⟨rfl, hsz, hP, hK, hD0⟩ := hv
  have hx := B.exec
  have hb := B.bytes
  have hr := B.returns
  have hts := atoms_spec (ws := (ws_ yX1_best cX1_best 1 (some .int))) B.pre
  have hts : ∀ w ∈ lw_all, w.before _ s = true := fun w h => hts w (List.mem_cons_of_mem _ h)
  have hown : s.vm.findClass RX1 = some m.cls := findClass_of_methodNamed B.named
  have hlocks := B.notSynchronized
  subst hsz
  have hD := hD0.self (sz := s.heap.size)
  generalize hAe : va_A (wN ad cI cZ n c D C A O S Ln Ar Rd) s.heap.size = AA at hD ⊢
  have hA : ∀ q : Nat, s.heap.size ≤ q → AA q := fun q h => by rw [← hAe]; exact Or.inr h
  have hS : va_S AA s.heap s.heap [] := va_S.rf
  have hl := lv_entry ([.ref (ad 0)]) (n := 1) (Nat.le_of_ble_eq_true rfl)
  rw [lg_entry_eq]
  generalize (lg_sl ([.ref (ad 0)]) ++ List.replicate (1 - (lg_sl ([.ref (ad 0)])).length) Slot.unset).toArray = ls at hl ⊢
  have hl : lv_has ls 1 [(0, .ref (ad 0))] := hl
  have hc := hW.2.2.1
  have hn := hW.2.1
  refine lv_aload_n hx hb dX1_best_0 rfl (lv_at hl 0 rfl) ?_
  refine ob_ic hx hb dX1_best_1 ?_
  refine ob_callV (As := [.int (iI ((-1)))]) (rest := []) (wr := []) (metN_solve l dC dI ad cI cZ n c D C A O S Ln Ar Rd s.heap.size (-1) (by omega) hW) ⟨hx, hb, hml, hown, hts⟩ (cwV 1 hts (lw_V q97 q99 qs2 q23 q100) rfl rfl rfl (by decide +kernel) ⟨Nat.le_of_ble_eq_true rfl, Nat.le_of_ble_eq_true rfl⟩) hK hP hD hS hA [0, 1, 2, 3, 4, 5, 6, 7, 8] [] [0, 1] rfl rfl rfl (by decide) (by decide) (by decide) rfl (ci := 0) rfl rfl rfl rfl hl.1 rfl (Nat.le_of_ble_eq_true rfl) dX1_best_2 ⟨Nat.zero_le _, Nat.zero_le _⟩ (fun u2 H locs hw hP hD hS => ?_)
  obtain ⟨S2, Ln2, Ar2, rfl, hop⟩ := hw
  have hP : va_P (dC, dI) vwCl (wN ad cI cZ n c D C A O S2 Ln2 Ar2 Rd) H := hP
  have hD : va_D AA (wN ad cI cZ n c D C A O S2 Ln2 Ar2 Rd) := hD
  refine lv_aload_n hx hb dX1_best_5 rfl (lv_at hl 0 rfl) ?_
  refine ob_callR (As := []) (rest := []) (metN_totalNow l dC dI ad cI cZ n c D C A O S2 Ln2 Ar2 Rd hc) ⟨hx, hb, hml, hown, hts⟩ (cwV 0 hts (lw_V q166 q168 qs13 q23 q169) rfl rfl rfl (by decide +kernel) ⟨Nat.le_of_ble_eq_true rfl, Nat.le_of_ble_eq_true rfl⟩) hK hP [0, 1, 2, 3, 4, 5, 6, 7, 8] [0, 1] rfl rfl (ci := 0) rfl rfl rfl rfl hl.1 rfl (Nat.le_of_ble_eq_true rfl) dX1_best_6 ⟨Nat.zero_le _, Nat.zero_le _⟩ (fun r6 e6 => ?_)
  subst e6
  exact W.iret (v := iI (sZ S2 c)) hx hb hr (fun t ht hWm => ⟨⟨_, (c, D, C, A, O, S2, Ln2, Ar2, Rd), rfl, (by exact ⟨S2, S2, Ln2, Ar2, hop, rfl, rfl⟩), by rw [ht]; exact hP, va_K.moved hWm.alike hK, hD⟩, hS.F ht⟩) hS.2.2 dX1_best_9
set_option maxHeartbeats 4000000 in
set_option maxRecDepth 100000 in
theorem metN_bestCode (l : Launch) (dC : Nat → ClassId) (dI : Nat → Nat → Nat) (ad : Nat → Nat) (cI cZ : ClassId) (n c : Nat) (D C : Nat → Nat) (A O S Ln Ar Rd : Nat → Int) (sz : Nat) (hW : WF n c D C A O) : Met l yX1_bestCode (ws_ yX1_bestCode cX1_bestCode 3 (some .int)) ({ frames := 5, cells := 0, slots := 0, locals := 117 }) (obW (dC, dI) vwCl (wN ad cI cZ n c D C A O S Ln Ar Rd) [(cI, .int), (cZ, .boolean)] sz [.ref (ad 0)]) (va_Qi (fun r u => ∃ x S2 Ln2 Ar2, Opt n c D C (rm D C A O) (gnA c (-1)) x ∧ r = iI (cdZ x c) ∧ u = (c, D, C, A, O, S2, Ln2, Ar2, Rd)) (obB (dC, dI) vwCl [(cI, .int), (cZ, .boolean)] (va_A (wN ad cI cZ n c D C A O S Ln Ar Rd) sz) (BN ad cI cZ n)) (va_A (wN ad cI cZ n c D C A O S Ln Ar Rd) sz)) 0 0 (va_A (wN ad cI cZ n c D C A O S Ln Ar Rd) sz) := by
  refine Met.ofW (cc := cX1_bestCode) (maxL := 3) (ret := (some .int)) (by decide) rfl ?_
  intro p e s m args below meth cd s₁ B hml hv
  obtain ⟨rfl, hsz, hP, hK, hD0⟩ := hv
  have hx := B.exec
  have hb := B.bytes
  have hr := B.returns
  have hts := atoms_spec (ws := (ws_ yX1_bestCode cX1_bestCode 3 (some .int))) B.pre
  have hts : ∀ w ∈ lw_all, w.before _ s = true := fun w h => hts w (List.mem_cons_of_mem _ h)
  have hown : s.vm.findClass RX1 = some m.cls := findClass_of_methodNamed B.named
  have hlocks := B.notSynchronized
  subst hsz
  have hD := hD0.self (sz := s.heap.size)
  generalize hAe : va_A (wN ad cI cZ n c D C A O S Ln Ar Rd) s.heap.size = AA at hD ⊢
  have hA : ∀ q : Nat, s.heap.size ≤ q → AA q := fun q h => by rw [← hAe]; exact Or.inr h
  have hS : va_S AA s.heap s.heap [] := va_S.rf
  have hl := lv_entry ([.ref (ad 0)]) (n := 3) (Nat.le_of_ble_eq_true rfl)
  rw [lg_entry_eq]
  generalize (lg_sl ([.ref (ad 0)]) ++ List.replicate (3 - (lg_sl ([.ref (ad 0)])).length) Slot.unset).toArray = ls at hl ⊢
  have hl : lv_has ls 3 [(0, .ref (ad 0))] := hl
  have hc := hW.2.2.1
  have hn := hW.2.1
  refine lv_aload_n hx hb dX1_bestCode_0 rfl (lv_at hl 0 rfl) ?_
  refine ob_ic hx hb dX1_bestCode_1 ?_
  refine ob_callV (As := [.int (iI ((-1)))]) (rest := []) (wr := []) (metN_solve l dC dI ad cI cZ n c D C A O S Ln Ar Rd s.heap.size (-1) (by omega) hW) ⟨hx, hb, hml, hown, hts⟩ (cwV 1 hts (lw_V q97 q99 qs2 q23 q100) rfl rfl rfl (by decide +kernel) ⟨Nat.le_of_ble_eq_true rfl, Nat.le_of_ble_eq_true rfl⟩) hK hP hD hS hA [0, 1, 2, 3, 4, 5, 6, 7, 8] [] [0, 1] rfl rfl rfl (by decide) (by decide) (by decide) rfl (ci := 0) rfl rfl rfl rfl hl.1 rfl (Nat.le_of_ble_eq_true rfl) dX1_bestCode_2 ⟨Nat.zero_le _, Nat.zero_le _⟩ (fun u2 H locs hw hP hD hS => ?_)
  obtain ⟨S2, Ln2, Ar2, rfl, hop⟩ := hw
  have hP : va_P (dC, dI) vwCl (wN ad cI cZ n c D C A O S2 Ln2 Ar2 Rd) H := hP
  have hD : va_D AA (wN ad cI cZ n c D C A O S2 Ln2 Ar2 Rd) := hD
  refine ob_ic hx hb dX1_bestCode_5 ?_
  refine lv_istore_n (lv' := [(1, .int (iI 0)), (0, .ref (ad 0))]) hx hb dX1_bestCode_6 rfl hl (by decide) rfl (fun ls hl => ?_)
  refine ob_ic hx hb dX1_bestCode_7 ?_
  refine lv_istore_n (lv' := [(2, .int (iI 0)), (1, .int (iI 0)), (0, .ref (ad 0))]) hx hb dX1_bestCode_8 rfl hl (by decide) rfl (fun ls hl => ?_)
  have lp_9 : ∀ (nn : Nat) (d : Nat), (c < d + nn) → (d ≤ c) → ∀ (H : Heap) (locs : List Loc), va_P (dC, dI) vwCl (wN ad cI cZ n c D C A O S2 Ln2 Ar2 Rd) H → va_D AA (wN ad cI cZ n c D C A O S2 Ln2 Ar2 Rd) → va_S AA s.heap H locs → ∀ (ls : Array Slot), lv_has ls 3 [(0, .ref (ad 0)), (1, .int (iI (cdZ S2 d))), (2, .int (iI d))] → W p l e (headSpec (ws_ yX1_bestCode cX1_bestCode 3 (some .int)) ({ frames := 5, cells := 0, slots := 0, locals := 117 })).room s m ([.ref (ad 0)] : List Value).toArray below meth cd H locs 0 0 (MQ below (va_Qi (fun r u => ∃ x S2 Ln2 Ar2, Opt n c D C (rm D C A O) (gnA c (-1)) x ∧ r = iI (cdZ x c) ∧ u = (c, D, C, A, O, S2, Ln2, Ar2, Rd)) (obB (dC, dI) vwCl [(cI, .int), (cZ, .boolean)] AA (BN ad cI cZ n)) AA) ([.ref (ad 0)] : List Value).toArray s 0 0 AA) (F0 m 9 ls []) := by
    intro nn
    induction nn with
    | zero => intro d hm hd; exfalso; omega
    | succ nn ih_9 =>
      intro d hm hd H locs hP hD hS ls hl
      refine lv_iload_n hx hb dX1_bestCode_9 rfl (lv_at hl 2 rfl) ?_
      refine lv_aload_n hx hb dX1_bestCode_10 rfl (lv_at hl 0 rfl) ?_
      refine va_get (D := (dC, dI)) (ci := 0) (v := .int (iI c)) (C := RX1) (T := TX1) (N := 11) hx hb hts in_X1 hown hK hP 0 rfl rfl 10 (by decide) (hts _ q43) (fun _ h9 => h9) rfl dX1_bestCode_11 ?_
      refine ob_icmp_ge (tgt := 34) hx hb dX1_bestCode_14 (by decide) (by omega) (by omega) (fun h14 => ?_) (fun h14 => ?_)
      · have ed : d = c := by omega
        refine lv_iload_n hx hb dX1_bestCode_34 rfl (lv_at hl 1 rfl) ?_
        exact W.iret (v := iI (cdZ S2 d)) hx hb hr (fun t ht hWm => ⟨⟨_, (c, D, C, A, O, S2, Ln2, Ar2, Rd), rfl, (by exact ⟨S2, S2, Ln2, Ar2, hop, by rw [ed], rfl⟩), by rw [ht]; exact hP, va_K.moved hWm.alike hK, hD⟩, hS.F ht⟩) hS.2.2 dX1_bestCode_35
      · refine ob_ic hx hb dX1_bestCode_17 ?_
        refine lv_iload_n hx hb dX1_bestCode_18 rfl (lv_at hl 1 rfl) ?_
        refine ob_imul hx hb dX1_bestCode_19 ?_
        refine lv_aload_n hx hb dX1_bestCode_20 rfl (lv_at hl 0 rfl) ?_
        refine va_get (D := (dC, dI)) (ci := 0) (v := .ref (ad 4)) (C := RX1) (T := TX1) (N := 11) hx hb hts in_X1 hown hK hP 0 rfl rfl 3 (by decide) (hts _ q36) (fun _ h9 => h9) rfl dX1_bestCode_21 ?_
        refine lv_iload_n hx hb dX1_bestCode_24 rfl (lv_at hl 2 rfl) ?_
        refine ob_iald hx hb hK hP 4 0 rfl rfl (d) (by omega) (by omega) (by decide) dX1_bestCode_25 ?_
        refine ob_iadd hx hb dX1_bestCode_26 ?_
        refine lv_istore_n (lv' := [(1, .int (iI ((4 * (cdZ S2 d)) + (S2 d)))), (0, .ref (ad 0)), (2, .int (iI d))]) hx hb dX1_bestCode_27 rfl hl (by decide) rfl (fun ls hl => ?_)
        refine ob_iinc (k := 2) hx hb (((d + 1 : Nat) : Int)) (lv' := [(2, .int (iI (((d + 1 : Nat) : Int)))), (1, .int (iI ((4 * (cdZ S2 d)) + (S2 d)))), (0, .ref (ad 0))]) dX1_bestCode_28 hl rfl (by omega) (by decide) rfl (fun ls hl => ?_)
        refine lv_goto (tgt := 9) hx hb dX1_bestCode_31 (by decide) ?_
        exact ih_9 (d + 1) (by omega) (by omega) _ _ hP hD hS ls (lv_sub hl [2, 1, 0] rfl)
  exact lp_9 (c + 1) 0 (by omega) (by omega) _ _ hP hD hS ls (lv_sub hl [2, 1, 0] rfl)
set_option maxHeartbeats 4000000 in
set_option maxRecDepth 100000 in
theorem metN_isClearing (l : Launch) (dC : Nat → ClassId) (dI : Nat → Nat → Nat) (ad : Nat → Nat) (cI cZ : ClassId) (n c : Nat) (D C : Nat → Nat) (A O S Ln Ar Rd : Nat → Int) (sz : Nat) (z : Int) (hz : -2147483648 ≤ z ∧ z < 2147483648) (hW : WF n c D C A O) : Met l yX1_isClearing (ws_ yX1_isClearing cX1_isClearing 2 (some .int)) ({ frames := 2, cells := 0, slots := 0, locals := 46 }) (obW (dC, dI) vwCl (wN ad cI cZ n c D C A O S Ln Ar Rd) [(cI, .int), (cZ, .boolean)] sz [.ref (ad 0), .int (iI z)]) (va_Qi (fun r u => ∃ Rd2, u = (c, D, C, A, O, S, Ln, Ar, Rd2) ∧ ((CC n c D C (rm D C A O) z ∧ r = iI 1) ∨ (¬ CC n c D C (rm D C A O) z ∧ r = iI 0))) (obB (dC, dI) vwCl [(cI, .int), (cZ, .boolean)] (va_A (wN ad cI cZ n c D C A O S Ln Ar Rd) sz) (BN ad cI cZ n)) (va_A (wN ad cI cZ n c D C A O S Ln Ar Rd) sz)) 0 0 (va_A (wN ad cI cZ n c D C A O S Ln Ar Rd) sz) := by
  refine Met.ofW (cc := cX1_isClearing) (maxL := 2) (ret := (some .int)) (by decide) rfl ?_
  intro p e s m args below meth cd s₁ B hml hv
  obtain ⟨rfl, hsz, hP, hK, hD0⟩ := hv
  have hx := B.exec
  have hb := B.bytes
  have hr := B.returns
  have hts := atoms_spec (ws := (ws_ yX1_isClearing cX1_isClearing 2 (some .int))) B.pre
  have hts : ∀ w ∈ lw_all, w.before _ s = true := fun w h => hts w (List.mem_cons_of_mem _ h)
  have hown : s.vm.findClass RX1 = some m.cls := findClass_of_methodNamed B.named
  have hlocks := B.notSynchronized
  subst hsz
  have hD := hD0.self (sz := s.heap.size)
  generalize hAe : va_A (wN ad cI cZ n c D C A O S Ln Ar Rd) s.heap.size = AA at hD ⊢
  have hA : ∀ q : Nat, s.heap.size ≤ q → AA q := fun q h => by rw [← hAe]; exact Or.inr h
  have hS : va_S AA s.heap s.heap [] := va_S.rf
  have hl := lv_entry ([.ref (ad 0), .int (iI z)]) (n := 2) (Nat.le_of_ble_eq_true rfl)
  rw [lg_entry_eq]
  generalize (lg_sl ([.ref (ad 0), .int (iI z)]) ++ List.replicate (2 - (lg_sl ([.ref (ad 0), .int (iI z)])).length) Slot.unset).toArray = ls at hl ⊢
  have hl : lv_has ls 2 [(0, .ref (ad 0)), (1, .int (iI z))] := hl
  have hc := hW.2.2.1
  have hn := hW.2.1
  refine lv_aload_n hx hb dX1_isClearing_0 rfl (lv_at hl 0 rfl) ?_
  refine lv_iload_n hx hb dX1_isClearing_1 rfl (lv_at hl 1 rfl) ?_
  refine ob_callI (As := [.int (iI z)]) (rest := []) (wr := []) (metN_load l dC dI ad cI cZ n c D C A O S Ln Ar Rd s.heap.size z hz hW) ⟨hx, hb, hml, hown, hts⟩ (cwV 1 hts (lw_V q138 q140 qs11 q23 q141) rfl rfl rfl (by decide +kernel) ⟨Nat.le_of_ble_eq_true rfl, Nat.le_of_ble_eq_true rfl⟩) hK hP hD hS hA [0, 1, 2, 3, 4, 5, 6, 7, 8] [] [0, 1] rfl rfl rfl (by decide) (by decide) (by decide) rfl (ci := 0) rfl rfl rfl rfl hl.1 rfl (Nat.le_of_ble_eq_true rfl) dX1_isClearing_2 ⟨Nat.zero_le _, Nat.zero_le _⟩ (fun r2 u2 H locs hw hP hD hS => ?_)
  obtain ⟨Rd2, rfl, hw⟩ := hw
  rcases hw with ⟨hcc, rfl, hrd⟩ | ⟨hno, rfl⟩
  · have hP : va_P (dC, dI) vwCl (wN ad cI cZ n c D C A O S Ln Ar Rd2) H := hP
    have hD : va_D AA (wN ad cI cZ n c D C A O S Ln Ar Rd2) := hD
    refine ob_if_eq (tgt := 12) hx hb dX1_isClearing_5 (by decide) (by omega) (fun h5 => ?_) (fun h5 => ?_)
    · exfalso; omega
    · refine ob_ic hx hb dX1_isClearing_8 ?_
      refine lv_goto (tgt := 13) hx hb dX1_isClearing_9 (by decide) ?_
      exact W.iret (v := iI 1) hx hb hr (fun t ht hWm => ⟨⟨_, (c, D, C, A, O, S, Ln, Ar, Rd2), rfl, (by first | exact ⟨_, rfl, Or.inl ⟨hcc, rfl⟩⟩ | exact ⟨_, rfl, Or.inr ⟨hno, rfl⟩⟩), by rw [ht]; exact hP, va_K.moved hWm.alike hK, hD⟩, hS.F ht⟩) hS.2.2 dX1_isClearing_13
  · have hP : va_P (dC, dI) vwCl (wN ad cI cZ n c D C A O S Ln Ar Rd2) H := hP
    have hD : va_D AA (wN ad cI cZ n c D C A O S Ln Ar Rd2) := hD
    refine ob_if_eq (tgt := 12) hx hb dX1_isClearing_5 (by decide) (by omega) (fun h5 => ?_) (fun h5 => ?_)
    · refine ob_ic hx hb dX1_isClearing_12 ?_
      exact W.iret (v := iI 0) hx hb hr (fun t ht hWm => ⟨⟨_, (c, D, C, A, O, S, Ln, Ar, Rd2), rfl, (by first | exact ⟨_, rfl, Or.inl ⟨hcc, rfl⟩⟩ | exact ⟨_, rfl, Or.inr ⟨hno, rfl⟩⟩), by rw [ht]; exact hP, va_K.moved hWm.alike hK, hD⟩, hS.F ht⟩) hS.2.2 dX1_isClearing_13
    · exfalso; omega
set_option maxHeartbeats 4000000 in
set_option maxRecDepth 100000 in
theorem metN_weight (l : Launch) (dC : Nat → ClassId) (dI : Nat → Nat → Nat) (ad : Nat → Nat) (cI cZ : ClassId) (n c : Nat) (D C : Nat → Nat) (A O S Ln Ar Rd : Nat → Int) (sz : Nat) (z : Int) (hz : -2147483648 ≤ z ∧ z < 2147483648) (hW : WF n c D C A O) : Met l yX1_weight (ws_ yX1_weight cX1_weight 5 (some .int)) ({ frames := 6, cells := 0, slots := 0, locals := 137 }) (obW (dC, dI) vwCl (wN ad cI cZ n c D C A O S Ln Ar Rd) [(cI, .int), (cZ, .boolean)] sz [.ref (ad 0), .int (iI z)]) (va_Qi (fun r u => ∃ S2 Ln2 Ar2, u = (c, D, C, A, O, S2, Ln2, Ar2, Rd) ∧ (((0 ≤ z ∧ z < (n : Int)) ∧ ∃ x y, Opt n c D C (rm D C A O) (gnA c (-1)) x ∧ Opt n c D C (rm D C A (va_up O z.toNat 1)) (gnA c (-1)) y ∧ r = iI (sZ x c - sZ y c)) ∨ (¬ (0 ≤ z ∧ z < (n : Int)) ∧ r = iI (-1)))) (obB (dC, dI) vwCl [(cI, .int), (cZ, .boolean)] (va_A (wN ad cI cZ n c D C A O S Ln Ar Rd) sz) (BN ad cI cZ n)) (va_A (wN ad cI cZ n c D C A O S Ln Ar Rd) sz)) 0 0 (va_A (wN ad cI cZ n c D C A O S Ln Ar Rd) sz) := by
  refine Met.ofW (cc := cX1_weight) (maxL := 5) (ret := (some .int)) (by decide) rfl ?_
  intro p e s m args below meth cd s₁ B hml hv
  obtain ⟨rfl, hsz, hP, hK, hD0⟩ := hv
  have hx := B.exec
  have hb := B.bytes
  have hr := B.returns
  have hts := atoms_spec (ws := (ws_ yX1_weight cX1_weight 5 (some .int))) B.pre
  have hts : ∀ w ∈ lw_all, w.before _ s = true := fun w h => hts w (List.mem_cons_of_mem _ h)
  have hown : s.vm.findClass RX1 = some m.cls := findClass_of_methodNamed B.named
  have hlocks := B.notSynchronized
  subst hsz
  have hD := hD0.self (sz := s.heap.size)
  generalize hAe : va_A (wN ad cI cZ n c D C A O S Ln Ar Rd) s.heap.size = AA at hD ⊢
  have hA : ∀ q : Nat, s.heap.size ≤ q → AA q := fun q h => by rw [← hAe]; exact Or.inr h
  have hS : va_S AA s.heap s.heap [] := va_S.rf
  have hl := lv_entry ([.ref (ad 0), .int (iI z)]) (n := 5) (Nat.le_of_ble_eq_true rfl)
  rw [lg_entry_eq]
  generalize (lg_sl ([.ref (ad 0), .int (iI z)]) ++ List.replicate (5 - (lg_sl ([.ref (ad 0), .int (iI z)])).length) Slot.unset).toArray = ls at hl ⊢
  have hl : lv_has ls 5 [(0, .ref (ad 0)), (1, .int (iI z))] := hl
  have hc := hW.2.2.1
  have hn := hW.2.1
  have o1 := hW.2.2.2.2 z.toNat
  refine lv_aload_n hx hb dX1_weight_0 rfl (lv_at hl 0 rfl) ?_
  refine lv_iload_n hx hb dX1_weight_1 rfl (lv_at hl 1 rfl) ?_
  refine ob_callR (As := [.int (iI z)]) (rest := []) (metN_isFirm l dC dI ad cI cZ n c D C A O S Ln Ar Rd z hz hn) ⟨hx, hb, hml, hown, hts⟩ (cwV 1 hts (lw_V q73 q75 qs0 q23 q76) rfl rfl rfl (by decide +kernel) ⟨Nat.le_of_ble_eq_true rfl, Nat.le_of_ble_eq_true rfl⟩) hK hP [0, 1, 2, 3, 4, 5, 6, 7, 8] [0, 1] rfl rfl (ci := 0) rfl rfl rfl rfl hl.1 rfl (Nat.le_of_ble_eq_true rfl) dX1_weight_2 ⟨Nat.zero_le _, Nat.zero_le _⟩ (fun r2 e2 => ?_)
  subst e2
  refine ob_if_ne (tgt := 10) hx hb dX1_weight_5 (by decide) (tb_bnd _) (fun h5 => ?_) (fun h5 => ?_)
  · have g5 := tb_t h5
    refine lv_aload_n hx hb dX1_weight_10 rfl (lv_at hl 0 rfl) ?_
    refine ob_callI (As := []) (rest := []) (wr := []) (metN_best l dC dI ad cI cZ n c D C A O S Ln Ar Rd s.heap.size hW) ⟨hx, hb, hml, hown, hts⟩ (cwV 0 hts (lw_V q182 q163 q164 q23 q165) rfl rfl rfl (by decide +kernel) ⟨Nat.le_of_ble_eq_true rfl, Nat.le_of_ble_eq_true rfl⟩) hK hP hD hS hA [0, 1, 2, 3, 4, 5, 6, 7, 8] [] [0, 1] rfl rfl rfl (by decide) (by decide) (by decide) rfl (ci := 0) rfl rfl rfl rfl hl.1 rfl (Nat.le_of_ble_eq_true rfl) dX1_weight_11 ⟨Nat.zero_le _, Nat.zero_le _⟩ (fun r11 u11 H locs hw hP hD hS => ?_)
    obtain ⟨x3, S3, Ln3, Ar3, hop3, rfl, rfl⟩ := hw
    have hP : va_P (dC, dI) vwCl (wN ad cI cZ n c D C A O S3 Ln3 Ar3 Rd) H := hP
    have hD : va_D AA (wN ad cI cZ n c D C A O S3 Ln3 Ar3 Rd) := hD
    refine lv_istore_n (lv' := [(2, .int (iI (sZ x3 c))), (0, .ref (ad 0)), (1, .int (iI z))]) hx hb dX1_weight_14 rfl hl (by decide) rfl (fun ls hl => ?_)
    refine lv_aload_n hx hb dX1_weight_15 rfl (lv_at hl 1 rfl) ?_
    refine va_get (D := (dC, dI)) (ci := 0) (v := .ref (ad 5)) (C := RX1) (T := TX1) (N := 11) hx hb hts in_X1 hown hK hP 0 rfl rfl 5 (by decide) (hts _ q38) (fun _ h9 => h9) rfl dX1_weight_16 ?_
    refine lv_iload_n hx hb dX1_weight_19 rfl (lv_at hl 2 rfl) ?_
    refine ob_zald hx hb hK hP 5 1 rfl rfl (z.toNat) (by omega) (by omega) (by decide) dX1_weight_20 ?_
    refine lv_istore_n (lv' := [(3, .int (iI (O z.toNat))), (2, .int (iI (sZ x3 c))), (0, .ref (ad 0)), (1, .int (iI z))]) hx hb dX1_weight_21 rfl hl (by decide) rfl (fun ls hl => ?_)
    refine lv_aload_n hx hb dX1_weight_22 rfl (lv_at hl 2 rfl) ?_
    refine va_get (D := (dC, dI)) (ci := 0) (v := .ref (ad 5)) (C := RX1) (T := TX1) (N := 11) hx hb hts in_X1 hown hK hP 0 rfl rfl 5 (by decide) (hts _ q38) (fun _ h9 => h9) rfl dX1_weight_23 ?_
    refine lv_iload_n hx hb dX1_weight_26 rfl (lv_at hl 3 rfl) ?_
    refine ob_ic hx hb dX1_weight_27 ?_
    refine ob_zast hx hb hK hP hD hS 5 1 rfl rfl (z.toNat) (by omega) (by omega) (by decide) (by omega) dX1_weight_28 (fun H locs hP hD hS => ?_)
    have hP : va_P (dC, dI) vwCl (wN ad cI cZ n c D C A (va_up O z.toNat 1) S3 Ln3 Ar3 Rd) H := hP
    have hD : va_D AA (wN ad cI cZ n c D C A (va_up O z.toNat 1) S3 Ln3 Ar3 Rd) := hD
    refine lv_aload_n hx hb dX1_weight_29 rfl (lv_at hl 2 rfl) ?_
    refine ob_callI (As := []) (rest := []) (wr := []) (metN_best l dC dI ad cI cZ n c D C A (va_up O z.toNat 1) S3 Ln3 Ar3 Rd H.size (hW.out z.toNat (Or.inr rfl))) ⟨hx, hb, hml, hown, hts⟩ (cwV 0 hts (lw_V q182 q163 q164 q23 q165) rfl rfl rfl (by decide +kernel) ⟨Nat.le_of_ble_eq_true rfl, Nat.le_of_ble_eq_true rfl⟩) hK hP hD hS hA [0, 1, 2, 3, 4, 5, 6, 7, 8] [] [0, 1] rfl rfl rfl (by decide) (by decide) (by decide) rfl (ci := 0) rfl rfl rfl rfl hl.1 rfl (Nat.le_of_ble_eq_true rfl) dX1_weight_30 ⟨Nat.zero_le _, Nat.zero_le _⟩ (fun r30 u30 H locs hw hP hD hS => ?_)
    obtain ⟨x4, S4, Ln4, Ar4, hop4, rfl, rfl⟩ := hw
    have hP : va_P (dC, dI) vwCl (wN ad cI cZ n c D C A (va_up O z.toNat 1) S4 Ln4 Ar4 Rd) H := hP
    have hD : va_D AA (wN ad cI cZ n c D C A (va_up O z.toNat 1) S4 Ln4 Ar4 Rd) := hD
    refine lv_istore (lv' := [(4, .int (iI (sZ x4 c))), (3, .int (iI (O z.toNat))), (2, .int (iI (sZ x3 c))), (0, .ref (ad 0)), (1, .int (iI z))]) hx hb dX1_weight_33 hl (by decide) rfl (fun ls hl => ?_)
    refine lv_aload_n hx hb dX1_weight_35 rfl (lv_at hl 3 rfl) ?_
    refine va_get (D := (dC, dI)) (ci := 0) (v := .ref (ad 5)) (C := RX1) (T := TX1) (N := 11) hx hb hts in_X1 hown hK hP 0 rfl rfl 5 (by decide) (hts _ q38) (fun _ h9 => h9) rfl dX1_weight_36 ?_
    refine lv_iload_n hx hb dX1_weight_39 rfl (lv_at hl 4 rfl) ?_
    refine lv_iload_n hx hb dX1_weight_40 rfl (lv_at hl 1 rfl) ?_
    refine ob_zast hx hb hK hP hD hS 5 1 rfl rfl (z.toNat) (by omega) (by omega) (by decide) (by omega) dX1_weight_41 (fun H locs hP hD hS => ?_)
    have hP : va_P (dC, dI) vwCl (wN ad cI cZ n c D C A (va_up (va_up O z.toNat 1) z.toNat (O z.toNat)) S4 Ln4 Ar4 Rd) H := hP
    have hD : va_D AA (wN ad cI cZ n c D C A (va_up (va_up O z.toNat 1) z.toNat (O z.toNat)) S4 Ln4 Ar4 Rd) := hD
    have hwe : va_up (va_up O z.toNat 1) z.toNat (O z.toNat) = O := up_back _ _ _
    rw [hwe] at hP hD
    clear hwe
    have hP : va_P (dC, dI) vwCl (wN ad cI cZ n c D C A O S4 Ln4 Ar4 Rd) H := hP
    have hD : va_D AA (wN ad cI cZ n c D C A O S4 Ln4 Ar4 Rd) := hD
    refine lv_iload_n hx hb dX1_weight_42 rfl (lv_at hl 2 rfl) ?_
    refine lv_iload hx hb dX1_weight_43 (lv_at hl 0 rfl) ?_
    refine ob_isub hx hb dX1_weight_45 ?_
    exact W.iret (v := iI ((sZ x3 c) - (sZ x4 c))) hx hb hr (fun t ht hWm => ⟨⟨_, (c, D, C, A, O, S4, Ln4, Ar4, Rd), rfl, (by exact ⟨_, _, _, rfl, Or.inl ⟨g5, x3, x4, hop3, hop4, rfl⟩⟩), by rw [ht]; exact hP, va_K.moved hWm.alike hK, hD⟩, hS.F ht⟩) hS.2.2 dX1_weight_46
  · have g5 := tb_f h5
    refine ob_ic hx hb dX1_weight_8 ?_
    exact W.iret (v := iI ((-1))) hx hb hr (fun t ht hWm => ⟨⟨_, (c, D, C, A, O, S, Ln, Ar, Rd), rfl, (by exact ⟨_, _, _, rfl, Or.inr ⟨g5, rfl⟩⟩), by rw [ht]; exact hP, va_K.moved hWm.alike hK, hD⟩, hS.F ht⟩) hS.2.2 dX1_weight_9
set_option maxHeartbeats 4000000 in
set_option maxRecDepth 100000 in
theorem metN_most (l : Launch) (dC : Nat → ClassId) (dI : Nat → Nat → Nat) (ad : Nat → Nat) (cI cZ : ClassId) (n c : Nat) (D C : Nat → Nat) (A O S Ln Ar Rd : Nat → Int) (sz : Nat) (z : Int) (hz : -2147483648 ≤ z ∧ z < 2147483648) (hW : WF n c D C A O) : Met l yX1_most (ws_ yX1_most cX1_most 2 (some .int)) ({ frames := 5, cells := 0, slots := 0, locals := 117 }) (obW (dC, dI) vwCl (wN ad cI cZ n c D C A O S Ln Ar Rd) [(cI, .int), (cZ, .boolean)] sz [.ref (ad 0), .int (iI z)]) (va_Qi (fun r u => ∃ S2 Ln2 Ar2, u = (c, D, C, A, O, S2, Ln2, Ar2, Rd) ∧ (((0 ≤ z ∧ z < (c : Int)) ∧ ∃ x, Opt n c D C (rm D C A O) (gnA c z) x ∧ r = iI (x z.toNat)) ∨ (¬ (0 ≤ z ∧ z < (c : Int)) ∧ r = iI (-1)))) (obB (dC, dI) vwCl [(cI, .int), (cZ, .boolean)] (va_A (wN ad cI cZ n c D C A O S Ln Ar Rd) sz) (BN ad cI cZ n)) (va_A (wN ad cI cZ n c D C A O S Ln Ar Rd) sz)) 0 0 (va_A (wN ad cI cZ n c D C A O S Ln Ar Rd) sz) := by
  refine Met.ofW (cc := cX1_most) (maxL := 2) (ret := (some .int)) (by decide) rfl ?_
  intro p e s m args below meth cd s₁ B hml hv
  obtain ⟨rfl, hsz, hP, hK, hD0⟩ := hv
  have hx := B.exec
  have hb := B.bytes
  have hr := B.returns
  have hts := atoms_spec (ws := (ws_ yX1_most cX1_most 2 (some .int))) B.pre
  have hts : ∀ w ∈ lw_all, w.before _ s = true := fun w h => hts w (List.mem_cons_of_mem _ h)
  have hown : s.vm.findClass RX1 = some m.cls := findClass_of_methodNamed B.named
  have hlocks := B.notSynchronized
  subst hsz
  have hD := hD0.self (sz := s.heap.size)
  generalize hAe : va_A (wN ad cI cZ n c D C A O S Ln Ar Rd) s.heap.size = AA at hD ⊢
  have hA : ∀ q : Nat, s.heap.size ≤ q → AA q := fun q h => by rw [← hAe]; exact Or.inr h
  have hS : va_S AA s.heap s.heap [] := va_S.rf
  have hl := lv_entry ([.ref (ad 0), .int (iI z)]) (n := 2) (Nat.le_of_ble_eq_true rfl)
  rw [lg_entry_eq]
  generalize (lg_sl ([.ref (ad 0), .int (iI z)]) ++ List.replicate (2 - (lg_sl ([.ref (ad 0), .int (iI z)])).length) Slot.unset).toArray = ls at hl ⊢
  have hl : lv_has ls 2 [(0, .ref (ad 0)), (1, .int (iI z))] := hl
  have hc := hW.2.2.1
  have hn := hW.2.1
  refine lv_aload_n hx hb dX1_most_0 rfl (lv_at hl 0 rfl) ?_
  refine lv_iload_n hx hb dX1_most_1 rfl (lv_at hl 1 rfl) ?_
  refine ob_callR (As := [.int (iI z)]) (rest := []) (metN_isDebt l dC dI ad cI cZ n c D C A O S Ln Ar Rd z hz hc) ⟨hx, hb, hml, hown, hts⟩ (cwV 1 hts (lw_V q81 q83 qs1 q23 q84) rfl rfl rfl (by decide +kernel) ⟨Nat.le_of_ble_eq_true rfl, Nat.le_of_ble_eq_true rfl⟩) hK hP [0, 1, 2, 3, 4, 5, 6, 7, 8] [0, 1] rfl rfl (ci := 0) rfl rfl rfl rfl hl.1 rfl (Nat.le_of_ble_eq_true rfl) dX1_most_2 ⟨Nat.zero_le _, Nat.zero_le _⟩ (fun r2 e2 => ?_)
  subst e2
  refine ob_if_ne (tgt := 10) hx hb dX1_most_5 (by decide) (tb_bnd _) (fun h5 => ?_) (fun h5 => ?_)
  · have g5 := tb_t h5
    refine lv_aload_n hx hb dX1_most_10 rfl (lv_at hl 0 rfl) ?_
    refine lv_iload_n hx hb dX1_most_11 rfl (lv_at hl 1 rfl) ?_
    refine ob_callV (As := [.int (iI z)]) (rest := []) (wr := []) (metN_solve l dC dI ad cI cZ n c D C A O S Ln Ar Rd s.heap.size z (by omega) hW) ⟨hx, hb, hml, hown, hts⟩ (cwV 1 hts (lw_V q97 q99 qs2 q23 q100) rfl rfl rfl (by decide +kernel) ⟨Nat.le_of_ble_eq_true rfl, Nat.le_of_ble_eq_true rfl⟩) hK hP hD hS hA [0, 1, 2, 3, 4, 5, 6, 7, 8] [] [0, 1] rfl rfl rfl (by decide) (by decide) (by decide) rfl (ci := 0) rfl rfl rfl rfl hl.1 rfl (Nat.le_of_ble_eq_true rfl) dX1_most_12 ⟨Nat.zero_le _, Nat.zero_le _⟩ (fun u12 H locs hw hP hD hS => ?_)
    obtain ⟨S2, Ln2, Ar2, rfl, hop⟩ := hw
    have hP : va_P (dC, dI) vwCl (wN ad cI cZ n c D C A O S2 Ln2 Ar2 Rd) H := hP
    have hD : va_D AA (wN ad cI cZ n c D C A O S2 Ln2 Ar2 Rd) := hD
    refine lv_aload_n hx hb dX1_most_15 rfl (lv_at hl 0 rfl) ?_
    refine va_get (D := (dC, dI)) (ci := 0) (v := .ref (ad 4)) (C := RX1) (T := TX1) (N := 11) hx hb hts in_X1 hown hK hP 0 rfl rfl 3 (by decide) (hts _ q36) (fun _ h9 => h9) rfl dX1_most_16 ?_
    refine lv_iload_n hx hb dX1_most_19 rfl (lv_at hl 1 rfl) ?_
    refine ob_iald hx hb hK hP 4 0 rfl rfl (z.toNat) (by omega) (by omega) (by decide) dX1_most_20 ?_
    exact W.iret (v := iI (S2 z.toNat)) hx hb hr (fun t ht hWm => ⟨⟨_, (c, D, C, A, O, S2, Ln2, Ar2, Rd), rfl, (by exact ⟨_, _, _, rfl, Or.inl ⟨g5, S2, hop, rfl⟩⟩), by rw [ht]; exact hP, va_K.moved hWm.alike hK, hD⟩, hS.F ht⟩) hS.2.2 dX1_most_21
  · have g5 := tb_f h5
    refine ob_ic hx hb dX1_most_8 ?_
    exact W.iret (v := iI ((-1))) hx hb hr (fun t ht hWm => ⟨⟨_, (c, D, C, A, O, S, Ln, Ar, Rd), rfl, (by exact ⟨_, _, _, rfl, Or.inr ⟨g5, rfl⟩⟩), by rw [ht]; exact hP, va_K.moved hWm.alike hK, hD⟩, hS.F ht⟩) hS.2.2 dX1_most_9
set_option maxHeartbeats 4000000 in
set_option maxRecDepth 100000 in
theorem metN_possible (l : Launch) (dC : Nat → ClassId) (dI : Nat → Nat → Nat) (ad : Nat → Nat) (cI cZ : ClassId) (n c : Nat) (D C : Nat → Nat) (A O S Ln Ar Rd : Nat → Int) (sz : Nat) (hW : WF n c D C A O) : Met l yX1_possible (ws_ yX1_possible cX1_possible 1 (some .int)) ({ frames := 5, cells := 0, slots := 0, locals := 117 }) (obW (dC, dI) vwCl (wN ad cI cZ n c D C A O S Ln Ar Rd) [(cI, .int), (cZ, .boolean)] sz [.ref (ad 0)]) (va_Qi (fun r u => ∃ x S2 Ln2 Ar2, Opt n c D C (rm D C A O) (gnA c (-1)) x ∧ r = iI (tb (0 < sZ x c)) ∧ u = (c, D, C, A, O, S2, Ln2, Ar2, Rd)) (obB (dC, dI) vwCl [(cI, .int), (cZ, .boolean)] (va_A (wN ad cI cZ n c D C A O S Ln Ar Rd) sz) (BN ad cI cZ n)) (va_A (wN ad cI cZ n c D C A O S Ln Ar Rd) sz)) 0 0 (va_A (wN ad cI cZ n c D C A O S Ln Ar Rd) sz) := by
  refine Met.ofW (cc := cX1_possible) (maxL := 1) (ret := (some .int)) (by decide) rfl ?_
  intro p e s m args below meth cd s₁ B hml hv
  obtain ⟨rfl, hsz, hP, hK, hD0⟩ := hv
  have hx := B.exec
  have hb := B.bytes
  have hr := B.returns
  have hts := atoms_spec (ws := (ws_ yX1_possible cX1_possible 1 (some .int))) B.pre
  have hts : ∀ w ∈ lw_all, w.before _ s = true := fun w h => hts w (List.mem_cons_of_mem _ h)
  have hown : s.vm.findClass RX1 = some m.cls := findClass_of_methodNamed B.named
  have hlocks := B.notSynchronized
  subst hsz
  have hD := hD0.self (sz := s.heap.size)
  generalize hAe : va_A (wN ad cI cZ n c D C A O S Ln Ar Rd) s.heap.size = AA at hD ⊢
  have hA : ∀ q : Nat, s.heap.size ≤ q → AA q := fun q h => by rw [← hAe]; exact Or.inr h
  have hS : va_S AA s.heap s.heap [] := va_S.rf
  have hl := lv_entry ([.ref (ad 0)]) (n := 1) (Nat.le_of_ble_eq_true rfl)
  rw [lg_entry_eq]
  generalize (lg_sl ([.ref (ad 0)]) ++ List.replicate (1 - (lg_sl ([.ref (ad 0)])).length) Slot.unset).toArray = ls at hl ⊢
  have hl : lv_has ls 1 [(0, .ref (ad 0))] := hl
  have hc := hW.2.2.1
  have hn := hW.2.1
  refine lv_aload_n hx hb dX1_possible_0 rfl (lv_at hl 0 rfl) ?_
  refine ob_ic hx hb dX1_possible_1 ?_
  refine ob_callV (As := [.int (iI ((-1)))]) (rest := []) (wr := []) (metN_solve l dC dI ad cI cZ n c D C A O S Ln Ar Rd s.heap.size (-1) (by omega) hW) ⟨hx, hb, hml, hown, hts⟩ (cwV 1 hts (lw_V q97 q99 qs2 q23 q100) rfl rfl rfl (by decide +kernel) ⟨Nat.le_of_ble_eq_true rfl, Nat.le_of_ble_eq_true rfl⟩) hK hP hD hS hA [0, 1, 2, 3, 4, 5, 6, 7, 8] [] [0, 1] rfl rfl rfl (by decide) (by decide) (by decide) rfl (ci := 0) rfl rfl rfl rfl hl.1 rfl (Nat.le_of_ble_eq_true rfl) dX1_possible_2 ⟨Nat.zero_le _, Nat.zero_le _⟩ (fun u2 H locs hw hP hD hS => ?_)
  obtain ⟨S2, Ln2, Ar2, rfl, hop⟩ := hw
  have hP : va_P (dC, dI) vwCl (wN ad cI cZ n c D C A O S2 Ln2 Ar2 Rd) H := hP
  have hD : va_D AA (wN ad cI cZ n c D C A O S2 Ln2 Ar2 Rd) := hD
  refine lv_aload_n hx hb dX1_possible_5 rfl (lv_at hl 0 rfl) ?_
  refine ob_callR (As := []) (rest := []) (metN_totalNow l dC dI ad cI cZ n c D C A O S2 Ln2 Ar2 Rd hc) ⟨hx, hb, hml, hown, hts⟩ (cwV 0 hts (lw_V q166 q168 qs13 q23 q169) rfl rfl rfl (by decide +kernel) ⟨Nat.le_of_ble_eq_true rfl, Nat.le_of_ble_eq_true rfl⟩) hK hP [0, 1, 2, 3, 4, 5, 6, 7, 8] [0, 1] rfl rfl (ci := 0) rfl rfl rfl rfl hl.1 rfl (Nat.le_of_ble_eq_true rfl) dX1_possible_6 ⟨Nat.zero_le _, Nat.zero_le _⟩ (fun r6 e6 => ?_)
  subst e6
  have sb := sZ_bnd3 hc (hop.1.b3 hW)
  refine ob_if_le (tgt := 16) hx hb dX1_possible_9 (by decide) (by omega) (fun h9 => ?_) (fun h9 => ?_)
  · refine ob_ic hx hb dX1_possible_16 ?_
    exact W.iret (v := iI 0) hx hb hr (fun t ht hWm => ⟨⟨_, (c, D, C, A, O, S2, Ln2, Ar2, Rd), rfl, (by exact ⟨S2, S2, Ln2, Ar2, hop, (by first | rw [tb_1 (by omega)] | rw [tb_0 (by omega)]), rfl⟩), by rw [ht]; exact hP, va_K.moved hWm.alike hK, hD⟩, hS.F ht⟩) hS.2.2 dX1_possible_17
  · refine ob_ic hx hb dX1_possible_12 ?_
    refine lv_goto (tgt := 17) hx hb dX1_possible_13 (by decide) ?_
    exact W.iret (v := iI 1) hx hb hr (fun t ht hWm => ⟨⟨_, (c, D, C, A, O, S2, Ln2, Ar2, Rd), rfl, (by exact ⟨S2, S2, Ln2, Ar2, hop, (by first | rw [tb_1 (by omega)] | rw [tb_0 (by omega)]), rfl⟩), by rw [ht]; exact hP, va_K.moved hWm.alike hK, hD⟩, hS.F ht⟩) hS.2.2 dX1_possible_17
end
section
/-! FACTS for the model's walks -/
theorem net_step {D C : Nat → Nat} {Nt x : Nat → Int} {d : Nat} (hne : D d ≠ C d) (f : Nat) : va_up (va_up Nt (D d) (Nt (D d) - x d)) (C d) ((va_up Nt (D d) (Nt (D d) - x d)) (C d) + x d) f = Nt f + tf D C x f d := by
  unfold tf
  rw [up_ne Nt _ (show C d ≠ D d from fun q => hne q.symm)]
  by_cases q1 : f = C d
  · rw [q1, up_eq, if_pos rfl, if_neg hne]; omega
  · rw [up_ne _ _ q1, if_neg (fun q => q1 q.symm)]
    by_cases q2 : f = D d
    · rw [q2, up_eq, if_pos rfl]; omega
    · rw [up_ne _ _ q2, if_neg (fun q => q2 q.symm)]; omega
theorem tf_out {n c : Nat} {D C : Nat → Nat} {x : Nat → Int} (h : ∀ d, d < c → D d < n ∧ C d < n) {f : Nat} (hf : n ≤ f) : sZ (tf D C x f) c = 0 := sZ_zero c (fun d hd => by
  have h1 := h d hd
  unfold tf
  rw [if_neg (by omega), if_neg (by omega)]; rfl)
theorem dgZ_0 (c d : Nat) : dgZ c 0 d = 0 := by
  unfold dgZ dgN
  simp
theorem CC_of {n c : Nat} {D C : Nat → Nat} {R : Nat → Int} {k : Nat} (hk : k < 4 ^ c) (h : Clr n c D C R (dgZ c k)) : CC n c D C R (k : Int) := ⟨by omega, Int.ofNat_lt.mpr hk, h⟩
theorem sum0 {x : Nat → Int} : ∀ c, (∀ d, d < c → 0 ≤ x d) → sZ x c ≤ 0 → ∀ d, d < c → x d = 0 := by
  intro c
  induction c with
  | zero => intro _ _ d hd; exact absurd hd (by omega)
  | succ c ih =>
    intro h hs d hd
    have hs : sZ x c + x c ≤ 0 := hs
    have h1 := h c (by omega)
    have h2 : 0 ≤ sZ x c := by
      have q := sZ_le (f := fun _ => 0) (g := x) c (fun j hj => h j (by omega))
      rw [sZ_zero c (fun _ _ => rfl)] at q
      exact q
    by_cases q : d = c
    · rw [q]; omega
    · exact ih (fun j hj => h j (by omega)) (by omega) d (by omega)
theorem sbt_zero {A x : Nat → Int} {c e : Nat} (h : ∀ d, d < c → x d = 0) (he : e ≤ c) : sbt A x e = sbt A x c := by
  funext j
  unfold sbt
  by_cases q : j < e
  · rw [if_pos q, if_pos (by omega)]
  · rw [if_neg q]
    by_cases q2 : j < c
    · rw [if_pos q2, h j q2]; omega
    · rw [if_neg q2]
/-- what the search holds of the codes below k -/
def SI (n c : Nat) (D C : Nat → Nat) (R : Nat → Int) (k ch : Nat) (ms : Int) : Prop :=
  ch < 4 ^ c ∧ ch ≤ k ∧ Clr n c D C R (dgZ c ch) ∧ ms = sZ (dgZ c ch) c ∧ ∀ j, j < k → Clr n c D C R (dgZ c j) → sZ (dgZ c j) c < ms ∨ (sZ (dgZ c j) c = ms ∧ ch ≤ j)
theorem SI.init {n c : Nat} {D C : Nat → Nat} {R : Nat → Int} (hR : ∀ d, d < c → 0 ≤ R d) : SI n c D C R 0 0 0 := by
  refine ⟨Nat.pow_pos (by decide), Nat.le_refl 0, Clr.zero hR (fun d _ => dgZ_0 c d), ?_, fun j hj => absurd hj (by omega)⟩
  rw [sZ_zero c (fun d _ => dgZ_0 c d)]
theorem SI.new {n c : Nat} {D C : Nat → Nat} {R : Nat → Int} {k ch : Nat} {ms : Int} (h : SI n c D C R k ch ms) (hk : k < 4 ^ c) (hc : Clr n c D C R (dgZ c k)) (hl : ms < sZ (dgZ c k) c) : SI n c D C R (k + 1) k (sZ (dgZ c k) c) := by
  obtain ⟨h1, h2, h3, h4, h5⟩ := h
  refine ⟨hk, by omega, hc, rfl, fun j hj hcj => ?_⟩
  by_cases q : j = k
  · subst q
    exact Or.inr ⟨rfl, Nat.le_refl _⟩
  · rcases h5 j (by omega) hcj with z | ⟨z, -⟩
    · exact Or.inl (by omega)
    · exact Or.inl (by omega)
theorem SI.old {n c : Nat} {D C : Nat → Nat} {R : Nat → Int} {k ch : Nat} {ms : Int} (h : SI n c D C R k ch ms) (hl : Clr n c D C R (dgZ c k) → sZ (dgZ c k) c ≤ ms) : SI n c D C R (k + 1) ch ms := by
  obtain ⟨h1, h2, h3, h4, h5⟩ := h
  refine ⟨h1, by omega, h3, h4, fun j hj hcj => ?_⟩
  by_cases q : j = k
  · subst q
    have := hl hcj
    omega
  · exact h5 j (by omega) hcj
theorem SI.opt {n c : Nat} {D C : Nat → Nat} {A O : Nat → Int} {ch : Nat} {ms : Int} (hW : WF n c D C A O) (h : SI n c D C (rm D C A O) (4 ^ c) ch ms) : Opt n c D C (rm D C A O) (gnA c (-1)) (dgZ c ch) := by
  obtain ⟨h1, h2, h3, h4, h5⟩ := h
  refine ⟨h3, fun y hy => ?_⟩
  obtain ⟨j, j1, j2, j3⟩ := cd_of c (hy.b3 hW)
  have hp := p4_le hW.2.2.1
  rw [← gG_congr c j3, gG_code c _ (by decide), gG_code c _ (by decide), cdZ_dg c j j1, cdZ_dg c ch h1]
  have h6 := h5 j j1 (hy.congr (fun d hd => (j3 d hd).symm))
  rw [← h4]
  rcases h6 with z | ⟨z, z2⟩
  · omega
  · omega
/-- what the search for a debt's most holds of the codes below k -/
def MI (n c : Nat) (D C : Nat → Nat) (R : Nat → Int) (q k : Nat) (fd : Int) : Prop :=
  (0 ≤ fd ∧ fd ≤ 3) ∧ (∃ y, Clr n c D C R y ∧ y q = fd) ∧ ∀ j, j < k → Clr n c D C R (dgZ c j) → dgZ c j q ≤ fd
theorem MI.init {n c : Nat} {D C : Nat → Nat} {R : Nat → Int} (q : Nat) (hR : ∀ d, d < c → 0 ≤ R d) : MI n c D C R q 0 0 :=
  ⟨by omega, ⟨dgZ c 0, Clr.zero hR (fun d _ => dgZ_0 c d), dgZ_0 c q⟩, fun j hj => absurd hj (by omega)⟩
theorem MI.new {n c : Nat} {D C : Nat → Nat} {R : Nat → Int} {q k : Nat} {fd : Int} (h : MI n c D C R q k fd) (hc : Clr n c D C R (dgZ c k)) (hl : fd < dgZ c k q) : MI n c D C R q (k + 1) (dgZ c k q) := by
  obtain ⟨h1, h2, h3⟩ := h
  refine ⟨dgZ_bnd c k q, ⟨dgZ c k, hc, rfl⟩, fun j hj hcj => ?_⟩
  by_cases e : j = k
  · rw [e]; exact Int.le_refl _
  · have := h3 j (by omega) hcj
    omega
theorem MI.old {n c : Nat} {D C : Nat → Nat} {R : Nat → Int} {q k : Nat} {fd : Int} (h : MI n c D C R q k fd) (hl : Clr n c D C R (dgZ c k) → dgZ c k q ≤ fd) : MI n c D C R q (k + 1) fd := by
  obtain ⟨h1, h2, h3⟩ := h
  refine ⟨h1, h2, fun j hj hcj => ?_⟩
  by_cases e : j = k
  · rw [e]; rw [e] at hcj; exact hl hcj
  · exact h3 j (by omega) hcj
theorem MI.opt {n c : Nat} {D C : Nat → Nat} {A O : Nat → Int} {z fd : Int} (hW : WF n c D C A O) (hz : 0 ≤ z ∧ z < (c : Int)) (h : MI n c D C (rm D C A O) z.toNat (4 ^ c) fd) : ∃ x, Opt n c D C (rm D C A O) (gnA c z) x ∧ x z.toNat = fd := by
  obtain ⟨h1, ⟨y, y1, y2⟩, h3⟩ := h
  have ez : z = ((z.toNat : Nat) : Int) := by omega
  have hq : z.toNat < c := by omega
  refine ⟨y, ⟨y1, fun t ht => ?_⟩, y2⟩
  obtain ⟨j, j1, j2, j3⟩ := cd_of c (ht.b3 hW)
  have h6 := h3 j j1 (ht.congr (fun d hd => (j3 d hd).symm))
  rw [j3 _ hq] at h6
  rw [ez, gG_fav c t hq, gG_fav c y hq, y2]
  exact h6
end
section
/-! ObligationNettingModel: what needs no search -/
set_option maxHeartbeats 4000000 in
set_option maxRecDepth 100000 in
theorem metM_badFirm (l : Launch) (dC : Nat → ClassId) (dI : Nat → Nat → Nat) (bd : Nat → Nat) (cI cZ : ClassId) (n c : Nat) (D C : Nat → Nat) (A O Nt : Nat → Int) (z : Int) (hz : -2147483648 ≤ z ∧ z < 2147483648) (hn : n ≤ 5) : Met l yX2_badFirm (ws_ yX2_badFirm cX2_badFirm 2 (some .boolean)) ({ frames := 0, cells := 0, slots := 0, locals := 0 }) (obR (dC, dI) vwCl (wM bd cI cZ n c D C A O Nt) [(cI, .int), (cZ, .boolean)] [.ref (bd 0), .int (iI z)]) (vp_Si (fun r => r = iI (tb (¬ (0 ≤ z ∧ z < (n : Int)))))) 0 0 (fun _ => False) := by
  refine Met.ofW (cc := cX2_badFirm) (maxL := 2) (ret := (some .boolean)) (by decide) rfl ?_
  intro p e s m args below meth cd s₁ B hml hv
  obtain ⟨rfl, hP, hK⟩ := hv
  have hx := B.exec
  have hb := B.bytes
  have hr := B.returns
  have hts := atoms_spec (ws := (ws_ yX2_badFirm cX2_badFirm 2 (some .boolean))) B.pre
  have hts : ∀ w ∈ lw_all, w.before _ s = true := fun w h => hts w (List.mem_cons_of_mem _ h)
  have hown : s.vm.findClass RX2 = some m.cls := findClass_of_methodNamed B.named
  have hlocks := B.notSynchronized
  have hl := lv_entry ([.ref (bd 0), .int (iI z)]) (n := 2) (Nat.le_of_ble_eq_true rfl)
  rw [lg_entry_eq]
  generalize (lg_sl ([.ref (bd 0), .int (iI z)]) ++ List.replicate (2 - (lg_sl ([.ref (bd 0), .int (iI z)])).length) Slot.unset).toArray = ls at hl ⊢
  have hl : lv_has ls 2 [(0, .ref (bd 0)), (1, .int (iI z))] := hl
  refine lv_iload_n hx hb dX2_badFirm_0 rfl (lv_at hl 1 rfl) ?_
  refine ob_if_lt (tgt := 17) hx hb dX2_badFirm_1 (by decide) (by omega) (fun h1 => ?_) (fun h1 => ?_)
  · refine ob_ic hx hb dX2_badFirm_17 ?_
    refine lv_goto (tgt := 22) hx hb dX2_badFirm_18 (by decide) ?_
    exact W.zret (v := iI 1) hx hb hr (by decide) (fun t ht hWm => ⟨_, rfl, (by first | rw [tb_1 (by omega)] | rw [tb_0 (by omega)]), ht⟩) (fun q h => by cases h) dX2_badFirm_22
  · refine lv_iload_n hx hb dX2_badFirm_4 rfl (lv_at hl 1 rfl) ?_
    refine lv_aload_n hx hb dX2_badFirm_5 rfl (lv_at hl 0 rfl) ?_
    refine va_get (D := (dC, dI)) (ci := 1) (v := .int (iI n)) (C := RX2) (T := TX2) (N := 7) hx hb hts in_X2 hown hK hP 0 rfl rfl 0 (by decide) (hts _ q204) (fun _ h9 => h9) rfl dX2_badFirm_6 ?_
    refine ob_icmp_ge (tgt := 17) hx hb dX2_badFirm_9 (by decide) (by omega) (by omega) (fun h9 => ?_) (fun h9 => ?_)
    · refine ob_ic hx hb dX2_badFirm_17 ?_
      refine lv_goto (tgt := 22) hx hb dX2_badFirm_18 (by decide) ?_
      exact W.zret (v := iI 1) hx hb hr (by decide) (fun t ht hWm => ⟨_, rfl, (by first | rw [tb_1 (by omega)] | rw [tb_0 (by omega)]), ht⟩) (fun q h => by cases h) dX2_badFirm_22
    · refine lv_iload_n hx hb dX2_badFirm_12 rfl (lv_at hl 1 rfl) ?_
      refine ob_ic hx hb dX2_badFirm_13 ?_
      refine ob_icmp_le (tgt := 21) hx hb dX2_badFirm_14 (by decide) (by omega) (by omega) (fun h14 => ?_) (fun h14 => ?_)
      · refine ob_ic hx hb dX2_badFirm_21 ?_
        exact W.zret (v := iI 0) hx hb hr (by decide) (fun t ht hWm => ⟨_, rfl, (by first | rw [tb_1 (by omega)] | rw [tb_0 (by omega)]), ht⟩) (fun q h => by cases h) dX2_badFirm_22
      · refine ob_ic hx hb dX2_badFirm_17 ?_
        refine lv_goto (tgt := 22) hx hb dX2_badFirm_18 (by decide) ?_
        exact W.zret (v := iI 1) hx hb hr (by decide) (fun t ht hWm => ⟨_, rfl, (by first | rw [tb_1 (by omega)] | rw [tb_0 (by omega)]), ht⟩) (fun q h => by cases h) dX2_badFirm_22
set_option maxHeartbeats 4000000 in
set_option maxRecDepth 100000 in
theorem metM_bad (l : Launch) (dC : Nat → ClassId) (dI : Nat → Nat → Nat) (bd : Nat → Nat) (cI cZ : ClassId) (n c : Nat) (D C : Nat → Nat) (A O Nt : Nat → Int) (z : Int) (hz : -2147483648 ≤ z ∧ z < 2147483648) (hc : c ≤ 7) : Met l yX2_bad (ws_ yX2_bad cX2_bad 2 (some .boolean)) ({ frames := 0, cells := 0, slots := 0, locals := 0 }) (obR (dC, dI) vwCl (wM bd cI cZ n c D C A O Nt) [(cI, .int), (cZ, .boolean)] [.ref (bd 0), .int (iI z)]) (vp_Si (fun r => r = iI (tb (¬ (0 ≤ z ∧ z < (c : Int)))))) 0 0 (fun _ => False) := by
  refine Met.ofW (cc := cX2_bad) (maxL := 2) (ret := (some .boolean)) (by decide) rfl ?_
  intro p e s m args below meth cd s₁ B hml hv
  obtain ⟨rfl, hP, hK⟩ := hv
  have hx := B.exec
  have hb := B.bytes
  have hr := B.returns
  have hts := atoms_spec (ws := (ws_ yX2_bad cX2_bad 2 (some .boolean))) B.pre
  have hts : ∀ w ∈ lw_all, w.before _ s = true := fun w h => hts w (List.mem_cons_of_mem _ h)
  have hown : s.vm.findClass RX2 = some m.cls := findClass_of_methodNamed B.named
  have hlocks := B.notSynchronized
  have hl := lv_entry ([.ref (bd 0), .int (iI z)]) (n := 2) (Nat.le_of_ble_eq_true rfl)
  rw [lg_entry_eq]
  generalize (lg_sl ([.ref (bd 0), .int (iI z)]) ++ List.replicate (2 - (lg_sl ([.ref (bd 0), .int (iI z)])).length) Slot.unset).toArray = ls at hl ⊢
  have hl : lv_has ls 2 [(0, .ref (bd 0)), (1, .int (iI z))] := hl
  refine lv_iload_n hx hb dX2_bad_0 rfl (lv_at hl 1 rfl) ?_
  refine ob_if_lt (tgt := 18) hx hb dX2_bad_1 (by decide) (by omega) (fun h1 => ?_) (fun h1 => ?_)
  · refine ob_ic hx hb dX2_bad_18 ?_
    refine lv_goto (tgt := 23) hx hb dX2_bad_19 (by decide) ?_
    exact W.zret (v := iI 1) hx hb hr (by decide) (fun t ht hWm => ⟨_, rfl, (by first | rw [tb_1 (by omega)] | rw [tb_0 (by omega)]), ht⟩) (fun q h => by cases h) dX2_bad_23
  · refine lv_iload_n hx hb dX2_bad_4 rfl (lv_at hl 1 rfl) ?_
    refine lv_aload_n hx hb dX2_bad_5 rfl (lv_at hl 0 rfl) ?_
    refine va_get (D := (dC, dI)) (ci := 1) (v := .int (iI c)) (C := RX2) (T := TX2) (N := 7) hx hb hts in_X2 hown hK hP 0 rfl rfl 1 (by decide) (hts _ q205) (fun _ h9 => h9) rfl dX2_bad_6 ?_
    refine ob_icmp_ge (tgt := 18) hx hb dX2_bad_9 (by decide) (by omega) (by omega) (fun h9 => ?_) (fun h9 => ?_)
    · refine ob_ic hx hb dX2_bad_18 ?_
      refine lv_goto (tgt := 23) hx hb dX2_bad_19 (by decide) ?_
      exact W.zret (v := iI 1) hx hb hr (by decide) (fun t ht hWm => ⟨_, rfl, (by first | rw [tb_1 (by omega)] | rw [tb_0 (by omega)]), ht⟩) (fun q h => by cases h) dX2_bad_23
    · refine lv_iload_n hx hb dX2_bad_12 rfl (lv_at hl 1 rfl) ?_
      refine ob_bi hx hb dX2_bad_13 (by decide) ?_
      refine ob_icmp_le (tgt := 22) hx hb dX2_bad_15 (by decide) (by omega) (by omega) (fun h15 => ?_) (fun h15 => ?_)
      · refine ob_ic hx hb dX2_bad_22 ?_
        exact W.zret (v := iI 0) hx hb hr (by decide) (fun t ht hWm => ⟨_, rfl, (by first | rw [tb_1 (by omega)] | rw [tb_0 (by omega)]), ht⟩) (fun q h => by cases h) dX2_bad_23
      · refine ob_ic hx hb dX2_bad_18 ?_
        refine lv_goto (tgt := 23) hx hb dX2_bad_19 (by decide) ?_
        exact W.zret (v := iI 1) hx hb hr (by decide) (fun t ht hWm => ⟨_, rfl, (by first | rw [tb_1 (by omega)] | rw [tb_0 (by omega)]), ht⟩) (fun q h => by cases h) dX2_bad_23
set_option maxHeartbeats 4000000 in
set_option maxRecDepth 100000 in
theorem metM_digit (l : Launch) (dC : Nat → ClassId) (dI : Nat → Nat → Nat) (bd : Nat → Nat) (cI cZ : ClassId) (n c : Nat) (D C : Nat → Nat) (A O Nt : Nat → Int) (k d : Nat) (hk : k < 2147483648) (hd : d < c) (hc : c ≤ 7) : Met l yX2_digit (ws_ yX2_digit cX2_digit 4 (some .int)) ({ frames := 0, cells := 0, slots := 0, locals := 0 }) (obR (dC, dI) vwCl (wM bd cI cZ n c D C A O Nt) [(cI, .int), (cZ, .boolean)] [.ref (bd 0), .int (iI k), .int (iI d)]) (vp_Si (fun r => r = iI (dgN c k d))) 0 0 (fun _ => False) := by
  refine Met.ofW (cc := cX2_digit) (maxL := 4) (ret := (some .int)) (by decide) rfl ?_
  intro p e s m args below meth cd s₁ B hml hv
  obtain ⟨rfl, hP, hK⟩ := hv
  have hx := B.exec
  have hb := B.bytes
  have hr := B.returns
  have hts := atoms_spec (ws := (ws_ yX2_digit cX2_digit 4 (some .int))) B.pre
  have hts : ∀ w ∈ lw_all, w.before _ s = true := fun w h => hts w (List.mem_cons_of_mem _ h)
  have hown : s.vm.findClass RX2 = some m.cls := findClass_of_methodNamed B.named
  have hlocks := B.notSynchronized
  have hl := lv_entry ([.ref (bd 0), .int (iI k), .int (iI d)]) (n := 4) (Nat.le_of_ble_eq_true rfl)
  rw [lg_entry_eq]
  generalize (lg_sl ([.ref (bd 0), .int (iI k), .int (iI d)]) ++ List.replicate (4 - (lg_sl ([.ref (bd 0), .int (iI k), .int (iI d)])).length) Slot.unset).toArray = ls at hl ⊢
  have hl : lv_has ls 4 [(0, .ref (bd 0)), (1, .int (iI k)), (2, .int (iI d))] := hl
  refine ob_ic hx hb dX2_digit_0 ?_
  refine lv_aload_n hx hb dX2_digit_1 rfl (lv_at hl 0 rfl) ?_
  refine va_get (D := (dC, dI)) (ci := 1) (v := .int (iI c)) (C := RX2) (T := TX2) (N := 7) hx hb hts in_X2 hown hK hP 0 rfl rfl 1 (by decide) (hts _ q205) (fun _ h9 => h9) rfl dX2_digit_2 ?_
  refine ob_ic hx hb dX2_digit_5 ?_
  refine ob_isub hx hb dX2_digit_6 ?_
  refine lv_iload_n hx hb dX2_digit_7 rfl (lv_at hl 2 rfl) ?_
  refine ob_isub hx hb dX2_digit_8 ?_
  refine ob_imul hx hb dX2_digit_9 ?_
  refine ob_top (((2 * (c - 1 - d) : Nat) : Int)) (by omega) ?_
  refine lv_istore_n (lv' := [(3, .int (iI (((2 * (c - 1 - d) : Nat) : Int)))), (0, .ref (bd 0)), (1, .int (iI k)), (2, .int (iI d))]) hx hb dX2_digit_10 rfl hl (by decide) rfl (fun ls hl => ?_)
  refine lv_iload_n hx hb dX2_digit_11 rfl (lv_at hl 0 rfl) ?_
  refine ob_if_ge (tgt := 19) hx hb dX2_digit_12 (by decide) (by omega) (fun h12 => ?_) (fun h12 => ?_)
  · have kb : k / 2 ^ (2 * (c - 1 - d)) ≤ k := Nat.div_le_self _ _
    refine lv_iload_n hx hb dX2_digit_19 rfl (lv_at hl 2 rfl) ?_
    refine lv_iload_n hx hb dX2_digit_20 rfl (lv_at hl 0 rfl) ?_
    refine ob_ishr hx hb dX2_digit_21 (k) (2 * (c - 1 - d)) (by omega) (by omega) (by omega) (by omega) ?_
    refine ob_ic hx hb dX2_digit_22 ?_
    refine ob_iand3 hx hb dX2_digit_23 (k / 2 ^ (2 * (c - 1 - d))) (by omega) (by omega) ?_
    exact W.iret (v := iI ((((k / 2 ^ (2 * (c - 1 - d))) % 4 : Nat) : Int))) hx hb hr (fun t ht hWm => ⟨_, rfl, (by unfold dgN; rw [← p42]), ht⟩) (fun q h => by cases h) dX2_digit_24
  · exfalso; omega
set_option maxHeartbeats 4000000 in
set_option maxRecDepth 100000 in
theorem metM_debts (l : Launch) (dC : Nat → ClassId) (dI : Nat → Nat → Nat) (bd : Nat → Nat) (cI cZ : ClassId) (n c : Nat) (D C : Nat → Nat) (A O Nt : Nat → Int)  : Met l yX2_debts (ws_ yX2_debts cX2_debts 1 (some .int)) ({ frames := 0, cells := 0, slots := 0, locals := 0 }) (obR (dC, dI) vwCl (wM bd cI cZ n c D C A O Nt) [(cI, .int), (cZ, .boolean)] [.ref (bd 0)]) (vp_Si (fun r => r = iI c)) 0 0 (fun _ => False) := by
  refine Met.ofW (cc := cX2_debts) (maxL := 1) (ret := (some .int)) (by decide) rfl ?_
  intro p e s m args below meth cd s₁ B hml hv
  obtain ⟨rfl, hP, hK⟩ := hv
  have hx := B.exec
  have hb := B.bytes
  have hr := B.returns
  have hts := atoms_spec (ws := (ws_ yX2_debts cX2_debts 1 (some .int))) B.pre
  have hts : ∀ w ∈ lw_all, w.before _ s = true := fun w h => hts w (List.mem_cons_of_mem _ h)
  have hown : s.vm.findClass RX2 = some m.cls := findClass_of_methodNamed B.named
  have hlocks := B.notSynchronized
  have hl := lv_entry ([.ref (bd 0)]) (n := 1) (Nat.le_of_ble_eq_true rfl)
  rw [lg_entry_eq]
  generalize (lg_sl ([.ref (bd 0)]) ++ List.replicate (1 - (lg_sl ([.ref (bd 0)])).length) Slot.unset).toArray = ls at hl ⊢
  have hl : lv_has ls 1 [(0, .ref (bd 0))] := hl
  refine lv_aload_n hx hb dX2_debts_0 rfl (lv_at hl 0 rfl) ?_
  refine va_get (D := (dC, dI)) (ci := 1) (v := .int (iI c)) (C := RX2) (T := TX2) (N := 7) hx hb hts in_X2 hown hK hP 0 rfl rfl 1 (by decide) (hts _ q205) (fun _ h9 => h9) rfl dX2_debts_1 ?_
  exact W.iret (v := iI c) hx hb hr (fun t ht hWm => ⟨_, rfl, (by rfl), ht⟩) (fun q h => by cases h) dX2_debts_4
set_option maxHeartbeats 4000000 in
set_option maxRecDepth 100000 in
theorem metM_amount (l : Launch) (dC : Nat → ClassId) (dI : Nat → Nat → Nat) (bd : Nat → Nat) (cI cZ : ClassId) (n c : Nat) (D C : Nat → Nat) (A O Nt : Nat → Int) (z : Int) (hz : -2147483648 ≤ z ∧ z < 2147483648) (hc : c ≤ 7) : Met l yX2_amount (ws_ yX2_amount cX2_amount 2 (some .int)) ({ frames := 1, cells := 0, slots := 0, locals := 21 }) (obR (dC, dI) vwCl (wM bd cI cZ n c D C A O Nt) [(cI, .int), (cZ, .boolean)] [.ref (bd 0), .int (iI z)]) (vp_Si (fun r => r = iI (if 0 ≤ z ∧ z < (c : Int) then A z.toNat else -1))) 0 0 (fun _ => False) := by
  refine Met.ofW (cc := cX2_amount) (maxL := 2) (ret := (some .int)) (by decide) rfl ?_
  intro p e s m args below meth cd s₁ B hml hv
  obtain ⟨rfl, hP, hK⟩ := hv
  have hx := B.exec
  have hb := B.bytes
  have hr := B.returns
  have hts := atoms_spec (ws := (ws_ yX2_amount cX2_amount 2 (some .int))) B.pre
  have hts : ∀ w ∈ lw_all, w.before _ s = true := fun w h => hts w (List.mem_cons_of_mem _ h)
  have hown : s.vm.findClass RX2 = some m.cls := findClass_of_methodNamed B.named
  have hlocks := B.notSynchronized
  have hl := lv_entry ([.ref (bd 0), .int (iI z)]) (n := 2) (Nat.le_of_ble_eq_true rfl)
  rw [lg_entry_eq]
  generalize (lg_sl ([.ref (bd 0), .int (iI z)]) ++ List.replicate (2 - (lg_sl ([.ref (bd 0), .int (iI z)])).length) Slot.unset).toArray = ls at hl ⊢
  have hl : lv_has ls 2 [(0, .ref (bd 0)), (1, .int (iI z))] := hl
  refine lv_aload_n hx hb dX2_amount_0 rfl (lv_at hl 0 rfl) ?_
  refine lv_iload_n hx hb dX2_amount_1 rfl (lv_at hl 1 rfl) ?_
  refine ob_callR (As := [.int (iI z)]) (rest := []) (metM_bad l dC dI bd cI cZ n c D C A O Nt z hz hc) ⟨hx, hb, hml, hown, hts⟩ (cwV 1 hts (lw_V q238 q240 qs15 q24 q241) rfl rfl rfl (by decide +kernel) ⟨Nat.le_of_ble_eq_true rfl, Nat.le_of_ble_eq_true rfl⟩) hK hP [0, 1, 2, 3, 4, 5] [0, 1] rfl rfl (ci := 1) rfl rfl rfl rfl hl.1 rfl (Nat.le_of_ble_eq_true rfl) dX2_amount_2 ⟨Nat.zero_le _, Nat.zero_le _⟩ (fun r2 e2 => ?_)
  subst e2
  refine ob_if_eq (tgt := 12) hx hb dX2_amount_5 (by decide) (tb_bnd _) (fun h5 => ?_) (fun h5 => ?_)
  · have g5 := tb_f h5
    refine lv_aload_n hx hb dX2_amount_12 rfl (lv_at hl 0 rfl) ?_
    refine va_get (D := (dC, dI)) (ci := 1) (v := .ref (bd 3)) (C := RX2) (T := TX2) (N := 7) hx hb hts in_X2 hown hK hP 0 rfl rfl 4 (by decide) (hts _ q208) (fun _ h9 => h9) rfl dX2_amount_13 ?_
    refine lv_iload_n hx hb dX2_amount_16 rfl (lv_at hl 1 rfl) ?_
    refine ob_iald hx hb hK hP 3 0 rfl rfl (z.toNat) (by omega) (by omega) (by decide) dX2_amount_17 ?_
    exact W.iret (v := iI (A z.toNat)) hx hb hr (fun t ht hWm => ⟨_, rfl, (by first | rw [if_pos (by omega)] | rw [if_neg (by omega)]), ht⟩) (fun q h => by cases h) dX2_amount_18
  · have g5 := tb_t h5
    refine ob_ic hx hb dX2_amount_8 ?_
    refine lv_goto (tgt := 18) hx hb dX2_amount_9 (by decide) ?_
    exact W.iret (v := iI ((-1))) hx hb hr (fun t ht hWm => ⟨_, rfl, (by first | rw [if_pos (by omega)] | rw [if_neg (by omega)]), ht⟩) (fun q h => by cases h) dX2_amount_18
set_option maxHeartbeats 4000000 in
set_option maxRecDepth 100000 in
theorem metM_outstanding (l : Launch) (dC : Nat → ClassId) (dI : Nat → Nat → Nat) (bd : Nat → Nat) (cI cZ : ClassId) (n c : Nat) (D C : Nat → Nat) (A O Nt : Nat → Int) (hc : c ≤ 7) : Met l yX2_outstanding (ws_ yX2_outstanding cX2_outstanding 3 (some .int)) ({ frames := 0, cells := 0, slots := 0, locals := 0 }) (obR (dC, dI) vwCl (wM bd cI cZ n c D C A O Nt) [(cI, .int), (cZ, .boolean)] [.ref (bd 0)]) (vp_Si (fun r => r = iI (sZ A c))) 0 0 (fun _ => False) := by
  refine Met.ofW (cc := cX2_outstanding) (maxL := 3) (ret := (some .int)) (by decide) rfl ?_
  intro p e s m args below meth cd s₁ B hml hv
  obtain ⟨rfl, hP, hK⟩ := hv
  have hx := B.exec
  have hb := B.bytes
  have hr := B.returns
  have hts := atoms_spec (ws := (ws_ yX2_outstanding cX2_outstanding 3 (some .int))) B.pre
  have hts : ∀ w ∈ lw_all, w.before _ s = true := fun w h => hts w (List.mem_cons_of_mem _ h)
  have hown : s.vm.findClass RX2 = some m.cls := findClass_of_methodNamed B.named
  have hlocks := B.notSynchronized
  have hl := lv_entry ([.ref (bd 0)]) (n := 3) (Nat.le_of_ble_eq_true rfl)
  rw [lg_entry_eq]
  generalize (lg_sl ([.ref (bd 0)]) ++ List.replicate (3 - (lg_sl ([.ref (bd 0)])).length) Slot.unset).toArray = ls at hl ⊢
  have hl : lv_has ls 3 [(0, .ref (bd 0))] := hl
  refine ob_ic hx hb dX2_outstanding_0 ?_
  refine lv_istore_n (lv' := [(1, .int (iI 0)), (0, .ref (bd 0))]) hx hb dX2_outstanding_1 rfl hl (by decide) rfl (fun ls hl => ?_)
  refine ob_ic hx hb dX2_outstanding_2 ?_
  refine lv_istore_n (lv' := [(2, .int (iI 0)), (1, .int (iI 0)), (0, .ref (bd 0))]) hx hb dX2_outstanding_3 rfl hl (by decide) rfl (fun ls hl => ?_)
  have lp_4 : ∀ (nn : Nat) (d : Nat), (c < d + nn) → (d ≤ c) → ∀ (ls : Array Slot), lv_has ls 3 [(0, .ref (bd 0)), (1, .int (iI (sZ A d))), (2, .int (iI d))] → W p l e (headSpec (ws_ yX2_outstanding cX2_outstanding 3 (some .int)) ({ frames := 0, cells := 0, slots := 0, locals := 0 })).room s m ([.ref (bd 0)] : List Value).toArray below meth cd s.heap [] 0 0 (MQ below (vp_Si (fun r => r = iI (sZ A c))) ([.ref (bd 0)] : List Value).toArray s 0 0 (fun _ => False)) (F0 m 4 ls []) := by
    intro nn
    induction nn with
    | zero => intro d hm hd; exfalso; omega
    | succ nn ih_4 =>
      intro d hm hd ls hl
      refine lv_iload_n hx hb dX2_outstanding_4 rfl (lv_at hl 2 rfl) ?_
      refine lv_aload_n hx hb dX2_outstanding_5 rfl (lv_at hl 0 rfl) ?_
      refine va_get (D := (dC, dI)) (ci := 1) (v := .int (iI c)) (C := RX2) (T := TX2) (N := 7) hx hb hts in_X2 hown hK hP 0 rfl rfl 1 (by decide) (hts _ q205) (fun _ h9 => h9) rfl dX2_outstanding_6 ?_
      refine ob_icmp_ge (tgt := 33) hx hb dX2_outstanding_9 (by decide) (by omega) (by omega) (fun h9 => ?_) (fun h9 => ?_)
      · have ed : d = c := by omega
        subst ed
        refine lv_iload_n hx hb dX2_outstanding_33 rfl (lv_at hl 1 rfl) ?_
        exact W.iret (v := iI (sZ A d)) hx hb hr (fun t ht hWm => ⟨_, rfl, (by rfl), ht⟩) (fun q h => by cases h) dX2_outstanding_34
      · refine lv_iload_n hx hb dX2_outstanding_12 rfl (lv_at hl 2 rfl) ?_
        refine ob_bi hx hb dX2_outstanding_13 (by decide) ?_
        refine ob_icmp_ge (tgt := 33) hx hb dX2_outstanding_15 (by decide) (by omega) (by omega) (fun h15 => ?_) (fun h15 => ?_)
        · exfalso; omega
        · refine lv_iload_n hx hb dX2_outstanding_18 rfl (lv_at hl 1 rfl) ?_
          refine lv_aload_n hx hb dX2_outstanding_19 rfl (lv_at hl 0 rfl) ?_
          refine va_get (D := (dC, dI)) (ci := 1) (v := .ref (bd 3)) (C := RX2) (T := TX2) (N := 7) hx hb hts in_X2 hown hK hP 0 rfl rfl 4 (by decide) (hts _ q208) (fun _ h9 => h9) rfl dX2_outstanding_20 ?_
          refine lv_iload_n hx hb dX2_outstanding_23 rfl (lv_at hl 2 rfl) ?_
          refine ob_iald hx hb hK hP 3 0 rfl rfl (d) (by omega) (by omega) (by decide) dX2_outstanding_24 ?_
          refine ob_iadd hx hb dX2_outstanding_25 ?_
          refine lv_istore_n (lv' := [(1, .int (iI ((sZ A d) + (A d)))), (0, .ref (bd 0)), (2, .int (iI d))]) hx hb dX2_outstanding_26 rfl hl (by decide) rfl (fun ls hl => ?_)
          refine ob_iinc (k := 2) hx hb (((d + 1 : Nat) : Int)) (lv' := [(2, .int (iI (((d + 1 : Nat) : Int)))), (1, .int (iI ((sZ A d) + (A d)))), (0, .ref (bd 0))]) dX2_outstanding_27 hl rfl (by omega) (by decide) rfl (fun ls hl => ?_)
          refine lv_goto (tgt := 4) hx hb dX2_outstanding_30 (by decide) ?_
          exact ih_4 (d + 1) (by omega) (by omega) ls (lv_sub hl [2, 1, 0] rfl)
  exact lp_4 (c + 1) 0 (by omega) (by omega) ls (lv_sub hl [2, 1, 0] rfl)
set_option maxHeartbeats 4000000 in
set_option maxRecDepth 100000 in
theorem metM_saldo (l : Launch) (dC : Nat → ClassId) (dI : Nat → Nat → Nat) (bd : Nat → Nat) (cI cZ : ClassId) (n c : Nat) (D C : Nat → Nat) (A O Nt : Nat → Int) (f : Nat) (hf : f < 5) (hc : c ≤ 7) (hDC : ∀ d, d < c → D d < 5 ∧ C d < 5) : Met l yX2_saldo (ws_ yX2_saldo cX2_saldo 4 (some .int)) ({ frames := 0, cells := 0, slots := 0, locals := 0 }) (obR (dC, dI) vwCl (wM bd cI cZ n c D C A O Nt) [(cI, .int), (cZ, .boolean)] [.ref (bd 0), .int (iI f)]) (vp_Si (fun r => r = iI (sZ (tf D C A f) c))) 0 0 (fun _ => False) := by
  refine Met.ofW (cc := cX2_saldo) (maxL := 4) (ret := (some .int)) (by decide) rfl ?_
  intro p e s m args below meth cd s₁ B hml hv
  obtain ⟨rfl, hP, hK⟩ := hv
  have hx := B.exec
  have hb := B.bytes
  have hr := B.returns
  have hts := atoms_spec (ws := (ws_ yX2_saldo cX2_saldo 4 (some .int))) B.pre
  have hts : ∀ w ∈ lw_all, w.before _ s = true := fun w h => hts w (List.mem_cons_of_mem _ h)
  have hown : s.vm.findClass RX2 = some m.cls := findClass_of_methodNamed B.named
  have hlocks := B.notSynchronized
  have hl := lv_entry ([.ref (bd 0), .int (iI f)]) (n := 4) (Nat.le_of_ble_eq_true rfl)
  rw [lg_entry_eq]
  generalize (lg_sl ([.ref (bd 0), .int (iI f)]) ++ List.replicate (4 - (lg_sl ([.ref (bd 0), .int (iI f)])).length) Slot.unset).toArray = ls at hl ⊢
  have hl : lv_has ls 4 [(0, .ref (bd 0)), (1, .int (iI f))] := hl
  refine ob_ic hx hb dX2_saldo_0 ?_
  refine lv_istore_n (lv' := [(2, .int (iI 0)), (0, .ref (bd 0)), (1, .int (iI f))]) hx hb dX2_saldo_1 rfl hl (by decide) rfl (fun ls hl => ?_)
  refine ob_ic hx hb dX2_saldo_2 ?_
  refine lv_istore_n (lv' := [(3, .int (iI 0)), (2, .int (iI 0)), (0, .ref (bd 0)), (1, .int (iI f))]) hx hb dX2_saldo_3 rfl hl (by decide) rfl (fun ls hl => ?_)
  have lp_4 : ∀ (nn : Nat) (d : Nat), (c < d + nn) → (d ≤ c) → ∀ (ls : Array Slot), lv_has ls 4 [(0, .ref (bd 0)), (1, .int (iI f)), (2, .int (iI (sZ (tf D C A f) d))), (3, .int (iI d))] → W p l e (headSpec (ws_ yX2_saldo cX2_saldo 4 (some .int)) ({ frames := 0, cells := 0, slots := 0, locals := 0 })).room s m ([.ref (bd 0), .int (iI f)] : List Value).toArray below meth cd s.heap [] 0 0 (MQ below (vp_Si (fun r => r = iI (sZ (tf D C A f) c))) ([.ref (bd 0), .int (iI f)] : List Value).toArray s 0 0 (fun _ => False)) (F0 m 4 ls []) := by
    intro nn
    induction nn with
    | zero => intro d hm hd; exfalso; omega
    | succ nn ih_4 =>
      intro d hm hd ls hl
      refine lv_iload_n hx hb dX2_saldo_4 rfl (lv_at hl 3 rfl) ?_
      refine lv_aload_n hx hb dX2_saldo_5 rfl (lv_at hl 0 rfl) ?_
      refine va_get (D := (dC, dI)) (ci := 1) (v := .int (iI c)) (C := RX2) (T := TX2) (N := 7) hx hb hts in_X2 hown hK hP 0 rfl rfl 1 (by decide) (hts _ q205) (fun _ h9 => h9) rfl dX2_saldo_6 ?_
      refine ob_icmp_ge (tgt := 62) hx hb dX2_saldo_9 (by decide) (by omega) (by omega) (fun h9 => ?_) (fun h9 => ?_)
      · have ed : d = c := by omega
        subst ed
        refine lv_iload_n hx hb dX2_saldo_62 rfl (lv_at hl 2 rfl) ?_
        exact W.iret (v := iI (sZ (tf D C A f) d)) hx hb hr (fun t ht hWm => ⟨_, rfl, (by rfl), ht⟩) (fun q h => by cases h) dX2_saldo_63
      · have dc := hDC d (by omega)
        refine lv_iload_n hx hb dX2_saldo_12 rfl (lv_at hl 3 rfl) ?_
        refine ob_bi hx hb dX2_saldo_13 (by decide) ?_
        refine ob_icmp_ge (tgt := 62) hx hb dX2_saldo_15 (by decide) (by omega) (by omega) (fun h15 => ?_) (fun h15 => ?_)
        · exfalso; omega
        · refine lv_aload_n hx hb dX2_saldo_18 rfl (lv_at hl 0 rfl) ?_
          refine va_get (D := (dC, dI)) (ci := 1) (v := .ref (bd 2)) (C := RX2) (T := TX2) (N := 7) hx hb hts in_X2 hown hK hP 0 rfl rfl 3 (by decide) (hts _ q207) (fun _ h9 => h9) rfl dX2_saldo_19 ?_
          refine lv_iload_n hx hb dX2_saldo_22 rfl (lv_at hl 3 rfl) ?_
          refine ob_iald hx hb hK hP 2 0 rfl rfl (d) (by omega) (by omega) (by decide) dX2_saldo_23 ?_
          refine lv_iload_n hx hb dX2_saldo_24 rfl (lv_at hl 1 rfl) ?_
          refine ob_icmp_ne (tgt := 37) hx hb dX2_saldo_25 (by decide) (by omega) (by omega) (fun h25 => ?_) (fun h25 => ?_)
          · refine lv_aload_n hx hb dX2_saldo_37 rfl (lv_at hl 0 rfl) ?_
            refine va_get (D := (dC, dI)) (ci := 1) (v := .ref (bd 1)) (C := RX2) (T := TX2) (N := 7) hx hb hts in_X2 hown hK hP 0 rfl rfl 2 (by decide) (hts _ q206) (fun _ h9 => h9) rfl dX2_saldo_38 ?_
            refine lv_iload_n hx hb dX2_saldo_41 rfl (lv_at hl 3 rfl) ?_
            refine ob_iald hx hb hK hP 1 0 rfl rfl (d) (by omega) (by omega) (by decide) dX2_saldo_42 ?_
            refine lv_iload_n hx hb dX2_saldo_43 rfl (lv_at hl 1 rfl) ?_
            refine ob_icmp_ne (tgt := 56) hx hb dX2_saldo_44 (by decide) (by omega) (by omega) (fun h44 => ?_) (fun h44 => ?_)
            · have hle : (sZ (tf D C A f) d) = (sZ (tf D C A f) (d + 1) : Int) := by show _ = sZ (tf D C A f) d + ((if C d = f then A d else 0) - (if D d = f then A d else 0)); split <;> split <;> omega
              rw [hle] at hl
              clear hle
              have hl : lv_has ls 4 [(0, .ref (bd 0)), (1, .int (iI f)), (2, .int (iI (sZ (tf D C A f) (d + 1)))), (3, .int (iI d))] := hl
              refine ob_iinc (k := 3) hx hb (((d + 1 : Nat) : Int)) (lv' := [(3, .int (iI (((d + 1 : Nat) : Int)))), (0, .ref (bd 0)), (1, .int (iI f)), (2, .int (iI (sZ (tf D C A f) (d + 1))))]) dX2_saldo_56 hl rfl (by omega) (by decide) rfl (fun ls hl => ?_)
              refine lv_goto (tgt := 4) hx hb dX2_saldo_59 (by decide) ?_
              exact ih_4 (d + 1) (by omega) (by omega) ls (lv_sub hl [1, 2, 3, 0] rfl)
            · refine lv_iload_n hx hb dX2_saldo_47 rfl (lv_at hl 2 rfl) ?_
              refine lv_aload_n hx hb dX2_saldo_48 rfl (lv_at hl 0 rfl) ?_
              refine va_get (D := (dC, dI)) (ci := 1) (v := .ref (bd 3)) (C := RX2) (T := TX2) (N := 7) hx hb hts in_X2 hown hK hP 0 rfl rfl 4 (by decide) (hts _ q208) (fun _ h9 => h9) rfl dX2_saldo_49 ?_
              refine lv_iload_n hx hb dX2_saldo_52 rfl (lv_at hl 3 rfl) ?_
              refine ob_iald hx hb hK hP 3 0 rfl rfl (d) (by omega) (by omega) (by decide) dX2_saldo_53 ?_
              refine ob_isub hx hb dX2_saldo_54 ?_
              refine lv_istore_n (lv' := [(2, .int (iI ((sZ (tf D C A f) d) - (A d)))), (0, .ref (bd 0)), (1, .int (iI f)), (3, .int (iI d))]) hx hb dX2_saldo_55 rfl hl (by decide) rfl (fun ls hl => ?_)
              have hle : ((sZ (tf D C A f) d) - (A d)) = (sZ (tf D C A f) (d + 1) : Int) := by show _ = sZ (tf D C A f) d + ((if C d = f then A d else 0) - (if D d = f then A d else 0)); split <;> split <;> omega
              rw [hle] at hl
              clear hle
              have hl : lv_has ls 4 [(2, .int (iI (sZ (tf D C A f) (d + 1)))), (0, .ref (bd 0)), (1, .int (iI f)), (3, .int (iI d))] := hl
              refine ob_iinc (k := 3) hx hb (((d + 1 : Nat) : Int)) (lv' := [(3, .int (iI (((d + 1 : Nat) : Int)))), (2, .int (iI (sZ (tf D C A f) (d + 1)))), (0, .ref (bd 0)), (1, .int (iI f))]) dX2_saldo_56 hl rfl (by omega) (by decide) rfl (fun ls hl => ?_)
              refine lv_goto (tgt := 4) hx hb dX2_saldo_59 (by decide) ?_
              exact ih_4 (d + 1) (by omega) (by omega) ls (lv_sub hl [2, 3, 1, 0] rfl)
          · refine lv_iload_n hx hb dX2_saldo_28 rfl (lv_at hl 2 rfl) ?_
            refine lv_aload_n hx hb dX2_saldo_29 rfl (lv_at hl 0 rfl) ?_
            refine va_get (D := (dC, dI)) (ci := 1) (v := .ref (bd 3)) (C := RX2) (T := TX2) (N := 7) hx hb hts in_X2 hown hK hP 0 rfl rfl 4 (by decide) (hts _ q208) (fun _ h9 => h9) rfl dX2_saldo_30 ?_
            refine lv_iload_n hx hb dX2_saldo_33 rfl (lv_at hl 3 rfl) ?_
            refine ob_iald hx hb hK hP 3 0 rfl rfl (d) (by omega) (by omega) (by decide) dX2_saldo_34 ?_
            refine ob_iadd hx hb dX2_saldo_35 ?_
            refine lv_istore_n (lv' := [(2, .int (iI ((sZ (tf D C A f) d) + (A d)))), (0, .ref (bd 0)), (1, .int (iI f)), (3, .int (iI d))]) hx hb dX2_saldo_36 rfl hl (by decide) rfl (fun ls hl => ?_)
            refine lv_aload_n hx hb dX2_saldo_37 rfl (lv_at hl 1 rfl) ?_
            refine va_get (D := (dC, dI)) (ci := 1) (v := .ref (bd 1)) (C := RX2) (T := TX2) (N := 7) hx hb hts in_X2 hown hK hP 0 rfl rfl 2 (by decide) (hts _ q206) (fun _ h9 => h9) rfl dX2_saldo_38 ?_
            refine lv_iload_n hx hb dX2_saldo_41 rfl (lv_at hl 3 rfl) ?_
            refine ob_iald hx hb hK hP 1 0 rfl rfl (d) (by omega) (by omega) (by decide) dX2_saldo_42 ?_
            refine lv_iload_n hx hb dX2_saldo_43 rfl (lv_at hl 2 rfl) ?_
            refine ob_icmp_ne (tgt := 56) hx hb dX2_saldo_44 (by decide) (by omega) (by omega) (fun h44 => ?_) (fun h44 => ?_)
            · have hle : ((sZ (tf D C A f) d) + (A d)) = (sZ (tf D C A f) (d + 1) : Int) := by show _ = sZ (tf D C A f) d + ((if C d = f then A d else 0) - (if D d = f then A d else 0)); split <;> split <;> omega
              rw [hle] at hl
              clear hle
              have hl : lv_has ls 4 [(2, .int (iI (sZ (tf D C A f) (d + 1)))), (0, .ref (bd 0)), (1, .int (iI f)), (3, .int (iI d))] := hl
              refine ob_iinc (k := 3) hx hb (((d + 1 : Nat) : Int)) (lv' := [(3, .int (iI (((d + 1 : Nat) : Int)))), (2, .int (iI (sZ (tf D C A f) (d + 1)))), (0, .ref (bd 0)), (1, .int (iI f))]) dX2_saldo_56 hl rfl (by omega) (by decide) rfl (fun ls hl => ?_)
              refine lv_goto (tgt := 4) hx hb dX2_saldo_59 (by decide) ?_
              exact ih_4 (d + 1) (by omega) (by omega) ls (lv_sub hl [2, 3, 1, 0] rfl)
            · refine lv_iload_n hx hb dX2_saldo_47 rfl (lv_at hl 0 rfl) ?_
              refine lv_aload_n hx hb dX2_saldo_48 rfl (lv_at hl 1 rfl) ?_
              refine va_get (D := (dC, dI)) (ci := 1) (v := .ref (bd 3)) (C := RX2) (T := TX2) (N := 7) hx hb hts in_X2 hown hK hP 0 rfl rfl 4 (by decide) (hts _ q208) (fun _ h9 => h9) rfl dX2_saldo_49 ?_
              refine lv_iload_n hx hb dX2_saldo_52 rfl (lv_at hl 3 rfl) ?_
              refine ob_iald hx hb hK hP 3 0 rfl rfl (d) (by omega) (by omega) (by decide) dX2_saldo_53 ?_
              refine ob_isub hx hb dX2_saldo_54 ?_
              refine lv_istore_n (lv' := [(2, .int (iI (((sZ (tf D C A f) d) + (A d)) - (A d)))), (0, .ref (bd 0)), (1, .int (iI f)), (3, .int (iI d))]) hx hb dX2_saldo_55 rfl hl (by decide) rfl (fun ls hl => ?_)
              have hle : (((sZ (tf D C A f) d) + (A d)) - (A d)) = (sZ (tf D C A f) (d + 1) : Int) := by show _ = sZ (tf D C A f) d + ((if C d = f then A d else 0) - (if D d = f then A d else 0)); split <;> split <;> omega
              rw [hle] at hl
              clear hle
              have hl : lv_has ls 4 [(2, .int (iI (sZ (tf D C A f) (d + 1)))), (0, .ref (bd 0)), (1, .int (iI f)), (3, .int (iI d))] := hl
              refine ob_iinc (k := 3) hx hb (((d + 1 : Nat) : Int)) (lv' := [(3, .int (iI (((d + 1 : Nat) : Int)))), (2, .int (iI (sZ (tf D C A f) (d + 1)))), (0, .ref (bd 0)), (1, .int (iI f))]) dX2_saldo_56 hl rfl (by omega) (by decide) rfl (fun ls hl => ?_)
              refine lv_goto (tgt := 4) hx hb dX2_saldo_59 (by decide) ?_
              exact ih_4 (d + 1) (by omega) (by omega) ls (lv_sub hl [2, 3, 1, 0] rfl)
  exact lp_4 (c + 1) 0 (by omega) (by omega) ls (lv_sub hl [2, 3, 1, 0] rfl)
set_option maxHeartbeats 4000000 in
set_option maxRecDepth 100000 in
theorem metM_balance (l : Launch) (dC : Nat → ClassId) (dI : Nat → Nat → Nat) (bd : Nat → Nat) (cI cZ : ClassId) (n c : Nat) (D C : Nat → Nat) (A O Nt : Nat → Int) (z : Int) (hz : -2147483648 ≤ z ∧ z < 2147483648) (hn : n ≤ 5) (hc : c ≤ 7) (hDC : ∀ d, d < c → D d < 5 ∧ C d < 5) : Met l yX2_balance (ws_ yX2_balance cX2_balance 2 (some .int)) ({ frames := 1, cells := 0, slots := 0, locals := 23 }) (obR (dC, dI) vwCl (wM bd cI cZ n c D C A O Nt) [(cI, .int), (cZ, .boolean)] [.ref (bd 0), .int (iI z)]) (vp_Si (fun r => r = iI (if 0 ≤ z ∧ z < (n : Int) then sZ (tf D C A z.toNat) c else -1000))) 0 0 (fun _ => False) := by
  refine Met.ofW (cc := cX2_balance) (maxL := 2) (ret := (some .int)) (by decide) rfl ?_
  intro p e s m args below meth cd s₁ B hml hv
  obtain ⟨rfl, hP, hK⟩ := hv
  have hx := B.exec
  have hb := B.bytes
  have hr := B.returns
  have hts := atoms_spec (ws := (ws_ yX2_balance cX2_balance 2 (some .int))) B.pre
  have hts : ∀ w ∈ lw_all, w.before _ s = true := fun w h => hts w (List.mem_cons_of_mem _ h)
  have hown : s.vm.findClass RX2 = some m.cls := findClass_of_methodNamed B.named
  have hlocks := B.notSynchronized
  have hl := lv_entry ([.ref (bd 0), .int (iI z)]) (n := 2) (Nat.le_of_ble_eq_true rfl)
  rw [lg_entry_eq]
  generalize (lg_sl ([.ref (bd 0), .int (iI z)]) ++ List.replicate (2 - (lg_sl ([.ref (bd 0), .int (iI z)])).length) Slot.unset).toArray = ls at hl ⊢
  have hl : lv_has ls 2 [(0, .ref (bd 0)), (1, .int (iI z))] := hl
  refine lv_aload_n hx hb dX2_balance_0 rfl (lv_at hl 0 rfl) ?_
  refine lv_iload_n hx hb dX2_balance_1 rfl (lv_at hl 1 rfl) ?_
  refine ob_callR (As := [.int (iI z)]) (rest := []) (metM_badFirm l dC dI bd cI cZ n c D C A O Nt z hz hn) ⟨hx, hb, hml, hown, hts⟩ (cwV 1 hts (lw_V q230 q232 qs14 q24 q233) rfl rfl rfl (by decide +kernel) ⟨Nat.le_of_ble_eq_true rfl, Nat.le_of_ble_eq_true rfl⟩) hK hP [0, 1, 2, 3, 4, 5] [0, 1] rfl rfl (ci := 1) rfl rfl rfl rfl hl.1 rfl (Nat.le_of_ble_eq_true rfl) dX2_balance_2 ⟨Nat.zero_le _, Nat.zero_le _⟩ (fun r2 e2 => ?_)
  subst e2
  refine ob_if_eq (tgt := 14) hx hb dX2_balance_5 (by decide) (tb_bnd _) (fun h5 => ?_) (fun h5 => ?_)
  · have g5 := tb_f h5
    refine lv_aload_n hx hb dX2_balance_14 rfl (lv_at hl 0 rfl) ?_
    refine lv_iload_n hx hb dX2_balance_15 rfl (lv_at hl 1 rfl) ?_
    refine ob_top (((z.toNat : Nat) : Int)) (by omega) ?_
    refine ob_callR (As := [.int (iI (((z.toNat : Nat) : Int)))]) (rest := []) (metM_saldo l dC dI bd cI cZ n c D C A O Nt z.toNat (by omega) hc hDC) ⟨hx, hb, hml, hown, hts⟩ (cwV 1 hts (lw_V q286 q288 qs20 q24 q289) rfl rfl rfl (by decide +kernel) ⟨Nat.le_of_ble_eq_true rfl, Nat.le_of_ble_eq_true rfl⟩) hK hP [0, 1, 2, 3, 4, 5] [0, 1] rfl rfl (ci := 1) rfl rfl rfl rfl hl.1 rfl (Nat.le_of_ble_eq_true rfl) dX2_balance_16 ⟨Nat.zero_le _, Nat.zero_le _⟩ (fun r16 e16 => ?_)
    subst e16
    exact W.iret (v := iI (sZ (tf D C A z.toNat) c)) hx hb hr (fun t ht hWm => ⟨_, rfl, (by first | rw [if_pos (by omega)] | rw [if_neg (by omega)]), ht⟩) (fun q h => by cases h) dX2_balance_19
  · have g5 := tb_t h5
    refine ob_si hx hb dX2_balance_8 (by decide) ?_
    refine lv_goto (tgt := 19) hx hb dX2_balance_11 (by decide) ?_
    exact W.iret (v := iI ((-1000))) hx hb hr (fun t ht hWm => ⟨_, rfl, (by first | rw [if_pos (by omega)] | rw [if_neg (by omega)]), ht⟩) (fun q h => by cases h) dX2_balance_19
set_option maxHeartbeats 4000000 in
set_option maxRecDepth 100000 in
theorem metM_least (l : Launch) (dC : Nat → ClassId) (dI : Nat → Nat → Nat) (bd : Nat → Nat) (cI cZ : ClassId) (n c : Nat) (D C : Nat → Nat) (A O Nt : Nat → Int) (hn : n ≤ 5) (hc : c ≤ 7) (hDC : ∀ d, d < c → D d < 5 ∧ C d < 5) (hAb : ∀ d, d < c → 0 ≤ A d ∧ A d ≤ 3) : Met l yX2_least (ws_ yX2_least cX2_least 4 (some .int)) ({ frames := 1, cells := 0, slots := 0, locals := 23 }) (obR (dC, dI) vwCl (wM bd cI cZ n c D C A O Nt) [(cI, .int), (cZ, .boolean)] [.ref (bd 0)]) (vp_Si (fun r => r = iI (sZ (fun f => pos (sZ (tf D C A f) c)) n))) 0 0 (fun _ => False) := by
  refine Met.ofW (cc := cX2_least) (maxL := 4) (ret := (some .int)) (by decide) rfl ?_
  intro p e s m args below meth cd s₁ B hml hv
  obtain ⟨rfl, hP, hK⟩ := hv
  have hx := B.exec
  have hb := B.bytes
  have hr := B.returns
  have hts := atoms_spec (ws := (ws_ yX2_least cX2_least 4 (some .int))) B.pre
  have hts : ∀ w ∈ lw_all, w.before _ s = true := fun w h => hts w (List.mem_cons_of_mem _ h)
  have hown : s.vm.findClass RX2 = some m.cls := findClass_of_methodNamed B.named
  have hlocks := B.notSynchronized
  have hl := lv_entry ([.ref (bd 0)]) (n := 4) (Nat.le_of_ble_eq_true rfl)
  rw [lg_entry_eq]
  generalize (lg_sl ([.ref (bd 0)]) ++ List.replicate (4 - (lg_sl ([.ref (bd 0)])).length) Slot.unset).toArray = ls at hl ⊢
  have hl : lv_has ls 4 [(0, .ref (bd 0))] := hl
  refine ob_ic hx hb dX2_least_0 ?_
  refine lv_istore_n (lv' := [(1, .int (iI 0)), (0, .ref (bd 0))]) hx hb dX2_least_1 rfl hl (by decide) rfl (fun ls hl => ?_)
  refine ob_ic hx hb dX2_least_2 ?_
  refine lv_istore_n (lv' := [(2, .int (iI 0)), (1, .int (iI 0)), (0, .ref (bd 0))]) hx hb dX2_least_3 rfl hl (by decide) rfl (fun ls hl => ?_)
  have lp_4 : ∀ (nn : Nat) (f : Nat), (n < f + nn) → (f ≤ n) → ∀ (ls : Array Slot), lv_has ls 4 [(0, .ref (bd 0)), (1, .int (iI (sZ (fun f => pos (sZ (tf D C A f) c)) f))), (2, .int (iI f))] → W p l e (headSpec (ws_ yX2_least cX2_least 4 (some .int)) ({ frames := 1, cells := 0, slots := 0, locals := 23 })).room s m ([.ref (bd 0)] : List Value).toArray below meth cd s.heap [] 0 0 (MQ below (vp_Si (fun r => r = iI (sZ (fun f => pos (sZ (tf D C A f) c)) n))) ([.ref (bd 0)] : List Value).toArray s 0 0 (fun _ => False)) (F0 m 4 ls []) := by
    intro nn
    induction nn with
    | zero => intro f hm hf; exfalso; omega
    | succ nn ih_4 =>
      intro f hm hf ls hl
      refine lv_iload_n hx hb dX2_least_4 rfl (lv_at hl 2 rfl) ?_
      refine lv_aload_n hx hb dX2_least_5 rfl (lv_at hl 0 rfl) ?_
      refine va_get (D := (dC, dI)) (ci := 1) (v := .int (iI n)) (C := RX2) (T := TX2) (N := 7) hx hb hts in_X2 hown hK hP 0 rfl rfl 0 (by decide) (hts _ q204) (fun _ h9 => h9) rfl dX2_least_6 ?_
      refine ob_icmp_ge (tgt := 32) hx hb dX2_least_9 (by decide) (by omega) (by omega) (fun h9 => ?_) (fun h9 => ?_)
      · have ed : f = n := by omega
        subst ed
        refine lv_iload_n hx hb dX2_least_32 rfl (lv_at hl 1 rfl) ?_
        exact W.iret (v := iI (sZ (fun f => pos (sZ (tf D C A f) c)) f)) hx hb hr (fun t ht hWm => ⟨_, rfl, (by rfl), ht⟩) (fun q h => by cases h) dX2_least_33
      · have tb1 := tf_bnd (D := D) (C := C) f c hAb
        refine lv_aload_n hx hb dX2_least_12 rfl (lv_at hl 0 rfl) ?_
        refine lv_iload_n hx hb dX2_least_13 rfl (lv_at hl 2 rfl) ?_
        refine ob_callR (As := [.int (iI f)]) (rest := []) (metM_saldo l dC dI bd cI cZ n c D C A O Nt f (by omega) hc hDC) ⟨hx, hb, hml, hown, hts⟩ (cwV 1 hts (lw_V q286 q288 qs20 q24 q289) rfl rfl rfl (by decide +kernel) ⟨Nat.le_of_ble_eq_true rfl, Nat.le_of_ble_eq_true rfl⟩) hK hP [0, 1, 2, 3, 4, 5] [0, 1] rfl rfl (ci := 1) rfl rfl rfl rfl hl.1 rfl (Nat.le_of_ble_eq_true rfl) dX2_least_14 ⟨Nat.zero_le _, Nat.zero_le _⟩ (fun r14 e14 => ?_)
        subst e14
        refine lv_istore_n (lv' := [(3, .int (iI (sZ (tf D C A f) c))), (0, .ref (bd 0)), (1, .int (iI (sZ (fun f => pos (sZ (tf D C A f) c)) f))), (2, .int (iI f))]) hx hb dX2_least_17 rfl hl (by decide) rfl (fun ls hl => ?_)
        refine lv_iload_n hx hb dX2_least_18 rfl (lv_at hl 0 rfl) ?_
        refine ob_if_le (tgt := 26) hx hb dX2_least_19 (by decide) (by omega) (fun h19 => ?_) (fun h19 => ?_)
        · have hl : lv_has ls 4 [(0, .ref (bd 0)), (1, .int (iI (sZ (fun f => pos (sZ (tf D C A f) c)) f))), (2, .int (iI f))] := lv_sub hl [1, 2, 3] rfl
          have hle : (sZ (fun f => pos (sZ (tf D C A f) c)) f) = (sZ (fun f => pos (sZ (tf D C A f) c)) (f + 1) : Int) := by show _ = sZ (fun f => pos (sZ (tf D C A f) c)) f + pos (sZ (tf D C A f) c); unfold pos; split <;> omega
          rw [hle] at hl
          clear hle
          have hl : lv_has ls 4 [(0, .ref (bd 0)), (1, .int (iI (sZ (fun f => pos (sZ (tf D C A f) c)) (f + 1)))), (2, .int (iI f))] := hl
          refine ob_iinc (k := 2) hx hb (((f + 1 : Nat) : Int)) (lv' := [(2, .int (iI (((f + 1 : Nat) : Int)))), (0, .ref (bd 0)), (1, .int (iI (sZ (fun f => pos (sZ (tf D C A f) c)) (f + 1))))]) dX2_least_26 hl rfl (by omega) (by decide) rfl (fun ls hl => ?_)
          refine lv_goto (tgt := 4) hx hb dX2_least_29 (by decide) ?_
          exact ih_4 (f + 1) (by omega) (by omega) ls (lv_sub hl [1, 2, 0] rfl)
        · refine lv_iload_n hx hb dX2_least_22 rfl (lv_at hl 2 rfl) ?_
          refine lv_iload_n hx hb dX2_least_23 rfl (lv_at hl 0 rfl) ?_
          refine ob_iadd hx hb dX2_least_24 ?_
          refine lv_istore_n (lv' := [(1, .int (iI ((sZ (fun f => pos (sZ (tf D C A f) c)) f) + (sZ (tf D C A f) c)))), (3, .int (iI (sZ (tf D C A f) c))), (0, .ref (bd 0)), (2, .int (iI f))]) hx hb dX2_least_25 rfl hl (by decide) rfl (fun ls hl => ?_)
          have hl : lv_has ls 4 [(0, .ref (bd 0)), (1, .int (iI ((sZ (fun f => pos (sZ (tf D C A f) c)) f) + (sZ (tf D C A f) c)))), (2, .int (iI f))] := lv_sub hl [2, 0, 3] rfl
          have hle : ((sZ (fun f => pos (sZ (tf D C A f) c)) f) + (sZ (tf D C A f) c)) = (sZ (fun f => pos (sZ (tf D C A f) c)) (f + 1) : Int) := by show _ = sZ (fun f => pos (sZ (tf D C A f) c)) f + pos (sZ (tf D C A f) c); unfold pos; split <;> omega
          rw [hle] at hl
          clear hle
          have hl : lv_has ls 4 [(0, .ref (bd 0)), (1, .int (iI (sZ (fun f => pos (sZ (tf D C A f) c)) (f + 1)))), (2, .int (iI f))] := hl
          refine ob_iinc (k := 2) hx hb (((f + 1 : Nat) : Int)) (lv' := [(2, .int (iI (((f + 1 : Nat) : Int)))), (0, .ref (bd 0)), (1, .int (iI (sZ (fun f => pos (sZ (tf D C A f) c)) (f + 1))))]) dX2_least_26 hl rfl (by omega) (by decide) rfl (fun ls hl => ?_)
          refine lv_goto (tgt := 4) hx hb dX2_least_29 (by decide) ?_
          exact ih_4 (f + 1) (by omega) (by omega) ls (lv_sub hl [1, 2, 0] rfl)
  exact lp_4 (n + 1) 0 (by omega) (by omega) ls (lv_sub hl [2, 1, 0] rfl)
set_option maxHeartbeats 4000000 in
set_option maxRecDepth 100000 in
theorem metM_owe (l : Launch) (dC : Nat → ClassId) (dI : Nat → Nat → Nat) (bd : Nat → Nat) (cI cZ : ClassId) (n c : Nat) (D C : Nat → Nat) (A O Nt : Nat → Int) (sz : Nat) (z1 : Int) (hz1 : -2147483648 ≤ z1 ∧ z1 < 2147483648) (z2 : Int) (hz2 : -2147483648 ≤ z2 ∧ z2 < 2147483648) (z3 : Int) (hz3 : -2147483648 ≤ z3 ∧ z3 < 2147483648) (hW : WF n c D C A O) : Met l yX2_owe (ws_ yX2_owe cX2_owe 5 (some .int)) ({ frames := 1, cells := 0, slots := 0, locals := 21 }) (obW (dC, dI) vwCl (wM bd cI cZ n c D C A O Nt) [(cI, .int), (cZ, .boolean)] sz [.ref (bd 0), .int (iI z1), .int (iI z2), .int (iI z3)]) (va_Qi (fun r u => r = iI (oweR n c z1 z2 z3) ∧ ((oweK n c z1 z2 z3 ∧ u = (c + 1, va_up D c z1.toNat, va_up C c z2.toNat, va_up A c z3, O, Nt)) ∨ (¬ oweK n c z1 z2 z3 ∧ u = (c, D, C, A, O, Nt)))) (obB (dC, dI) vwCl [(cI, .int), (cZ, .boolean)] (va_A (wM bd cI cZ n c D C A O Nt) sz) (BM bd cI cZ n)) (va_A (wM bd cI cZ n c D C A O Nt) sz)) 0 0 (va_A (wM bd cI cZ n c D C A O Nt) sz) := by
  refine Met.ofW (cc := cX2_owe) (maxL := 5) (ret := (some .int)) (by decide) rfl ?_
  intro p e s m args below meth cd s₁ B hml hv
  obtain ⟨rfl, hsz, hP, hK, hD0⟩ := hv
  have hx := B.exec
  have hb := B.bytes
  have hr := B.returns
  have hts := atoms_spec (ws := (ws_ yX2_owe cX2_owe 5 (some .int))) B.pre
  have hts : ∀ w ∈ lw_all, w.before _ s = true := fun w h => hts w (List.mem_cons_of_mem _ h)
  have hown : s.vm.findClass RX2 = some m.cls := findClass_of_methodNamed B.named
  have hlocks := B.notSynchronized
  subst hsz
  have hD := hD0.self (sz := s.heap.size)
  generalize hAe : va_A (wM bd cI cZ n c D C A O Nt) s.heap.size = AA at hD ⊢
  have hA : ∀ q : Nat, s.heap.size ≤ q → AA q := fun q h => by rw [← hAe]; exact Or.inr h
  have hS : va_S AA s.heap s.heap [] := va_S.rf
  have hl := lv_entry ([.ref (bd 0), .int (iI z1), .int (iI z2), .int (iI z3)]) (n := 5) (Nat.le_of_ble_eq_true rfl)
  rw [lg_entry_eq]
  generalize (lg_sl ([.ref (bd 0), .int (iI z1), .int (iI z2), .int (iI z3)]) ++ List.replicate (5 - (lg_sl ([.ref (bd 0), .int (iI z1), .int (iI z2), .int (iI z3)])).length) Slot.unset).toArray = ls at hl ⊢
  have hl : lv_has ls 5 [(0, .ref (bd 0)), (1, .int (iI z1)), (2, .int (iI z2)), (3, .int (iI z3))] := hl
  have hc := hW.2.2.1
  have hn := hW.2.1
  refine lv_aload_n hx hb dX2_owe_0 rfl (lv_at hl 0 rfl) ?_
  refine lv_iload_n hx hb dX2_owe_1 rfl (lv_at hl 1 rfl) ?_
  refine ob_callR (As := [.int (iI z1)]) (rest := []) (metM_badFirm l dC dI bd cI cZ n c D C A O Nt z1 hz1 hn) ⟨hx, hb, hml, hown, hts⟩ (cwV 1 hts (lw_V q230 q232 qs14 q24 q233) rfl rfl rfl (by decide +kernel) ⟨Nat.le_of_ble_eq_true rfl, Nat.le_of_ble_eq_true rfl⟩) hK hP [0, 1, 2, 3, 4, 5] [0, 1] rfl rfl (ci := 1) rfl rfl rfl rfl hl.1 rfl (Nat.le_of_ble_eq_true rfl) dX2_owe_2 ⟨Nat.zero_le _, Nat.zero_le _⟩ (fun r2 e2 => ?_)
  subst e2
  refine ob_if_ne (tgt := 16) hx hb dX2_owe_5 (by decide) (tb_bnd _) (fun h5 => ?_) (fun h5 => ?_)
  · have g5 := tb_t h5
    refine ob_ic hx hb dX2_owe_16 ?_
    exact W.iret (v := iI ((-1))) hx hb hr (fun t ht hWm => ⟨⟨_, (c, D, C, A, O, Nt), rfl, (by exact ⟨by unfold oweR; (repeat' split) <;> first | (exfalso; omega) | rfl, Or.inr ⟨fun h => by unfold oweK at h; omega, rfl⟩⟩), by rw [ht]; exact hP, va_K.moved hWm.alike hK, hD⟩, hS.F ht⟩) hS.2.2 dX2_owe_17
  · have g5 := tb_f h5
    refine lv_aload_n hx hb dX2_owe_8 rfl (lv_at hl 0 rfl) ?_
    refine lv_iload_n hx hb dX2_owe_9 rfl (lv_at hl 2 rfl) ?_
    refine ob_callR (As := [.int (iI z2)]) (rest := []) (metM_badFirm l dC dI bd cI cZ n c D C A O Nt z2 hz2 hn) ⟨hx, hb, hml, hown, hts⟩ (cwV 1 hts (lw_V q230 q232 qs14 q24 q233) rfl rfl rfl (by decide +kernel) ⟨Nat.le_of_ble_eq_true rfl, Nat.le_of_ble_eq_true rfl⟩) hK hP [0, 1, 2, 3, 4, 5] [0, 1] rfl rfl (ci := 1) rfl rfl rfl rfl hl.1 rfl (Nat.le_of_ble_eq_true rfl) dX2_owe_10 ⟨Nat.zero_le _, Nat.zero_le _⟩ (fun r10 e10 => ?_)
    subst e10
    refine ob_if_eq (tgt := 18) hx hb dX2_owe_13 (by decide) (tb_bnd _) (fun h13 => ?_) (fun h13 => ?_)
    · have g13 := tb_f h13
      refine lv_iload_n hx hb dX2_owe_18 rfl (lv_at hl 1 rfl) ?_
      refine lv_iload_n hx hb dX2_owe_19 rfl (lv_at hl 2 rfl) ?_
      refine ob_icmp_ne (tgt := 26) hx hb dX2_owe_20 (by decide) (by omega) (by omega) (fun h20 => ?_) (fun h20 => ?_)
      · refine lv_iload_n hx hb dX2_owe_26 rfl (lv_at hl 3 rfl) ?_
        refine ob_if_lt (tgt := 35) hx hb dX2_owe_27 (by decide) (by omega) (fun h27 => ?_) (fun h27 => ?_)
        · refine ob_bi hx hb dX2_owe_35 (by decide) ?_
          exact W.iret (v := iI ((-3))) hx hb hr (fun t ht hWm => ⟨⟨_, (c, D, C, A, O, Nt), rfl, (by exact ⟨by unfold oweR; (repeat' split) <;> first | (exfalso; omega) | rfl, Or.inr ⟨fun h => by unfold oweK at h; omega, rfl⟩⟩), by rw [ht]; exact hP, va_K.moved hWm.alike hK, hD⟩, hS.F ht⟩) hS.2.2 dX2_owe_37
        · refine lv_iload_n hx hb dX2_owe_30 rfl (lv_at hl 3 rfl) ?_
          refine ob_ic hx hb dX2_owe_31 ?_
          refine ob_icmp_le (tgt := 38) hx hb dX2_owe_32 (by decide) (by omega) (by omega) (fun h32 => ?_) (fun h32 => ?_)
          · refine lv_aload_n hx hb dX2_owe_38 rfl (lv_at hl 0 rfl) ?_
            refine va_get (D := (dC, dI)) (ci := 1) (v := .int (iI c)) (C := RX2) (T := TX2) (N := 7) hx hb hts in_X2 hown hK hP 0 rfl rfl 1 (by decide) (hts _ q205) (fun _ h9 => h9) rfl dX2_owe_39 ?_
            refine lv_istore (lv' := [(4, .int (iI c)), (0, .ref (bd 0)), (1, .int (iI z1)), (2, .int (iI z2)), (3, .int (iI z3))]) hx hb dX2_owe_42 hl (by decide) rfl (fun ls hl => ?_)
            refine lv_iload hx hb dX2_owe_44 (lv_at hl 0 rfl) ?_
            refine ob_bi hx hb dX2_owe_46 (by decide) ?_
            refine ob_icmp_le (tgt := 54) hx hb dX2_owe_48 (by decide) (by omega) (by omega) (fun h48 => ?_) (fun h48 => ?_)
            · refine lv_aload_n hx hb dX2_owe_54 rfl (lv_at hl 1 rfl) ?_
              refine va_get (D := (dC, dI)) (ci := 1) (v := .ref (bd 1)) (C := RX2) (T := TX2) (N := 7) hx hb hts in_X2 hown hK hP 0 rfl rfl 2 (by decide) (hts _ q206) (fun _ h9 => h9) rfl dX2_owe_55 ?_
              refine lv_iload hx hb dX2_owe_58 (lv_at hl 0 rfl) ?_
              refine lv_iload_n hx hb dX2_owe_60 rfl (lv_at hl 2 rfl) ?_
              refine ob_iastN hx hb hK hP hD hS 1 0 rfl rfl (c) (by omega) (by omega) (by decide) (z1.toNat) (by omega) dX2_owe_61 (fun H locs hP hD hS => ?_)
              have hP : va_P (dC, dI) vwCl (wM bd cI cZ n c (va_up D c z1.toNat) C A O Nt) H := hP
              have hD : va_D AA (wM bd cI cZ n c (va_up D c z1.toNat) C A O Nt) := hD
              refine lv_aload_n hx hb dX2_owe_62 rfl (lv_at hl 1 rfl) ?_
              refine va_get (D := (dC, dI)) (ci := 1) (v := .ref (bd 2)) (C := RX2) (T := TX2) (N := 7) hx hb hts in_X2 hown hK hP 0 rfl rfl 3 (by decide) (hts _ q207) (fun _ h9 => h9) rfl dX2_owe_63 ?_
              refine lv_iload hx hb dX2_owe_66 (lv_at hl 0 rfl) ?_
              refine lv_iload_n hx hb dX2_owe_68 rfl (lv_at hl 3 rfl) ?_
              refine ob_iastN hx hb hK hP hD hS 2 0 rfl rfl (c) (by omega) (by omega) (by decide) (z2.toNat) (by omega) dX2_owe_69 (fun H locs hP hD hS => ?_)
              have hP : va_P (dC, dI) vwCl (wM bd cI cZ n c (va_up D c z1.toNat) (va_up C c z2.toNat) A O Nt) H := hP
              have hD : va_D AA (wM bd cI cZ n c (va_up D c z1.toNat) (va_up C c z2.toNat) A O Nt) := hD
              refine lv_aload_n hx hb dX2_owe_70 rfl (lv_at hl 1 rfl) ?_
              refine va_get (D := (dC, dI)) (ci := 1) (v := .ref (bd 3)) (C := RX2) (T := TX2) (N := 7) hx hb hts in_X2 hown hK hP 0 rfl rfl 4 (by decide) (hts _ q208) (fun _ h9 => h9) rfl dX2_owe_71 ?_
              refine lv_iload hx hb dX2_owe_74 (lv_at hl 0 rfl) ?_
              refine lv_iload_n hx hb dX2_owe_76 rfl (lv_at hl 4 rfl) ?_
              refine ob_iast hx hb hK hP hD hS 3 0 rfl rfl (c) (by omega) (by omega) (by decide) dX2_owe_77 (fun H locs hP hD hS => ?_)
              have hP : va_P (dC, dI) vwCl (wM bd cI cZ n c (va_up D c z1.toNat) (va_up C c z2.toNat) (va_up A c z3) O Nt) H := hP
              have hD : va_D AA (wM bd cI cZ n c (va_up D c z1.toNat) (va_up C c z2.toNat) (va_up A c z3) O Nt) := hD
              refine lv_aload_n hx hb dX2_owe_78 rfl (lv_at hl 1 rfl) ?_
              refine lv_iload hx hb dX2_owe_79 (lv_at hl 0 rfl) ?_
              refine ob_ic hx hb dX2_owe_81 ?_
              refine ob_iadd hx hb dX2_owe_82 ?_
              refine ob_top (((c + 1 : Nat) : Int)) (by omega) ?_
              refine va_put (D := (dC, dI)) (ci := 1) (v := .int (iI (((c + 1 : Nat) : Int)))) (ty := .int) (C := RX2) (T := TX2) (N := 7) hx hb hts in_X2 tyX2 tyX2_ok nmX2 hown hK hP hD hS 0 rfl rfl 1 (by decide) (hts _ q205) (fun _ h9 => h9) rfl (by decide +kernel) rfl rfl (Nat.le_of_ble_eq_true rfl) dX2_owe_83 (fun H locs hP hD hS => ?_)
              have hP : va_P (dC, dI) vwCl (wM bd cI cZ n (c + 1) (va_up D c z1.toNat) (va_up C c z2.toNat) (va_up A c z3) O Nt) H := hP
              have hD : va_D AA (wM bd cI cZ n (c + 1) (va_up D c z1.toNat) (va_up C c z2.toNat) (va_up A c z3) O Nt) := hD
              refine lv_iload hx hb dX2_owe_86 (lv_at hl 0 rfl) ?_
              exact W.iret (v := iI c) hx hb hr (fun t ht hWm => ⟨⟨_, (c + 1, va_up D c z1.toNat, va_up C c z2.toNat, va_up A c z3, O, Nt), rfl, (by exact ⟨by unfold oweR; (repeat' split) <;> first | (exfalso; omega) | rfl, Or.inl ⟨by unfold oweK; omega, rfl⟩⟩), by rw [ht]; exact hP, va_K.moved hWm.alike hK, hD⟩, hS.F ht⟩) hS.2.2 dX2_owe_88
            · refine ob_bi hx hb dX2_owe_51 (by decide) ?_
              exact W.iret (v := iI ((-4))) hx hb hr (fun t ht hWm => ⟨⟨_, (c, D, C, A, O, Nt), rfl, (by exact ⟨by unfold oweR; (repeat' split) <;> first | (exfalso; omega) | rfl, Or.inr ⟨fun h => by unfold oweK at h; omega, rfl⟩⟩), by rw [ht]; exact hP, va_K.moved hWm.alike hK, hD⟩, hS.F ht⟩) hS.2.2 dX2_owe_53
          · refine ob_bi hx hb dX2_owe_35 (by decide) ?_
            exact W.iret (v := iI ((-3))) hx hb hr (fun t ht hWm => ⟨⟨_, (c, D, C, A, O, Nt), rfl, (by exact ⟨by unfold oweR; (repeat' split) <;> first | (exfalso; omega) | rfl, Or.inr ⟨fun h => by unfold oweK at h; omega, rfl⟩⟩), by rw [ht]; exact hP, va_K.moved hWm.alike hK, hD⟩, hS.F ht⟩) hS.2.2 dX2_owe_37
      · refine ob_bi hx hb dX2_owe_23 (by decide) ?_
        exact W.iret (v := iI ((-2))) hx hb hr (fun t ht hWm => ⟨⟨_, (c, D, C, A, O, Nt), rfl, (by exact ⟨by unfold oweR; (repeat' split) <;> first | (exfalso; omega) | rfl, Or.inr ⟨fun h => by unfold oweK at h; omega, rfl⟩⟩), by rw [ht]; exact hP, va_K.moved hWm.alike hK, hD⟩, hS.F ht⟩) hS.2.2 dX2_owe_25
    · have g13 := tb_t h13
      refine ob_ic hx hb dX2_owe_16 ?_
      exact W.iret (v := iI ((-1))) hx hb hr (fun t ht hWm => ⟨⟨_, (c, D, C, A, O, Nt), rfl, (by exact ⟨by unfold oweR; (repeat' split) <;> first | (exfalso; omega) | rfl, Or.inr ⟨fun h => by unfold oweK at h; omega, rfl⟩⟩), by rw [ht]; exact hP, va_K.moved hWm.alike hK, hD⟩, hS.F ht⟩) hS.2.2 dX2_owe_17
set_option maxHeartbeats 4000000 in
set_option maxRecDepth 100000 in
theorem metM_change (l : Launch) (dC : Nat → ClassId) (dI : Nat → Nat → Nat) (bd : Nat → Nat) (cI cZ : ClassId) (n c : Nat) (D C : Nat → Nat) (A O Nt : Nat → Int) (sz : Nat) (z1 : Int) (hz1 : -2147483648 ≤ z1 ∧ z1 < 2147483648) (z2 : Int) (hz2 : -2147483648 ≤ z2 ∧ z2 < 2147483648) (hW : WF n c D C A O) : Met l yX2_change (ws_ yX2_change cX2_change 4 (some .int)) ({ frames := 1, cells := 0, slots := 0, locals := 21 }) (obW (dC, dI) vwCl (wM bd cI cZ n c D C A O Nt) [(cI, .int), (cZ, .boolean)] sz [.ref (bd 0), .int (iI z1), .int (iI z2)]) (va_Qi (fun r u => r = iI (chaR c A z1 z2) ∧ ((chaK c z1 z2 ∧ u = (c, D, C, va_up A z1.toNat z2, O, Nt)) ∨ (¬ chaK c z1 z2 ∧ u = (c, D, C, A, O, Nt)))) (obB (dC, dI) vwCl [(cI, .int), (cZ, .boolean)] (va_A (wM bd cI cZ n c D C A O Nt) sz) (BM bd cI cZ n)) (va_A (wM bd cI cZ n c D C A O Nt) sz)) 0 0 (va_A (wM bd cI cZ n c D C A O Nt) sz) := by
  refine Met.ofW (cc := cX2_change) (maxL := 4) (ret := (some .int)) (by decide) rfl ?_
  intro p e s m args below meth cd s₁ B hml hv
  obtain ⟨rfl, hsz, hP, hK, hD0⟩ := hv
  have hx := B.exec
  have hb := B.bytes
  have hr := B.returns
  have hts := atoms_spec (ws := (ws_ yX2_change cX2_change 4 (some .int))) B.pre
  have hts : ∀ w ∈ lw_all, w.before _ s = true := fun w h => hts w (List.mem_cons_of_mem _ h)
  have hown : s.vm.findClass RX2 = some m.cls := findClass_of_methodNamed B.named
  have hlocks := B.notSynchronized
  subst hsz
  have hD := hD0.self (sz := s.heap.size)
  generalize hAe : va_A (wM bd cI cZ n c D C A O Nt) s.heap.size = AA at hD ⊢
  have hA : ∀ q : Nat, s.heap.size ≤ q → AA q := fun q h => by rw [← hAe]; exact Or.inr h
  have hS : va_S AA s.heap s.heap [] := va_S.rf
  have hl := lv_entry ([.ref (bd 0), .int (iI z1), .int (iI z2)]) (n := 4) (Nat.le_of_ble_eq_true rfl)
  rw [lg_entry_eq]
  generalize (lg_sl ([.ref (bd 0), .int (iI z1), .int (iI z2)]) ++ List.replicate (4 - (lg_sl ([.ref (bd 0), .int (iI z1), .int (iI z2)])).length) Slot.unset).toArray = ls at hl ⊢
  have hl : lv_has ls 4 [(0, .ref (bd 0)), (1, .int (iI z1)), (2, .int (iI z2))] := hl
  have hc := hW.2.2.1
  have hn := hW.2.1
  refine lv_aload_n hx hb dX2_change_0 rfl (lv_at hl 0 rfl) ?_
  refine lv_iload_n hx hb dX2_change_1 rfl (lv_at hl 1 rfl) ?_
  refine ob_callR (As := [.int (iI z1)]) (rest := []) (metM_bad l dC dI bd cI cZ n c D C A O Nt z1 hz1 hc) ⟨hx, hb, hml, hown, hts⟩ (cwV 1 hts (lw_V q238 q240 qs15 q24 q241) rfl rfl rfl (by decide +kernel) ⟨Nat.le_of_ble_eq_true rfl, Nat.le_of_ble_eq_true rfl⟩) hK hP [0, 1, 2, 3, 4, 5] [0, 1] rfl rfl (ci := 1) rfl rfl rfl rfl hl.1 rfl (Nat.le_of_ble_eq_true rfl) dX2_change_2 ⟨Nat.zero_le _, Nat.zero_le _⟩ (fun r2 e2 => ?_)
  subst e2
  refine ob_if_eq (tgt := 10) hx hb dX2_change_5 (by decide) (tb_bnd _) (fun h5 => ?_) (fun h5 => ?_)
  · have g5 := tb_f h5
    refine lv_iload_n hx hb dX2_change_10 rfl (lv_at hl 2 rfl) ?_
    refine ob_if_lt (tgt := 19) hx hb dX2_change_11 (by decide) (by omega) (fun h11 => ?_) (fun h11 => ?_)
    · refine ob_bi hx hb dX2_change_19 (by decide) ?_
      exact W.iret (v := iI ((-2))) hx hb hr (fun t ht hWm => ⟨⟨_, (c, D, C, A, O, Nt), rfl, (by exact ⟨by unfold chaR; (repeat' split) <;> first | (exfalso; omega) | rfl, Or.inr ⟨fun h => by unfold chaK at h; omega, rfl⟩⟩), by rw [ht]; exact hP, va_K.moved hWm.alike hK, hD⟩, hS.F ht⟩) hS.2.2 dX2_change_21
    · refine lv_iload_n hx hb dX2_change_14 rfl (lv_at hl 2 rfl) ?_
      refine ob_ic hx hb dX2_change_15 ?_
      refine ob_icmp_le (tgt := 22) hx hb dX2_change_16 (by decide) (by omega) (by omega) (fun h16 => ?_) (fun h16 => ?_)
      · refine lv_aload_n hx hb dX2_change_22 rfl (lv_at hl 0 rfl) ?_
        refine va_get (D := (dC, dI)) (ci := 1) (v := .ref (bd 3)) (C := RX2) (T := TX2) (N := 7) hx hb hts in_X2 hown hK hP 0 rfl rfl 4 (by decide) (hts _ q208) (fun _ h9 => h9) rfl dX2_change_23 ?_
        refine lv_iload_n hx hb dX2_change_26 rfl (lv_at hl 1 rfl) ?_
        refine ob_iald hx hb hK hP 3 0 rfl rfl (z1.toNat) (by omega) (by omega) (by decide) dX2_change_27 ?_
        refine lv_istore_n (lv' := [(3, .int (iI (A z1.toNat))), (0, .ref (bd 0)), (1, .int (iI z1)), (2, .int (iI z2))]) hx hb dX2_change_28 rfl hl (by decide) rfl (fun ls hl => ?_)
        refine lv_aload_n hx hb dX2_change_29 rfl (lv_at hl 1 rfl) ?_
        refine va_get (D := (dC, dI)) (ci := 1) (v := .ref (bd 3)) (C := RX2) (T := TX2) (N := 7) hx hb hts in_X2 hown hK hP 0 rfl rfl 4 (by decide) (hts _ q208) (fun _ h9 => h9) rfl dX2_change_30 ?_
        refine lv_iload_n hx hb dX2_change_33 rfl (lv_at hl 2 rfl) ?_
        refine lv_iload_n hx hb dX2_change_34 rfl (lv_at hl 3 rfl) ?_
        refine ob_iast hx hb hK hP hD hS 3 0 rfl rfl (z1.toNat) (by omega) (by omega) (by decide) dX2_change_35 (fun H locs hP hD hS => ?_)
        have hP : va_P (dC, dI) vwCl (wM bd cI cZ n c D C (va_up A z1.toNat z2) O Nt) H := hP
        have hD : va_D AA (wM bd cI cZ n c D C (va_up A z1.toNat z2) O Nt) := hD
        refine lv_iload_n hx hb dX2_change_36 rfl (lv_at hl 0 rfl) ?_
        exact W.iret (v := iI (A z1.toNat)) hx hb hr (fun t ht hWm => ⟨⟨_, (c, D, C, va_up A z1.toNat z2, O, Nt), rfl, (by exact ⟨by unfold chaR; (repeat' split) <;> first | (exfalso; omega) | rfl, Or.inl ⟨by unfold chaK; omega, rfl⟩⟩), by rw [ht]; exact hP, va_K.moved hWm.alike hK, hD⟩, hS.F ht⟩) hS.2.2 dX2_change_37
      · refine ob_bi hx hb dX2_change_19 (by decide) ?_
        exact W.iret (v := iI ((-2))) hx hb hr (fun t ht hWm => ⟨⟨_, (c, D, C, A, O, Nt), rfl, (by exact ⟨by unfold chaR; (repeat' split) <;> first | (exfalso; omega) | rfl, Or.inr ⟨fun h => by unfold chaK at h; omega, rfl⟩⟩), by rw [ht]; exact hP, va_K.moved hWm.alike hK, hD⟩, hS.F ht⟩) hS.2.2 dX2_change_21
  · have g5 := tb_t h5
    refine ob_ic hx hb dX2_change_8 ?_
    exact W.iret (v := iI ((-1))) hx hb hr (fun t ht hWm => ⟨⟨_, (c, D, C, A, O, Nt), rfl, (by exact ⟨by unfold chaR; (repeat' split) <;> first | (exfalso; omega) | rfl, Or.inr ⟨fun h => by unfold chaK at h; omega, rfl⟩⟩), by rw [ht]; exact hP, va_K.moved hWm.alike hK, hD⟩, hS.F ht⟩) hS.2.2 dX2_change_9
set_option maxHeartbeats 4000000 in
set_option maxRecDepth 100000 in
theorem metM_pay (l : Launch) (dC : Nat → ClassId) (dI : Nat → Nat → Nat) (bd : Nat → Nat) (cI cZ : ClassId) (n c : Nat) (D C : Nat → Nat) (A O Nt : Nat → Int) (sz : Nat) (z : Int) (hz : -2147483648 ≤ z ∧ z < 2147483648) (hW : WF n c D C A O) : Met l yX2_pay (ws_ yX2_pay cX2_pay 3 (some .int)) ({ frames := 1, cells := 0, slots := 0, locals := 21 }) (obW (dC, dI) vwCl (wM bd cI cZ n c D C A O Nt) [(cI, .int), (cZ, .boolean)] sz [.ref (bd 0), .int (iI z)]) (va_Qi (fun r u => r = iI (if (0 ≤ z ∧ z < (c : Int)) then (c : Int) - 1 else -1) ∧ (((0 ≤ z ∧ z < (c : Int)) ∧ u = (c - 1, sh D z.toNat c, sh C z.toNat c, sh A z.toNat c, O, Nt)) ∨ (¬ (0 ≤ z ∧ z < (c : Int)) ∧ u = (c, D, C, A, O, Nt)))) (obB (dC, dI) vwCl [(cI, .int), (cZ, .boolean)] (va_A (wM bd cI cZ n c D C A O Nt) sz) (BM bd cI cZ n)) (va_A (wM bd cI cZ n c D C A O Nt) sz)) 0 0 (va_A (wM bd cI cZ n c D C A O Nt) sz) := by
  refine Met.ofW (cc := cX2_pay) (maxL := 3) (ret := (some .int)) (by decide) rfl ?_
  intro p e s m args below meth cd s₁ B hml hv
  obtain ⟨rfl, hsz, hP, hK, hD0⟩ := hv
  have hx := B.exec
  have hb := B.bytes
  have hr := B.returns
  have hts := atoms_spec (ws := (ws_ yX2_pay cX2_pay 3 (some .int))) B.pre
  have hts : ∀ w ∈ lw_all, w.before _ s = true := fun w h => hts w (List.mem_cons_of_mem _ h)
  have hown : s.vm.findClass RX2 = some m.cls := findClass_of_methodNamed B.named
  have hlocks := B.notSynchronized
  subst hsz
  have hD := hD0.self (sz := s.heap.size)
  generalize hAe : va_A (wM bd cI cZ n c D C A O Nt) s.heap.size = AA at hD ⊢
  have hA : ∀ q : Nat, s.heap.size ≤ q → AA q := fun q h => by rw [← hAe]; exact Or.inr h
  have hS : va_S AA s.heap s.heap [] := va_S.rf
  have hl := lv_entry ([.ref (bd 0), .int (iI z)]) (n := 3) (Nat.le_of_ble_eq_true rfl)
  rw [lg_entry_eq]
  generalize (lg_sl ([.ref (bd 0), .int (iI z)]) ++ List.replicate (3 - (lg_sl ([.ref (bd 0), .int (iI z)])).length) Slot.unset).toArray = ls at hl ⊢
  have hl : lv_has ls 3 [(0, .ref (bd 0)), (1, .int (iI z))] := hl
  have hc := hW.2.2.1
  have hn := hW.2.1
  refine lv_aload_n hx hb dX2_pay_0 rfl (lv_at hl 0 rfl) ?_
  refine lv_iload_n hx hb dX2_pay_1 rfl (lv_at hl 1 rfl) ?_
  refine ob_callR (As := [.int (iI z)]) (rest := []) (metM_bad l dC dI bd cI cZ n c D C A O Nt z hz hc) ⟨hx, hb, hml, hown, hts⟩ (cwV 1 hts (lw_V q238 q240 qs15 q24 q241) rfl rfl rfl (by decide +kernel) ⟨Nat.le_of_ble_eq_true rfl, Nat.le_of_ble_eq_true rfl⟩) hK hP [0, 1, 2, 3, 4, 5] [0, 1] rfl rfl (ci := 1) rfl rfl rfl rfl hl.1 rfl (Nat.le_of_ble_eq_true rfl) dX2_pay_2 ⟨Nat.zero_le _, Nat.zero_le _⟩ (fun r2 e2 => ?_)
  subst e2
  refine ob_if_eq (tgt := 10) hx hb dX2_pay_5 (by decide) (tb_bnd _) (fun h5 => ?_) (fun h5 => ?_)
  · have g5 : 0 ≤ z ∧ z < (c : Int) := by have q := tb_f h5; omega
    refine lv_iload_n hx hb dX2_pay_10 rfl (lv_at hl 1 rfl) ?_
    refine ob_top (((z.toNat : Nat) : Int)) (by omega) ?_
    have hwe : D = sh D z.toNat (z.toNat + 1) := (sh_0 _ _).symm
    rw [hwe] at hP hD
    clear hwe
    have hP : va_P (dC, dI) vwCl (wM bd cI cZ n c (sh D z.toNat (z.toNat + 1)) C A O Nt) s.heap := hP
    have hD : va_D AA (wM bd cI cZ n c (sh D z.toNat (z.toNat + 1)) C A O Nt) := hD
    have hwe : C = sh C z.toNat (z.toNat + 1) := (sh_0 _ _).symm
    rw [hwe] at hP hD
    clear hwe
    have hP : va_P (dC, dI) vwCl (wM bd cI cZ n c (sh D z.toNat (z.toNat + 1)) (sh C z.toNat (z.toNat + 1)) A O Nt) s.heap := hP
    have hD : va_D AA (wM bd cI cZ n c (sh D z.toNat (z.toNat + 1)) (sh C z.toNat (z.toNat + 1)) A O Nt) := hD
    have hwe : A = sh A z.toNat (z.toNat + 1) := (sh_0 _ _).symm
    rw [hwe] at hP hD
    clear hwe
    have hP : va_P (dC, dI) vwCl (wM bd cI cZ n c (sh D z.toNat (z.toNat + 1)) (sh C z.toNat (z.toNat + 1)) (sh A z.toNat (z.toNat + 1)) O Nt) s.heap := hP
    have hD : va_D AA (wM bd cI cZ n c (sh D z.toNat (z.toNat + 1)) (sh C z.toNat (z.toNat + 1)) (sh A z.toNat (z.toNat + 1)) O Nt) := hD
    refine lv_istore_n (lv' := [(2, .int (iI (((z.toNat : Nat) : Int)))), (0, .ref (bd 0)), (1, .int (iI z))]) hx hb dX2_pay_11 rfl hl (by decide) rfl (fun ls hl => ?_)
    have lp_12 : ∀ (nn : Nat) (d : Nat), (c < d + nn) → (z.toNat ≤ d) → (d + 1 ≤ c) → ∀ (H : Heap) (locs : List Loc), va_P (dC, dI) vwCl (wM bd cI cZ n c (sh D z.toNat (d + 1)) (sh C z.toNat (d + 1)) (sh A z.toNat (d + 1)) O Nt) H → va_D AA (wM bd cI cZ n c (sh D z.toNat (d + 1)) (sh C z.toNat (d + 1)) (sh A z.toNat (d + 1)) O Nt) → va_S AA s.heap H locs → ∀ (ls : Array Slot), lv_has ls 3 [(0, .ref (bd 0)), (2, .int (iI d))] → W p l e (headSpec (ws_ yX2_pay cX2_pay 3 (some .int)) ({ frames := 1, cells := 0, slots := 0, locals := 21 })).room s m ([.ref (bd 0), .int (iI z)] : List Value).toArray below meth cd H locs 0 0 (MQ below (va_Qi (fun r u => r = iI (if (0 ≤ z ∧ z < (c : Int)) then (c : Int) - 1 else -1) ∧ (((0 ≤ z ∧ z < (c : Int)) ∧ u = (c - 1, sh D z.toNat c, sh C z.toNat c, sh A z.toNat c, O, Nt)) ∨ (¬ (0 ≤ z ∧ z < (c : Int)) ∧ u = (c, D, C, A, O, Nt)))) (obB (dC, dI) vwCl [(cI, .int), (cZ, .boolean)] AA (BM bd cI cZ n)) AA) ([.ref (bd 0), .int (iI z)] : List Value).toArray s 0 0 AA) (F0 m 12 ls []) := by
      intro nn
      induction nn with
      | zero => intro d hm hd1 hd; exfalso; omega
      | succ nn ih_12 =>
        intro d hm hd1 hd H locs hP hD hS ls hl
        refine lv_iload_n hx hb dX2_pay_12 rfl (lv_at hl 1 rfl) ?_
        refine lv_aload_n hx hb dX2_pay_13 rfl (lv_at hl 0 rfl) ?_
        refine va_get (D := (dC, dI)) (ci := 1) (v := .int (iI c)) (C := RX2) (T := TX2) (N := 7) hx hb hts in_X2 hown hK hP 0 rfl rfl 1 (by decide) (hts _ q205) (fun _ h9 => h9) rfl dX2_pay_14 ?_
        refine ob_ic hx hb dX2_pay_17 ?_
        refine ob_isub hx hb dX2_pay_18 ?_
        refine ob_icmp_ge (tgt := 76) hx hb dX2_pay_19 (by decide) (by omega) (by omega) (fun h19 => ?_) (fun h19 => ?_)
        · have ed : d + 1 = c := by omega
          have hwe : sh D z.toNat (d + 1) = sh D z.toNat c := by rw [ed]
          rw [hwe] at hP hD
          clear hwe
          have hP : va_P (dC, dI) vwCl (wM bd cI cZ n c (sh D z.toNat c) (sh C z.toNat (d + 1)) (sh A z.toNat (d + 1)) O Nt) H := hP
          have hD : va_D AA (wM bd cI cZ n c (sh D z.toNat c) (sh C z.toNat (d + 1)) (sh A z.toNat (d + 1)) O Nt) := hD
          have hwe : sh C z.toNat (d + 1) = sh C z.toNat c := by rw [ed]
          rw [hwe] at hP hD
          clear hwe
          have hP : va_P (dC, dI) vwCl (wM bd cI cZ n c (sh D z.toNat c) (sh C z.toNat c) (sh A z.toNat (d + 1)) O Nt) H := hP
          have hD : va_D AA (wM bd cI cZ n c (sh D z.toNat c) (sh C z.toNat c) (sh A z.toNat (d + 1)) O Nt) := hD
          have hwe : sh A z.toNat (d + 1) = sh A z.toNat c := by rw [ed]
          rw [hwe] at hP hD
          clear hwe
          have hP : va_P (dC, dI) vwCl (wM bd cI cZ n c (sh D z.toNat c) (sh C z.toNat c) (sh A z.toNat c) O Nt) H := hP
          have hD : va_D AA (wM bd cI cZ n c (sh D z.toNat c) (sh C z.toNat c) (sh A z.toNat c) O Nt) := hD
          refine lv_aload_n hx hb dX2_pay_76 rfl (lv_at hl 0 rfl) ?_
          refine lv_dup hx hb dX2_pay_77 rfl ?_
          refine va_get (D := (dC, dI)) (ci := 1) (v := .int (iI c)) (C := RX2) (T := TX2) (N := 7) hx hb hts in_X2 hown hK hP 0 rfl rfl 1 (by decide) (hts _ q205) (fun _ h9 => h9) rfl dX2_pay_78 ?_
          refine ob_ic hx hb dX2_pay_81 ?_
          refine ob_isub hx hb dX2_pay_82 ?_
          refine ob_top (((c - 1 : Nat) : Int)) (by omega) ?_
          refine va_put (D := (dC, dI)) (ci := 1) (v := .int (iI (((c - 1 : Nat) : Int)))) (ty := .int) (C := RX2) (T := TX2) (N := 7) hx hb hts in_X2 tyX2 tyX2_ok nmX2 hown hK hP hD hS 0 rfl rfl 1 (by decide) (hts _ q205) (fun _ h9 => h9) rfl (by decide +kernel) rfl rfl (Nat.le_of_ble_eq_true rfl) dX2_pay_83 (fun H locs hP hD hS => ?_)
          have hP : va_P (dC, dI) vwCl (wM bd cI cZ n (c - 1) (sh D z.toNat c) (sh C z.toNat c) (sh A z.toNat c) O Nt) H := hP
          have hD : va_D AA (wM bd cI cZ n (c - 1) (sh D z.toNat c) (sh C z.toNat c) (sh A z.toNat c) O Nt) := hD
          refine lv_aload_n hx hb dX2_pay_86 rfl (lv_at hl 0 rfl) ?_
          refine va_get (D := (dC, dI)) (ci := 1) (v := .int (iI (((c - 1 : Nat) : Int)))) (C := RX2) (T := TX2) (N := 7) hx hb hts in_X2 hown hK hP 0 rfl rfl 1 (by decide) (hts _ q205) (fun _ h9 => h9) rfl dX2_pay_87 ?_
          exact W.iret (v := iI (((c - 1 : Nat) : Int))) hx hb hr (fun t ht hWm => ⟨⟨_, (c - 1, sh D z.toNat c, sh C z.toNat c, sh A z.toNat c, O, Nt), rfl, (by exact ⟨by rw [if_pos g5]; congr 1; omega, Or.inl ⟨g5, rfl⟩⟩), by rw [ht]; exact hP, va_K.moved hWm.alike hK, hD⟩, hS.F ht⟩) hS.2.2 dX2_pay_90
        · refine lv_iload_n hx hb dX2_pay_22 rfl (lv_at hl 1 rfl) ?_
          refine ob_bi hx hb dX2_pay_23 (by decide) ?_
          refine ob_icmp_ge (tgt := 76) hx hb dX2_pay_25 (by decide) (by omega) (by omega) (fun h25 => ?_) (fun h25 => ?_)
          · exfalso; omega
          · refine lv_aload_n hx hb dX2_pay_28 rfl (lv_at hl 0 rfl) ?_
            refine va_get (D := (dC, dI)) (ci := 1) (v := .ref (bd 1)) (C := RX2) (T := TX2) (N := 7) hx hb hts in_X2 hown hK hP 0 rfl rfl 2 (by decide) (hts _ q206) (fun _ h9 => h9) rfl dX2_pay_29 ?_
            refine lv_iload_n hx hb dX2_pay_32 rfl (lv_at hl 1 rfl) ?_
            refine lv_aload_n hx hb dX2_pay_33 rfl (lv_at hl 0 rfl) ?_
            refine va_get (D := (dC, dI)) (ci := 1) (v := .ref (bd 1)) (C := RX2) (T := TX2) (N := 7) hx hb hts in_X2 hown hK hP 0 rfl rfl 2 (by decide) (hts _ q206) (fun _ h9 => h9) rfl dX2_pay_34 ?_
            refine lv_iload_n hx hb dX2_pay_37 rfl (lv_at hl 1 rfl) ?_
            refine ob_ic hx hb dX2_pay_38 ?_
            refine ob_iadd hx hb dX2_pay_39 ?_
            refine ob_top (((d + 1 : Nat) : Int)) (by omega) ?_
            refine ob_iald hx hb hK hP 1 0 rfl rfl (d + 1) (by omega) (by omega) (by decide) dX2_pay_40 ?_
            refine ob_top (D (d + 1)) (by rw [sh_self]) ?_
            refine ob_iastN hx hb hK hP hD hS 1 0 rfl rfl (d) (by omega) (by omega) (by decide) (D (d + 1)) (by omega) dX2_pay_41 (fun H locs hP hD hS => ?_)
            have hP : va_P (dC, dI) vwCl (wM bd cI cZ n c (va_up (sh D z.toNat (d + 1)) d (D (d + 1))) (sh C z.toNat (d + 1)) (sh A z.toNat (d + 1)) O Nt) H := hP
            have hD : va_D AA (wM bd cI cZ n c (va_up (sh D z.toNat (d + 1)) d (D (d + 1))) (sh C z.toNat (d + 1)) (sh A z.toNat (d + 1)) O Nt) := hD
            have hwe : va_up (sh D z.toNat (d + 1)) d (D (d + 1)) = sh D z.toNat (d + 1 + 1) := sh_up _ hd1
            rw [hwe] at hP hD
            clear hwe
            have hP : va_P (dC, dI) vwCl (wM bd cI cZ n c (sh D z.toNat (d + 1 + 1)) (sh C z.toNat (d + 1)) (sh A z.toNat (d + 1)) O Nt) H := hP
            have hD : va_D AA (wM bd cI cZ n c (sh D z.toNat (d + 1 + 1)) (sh C z.toNat (d + 1)) (sh A z.toNat (d + 1)) O Nt) := hD
            refine lv_aload_n hx hb dX2_pay_42 rfl (lv_at hl 0 rfl) ?_
            refine va_get (D := (dC, dI)) (ci := 1) (v := .ref (bd 2)) (C := RX2) (T := TX2) (N := 7) hx hb hts in_X2 hown hK hP 0 rfl rfl 3 (by decide) (hts _ q207) (fun _ h9 => h9) rfl dX2_pay_43 ?_
            refine lv_iload_n hx hb dX2_pay_46 rfl (lv_at hl 1 rfl) ?_
            refine lv_aload_n hx hb dX2_pay_47 rfl (lv_at hl 0 rfl) ?_
            refine va_get (D := (dC, dI)) (ci := 1) (v := .ref (bd 2)) (C := RX2) (T := TX2) (N := 7) hx hb hts in_X2 hown hK hP 0 rfl rfl 3 (by decide) (hts _ q207) (fun _ h9 => h9) rfl dX2_pay_48 ?_
            refine lv_iload_n hx hb dX2_pay_51 rfl (lv_at hl 1 rfl) ?_
            refine ob_ic hx hb dX2_pay_52 ?_
            refine ob_iadd hx hb dX2_pay_53 ?_
            refine ob_top (((d + 1 : Nat) : Int)) (by omega) ?_
            refine ob_iald hx hb hK hP 2 0 rfl rfl (d + 1) (by omega) (by omega) (by decide) dX2_pay_54 ?_
            refine ob_top (C (d + 1)) (by rw [sh_self]) ?_
            refine ob_iastN hx hb hK hP hD hS 2 0 rfl rfl (d) (by omega) (by omega) (by decide) (C (d + 1)) (by omega) dX2_pay_55 (fun H locs hP hD hS => ?_)
            have hP : va_P (dC, dI) vwCl (wM bd cI cZ n c (sh D z.toNat (d + 1 + 1)) (va_up (sh C z.toNat (d + 1)) d (C (d + 1))) (sh A z.toNat (d + 1)) O Nt) H := hP
            have hD : va_D AA (wM bd cI cZ n c (sh D z.toNat (d + 1 + 1)) (va_up (sh C z.toNat (d + 1)) d (C (d + 1))) (sh A z.toNat (d + 1)) O Nt) := hD
            have hwe : va_up (sh C z.toNat (d + 1)) d (C (d + 1)) = sh C z.toNat (d + 1 + 1) := sh_up _ hd1
            rw [hwe] at hP hD
            clear hwe
            have hP : va_P (dC, dI) vwCl (wM bd cI cZ n c (sh D z.toNat (d + 1 + 1)) (sh C z.toNat (d + 1 + 1)) (sh A z.toNat (d + 1)) O Nt) H := hP
            have hD : va_D AA (wM bd cI cZ n c (sh D z.toNat (d + 1 + 1)) (sh C z.toNat (d + 1 + 1)) (sh A z.toNat (d + 1)) O Nt) := hD
            refine lv_aload_n hx hb dX2_pay_56 rfl (lv_at hl 0 rfl) ?_
            refine va_get (D := (dC, dI)) (ci := 1) (v := .ref (bd 3)) (C := RX2) (T := TX2) (N := 7) hx hb hts in_X2 hown hK hP 0 rfl rfl 4 (by decide) (hts _ q208) (fun _ h9 => h9) rfl dX2_pay_57 ?_
            refine lv_iload_n hx hb dX2_pay_60 rfl (lv_at hl 1 rfl) ?_
            refine lv_aload_n hx hb dX2_pay_61 rfl (lv_at hl 0 rfl) ?_
            refine va_get (D := (dC, dI)) (ci := 1) (v := .ref (bd 3)) (C := RX2) (T := TX2) (N := 7) hx hb hts in_X2 hown hK hP 0 rfl rfl 4 (by decide) (hts _ q208) (fun _ h9 => h9) rfl dX2_pay_62 ?_
            refine lv_iload_n hx hb dX2_pay_65 rfl (lv_at hl 1 rfl) ?_
            refine ob_ic hx hb dX2_pay_66 ?_
            refine ob_iadd hx hb dX2_pay_67 ?_
            refine ob_top (((d + 1 : Nat) : Int)) (by omega) ?_
            refine ob_iald hx hb hK hP 3 0 rfl rfl (d + 1) (by omega) (by omega) (by decide) dX2_pay_68 ?_
            refine ob_top (A (d + 1)) (by rw [sh_self]) ?_
            refine ob_iast hx hb hK hP hD hS 3 0 rfl rfl (d) (by omega) (by omega) (by decide) dX2_pay_69 (fun H locs hP hD hS => ?_)
            have hP : va_P (dC, dI) vwCl (wM bd cI cZ n c (sh D z.toNat (d + 1 + 1)) (sh C z.toNat (d + 1 + 1)) (va_up (sh A z.toNat (d + 1)) d (A (d + 1))) O Nt) H := hP
            have hD : va_D AA (wM bd cI cZ n c (sh D z.toNat (d + 1 + 1)) (sh C z.toNat (d + 1 + 1)) (va_up (sh A z.toNat (d + 1)) d (A (d + 1))) O Nt) := hD
            have hwe : va_up (sh A z.toNat (d + 1)) d (A (d + 1)) = sh A z.toNat (d + 1 + 1) := sh_up _ hd1
            rw [hwe] at hP hD
            clear hwe
            have hP : va_P (dC, dI) vwCl (wM bd cI cZ n c (sh D z.toNat (d + 1 + 1)) (sh C z.toNat (d + 1 + 1)) (sh A z.toNat (d + 1 + 1)) O Nt) H := hP
            have hD : va_D AA (wM bd cI cZ n c (sh D z.toNat (d + 1 + 1)) (sh C z.toNat (d + 1 + 1)) (sh A z.toNat (d + 1 + 1)) O Nt) := hD
            refine ob_iinc (k := 1) hx hb (((d + 1 : Nat) : Int)) (lv' := [(2, .int (iI (((d + 1 : Nat) : Int)))), (0, .ref (bd 0))]) dX2_pay_70 hl rfl (by omega) (by decide) rfl (fun ls hl => ?_)
            refine lv_goto (tgt := 12) hx hb dX2_pay_73 (by decide) ?_
            exact ih_12 (d + 1) (by omega) (by omega) (by omega) _ _ hP hD hS ls (lv_sub hl [1, 0] rfl)
    exact lp_12 (c + 1) z.toNat (by omega) (by omega) (by omega) _ _ hP hD hS ls (lv_sub hl [1, 0] rfl)
  · have g5 := tb_t h5
    refine ob_ic hx hb dX2_pay_8 ?_
    exact W.iret (v := iI ((-1))) hx hb hr (fun t ht hWm => ⟨⟨_, (c, D, C, A, O, Nt), rfl, (by exact ⟨by rw [if_neg g5], Or.inr ⟨g5, rfl⟩⟩), by rw [ht]; exact hP, va_K.moved hWm.alike hK, hD⟩, hS.F ht⟩) hS.2.2 dX2_pay_9
set_option maxHeartbeats 4000000 in
set_option maxRecDepth 100000 in
theorem metM_exclude (l : Launch) (dC : Nat → ClassId) (dI : Nat → Nat → Nat) (bd : Nat → Nat) (cI cZ : ClassId) (n c : Nat) (D C : Nat → Nat) (A O Nt : Nat → Int) (sz : Nat) (z1 : Int) (hz1 : -2147483648 ≤ z1 ∧ z1 < 2147483648) (z2 : Int) (hz2 : -2147483648 ≤ z2 ∧ z2 < 2147483648) (hW : WF n c D C A O) : Met l yX2_exclude (ws_ yX2_exclude cX2_exclude 4 (some .int)) ({ frames := 1, cells := 0, slots := 0, locals := 21 }) (obW (dC, dI) vwCl (wM bd cI cZ n c D C A O Nt) [(cI, .int), (cZ, .boolean)] sz [.ref (bd 0), .int (iI z1), .int (iI z2)]) (va_Qi (fun r u => r = iI (if (0 ≤ z1 ∧ z1 < (n : Int)) then O z1.toNat else -1) ∧ (((0 ≤ z1 ∧ z1 < (n : Int)) ∧ u = (c, D, C, A, va_up O z1.toNat (if z2 = 0 then 0 else 1), Nt)) ∨ (¬ (0 ≤ z1 ∧ z1 < (n : Int)) ∧ u = (c, D, C, A, O, Nt)))) (obB (dC, dI) vwCl [(cI, .int), (cZ, .boolean)] (va_A (wM bd cI cZ n c D C A O Nt) sz) (BM bd cI cZ n)) (va_A (wM bd cI cZ n c D C A O Nt) sz)) 0 0 (va_A (wM bd cI cZ n c D C A O Nt) sz) := by
  refine Met.ofW (cc := cX2_exclude) (maxL := 4) (ret := (some .int)) (by decide) rfl ?_
  intro p e s m args below meth cd s₁ B hml hv
  obtain ⟨rfl, hsz, hP, hK, hD0⟩ := hv
  have hx := B.exec
  have hb := B.bytes
  have hr := B.returns
  have hts := atoms_spec (ws := (ws_ yX2_exclude cX2_exclude 4 (some .int))) B.pre
  have hts : ∀ w ∈ lw_all, w.before _ s = true := fun w h => hts w (List.mem_cons_of_mem _ h)
  have hown : s.vm.findClass RX2 = some m.cls := findClass_of_methodNamed B.named
  have hlocks := B.notSynchronized
  subst hsz
  have hD := hD0.self (sz := s.heap.size)
  generalize hAe : va_A (wM bd cI cZ n c D C A O Nt) s.heap.size = AA at hD ⊢
  have hA : ∀ q : Nat, s.heap.size ≤ q → AA q := fun q h => by rw [← hAe]; exact Or.inr h
  have hS : va_S AA s.heap s.heap [] := va_S.rf
  have hl := lv_entry ([.ref (bd 0), .int (iI z1), .int (iI z2)]) (n := 4) (Nat.le_of_ble_eq_true rfl)
  rw [lg_entry_eq]
  generalize (lg_sl ([.ref (bd 0), .int (iI z1), .int (iI z2)]) ++ List.replicate (4 - (lg_sl ([.ref (bd 0), .int (iI z1), .int (iI z2)])).length) Slot.unset).toArray = ls at hl ⊢
  have hl : lv_has ls 4 [(0, .ref (bd 0)), (1, .int (iI z1)), (2, .int (iI z2))] := hl
  have hc := hW.2.2.1
  have hn := hW.2.1
  have o1 := hW.2.2.2.2 z1.toNat
  refine lv_aload_n hx hb dX2_exclude_0 rfl (lv_at hl 0 rfl) ?_
  refine lv_iload_n hx hb dX2_exclude_1 rfl (lv_at hl 1 rfl) ?_
  refine ob_callR (As := [.int (iI z1)]) (rest := []) (metM_badFirm l dC dI bd cI cZ n c D C A O Nt z1 hz1 hn) ⟨hx, hb, hml, hown, hts⟩ (cwV 1 hts (lw_V q230 q232 qs14 q24 q233) rfl rfl rfl (by decide +kernel) ⟨Nat.le_of_ble_eq_true rfl, Nat.le_of_ble_eq_true rfl⟩) hK hP [0, 1, 2, 3, 4, 5] [0, 1] rfl rfl (ci := 1) rfl rfl rfl rfl hl.1 rfl (Nat.le_of_ble_eq_true rfl) dX2_exclude_2 ⟨Nat.zero_le _, Nat.zero_le _⟩ (fun r2 e2 => ?_)
  subst e2
  refine ob_if_eq (tgt := 10) hx hb dX2_exclude_5 (by decide) (tb_bnd _) (fun h5 => ?_) (fun h5 => ?_)
  · have g5 : 0 ≤ z1 ∧ z1 < (n : Int) := by have q := tb_f h5; omega
    refine lv_aload_n hx hb dX2_exclude_10 rfl (lv_at hl 0 rfl) ?_
    refine va_get (D := (dC, dI)) (ci := 1) (v := .ref (bd 4)) (C := RX2) (T := TX2) (N := 7) hx hb hts in_X2 hown hK hP 0 rfl rfl 5 (by decide) (hts _ q209) (fun _ h9 => h9) rfl dX2_exclude_11 ?_
    refine lv_iload_n hx hb dX2_exclude_14 rfl (lv_at hl 1 rfl) ?_
    refine ob_zald hx hb hK hP 4 1 rfl rfl (z1.toNat) (by omega) (by omega) (by decide) dX2_exclude_15 ?_
    refine ob_if_eq (tgt := 23) hx hb dX2_exclude_16 (by decide) (by omega) (fun h16 => ?_) (fun h16 => ?_)
    · refine ob_ic hx hb dX2_exclude_23 ?_
      refine ob_top (O z1.toNat) (by omega) ?_
      refine lv_istore_n (lv' := [(3, .int (iI (O z1.toNat))), (0, .ref (bd 0)), (1, .int (iI z1)), (2, .int (iI z2))]) hx hb dX2_exclude_24 rfl hl (by decide) rfl (fun ls hl => ?_)
      refine lv_aload_n hx hb dX2_exclude_25 rfl (lv_at hl 1 rfl) ?_
      refine va_get (D := (dC, dI)) (ci := 1) (v := .ref (bd 4)) (C := RX2) (T := TX2) (N := 7) hx hb hts in_X2 hown hK hP 0 rfl rfl 5 (by decide) (hts _ q209) (fun _ h9 => h9) rfl dX2_exclude_26 ?_
      refine lv_iload_n hx hb dX2_exclude_29 rfl (lv_at hl 2 rfl) ?_
      refine lv_iload_n hx hb dX2_exclude_30 rfl (lv_at hl 3 rfl) ?_
      refine ob_if_eq (tgt := 38) hx hb dX2_exclude_31 (by decide) (by omega) (fun h31 => ?_) (fun h31 => ?_)
      · refine ob_ic hx hb dX2_exclude_38 ?_
        refine ob_top (if z2 = 0 then 0 else 1) (by first | rw [if_pos (by omega)] | rw [if_neg (by omega)]) ?_
        refine ob_zast hx hb hK hP hD hS 4 1 rfl rfl (z1.toNat) (by omega) (by omega) (by decide) (by split <;> simp) dX2_exclude_39 (fun H locs hP hD hS => ?_)
        have hP : va_P (dC, dI) vwCl (wM bd cI cZ n c D C A (va_up O z1.toNat (if z2 = 0 then 0 else 1)) Nt) H := hP
        have hD : va_D AA (wM bd cI cZ n c D C A (va_up O z1.toNat (if z2 = 0 then 0 else 1)) Nt) := hD
        refine lv_iload_n hx hb dX2_exclude_40 rfl (lv_at hl 0 rfl) ?_
        exact W.iret (v := iI (O z1.toNat)) hx hb hr (fun t ht hWm => ⟨⟨_, (c, D, C, A, va_up O z1.toNat (if z2 = 0 then 0 else 1), Nt), rfl, (by exact ⟨by rw [if_pos g5], Or.inl ⟨g5, rfl⟩⟩), by rw [ht]; exact hP, va_K.moved hWm.alike hK, hD⟩, hS.F ht⟩) hS.2.2 dX2_exclude_41
      · refine ob_ic hx hb dX2_exclude_34 ?_
        refine lv_goto (tgt := 39) hx hb dX2_exclude_35 (by decide) ?_
        refine ob_top (if z2 = 0 then 0 else 1) (by first | rw [if_pos (by omega)] | rw [if_neg (by omega)]) ?_
        refine ob_zast hx hb hK hP hD hS 4 1 rfl rfl (z1.toNat) (by omega) (by omega) (by decide) (by split <;> simp) dX2_exclude_39 (fun H locs hP hD hS => ?_)
        have hP : va_P (dC, dI) vwCl (wM bd cI cZ n c D C A (va_up O z1.toNat (if z2 = 0 then 0 else 1)) Nt) H := hP
        have hD : va_D AA (wM bd cI cZ n c D C A (va_up O z1.toNat (if z2 = 0 then 0 else 1)) Nt) := hD
        refine lv_iload_n hx hb dX2_exclude_40 rfl (lv_at hl 0 rfl) ?_
        exact W.iret (v := iI (O z1.toNat)) hx hb hr (fun t ht hWm => ⟨⟨_, (c, D, C, A, va_up O z1.toNat (if z2 = 0 then 0 else 1), Nt), rfl, (by exact ⟨by rw [if_pos g5], Or.inl ⟨g5, rfl⟩⟩), by rw [ht]; exact hP, va_K.moved hWm.alike hK, hD⟩, hS.F ht⟩) hS.2.2 dX2_exclude_41
    · refine ob_ic hx hb dX2_exclude_19 ?_
      refine lv_goto (tgt := 24) hx hb dX2_exclude_20 (by decide) ?_
      refine ob_top (O z1.toNat) (by omega) ?_
      refine lv_istore_n (lv' := [(3, .int (iI (O z1.toNat))), (0, .ref (bd 0)), (1, .int (iI z1)), (2, .int (iI z2))]) hx hb dX2_exclude_24 rfl hl (by decide) rfl (fun ls hl => ?_)
      refine lv_aload_n hx hb dX2_exclude_25 rfl (lv_at hl 1 rfl) ?_
      refine va_get (D := (dC, dI)) (ci := 1) (v := .ref (bd 4)) (C := RX2) (T := TX2) (N := 7) hx hb hts in_X2 hown hK hP 0 rfl rfl 5 (by decide) (hts _ q209) (fun _ h9 => h9) rfl dX2_exclude_26 ?_
      refine lv_iload_n hx hb dX2_exclude_29 rfl (lv_at hl 2 rfl) ?_
      refine lv_iload_n hx hb dX2_exclude_30 rfl (lv_at hl 3 rfl) ?_
      refine ob_if_eq (tgt := 38) hx hb dX2_exclude_31 (by decide) (by omega) (fun h31 => ?_) (fun h31 => ?_)
      · refine ob_ic hx hb dX2_exclude_38 ?_
        refine ob_top (if z2 = 0 then 0 else 1) (by first | rw [if_pos (by omega)] | rw [if_neg (by omega)]) ?_
        refine ob_zast hx hb hK hP hD hS 4 1 rfl rfl (z1.toNat) (by omega) (by omega) (by decide) (by split <;> simp) dX2_exclude_39 (fun H locs hP hD hS => ?_)
        have hP : va_P (dC, dI) vwCl (wM bd cI cZ n c D C A (va_up O z1.toNat (if z2 = 0 then 0 else 1)) Nt) H := hP
        have hD : va_D AA (wM bd cI cZ n c D C A (va_up O z1.toNat (if z2 = 0 then 0 else 1)) Nt) := hD
        refine lv_iload_n hx hb dX2_exclude_40 rfl (lv_at hl 0 rfl) ?_
        exact W.iret (v := iI (O z1.toNat)) hx hb hr (fun t ht hWm => ⟨⟨_, (c, D, C, A, va_up O z1.toNat (if z2 = 0 then 0 else 1), Nt), rfl, (by exact ⟨by rw [if_pos g5], Or.inl ⟨g5, rfl⟩⟩), by rw [ht]; exact hP, va_K.moved hWm.alike hK, hD⟩, hS.F ht⟩) hS.2.2 dX2_exclude_41
      · refine ob_ic hx hb dX2_exclude_34 ?_
        refine lv_goto (tgt := 39) hx hb dX2_exclude_35 (by decide) ?_
        refine ob_top (if z2 = 0 then 0 else 1) (by first | rw [if_pos (by omega)] | rw [if_neg (by omega)]) ?_
        refine ob_zast hx hb hK hP hD hS 4 1 rfl rfl (z1.toNat) (by omega) (by omega) (by decide) (by split <;> simp) dX2_exclude_39 (fun H locs hP hD hS => ?_)
        have hP : va_P (dC, dI) vwCl (wM bd cI cZ n c D C A (va_up O z1.toNat (if z2 = 0 then 0 else 1)) Nt) H := hP
        have hD : va_D AA (wM bd cI cZ n c D C A (va_up O z1.toNat (if z2 = 0 then 0 else 1)) Nt) := hD
        refine lv_iload_n hx hb dX2_exclude_40 rfl (lv_at hl 0 rfl) ?_
        exact W.iret (v := iI (O z1.toNat)) hx hb hr (fun t ht hWm => ⟨⟨_, (c, D, C, A, va_up O z1.toNat (if z2 = 0 then 0 else 1), Nt), rfl, (by exact ⟨by rw [if_pos g5], Or.inl ⟨g5, rfl⟩⟩), by rw [ht]; exact hP, va_K.moved hWm.alike hK, hD⟩, hS.F ht⟩) hS.2.2 dX2_exclude_41
  · have g5 := tb_t h5
    refine ob_ic hx hb dX2_exclude_8 ?_
    exact W.iret (v := iI ((-1))) hx hb hr (fun t ht hWm => ⟨⟨_, (c, D, C, A, O, Nt), rfl, (by exact ⟨by rw [if_neg g5], Or.inr ⟨g5, rfl⟩⟩), by rw [ht]; exact hP, va_K.moved hWm.alike hK, hD⟩, hS.F ht⟩) hS.2.2 dX2_exclude_9
end
section
/-! ObligationNettingModel: what rests on the search -/
set_option maxHeartbeats 4000000 in
set_option maxRecDepth 100000 in
theorem metM_total (l : Launch) (dC : Nat → ClassId) (dI : Nat → Nat → Nat) (bd : Nat → Nat) (cI cZ : ClassId) (n c : Nat) (D C : Nat → Nat) (A O Nt : Nat → Int) (sz : Nat) (z : Int) (hz : -2147483648 ≤ z ∧ z < 2147483648) (hW : WF n c D C A O) : Met l yX2_total (ws_ yX2_total cX2_total 5 (some .int)) ({ frames := 1, cells := 0, slots := 0, locals := 23 }) (obW (dC, dI) vwCl (wM bd cI cZ n c D C A O Nt) [(cI, .int), (cZ, .boolean)] sz [.ref (bd 0), .int (iI z)]) (va_Qi (fun r u => ∃ Nt2, u = (c, D, C, A, O, Nt2) ∧ ((CC n c D C (rm D C A O) z ∧ r = iI (sZ (dgZ c z.toNat) c)) ∨ (¬ CC n c D C (rm D C A O) z ∧ r = iI (-1)))) (obB (dC, dI) vwCl [(cI, .int), (cZ, .boolean)] (va_A (wM bd cI cZ n c D C A O Nt) sz) (BM bd cI cZ n)) (va_A (wM bd cI cZ n c D C A O Nt) sz)) 0 0 (va_A (wM bd cI cZ n c D C A O Nt) sz) := by
  refine Met.ofW (cc := cX2_total) (maxL := 5) (ret := (some .int)) (by decide) rfl ?_
  intro p e s m args below meth cd s₁ B hml hv
  obtain ⟨rfl, hsz, hP, hK, hD0⟩ := hv
  have hx := B.exec
  have hb := B.bytes
  have hr := B.returns
  have hts := atoms_spec (ws := (ws_ yX2_total cX2_total 5 (some .int))) B.pre
  have hts : ∀ w ∈ lw_all, w.before _ s = true := fun w h => hts w (List.mem_cons_of_mem _ h)
  have hown : s.vm.findClass RX2 = some m.cls := findClass_of_methodNamed B.named
  have hlocks := B.notSynchronized
  subst hsz
  have hD := hD0.self (sz := s.heap.size)
  generalize hAe : va_A (wM bd cI cZ n c D C A O Nt) s.heap.size = AA at hD ⊢
  have hA : ∀ q : Nat, s.heap.size ≤ q → AA q := fun q h => by rw [← hAe]; exact Or.inr h
  have hS : va_S AA s.heap s.heap [] := va_S.rf
  have hl := lv_entry ([.ref (bd 0), .int (iI z)]) (n := 5) (Nat.le_of_ble_eq_true rfl)
  rw [lg_entry_eq]
  generalize (lg_sl ([.ref (bd 0), .int (iI z)]) ++ List.replicate (5 - (lg_sl ([.ref (bd 0), .int (iI z)])).length) Slot.unset).toArray = ls at hl ⊢
  have hl : lv_has ls 5 [(0, .ref (bd 0)), (1, .int (iI z))] := hl
  have hc := hW.2.2.1
  have hn := hW.2.1
  have hp4 := p4_le hc
  refine lv_iload_n hx hb dX2_total_0 rfl (lv_at hl 1 rfl) ?_
  refine ob_if_lt (tgt := 16) hx hb dX2_total_1 (by decide) (by omega) (fun h1 => ?_) (fun h1 => ?_)
  · refine ob_ic hx hb dX2_total_16 ?_
    exact W.iret (v := iI ((-1))) hx hb hr (fun t ht hWm => ⟨⟨_, (c, D, C, A, O, Nt), rfl, (by exact ⟨_, rfl, Or.inr ⟨fun h => by have q1 := h.1; have q2 := h.2.1; omega, rfl⟩⟩), by rw [ht]; exact hP, va_K.moved hWm.alike hK, hD⟩, hS.F ht⟩) hS.2.2 dX2_total_17
  · refine lv_iload_n hx hb dX2_total_4 rfl (lv_at hl 1 rfl) ?_
    refine ob_ic hx hb dX2_total_5 ?_
    refine ob_ic hx hb dX2_total_6 ?_
    refine lv_aload_n hx hb dX2_total_7 rfl (lv_at hl 0 rfl) ?_
    refine va_get (D := (dC, dI)) (ci := 1) (v := .int (iI c)) (C := RX2) (T := TX2) (N := 7) hx hb hts in_X2 hown hK hP 0 rfl rfl 1 (by decide) (hts _ q205) (fun _ h9 => h9) rfl dX2_total_8 ?_
    refine ob_imul hx hb dX2_total_11 ?_
    refine ob_top (((2 * c : Nat) : Int)) (by omega) ?_
    refine ob_ishl hx hb dX2_total_12 (2 * c) (by omega) (by omega) ?_
    refine ob_top (((4 ^ c : Nat) : Int)) (by rw [p42]) ?_
    refine ob_icmp_lt (tgt := 18) hx hb dX2_total_13 (by decide) (by omega) (by omega) (fun h13 => ?_) (fun h13 => ?_)
    · have hle : z = (((z.toNat : Nat) : Int) : Int) := by omega
      rw [hle] at hl
      clear hle
      have hl : lv_has ls 5 [(0, .ref (bd 0)), (1, .int (iI (((z.toNat : Nat) : Int))))] := hl
      refine ob_ic hx hb dX2_total_18 ?_
      refine lv_istore_n (lv' := [(2, .int (iI 0)), (0, .ref (bd 0)), (1, .int (iI (((z.toNat : Nat) : Int))))]) hx hb dX2_total_19 rfl hl (by decide) rfl (fun ls hl => ?_)
      have lp_20 : ∀ (nn : Nat) (f : Nat) (Nt1 : Nat → Int), (5 < f + nn) → (f ≤ 5) → (∀ j, j < f → Nt1 j = 0) → ∀ (H : Heap) (locs : List Loc), va_P (dC, dI) vwCl (wM bd cI cZ n c D C A O Nt1) H → va_D AA (wM bd cI cZ n c D C A O Nt1) → va_S AA s.heap H locs → ∀ (ls : Array Slot), lv_has ls 5 [(0, .ref (bd 0)), (1, .int (iI (((z.toNat : Nat) : Int)))), (2, .int (iI f))] → W p l e (headSpec (ws_ yX2_total cX2_total 5 (some .int)) ({ frames := 1, cells := 0, slots := 0, locals := 23 })).room s m ([.ref (bd 0), .int (iI z)] : List Value).toArray below meth cd H locs 0 0 (MQ below (va_Qi (fun r u => ∃ Nt2, u = (c, D, C, A, O, Nt2) ∧ ((CC n c D C (rm D C A O) z ∧ r = iI (sZ (dgZ c z.toNat) c)) ∨ (¬ CC n c D C (rm D C A O) z ∧ r = iI (-1)))) (obB (dC, dI) vwCl [(cI, .int), (cZ, .boolean)] AA (BM bd cI cZ n)) AA) ([.ref (bd 0), .int (iI z)] : List Value).toArray s 0 0 AA) (F0 m 20 ls []) := by
        intro nn
        induction nn with
        | zero => intro f Nt1 hm hf hz0; exfalso; omega
        | succ nn ih_20 =>
          intro f Nt1 hm hf hz0 H locs hP hD hS ls hl
          refine lv_iload_n hx hb dX2_total_20 rfl (lv_at hl 2 rfl) ?_
          refine ob_ic hx hb dX2_total_21 ?_
          refine ob_icmp_ge (tgt := 38) hx hb dX2_total_22 (by decide) (by omega) (by omega) (fun h22 => ?_) (fun h22 => ?_)
          · refine ob_ic hx hb dX2_total_38 ?_
            refine lv_istore_n (lv' := [(2, .int (iI 0)), (0, .ref (bd 0)), (1, .int (iI (((z.toNat : Nat) : Int))))]) hx hb dX2_total_39 rfl hl (by decide) rfl (fun ls hl => ?_)
            refine ob_ic hx hb dX2_total_40 ?_
            refine lv_istore_n (lv' := [(3, .int (iI 0)), (2, .int (iI 0)), (0, .ref (bd 0)), (1, .int (iI (((z.toNat : Nat) : Int))))]) hx hb dX2_total_41 rfl hl (by decide) rfl (fun ls hl => ?_)
            have lp_42 : ∀ (nn : Nat) (d : Nat) (Nt2 : Nat → Int), (c < d + nn) → (d ≤ c) → (∀ j, j < d → dgZ c z.toNat j ≤ rm D C A O j) → (∀ g, g < 5 → Nt2 g = sZ (tf D C (dgZ c z.toNat) g) d) → ∀ (H : Heap) (locs : List Loc), va_P (dC, dI) vwCl (wM bd cI cZ n c D C A O Nt2) H → va_D AA (wM bd cI cZ n c D C A O Nt2) → va_S AA s.heap H locs → ∀ (ls : Array Slot), lv_has ls 5 [(0, .ref (bd 0)), (1, .int (iI (((z.toNat : Nat) : Int)))), (2, .int (iI (sZ (dgZ c z.toNat) d))), (3, .int (iI d))] → W p l e (headSpec (ws_ yX2_total cX2_total 5 (some .int)) ({ frames := 1, cells := 0, slots := 0, locals := 23 })).room s m ([.ref (bd 0), .int (iI z)] : List Value).toArray below meth cd H locs 0 0 (MQ below (va_Qi (fun r u => ∃ Nt2, u = (c, D, C, A, O, Nt2) ∧ ((CC n c D C (rm D C A O) z ∧ r = iI (sZ (dgZ c z.toNat) c)) ∨ (¬ CC n c D C (rm D C A O) z ∧ r = iI (-1)))) (obB (dC, dI) vwCl [(cI, .int), (cZ, .boolean)] AA (BM bd cI cZ n)) AA) ([.ref (bd 0), .int (iI z)] : List Value).toArray s 0 0 AA) (F0 m 42 ls []) := by
              intro nn
              induction nn with
              | zero => intro d Nt2 hm hd hxr hnet; exfalso; omega
              | succ nn ih_42 =>
                intro d Nt2 hm hd hxr hnet H locs hP hD hS ls hl
                refine lv_iload_n hx hb dX2_total_42 rfl (lv_at hl 3 rfl) ?_
                refine lv_aload_n hx hb dX2_total_43 rfl (lv_at hl 0 rfl) ?_
                refine va_get (D := (dC, dI)) (ci := 1) (v := .int (iI c)) (C := RX2) (T := TX2) (N := 7) hx hb hts in_X2 hown hK hP 0 rfl rfl 1 (by decide) (hts _ q205) (fun _ h9 => h9) rfl dX2_total_44 ?_
                refine ob_icmp_ge (tgt := 155) hx hb dX2_total_47 (by decide) (by omega) (by omega) (fun h47 => ?_) (fun h47 => ?_)
                · have ed : d = c := by omega
                  rw [ed] at hxr hnet
                  have hl : lv_has ls 5 [(0, .ref (bd 0)), (2, .int (iI (sZ (dgZ c z.toNat) d)))] := lv_sub hl [0, 2] rfl
                  have hle : (sZ (dgZ c z.toNat) d) = (sZ (dgZ c z.toNat) c : Int) := by rw [ed]
                  rw [hle] at hl
                  clear hle
                  have hl : lv_has ls 5 [(0, .ref (bd 0)), (2, .int (iI (sZ (dgZ c z.toNat) c)))] := hl
                  refine ob_ic hx hb dX2_total_155 ?_
                  refine lv_istore_n (lv' := [(3, .int (iI 0)), (0, .ref (bd 0)), (2, .int (iI (sZ (dgZ c z.toNat) c)))]) hx hb dX2_total_156 rfl hl (by decide) rfl (fun ls hl => ?_)
                  have lp_157 : ∀ (nn : Nat) (f : Nat), (5 < f + nn) → (f ≤ 5) → (∀ j, j < f → Nt2 j = 0) → ∀ (H : Heap) (locs : List Loc), va_P (dC, dI) vwCl (wM bd cI cZ n c D C A O Nt2) H → va_D AA (wM bd cI cZ n c D C A O Nt2) → va_S AA s.heap H locs → ∀ (ls : Array Slot), lv_has ls 5 [(0, .ref (bd 0)), (2, .int (iI (sZ (dgZ c z.toNat) c))), (3, .int (iI f))] → W p l e (headSpec (ws_ yX2_total cX2_total 5 (some .int)) ({ frames := 1, cells := 0, slots := 0, locals := 23 })).room s m ([.ref (bd 0), .int (iI z)] : List Value).toArray below meth cd H locs 0 0 (MQ below (va_Qi (fun r u => ∃ Nt2, u = (c, D, C, A, O, Nt2) ∧ ((CC n c D C (rm D C A O) z ∧ r = iI (sZ (dgZ c z.toNat) c)) ∨ (¬ CC n c D C (rm D C A O) z ∧ r = iI (-1)))) (obB (dC, dI) vwCl [(cI, .int), (cZ, .boolean)] AA (BM bd cI cZ n)) AA) ([.ref (bd 0), .int (iI z)] : List Value).toArray s 0 0 AA) (F0 m 157 ls []) := by
                    intro nn
                    induction nn with
                    | zero => intro f hm hf hz1; exfalso; omega
                    | succ nn ih_157 =>
                      intro f hm hf hz1 H locs hP hD hS ls hl
                      refine lv_iload_n hx hb dX2_total_157 rfl (lv_at hl 2 rfl) ?_
                      refine ob_ic hx hb dX2_total_158 ?_
                      refine ob_icmp_ge (tgt := 179) hx hb dX2_total_159 (by decide) (by omega) (by omega) (fun h159 => ?_) (fun h159 => ?_)
                      · have hcc : CC n c D C (rm D C A O) z := ⟨by omega, by omega, fun d hd => ⟨(dgZ_bnd _ _ _).1, hxr d hd⟩, fun g hg => by rw [← hnet g (by omega)]; exact hz1 g (by omega)⟩
                        refine lv_iload_n hx hb dX2_total_179 rfl (lv_at hl 1 rfl) ?_
                        exact W.iret (v := iI (sZ (dgZ c z.toNat) c)) hx hb hr (fun t ht hWm => ⟨⟨_, (c, D, C, A, O, Nt2), rfl, (by exact ⟨_, rfl, Or.inl ⟨hcc, rfl⟩⟩), by rw [ht]; exact hP, va_K.moved hWm.alike hK, hD⟩, hS.F ht⟩) hS.2.2 dX2_total_180
                      · have nb := tf_bnd (D := D) (C := C) f c (fun d _ => dgZ_bnd c z.toNat d)
                        have nf := hnet f (by omega)
                        refine lv_aload_n hx hb dX2_total_162 rfl (lv_at hl 0 rfl) ?_
                        refine va_get (D := (dC, dI)) (ci := 1) (v := .ref (bd 5)) (C := RX2) (T := TX2) (N := 7) hx hb hts in_X2 hown hK hP 0 rfl rfl 6 (by decide) (hts _ q210) (fun _ h9 => h9) rfl dX2_total_163 ?_
                        refine lv_iload_n hx hb dX2_total_166 rfl (lv_at hl 2 rfl) ?_
                        refine ob_iald hx hb hK hP 5 0 rfl rfl (f) (by omega) (by omega) (by decide) dX2_total_167 ?_
                        refine ob_if_eq (tgt := 173) hx hb dX2_total_168 (by decide) (by omega) (fun h168 => ?_) (fun h168 => ?_)
                        · have hz2 : ∀ j, j < f + 1 → Nt2 j = 0 := fun j hj => by
                            by_cases q : j = f
                            · rw [q]; exact h168
                            · exact hz1 j (by omega)
                          refine ob_iinc (k := 2) hx hb (((f + 1 : Nat) : Int)) (lv' := [(3, .int (iI (((f + 1 : Nat) : Int)))), (0, .ref (bd 0)), (2, .int (iI (sZ (dgZ c z.toNat) c)))]) dX2_total_173 hl rfl (by omega) (by decide) rfl (fun ls hl => ?_)
                          refine lv_goto (tgt := 157) hx hb dX2_total_176 (by decide) ?_
                          exact ih_157 (f + 1) (by omega) (by omega) hz2 _ _ hP hD hS ls (lv_sub hl [1, 2, 0] rfl)
                        · have hno : ¬ CC n c D C (rm D C A O) z := fun h => by
                            rw [nf] at h168
                            rcases Nat.lt_or_ge f n with q | q
                            · exact h168 (h.2.2.2 f q)
                            · exact h168 (tf_out hW.DC2 q)
                          refine ob_ic hx hb dX2_total_171 ?_
                          exact W.iret (v := iI ((-1))) hx hb hr (fun t ht hWm => ⟨⟨_, (c, D, C, A, O, Nt2), rfl, (by exact ⟨_, rfl, Or.inr ⟨hno, rfl⟩⟩), by rw [ht]; exact hP, va_K.moved hWm.alike hK, hD⟩, hS.F ht⟩) hS.2.2 dX2_total_172
                  exact lp_157 6 0 (by omega) (by omega) (fun j h => absurd h (by omega)) _ _ hP hD hS ls (lv_sub hl [1, 2, 0] rfl)
                · have wd := hW.2.2.2.1 d (by omega)
                  have o1 := hW.2.2.2.2 (D d)
                  have o2 := hW.2.2.2.2 (C d)
                  have xb := dgZ_bnd c z.toNat d
                  have rb := hW.rm d (by omega)
                  refine lv_iload_n hx hb dX2_total_50 rfl (lv_at hl 3 rfl) ?_
                  refine ob_bi hx hb dX2_total_51 (by decide) ?_
                  refine ob_icmp_ge (tgt := 155) hx hb dX2_total_53 (by decide) (by omega) (by omega) (fun h53 => ?_) (fun h53 => ?_)
                  · exfalso; omega
                  · refine lv_aload_n hx hb dX2_total_56 rfl (lv_at hl 0 rfl) ?_
                    refine lv_iload_n hx hb dX2_total_57 rfl (lv_at hl 1 rfl) ?_
                    refine lv_iload_n hx hb dX2_total_58 rfl (lv_at hl 3 rfl) ?_
                    refine ob_callR (As := [.int (iI (((z.toNat : Nat) : Int))), .int (iI d)]) (rest := []) (metM_digit l dC dI bd cI cZ n c D C A O Nt2 z.toNat d (by omega) (by omega) hc) ⟨hx, hb, hml, hown, hts⟩ (cwV 2 hts (lw_V q262 q264 qs18 q24 q265) rfl rfl rfl (by decide +kernel) ⟨Nat.le_of_ble_eq_true rfl, Nat.le_of_ble_eq_true rfl⟩) hK hP [0, 1, 2, 3, 4, 5] [0, 1] rfl rfl (ci := 1) rfl rfl rfl rfl hl.1 rfl (Nat.le_of_ble_eq_true rfl) dX2_total_59 ⟨Nat.zero_le _, Nat.zero_le _⟩ (fun r59 e59 => ?_)
                    subst e59
                    refine ob_top (dgZ c z.toNat d) (rfl) ?_
                    refine lv_istore (lv' := [(4, .int (iI (dgZ c z.toNat d))), (0, .ref (bd 0)), (1, .int (iI (((z.toNat : Nat) : Int)))), (2, .int (iI (sZ (dgZ c z.toNat) d))), (3, .int (iI d))]) hx hb dX2_total_62 hl (by decide) rfl (fun ls hl => ?_)
                    refine lv_iload hx hb dX2_total_64 (lv_at hl 0 rfl) ?_
                    refine lv_aload_n hx hb dX2_total_66 rfl (lv_at hl 1 rfl) ?_
                    refine va_get (D := (dC, dI)) (ci := 1) (v := .ref (bd 3)) (C := RX2) (T := TX2) (N := 7) hx hb hts in_X2 hown hK hP 0 rfl rfl 4 (by decide) (hts _ q208) (fun _ h9 => h9) rfl dX2_total_67 ?_
                    refine lv_iload_n hx hb dX2_total_70 rfl (lv_at hl 4 rfl) ?_
                    refine ob_iald hx hb hK hP 3 0 rfl rfl (d) (by omega) (by omega) (by decide) dX2_total_71 ?_
                    refine ob_icmp_le (tgt := 77) hx hb dX2_total_72 (by decide) (by omega) (by omega) (fun h72 => ?_) (fun h72 => ?_)
                    · refine lv_iload hx hb dX2_total_77 (lv_at hl 0 rfl) ?_
                      refine ob_if_le (tgt := 112) hx hb dX2_total_79 (by decide) (by omega) (fun h79 => ?_) (fun h79 => ?_)
                      · have hx9 : dgZ c z.toNat d ≤ rm D C A O d := by omega
                        have hxr2 : ∀ j, j < d + 1 → dgZ c z.toNat j ≤ rm D C A O j := fun j hj => by
                          by_cases q : j = d
                          · rw [q]; exact hx9
                          · exact hxr j (by omega)
                        refine lv_aload_n hx hb dX2_total_112 rfl (lv_at hl 1 rfl) ?_
                        refine va_get (D := (dC, dI)) (ci := 1) (v := .ref (bd 5)) (C := RX2) (T := TX2) (N := 7) hx hb hts in_X2 hown hK hP 0 rfl rfl 6 (by decide) (hts _ q210) (fun _ h9 => h9) rfl dX2_total_113 ?_
                        refine lv_aload_n hx hb dX2_total_116 rfl (lv_at hl 1 rfl) ?_
                        refine va_get (D := (dC, dI)) (ci := 1) (v := .ref (bd 1)) (C := RX2) (T := TX2) (N := 7) hx hb hts in_X2 hown hK hP 0 rfl rfl 2 (by decide) (hts _ q206) (fun _ h9 => h9) rfl dX2_total_117 ?_
                        refine lv_iload_n hx hb dX2_total_120 rfl (lv_at hl 4 rfl) ?_
                        refine ob_iald hx hb hK hP 1 0 rfl rfl (d) (by omega) (by omega) (by decide) dX2_total_121 ?_
                        refine lv_dup2_11 hx hb dX2_total_122 rfl rfl ?_
                        refine ob_iald hx hb hK hP 5 0 rfl rfl (D d) (by omega) (by omega) (by decide) dX2_total_123 ?_
                        refine lv_iload hx hb dX2_total_124 (lv_at hl 0 rfl) ?_
                        refine ob_isub hx hb dX2_total_126 ?_
                        refine ob_iast hx hb hK hP hD hS 5 0 rfl rfl (D d) (by omega) (by omega) (by decide) dX2_total_127 (fun H locs hP hD hS => ?_)
                        have hP : va_P (dC, dI) vwCl (wM bd cI cZ n c D C A O (va_up Nt2 (D d) ((Nt2 (D d)) - (dgZ c z.toNat d)))) H := hP
                        have hD : va_D AA (wM bd cI cZ n c D C A O (va_up Nt2 (D d) ((Nt2 (D d)) - (dgZ c z.toNat d)))) := hD
                        refine lv_aload_n hx hb dX2_total_128 rfl (lv_at hl 1 rfl) ?_
                        refine va_get (D := (dC, dI)) (ci := 1) (v := .ref (bd 5)) (C := RX2) (T := TX2) (N := 7) hx hb hts in_X2 hown hK hP 0 rfl rfl 6 (by decide) (hts _ q210) (fun _ h9 => h9) rfl dX2_total_129 ?_
                        refine lv_aload_n hx hb dX2_total_132 rfl (lv_at hl 1 rfl) ?_
                        refine va_get (D := (dC, dI)) (ci := 1) (v := .ref (bd 2)) (C := RX2) (T := TX2) (N := 7) hx hb hts in_X2 hown hK hP 0 rfl rfl 3 (by decide) (hts _ q207) (fun _ h9 => h9) rfl dX2_total_133 ?_
                        refine lv_iload_n hx hb dX2_total_136 rfl (lv_at hl 4 rfl) ?_
                        refine ob_iald hx hb hK hP 2 0 rfl rfl (d) (by omega) (by omega) (by decide) dX2_total_137 ?_
                        refine lv_dup2_11 hx hb dX2_total_138 rfl rfl ?_
                        refine ob_iald hx hb hK hP 5 0 rfl rfl (C d) (by omega) (by omega) (by decide) dX2_total_139 ?_
                        refine lv_iload hx hb dX2_total_140 (lv_at hl 0 rfl) ?_
                        refine ob_iadd hx hb dX2_total_142 ?_
                        refine ob_iast hx hb hK hP hD hS 5 0 rfl rfl (C d) (by omega) (by omega) (by decide) dX2_total_143 (fun H locs hP hD hS => ?_)
                        have hP : va_P (dC, dI) vwCl (wM bd cI cZ n c D C A O (va_up (va_up Nt2 (D d) ((Nt2 (D d)) - (dgZ c z.toNat d))) (C d) (((va_up Nt2 (D d) ((Nt2 (D d)) - (dgZ c z.toNat d))) (C d)) + (dgZ c z.toNat d)))) H := hP
                        have hD : va_D AA (wM bd cI cZ n c D C A O (va_up (va_up Nt2 (D d) ((Nt2 (D d)) - (dgZ c z.toNat d))) (C d) (((va_up Nt2 (D d) ((Nt2 (D d)) - (dgZ c z.toNat d))) (C d)) + (dgZ c z.toNat d)))) := hD
                        refine lv_iload_n hx hb dX2_total_144 rfl (lv_at hl 3 rfl) ?_
                        refine lv_iload hx hb dX2_total_145 (lv_at hl 0 rfl) ?_
                        refine ob_iadd hx hb dX2_total_147 ?_
                        refine lv_istore_n (lv' := [(2, .int (iI ((sZ (dgZ c z.toNat) d) + (dgZ c z.toNat d)))), (4, .int (iI (dgZ c z.toNat d))), (0, .ref (bd 0)), (1, .int (iI (((z.toNat : Nat) : Int)))), (3, .int (iI d))]) hx hb dX2_total_148 rfl hl (by decide) rfl (fun ls hl => ?_)
                        refine ob_iinc (k := 4) hx hb (((d + 1 : Nat) : Int)) (lv' := [(3, .int (iI (((d + 1 : Nat) : Int)))), (2, .int (iI ((sZ (dgZ c z.toNat) d) + (dgZ c z.toNat d)))), (4, .int (iI (dgZ c z.toNat d))), (0, .ref (bd 0)), (1, .int (iI (((z.toNat : Nat) : Int))))]) dX2_total_149 hl rfl (by omega) (by decide) rfl (fun ls hl => ?_)
                        refine lv_goto (tgt := 42) hx hb dX2_total_152 (by decide) ?_
                        exact ih_42 (d + 1) (va_up (va_up Nt2 (D d) (Nt2 (D d) - dgZ c z.toNat d)) (C d) ((va_up Nt2 (D d) (Nt2 (D d) - dgZ c z.toNat d)) (C d) + dgZ c z.toNat d)) (by omega) (by omega) hxr2 (fun g hg => by rw [net_step (hW.DC d (by omega)).2.2, hnet g hg]; rfl) _ _ hP hD hS ls (lv_sub hl [3, 4, 1, 0] rfl)
                      · refine lv_aload_n hx hb dX2_total_82 rfl (lv_at hl 1 rfl) ?_
                        refine va_get (D := (dC, dI)) (ci := 1) (v := .ref (bd 4)) (C := RX2) (T := TX2) (N := 7) hx hb hts in_X2 hown hK hP 0 rfl rfl 5 (by decide) (hts _ q209) (fun _ h9 => h9) rfl dX2_total_83 ?_
                        refine lv_aload_n hx hb dX2_total_86 rfl (lv_at hl 1 rfl) ?_
                        refine va_get (D := (dC, dI)) (ci := 1) (v := .ref (bd 1)) (C := RX2) (T := TX2) (N := 7) hx hb hts in_X2 hown hK hP 0 rfl rfl 2 (by decide) (hts _ q206) (fun _ h9 => h9) rfl dX2_total_87 ?_
                        refine lv_iload_n hx hb dX2_total_90 rfl (lv_at hl 4 rfl) ?_
                        refine ob_iald hx hb hK hP 1 0 rfl rfl (d) (by omega) (by omega) (by decide) dX2_total_91 ?_
                        refine ob_zald hx hb hK hP 4 1 rfl rfl (D d) (by omega) (by omega) (by decide) dX2_total_92 ?_
                        refine ob_if_ne (tgt := 110) hx hb dX2_total_93 (by decide) (by omega) (fun h93 => ?_) (fun h93 => ?_)
                        · have r0 : rm D C A O d = 0 := by
                            unfold rm
                            rw [if_neg (by omega)]
                          have hno : ¬ CC n c D C (rm D C A O) z := fun h => by
                            have q := (h.2.2.1 d (by omega)).2
                            omega
                          refine ob_ic hx hb dX2_total_110 ?_
                          exact W.iret (v := iI ((-1))) hx hb hr (fun t ht hWm => ⟨⟨_, (c, D, C, A, O, Nt2), rfl, (by exact ⟨_, rfl, Or.inr ⟨hno, rfl⟩⟩), by rw [ht]; exact hP, va_K.moved hWm.alike hK, hD⟩, hS.F ht⟩) hS.2.2 dX2_total_111
                        · refine lv_aload_n hx hb dX2_total_96 rfl (lv_at hl 1 rfl) ?_
                          refine va_get (D := (dC, dI)) (ci := 1) (v := .ref (bd 4)) (C := RX2) (T := TX2) (N := 7) hx hb hts in_X2 hown hK hP 0 rfl rfl 5 (by decide) (hts _ q209) (fun _ h9 => h9) rfl dX2_total_97 ?_
                          refine lv_aload_n hx hb dX2_total_100 rfl (lv_at hl 1 rfl) ?_
                          refine va_get (D := (dC, dI)) (ci := 1) (v := .ref (bd 2)) (C := RX2) (T := TX2) (N := 7) hx hb hts in_X2 hown hK hP 0 rfl rfl 3 (by decide) (hts _ q207) (fun _ h9 => h9) rfl dX2_total_101 ?_
                          refine lv_iload_n hx hb dX2_total_104 rfl (lv_at hl 4 rfl) ?_
                          refine ob_iald hx hb hK hP 2 0 rfl rfl (d) (by omega) (by omega) (by decide) dX2_total_105 ?_
                          refine ob_zald hx hb hK hP 4 1 rfl rfl (C d) (by omega) (by omega) (by decide) dX2_total_106 ?_
                          refine ob_if_eq (tgt := 112) hx hb dX2_total_107 (by decide) (by omega) (fun h107 => ?_) (fun h107 => ?_)
                          · have hx9 : dgZ c z.toNat d ≤ rm D C A O d := by
                              unfold rm
                              rw [if_pos (by omega)]
                              exact h72
                            have hxr2 : ∀ j, j < d + 1 → dgZ c z.toNat j ≤ rm D C A O j := fun j hj => by
                              by_cases q : j = d
                              · rw [q]; exact hx9
                              · exact hxr j (by omega)
                            refine lv_aload_n hx hb dX2_total_112 rfl (lv_at hl 1 rfl) ?_
                            refine va_get (D := (dC, dI)) (ci := 1) (v := .ref (bd 5)) (C := RX2) (T := TX2) (N := 7) hx hb hts in_X2 hown hK hP 0 rfl rfl 6 (by decide) (hts _ q210) (fun _ h9 => h9) rfl dX2_total_113 ?_
                            refine lv_aload_n hx hb dX2_total_116 rfl (lv_at hl 1 rfl) ?_
                            refine va_get (D := (dC, dI)) (ci := 1) (v := .ref (bd 1)) (C := RX2) (T := TX2) (N := 7) hx hb hts in_X2 hown hK hP 0 rfl rfl 2 (by decide) (hts _ q206) (fun _ h9 => h9) rfl dX2_total_117 ?_
                            refine lv_iload_n hx hb dX2_total_120 rfl (lv_at hl 4 rfl) ?_
                            refine ob_iald hx hb hK hP 1 0 rfl rfl (d) (by omega) (by omega) (by decide) dX2_total_121 ?_
                            refine lv_dup2_11 hx hb dX2_total_122 rfl rfl ?_
                            refine ob_iald hx hb hK hP 5 0 rfl rfl (D d) (by omega) (by omega) (by decide) dX2_total_123 ?_
                            refine lv_iload hx hb dX2_total_124 (lv_at hl 0 rfl) ?_
                            refine ob_isub hx hb dX2_total_126 ?_
                            refine ob_iast hx hb hK hP hD hS 5 0 rfl rfl (D d) (by omega) (by omega) (by decide) dX2_total_127 (fun H locs hP hD hS => ?_)
                            have hP : va_P (dC, dI) vwCl (wM bd cI cZ n c D C A O (va_up Nt2 (D d) ((Nt2 (D d)) - (dgZ c z.toNat d)))) H := hP
                            have hD : va_D AA (wM bd cI cZ n c D C A O (va_up Nt2 (D d) ((Nt2 (D d)) - (dgZ c z.toNat d)))) := hD
                            refine lv_aload_n hx hb dX2_total_128 rfl (lv_at hl 1 rfl) ?_
                            refine va_get (D := (dC, dI)) (ci := 1) (v := .ref (bd 5)) (C := RX2) (T := TX2) (N := 7) hx hb hts in_X2 hown hK hP 0 rfl rfl 6 (by decide) (hts _ q210) (fun _ h9 => h9) rfl dX2_total_129 ?_
                            refine lv_aload_n hx hb dX2_total_132 rfl (lv_at hl 1 rfl) ?_
                            refine va_get (D := (dC, dI)) (ci := 1) (v := .ref (bd 2)) (C := RX2) (T := TX2) (N := 7) hx hb hts in_X2 hown hK hP 0 rfl rfl 3 (by decide) (hts _ q207) (fun _ h9 => h9) rfl dX2_total_133 ?_
                            refine lv_iload_n hx hb dX2_total_136 rfl (lv_at hl 4 rfl) ?_
                            refine ob_iald hx hb hK hP 2 0 rfl rfl (d) (by omega) (by omega) (by decide) dX2_total_137 ?_
                            refine lv_dup2_11 hx hb dX2_total_138 rfl rfl ?_
                            refine ob_iald hx hb hK hP 5 0 rfl rfl (C d) (by omega) (by omega) (by decide) dX2_total_139 ?_
                            refine lv_iload hx hb dX2_total_140 (lv_at hl 0 rfl) ?_
                            refine ob_iadd hx hb dX2_total_142 ?_
                            refine ob_iast hx hb hK hP hD hS 5 0 rfl rfl (C d) (by omega) (by omega) (by decide) dX2_total_143 (fun H locs hP hD hS => ?_)
                            have hP : va_P (dC, dI) vwCl (wM bd cI cZ n c D C A O (va_up (va_up Nt2 (D d) ((Nt2 (D d)) - (dgZ c z.toNat d))) (C d) (((va_up Nt2 (D d) ((Nt2 (D d)) - (dgZ c z.toNat d))) (C d)) + (dgZ c z.toNat d)))) H := hP
                            have hD : va_D AA (wM bd cI cZ n c D C A O (va_up (va_up Nt2 (D d) ((Nt2 (D d)) - (dgZ c z.toNat d))) (C d) (((va_up Nt2 (D d) ((Nt2 (D d)) - (dgZ c z.toNat d))) (C d)) + (dgZ c z.toNat d)))) := hD
                            refine lv_iload_n hx hb dX2_total_144 rfl (lv_at hl 3 rfl) ?_
                            refine lv_iload hx hb dX2_total_145 (lv_at hl 0 rfl) ?_
                            refine ob_iadd hx hb dX2_total_147 ?_
                            refine lv_istore_n (lv' := [(2, .int (iI ((sZ (dgZ c z.toNat) d) + (dgZ c z.toNat d)))), (4, .int (iI (dgZ c z.toNat d))), (0, .ref (bd 0)), (1, .int (iI (((z.toNat : Nat) : Int)))), (3, .int (iI d))]) hx hb dX2_total_148 rfl hl (by decide) rfl (fun ls hl => ?_)
                            refine ob_iinc (k := 4) hx hb (((d + 1 : Nat) : Int)) (lv' := [(3, .int (iI (((d + 1 : Nat) : Int)))), (2, .int (iI ((sZ (dgZ c z.toNat) d) + (dgZ c z.toNat d)))), (4, .int (iI (dgZ c z.toNat d))), (0, .ref (bd 0)), (1, .int (iI (((z.toNat : Nat) : Int))))]) dX2_total_149 hl rfl (by omega) (by decide) rfl (fun ls hl => ?_)
                            refine lv_goto (tgt := 42) hx hb dX2_total_152 (by decide) ?_
                            exact ih_42 (d + 1) (va_up (va_up Nt2 (D d) (Nt2 (D d) - dgZ c z.toNat d)) (C d) ((va_up Nt2 (D d) (Nt2 (D d) - dgZ c z.toNat d)) (C d) + dgZ c z.toNat d)) (by omega) (by omega) hxr2 (fun g hg => by rw [net_step (hW.DC d (by omega)).2.2, hnet g hg]; rfl) _ _ hP hD hS ls (lv_sub hl [3, 4, 1, 0] rfl)
                          · have r0 : rm D C A O d = 0 := by
                              unfold rm
                              rw [if_neg (by omega)]
                            have hno : ¬ CC n c D C (rm D C A O) z := fun h => by
                              have q := (h.2.2.1 d (by omega)).2
                              omega
                            refine ob_ic hx hb dX2_total_110 ?_
                            exact W.iret (v := iI ((-1))) hx hb hr (fun t ht hWm => ⟨⟨_, (c, D, C, A, O, Nt2), rfl, (by exact ⟨_, rfl, Or.inr ⟨hno, rfl⟩⟩), by rw [ht]; exact hP, va_K.moved hWm.alike hK, hD⟩, hS.F ht⟩) hS.2.2 dX2_total_111
                    · have ra : rm D C A O d ≤ A d := by
                        unfold rm
                        split <;> omega
                      have hno : ¬ CC n c D C (rm D C A O) z := fun h => by
                        have q := (h.2.2.1 d (by omega)).2
                        omega
                      refine ob_ic hx hb dX2_total_75 ?_
                      exact W.iret (v := iI ((-1))) hx hb hr (fun t ht hWm => ⟨⟨_, (c, D, C, A, O, Nt2), rfl, (by exact ⟨_, rfl, Or.inr ⟨hno, rfl⟩⟩), by rw [ht]; exact hP, va_K.moved hWm.alike hK, hD⟩, hS.F ht⟩) hS.2.2 dX2_total_76
            exact lp_42 (c + 1) 0 Nt1 (by omega) (by omega) (fun j h => absurd h (by omega)) (fun g hg => hz0 g (by omega)) _ _ hP hD hS ls (lv_sub hl [2, 3, 1, 0] rfl)
          · refine lv_aload_n hx hb dX2_total_25 rfl (lv_at hl 0 rfl) ?_
            refine va_get (D := (dC, dI)) (ci := 1) (v := .ref (bd 5)) (C := RX2) (T := TX2) (N := 7) hx hb hts in_X2 hown hK hP 0 rfl rfl 6 (by decide) (hts _ q210) (fun _ h9 => h9) rfl dX2_total_26 ?_
            refine lv_iload_n hx hb dX2_total_29 rfl (lv_at hl 2 rfl) ?_
            refine ob_ic hx hb dX2_total_30 ?_
            refine ob_iast hx hb hK hP hD hS 5 0 rfl rfl (f) (by omega) (by omega) (by decide) dX2_total_31 (fun H locs hP hD hS => ?_)
            have hP : va_P (dC, dI) vwCl (wM bd cI cZ n c D C A O (va_up Nt1 f 0)) H := hP
            have hD : va_D AA (wM bd cI cZ n c D C A O (va_up Nt1 f 0)) := hD
            refine ob_iinc (k := 2) hx hb (((f + 1 : Nat) : Int)) (lv' := [(2, .int (iI (((f + 1 : Nat) : Int)))), (0, .ref (bd 0)), (1, .int (iI (((z.toNat : Nat) : Int))))]) dX2_total_32 hl rfl (by omega) (by decide) rfl (fun ls hl => ?_)
            refine lv_goto (tgt := 20) hx hb dX2_total_35 (by decide) ?_
            exact ih_20 (f + 1) (va_up Nt1 f 0) (by omega) (by omega) (up_lo hz0) _ _ hP hD hS ls (lv_sub hl [1, 2, 0] rfl)
      exact lp_20 6 0 Nt (by omega) (by omega) (fun j h => absurd h (by omega)) _ _ hP hD hS ls (lv_sub hl [1, 2, 0] rfl)
    · refine ob_ic hx hb dX2_total_16 ?_
      exact W.iret (v := iI ((-1))) hx hb hr (fun t ht hWm => ⟨⟨_, (c, D, C, A, O, Nt), rfl, (by exact ⟨_, rfl, Or.inr ⟨fun h => by have q1 := h.1; have q2 := h.2.1; omega, rfl⟩⟩), by rw [ht]; exact hP, va_K.moved hWm.alike hK, hD⟩, hS.F ht⟩) hS.2.2 dX2_total_17
set_option maxHeartbeats 4000000 in
set_option maxRecDepth 100000 in
theorem metM_search (l : Launch) (dC : Nat → ClassId) (dI : Nat → Nat → Nat) (bd : Nat → Nat) (cI cZ : ClassId) (n c : Nat) (D C : Nat → Nat) (A O Nt : Nat → Int) (sz : Nat) (hW : WF n c D C A O) : Met l yX2_search (ws_ yX2_search cX2_search 5 (some .int)) ({ frames := 2, cells := 0, slots := 0, locals := 47 }) (obW (dC, dI) vwCl (wM bd cI cZ n c D C A O Nt) [(cI, .int), (cZ, .boolean)] sz [.ref (bd 0)]) (va_Qi (fun r u => ∃ Nt2 ch, u = (c, D, C, A, O, Nt2) ∧ ch < 4 ^ c ∧ Opt n c D C (rm D C A O) (gnA c (-1)) (dgZ c ch) ∧ r = iI (ch : Nat)) (obB (dC, dI) vwCl [(cI, .int), (cZ, .boolean)] (va_A (wM bd cI cZ n c D C A O Nt) sz) (BM bd cI cZ n)) (va_A (wM bd cI cZ n c D C A O Nt) sz)) 0 0 (va_A (wM bd cI cZ n c D C A O Nt) sz) := by
  refine Met.ofW (cc := cX2_search) (maxL := 5) (ret := (some .int)) (by decide) rfl ?_
  intro p e s m args below meth cd s₁ B hml hv
  obtain ⟨rfl, hsz, hP, hK, hD0⟩ := hv
  have hx := B.exec
  have hb := B.bytes
  have hr := B.returns
  have hts := atoms_spec (ws := (ws_ yX2_search cX2_search 5 (some .int))) B.pre
  have hts : ∀ w ∈ lw_all, w.before _ s = true := fun w h => hts w (List.mem_cons_of_mem _ h)
  have hown : s.vm.findClass RX2 = some m.cls := findClass_of_methodNamed B.named
  have hlocks := B.notSynchronized
  subst hsz
  have hD := hD0.self (sz := s.heap.size)
  generalize hAe : va_A (wM bd cI cZ n c D C A O Nt) s.heap.size = AA at hD ⊢
  have hA : ∀ q : Nat, s.heap.size ≤ q → AA q := fun q h => by rw [← hAe]; exact Or.inr h
  have hS : va_S AA s.heap s.heap [] := va_S.rf
  have hl := lv_entry ([.ref (bd 0)]) (n := 5) (Nat.le_of_ble_eq_true rfl)
  rw [lg_entry_eq]
  generalize (lg_sl ([.ref (bd 0)]) ++ List.replicate (5 - (lg_sl ([.ref (bd 0)])).length) Slot.unset).toArray = ls at hl ⊢
  have hl : lv_has ls 5 [(0, .ref (bd 0))] := hl
  have hc := hW.2.2.1
  have hn := hW.2.1
  have hp4 := p4_le hc
  refine ob_ic hx hb dX2_search_0 ?_
  refine lv_istore_n (lv' := [(1, .int (iI 0)), (0, .ref (bd 0))]) hx hb dX2_search_1 rfl hl (by decide) rfl (fun ls hl => ?_)
  refine ob_ic hx hb dX2_search_2 ?_
  refine lv_istore_n (lv' := [(2, .int (iI 0)), (1, .int (iI 0)), (0, .ref (bd 0))]) hx hb dX2_search_3 rfl hl (by decide) rfl (fun ls hl => ?_)
  refine ob_ic hx hb dX2_search_4 ?_
  refine lv_istore_n (lv' := [(3, .int (iI 0)), (2, .int (iI 0)), (1, .int (iI 0)), (0, .ref (bd 0))]) hx hb dX2_search_5 rfl hl (by decide) rfl (fun ls hl => ?_)
  have lp_6 : ∀ (nn : Nat) (k : Nat) (ch : Nat) (ms : Int) (Nt1 : Nat → Int), (4 ^ c < k + nn) → (k ≤ 4 ^ c) → (SI n c D C (rm D C A O) k ch ms) → ∀ (H : Heap) (locs : List Loc), va_P (dC, dI) vwCl (wM bd cI cZ n c D C A O Nt1) H → va_D AA (wM bd cI cZ n c D C A O Nt1) → va_S AA s.heap H locs → ∀ (ls : Array Slot), lv_has ls 5 [(0, .ref (bd 0)), (1, .int (iI ch)), (2, .int (iI ms)), (3, .int (iI k))] → W p l e (headSpec (ws_ yX2_search cX2_search 5 (some .int)) ({ frames := 2, cells := 0, slots := 0, locals := 47 })).room s m ([.ref (bd 0)] : List Value).toArray below meth cd H locs 0 0 (MQ below (va_Qi (fun r u => ∃ Nt2 ch, u = (c, D, C, A, O, Nt2) ∧ ch < 4 ^ c ∧ Opt n c D C (rm D C A O) (gnA c (-1)) (dgZ c ch) ∧ r = iI (ch : Nat)) (obB (dC, dI) vwCl [(cI, .int), (cZ, .boolean)] AA (BM bd cI cZ n)) AA) ([.ref (bd 0)] : List Value).toArray s 0 0 AA) (F0 m 6 ls []) := by
    intro nn
    induction nn with
    | zero => intro k ch ms Nt1 hm hk hs; exfalso; omega
    | succ nn ih_6 =>
      intro k ch ms Nt1 hm hk hs H locs hP hD hS ls hl
      refine lv_iload_n hx hb dX2_search_6 rfl (lv_at hl 3 rfl) ?_
      refine ob_ic hx hb dX2_search_7 ?_
      refine ob_ic hx hb dX2_search_8 ?_
      refine lv_aload_n hx hb dX2_search_9 rfl (lv_at hl 0 rfl) ?_
      refine va_get (D := (dC, dI)) (ci := 1) (v := .int (iI c)) (C := RX2) (T := TX2) (N := 7) hx hb hts in_X2 hown hK hP 0 rfl rfl 1 (by decide) (hts _ q205) (fun _ h9 => h9) rfl dX2_search_10 ?_
      refine ob_imul hx hb dX2_search_13 ?_
      refine ob_top (((2 * c : Nat) : Int)) (by omega) ?_
      refine ob_ishl hx hb dX2_search_14 (2 * c) (by omega) (by omega) ?_
      refine ob_top (((4 ^ c : Nat) : Int)) (by rw [p42]) ?_
      refine ob_icmp_ge (tgt := 42) hx hb dX2_search_15 (by decide) (by omega) (by omega) (fun h15 => ?_) (fun h15 => ?_)
      · have ek : k = 4 ^ c := by omega
        rw [ek] at hs
        refine lv_iload_n hx hb dX2_search_42 rfl (lv_at hl 1 rfl) ?_
        exact W.iret (v := iI ch) hx hb hr (fun t ht hWm => ⟨⟨_, (c, D, C, A, O, Nt1), rfl, (by exact ⟨_, ch, rfl, hs.1, hs.opt hW, rfl⟩), by rw [ht]; exact hP, va_K.moved hWm.alike hK, hD⟩, hS.F ht⟩) hS.2.2 dX2_search_43
      · have sm : 0 ≤ ms ∧ ms ≤ 21 := by
          rw [hs.2.2.2.1]
          exact sZ_bnd3 hc (fun d _ => dgZ_bnd c ch d)
        have hch := hs.1
        refine lv_aload_n hx hb dX2_search_18 rfl (lv_at hl 0 rfl) ?_
        refine lv_iload_n hx hb dX2_search_19 rfl (lv_at hl 3 rfl) ?_
        refine ob_callI (As := [.int (iI k)]) (rest := []) (wr := []) (metM_total l dC dI bd cI cZ n c D C A O Nt1 H.size (k : Int) (by omega) hW) ⟨hx, hb, hml, hown, hts⟩ (cwV 1 hts (lw_V q258 q260 qs17 q24 q261) rfl rfl rfl (by decide +kernel) ⟨Nat.le_of_ble_eq_true rfl, Nat.le_of_ble_eq_true rfl⟩) hK hP hD hS hA [0, 1, 2, 3, 4, 5] [] [0, 1] rfl rfl rfl (by decide) (by decide) (by decide) rfl (ci := 1) rfl rfl rfl rfl hl.1 rfl (Nat.le_of_ble_eq_true rfl) dX2_search_20 ⟨Nat.zero_le _, Nat.zero_le _⟩ (fun r20 u20 H locs hw hP hD hS => ?_)
        obtain ⟨Nt2, rfl, hw⟩ := hw
        rcases hw with ⟨hcc, rfl⟩ | ⟨hno, rfl⟩
        · have hP : va_P (dC, dI) vwCl (wM bd cI cZ n c D C A O Nt2) H := hP
          have hD : va_D AA (wM bd cI cZ n c D C A O Nt2) := hD
          refine ob_top (sZ (dgZ c k) c) (rfl) ?_
          have sb := sZ_bnd3 hc (fun d _ => dgZ_bnd c k d)
          refine lv_istore (lv' := [(4, .int (iI (sZ (dgZ c k) c))), (0, .ref (bd 0)), (1, .int (iI ch)), (2, .int (iI ms)), (3, .int (iI k))]) hx hb dX2_search_23 hl (by decide) rfl (fun ls hl => ?_)
          refine lv_iload hx hb dX2_search_25 (lv_at hl 0 rfl) ?_
          refine lv_iload_n hx hb dX2_search_27 rfl (lv_at hl 3 rfl) ?_
          refine ob_icmp_le (tgt := 36) hx hb dX2_search_28 (by decide) (by omega) (by omega) (fun h28 => ?_) (fun h28 => ?_)
          · have hle9 : Clr n c D C (rm D C A O) (dgZ c k) → sZ (dgZ c k) c ≤ ms := fun _ => h28
            refine ob_iinc (k := 4) hx hb (((k + 1 : Nat) : Int)) (lv' := [(3, .int (iI (((k + 1 : Nat) : Int)))), (4, .int (iI (sZ (dgZ c k) c))), (0, .ref (bd 0)), (1, .int (iI ch)), (2, .int (iI ms))]) dX2_search_36 hl rfl (by omega) (by decide) rfl (fun ls hl => ?_)
            refine lv_goto (tgt := 6) hx hb dX2_search_39 (by decide) ?_
            exact ih_6 (k + 1) ch ms Nt2 (by omega) (by omega) (hs.old hle9) _ _ hP hD hS ls (lv_sub hl [2, 3, 4, 0] rfl)
          · refine lv_iload hx hb dX2_search_31 (lv_at hl 0 rfl) ?_
            refine lv_istore_n (lv' := [(2, .int (iI (sZ (dgZ c k) c))), (4, .int (iI (sZ (dgZ c k) c))), (0, .ref (bd 0)), (1, .int (iI ch)), (3, .int (iI k))]) hx hb dX2_search_33 rfl hl (by decide) rfl (fun ls hl => ?_)
            refine lv_iload_n hx hb dX2_search_34 rfl (lv_at hl 4 rfl) ?_
            refine lv_istore_n (lv' := [(1, .int (iI k)), (2, .int (iI (sZ (dgZ c k) c))), (4, .int (iI (sZ (dgZ c k) c))), (0, .ref (bd 0)), (3, .int (iI k))]) hx hb dX2_search_35 rfl hl (by decide) rfl (fun ls hl => ?_)
            refine ob_iinc (k := 4) hx hb (((k + 1 : Nat) : Int)) (lv' := [(3, .int (iI (((k + 1 : Nat) : Int)))), (1, .int (iI k)), (2, .int (iI (sZ (dgZ c k) c))), (4, .int (iI (sZ (dgZ c k) c))), (0, .ref (bd 0))]) dX2_search_36 hl rfl (by omega) (by decide) rfl (fun ls hl => ?_)
            refine lv_goto (tgt := 6) hx hb dX2_search_39 (by decide) ?_
            exact ih_6 (k + 1) k (sZ (dgZ c k) c) Nt2 (by omega) (by omega) (hs.new (by omega) hcc.2.2 h28) _ _ hP hD hS ls (lv_sub hl [4, 1, 2, 0] rfl)
        · have hP : va_P (dC, dI) vwCl (wM bd cI cZ n c D C A O Nt2) H := hP
          have hD : va_D AA (wM bd cI cZ n c D C A O Nt2) := hD
          refine lv_istore (lv' := [(4, .int (iI (-1))), (0, .ref (bd 0)), (1, .int (iI ch)), (2, .int (iI ms)), (3, .int (iI k))]) hx hb dX2_search_23 hl (by decide) rfl (fun ls hl => ?_)
          refine lv_iload hx hb dX2_search_25 (lv_at hl 0 rfl) ?_
          refine lv_iload_n hx hb dX2_search_27 rfl (lv_at hl 3 rfl) ?_
          refine ob_icmp_le (tgt := 36) hx hb dX2_search_28 (by decide) (by omega) (by omega) (fun h28 => ?_) (fun h28 => ?_)
          · have hle9 : Clr n c D C (rm D C A O) (dgZ c k) → sZ (dgZ c k) c ≤ ms := fun q => absurd (CC_of (by omega) q) hno
            refine ob_iinc (k := 4) hx hb (((k + 1 : Nat) : Int)) (lv' := [(3, .int (iI (((k + 1 : Nat) : Int)))), (4, .int (iI (-1))), (0, .ref (bd 0)), (1, .int (iI ch)), (2, .int (iI ms))]) dX2_search_36 hl rfl (by omega) (by decide) rfl (fun ls hl => ?_)
            refine lv_goto (tgt := 6) hx hb dX2_search_39 (by decide) ?_
            exact ih_6 (k + 1) ch ms Nt2 (by omega) (by omega) (hs.old hle9) _ _ hP hD hS ls (lv_sub hl [2, 3, 4, 0] rfl)
          · exfalso; omega
  exact lp_6 (4 ^ c + 1) 0 0 0 Nt (by omega) (by omega) (SI.init (fun d hd => (hW.rm d hd).1)) _ _ hP hD hS ls (lv_sub hl [3, 2, 1, 0] rfl)
set_option maxHeartbeats 4000000 in
set_option maxRecDepth 100000 in
theorem metM_perform (l : Launch) (dC : Nat → ClassId) (dI : Nat → Nat → Nat) (bd : Nat → Nat) (cI cZ : ClassId) (n c : Nat) (D C : Nat → Nat) (A O Nt : Nat → Int) (sz : Nat) (z : Int) (hz : -2147483648 ≤ z ∧ z < 2147483648) (hW : WF n c D C A O) : Met l yX2_perform (ws_ yX2_perform cX2_perform 4 (some .int)) ({ frames := 2, cells := 0, slots := 0, locals := 47 }) (obW (dC, dI) vwCl (wM bd cI cZ n c D C A O Nt) [(cI, .int), (cZ, .boolean)] sz [.ref (bd 0), .int (iI z)]) (va_Qi (fun r u => ∃ Nt2, (CC n c D C (rm D C A O) z ∧ r = iI (sZ (dgZ c z.toNat) c) ∧ u = (c, D, C, sbt A (dgZ c z.toNat) c, O, Nt2)) ∨ (¬ CC n c D C (rm D C A O) z ∧ r = iI (-1) ∧ u = (c, D, C, A, O, Nt2))) (obB (dC, dI) vwCl [(cI, .int), (cZ, .boolean)] (va_A (wM bd cI cZ n c D C A O Nt) sz) (BM bd cI cZ n)) (va_A (wM bd cI cZ n c D C A O Nt) sz)) 0 0 (va_A (wM bd cI cZ n c D C A O Nt) sz) := by
  refine Met.ofW (cc := cX2_perform) (maxL := 4) (ret := (some .int)) (by decide) rfl ?_
  intro p e s m args below meth cd s₁ B hml hv
  obtain ⟨rfl, hsz, hP, hK, hD0⟩ := hv
  have hx := B.exec
  have hb := B.bytes
  have hr := B.returns
  have hts := atoms_spec (ws := (ws_ yX2_perform cX2_perform 4 (some .int))) B.pre
  have hts : ∀ w ∈ lw_all, w.before _ s = true := fun w h => hts w (List.mem_cons_of_mem _ h)
  have hown : s.vm.findClass RX2 = some m.cls := findClass_of_methodNamed B.named
  have hlocks := B.notSynchronized
  subst hsz
  have hD := hD0.self (sz := s.heap.size)
  generalize hAe : va_A (wM bd cI cZ n c D C A O Nt) s.heap.size = AA at hD ⊢
  have hA : ∀ q : Nat, s.heap.size ≤ q → AA q := fun q h => by rw [← hAe]; exact Or.inr h
  have hS : va_S AA s.heap s.heap [] := va_S.rf
  have hl := lv_entry ([.ref (bd 0), .int (iI z)]) (n := 4) (Nat.le_of_ble_eq_true rfl)
  rw [lg_entry_eq]
  generalize (lg_sl ([.ref (bd 0), .int (iI z)]) ++ List.replicate (4 - (lg_sl ([.ref (bd 0), .int (iI z)])).length) Slot.unset).toArray = ls at hl ⊢
  have hl : lv_has ls 4 [(0, .ref (bd 0)), (1, .int (iI z))] := hl
  have hc := hW.2.2.1
  have hn := hW.2.1
  have hp4 := p4_le hc
  refine lv_aload_n hx hb dX2_perform_0 rfl (lv_at hl 0 rfl) ?_
  refine lv_iload_n hx hb dX2_perform_1 rfl (lv_at hl 1 rfl) ?_
  refine ob_callI (As := [.int (iI z)]) (rest := []) (wr := []) (metM_total l dC dI bd cI cZ n c D C A O Nt s.heap.size z hz hW) ⟨hx, hb, hml, hown, hts⟩ (cwV 1 hts (lw_V q258 q260 qs17 q24 q261) rfl rfl rfl (by decide +kernel) ⟨Nat.le_of_ble_eq_true rfl, Nat.le_of_ble_eq_true rfl⟩) hK hP hD hS hA [0, 1, 2, 3, 4, 5] [] [0, 1] rfl rfl rfl (by decide) (by decide) (by decide) rfl (ci := 1) rfl rfl rfl rfl hl.1 rfl (Nat.le_of_ble_eq_true rfl) dX2_perform_2 ⟨Nat.zero_le _, Nat.zero_le _⟩ (fun r2 u2 H locs hw hP hD hS => ?_)
  obtain ⟨Nt2, rfl, hw⟩ := hw
  rcases hw with ⟨hcc, rfl⟩ | ⟨hno, rfl⟩
  · have hP : va_P (dC, dI) vwCl (wM bd cI cZ n c D C A O Nt2) H := hP
    have hD : va_D AA (wM bd cI cZ n c D C A O Nt2) := hD
    refine lv_istore_n (lv' := [(2, .int (iI (sZ (dgZ c z.toNat) c))), (0, .ref (bd 0)), (1, .int (iI z))]) hx hb dX2_perform_5 rfl hl (by decide) rfl (fun ls hl => ?_)
    have z1 := hcc.1
    have z2 := hcc.2.1
    have hle : z = (((z.toNat : Nat) : Int) : Int) := by omega
    rw [hle] at hl
    clear hle
    have hl : lv_has ls 4 [(2, .int (iI (sZ (dgZ c z.toNat) c))), (0, .ref (bd 0)), (1, .int (iI (((z.toNat : Nat) : Int))))] := hl
    have sb := sZ_bnd3 hc (fun d _ => dgZ_bnd c z.toNat d)
    have hwe : A = sbt A (dgZ c z.toNat) 0 := (sbt_0 _ _).symm
    rw [hwe] at hP hD
    clear hwe
    have hP : va_P (dC, dI) vwCl (wM bd cI cZ n c D C (sbt A (dgZ c z.toNat) 0) O Nt2) H := hP
    have hD : va_D AA (wM bd cI cZ n c D C (sbt A (dgZ c z.toNat) 0) O Nt2) := hD
    refine ob_ic hx hb dX2_perform_6 ?_
    refine lv_istore_n (lv' := [(3, .int (iI 0)), (2, .int (iI (sZ (dgZ c z.toNat) c))), (0, .ref (bd 0)), (1, .int (iI (((z.toNat : Nat) : Int))))]) hx hb dX2_perform_7 rfl hl (by decide) rfl (fun ls hl => ?_)
    have lp_8 : ∀ (nn : Nat) (d : Nat), (c < d + nn) → (d ≤ c) → ∀ (H : Heap) (locs : List Loc), va_P (dC, dI) vwCl (wM bd cI cZ n c D C (sbt A (dgZ c z.toNat) d) O Nt2) H → va_D AA (wM bd cI cZ n c D C (sbt A (dgZ c z.toNat) d) O Nt2) → va_S AA s.heap H locs → ∀ (ls : Array Slot), lv_has ls 4 [(0, .ref (bd 0)), (1, .int (iI (((z.toNat : Nat) : Int)))), (2, .int (iI (sZ (dgZ c z.toNat) c))), (3, .int (iI d))] → W p l e (headSpec (ws_ yX2_perform cX2_perform 4 (some .int)) ({ frames := 2, cells := 0, slots := 0, locals := 47 })).room s m ([.ref (bd 0), .int (iI z)] : List Value).toArray below meth cd H locs 0 0 (MQ below (va_Qi (fun r u => ∃ Nt2, (CC n c D C (rm D C A O) z ∧ r = iI (sZ (dgZ c z.toNat) c) ∧ u = (c, D, C, sbt A (dgZ c z.toNat) c, O, Nt2)) ∨ (¬ CC n c D C (rm D C A O) z ∧ r = iI (-1) ∧ u = (c, D, C, A, O, Nt2))) (obB (dC, dI) vwCl [(cI, .int), (cZ, .boolean)] AA (BM bd cI cZ n)) AA) ([.ref (bd 0), .int (iI z)] : List Value).toArray s 0 0 AA) (F0 m 8 ls []) := by
      intro nn
      induction nn with
      | zero => intro d hm hd; exfalso; omega
      | succ nn ih_8 =>
        intro d hm hd H locs hP hD hS ls hl
        refine lv_iload_n hx hb dX2_perform_8 rfl (lv_at hl 3 rfl) ?_
        refine lv_aload_n hx hb dX2_perform_9 rfl (lv_at hl 0 rfl) ?_
        refine va_get (D := (dC, dI)) (ci := 1) (v := .int (iI c)) (C := RX2) (T := TX2) (N := 7) hx hb hts in_X2 hown hK hP 0 rfl rfl 1 (by decide) (hts _ q205) (fun _ h9 => h9) rfl dX2_perform_10 ?_
        refine ob_icmp_ge (tgt := 47) hx hb dX2_perform_13 (by decide) (by omega) (by omega) (fun h13 => ?_) (fun h13 => ?_)
        · have hwe : sbt A (dgZ c z.toNat) d = sbt A (dgZ c z.toNat) c := by rw [show d = c by omega]
          rw [hwe] at hP hD
          clear hwe
          have hP : va_P (dC, dI) vwCl (wM bd cI cZ n c D C (sbt A (dgZ c z.toNat) c) O Nt2) H := hP
          have hD : va_D AA (wM bd cI cZ n c D C (sbt A (dgZ c z.toNat) c) O Nt2) := hD
          refine lv_iload_n hx hb dX2_perform_47 rfl (lv_at hl 2 rfl) ?_
          exact W.iret (v := iI (sZ (dgZ c z.toNat) c)) hx hb hr (fun t ht hWm => ⟨⟨_, (c, D, C, sbt A (dgZ c z.toNat) c, O, Nt2), rfl, (by first | exact ⟨_, Or.inl ⟨hcc, rfl, rfl⟩⟩ | exact ⟨_, Or.inr ⟨hno, rfl, rfl⟩⟩), by rw [ht]; exact hP, va_K.moved hWm.alike hK, hD⟩, hS.F ht⟩) hS.2.2 dX2_perform_48
        · refine lv_iload_n hx hb dX2_perform_16 rfl (lv_at hl 3 rfl) ?_
          refine ob_bi hx hb dX2_perform_17 (by decide) ?_
          refine ob_icmp_ge (tgt := 47) hx hb dX2_perform_19 (by decide) (by omega) (by omega) (fun h19 => ?_) (fun h19 => ?_)
          · exfalso; omega
          · refine lv_iload_n hx hb dX2_perform_22 rfl (lv_at hl 2 rfl) ?_
            refine ob_if_le (tgt := 47) hx hb dX2_perform_23 (by decide) (by omega) (fun h23 => ?_) (fun h23 => ?_)
            · have hwe : sbt A (dgZ c z.toNat) d = sbt A (dgZ c z.toNat) c := sbt_zero (sum0 c (fun d _ => (dgZ_bnd c z.toNat d).1) h23) hd
              rw [hwe] at hP hD
              clear hwe
              have hP : va_P (dC, dI) vwCl (wM bd cI cZ n c D C (sbt A (dgZ c z.toNat) c) O Nt2) H := hP
              have hD : va_D AA (wM bd cI cZ n c D C (sbt A (dgZ c z.toNat) c) O Nt2) := hD
              refine lv_iload_n hx hb dX2_perform_47 rfl (lv_at hl 2 rfl) ?_
              exact W.iret (v := iI (sZ (dgZ c z.toNat) c)) hx hb hr (fun t ht hWm => ⟨⟨_, (c, D, C, sbt A (dgZ c z.toNat) c, O, Nt2), rfl, (by first | exact ⟨_, Or.inl ⟨hcc, rfl, rfl⟩⟩ | exact ⟨_, Or.inr ⟨hno, rfl, rfl⟩⟩), by rw [ht]; exact hP, va_K.moved hWm.alike hK, hD⟩, hS.F ht⟩) hS.2.2 dX2_perform_48
            · refine lv_aload_n hx hb dX2_perform_26 rfl (lv_at hl 0 rfl) ?_
              refine va_get (D := (dC, dI)) (ci := 1) (v := .ref (bd 3)) (C := RX2) (T := TX2) (N := 7) hx hb hts in_X2 hown hK hP 0 rfl rfl 4 (by decide) (hts _ q208) (fun _ h9 => h9) rfl dX2_perform_27 ?_
              refine lv_iload_n hx hb dX2_perform_30 rfl (lv_at hl 3 rfl) ?_
              refine lv_dup2_11 hx hb dX2_perform_31 rfl rfl ?_
              refine ob_iald hx hb hK hP 3 0 rfl rfl (d) (by omega) (by omega) (by decide) dX2_perform_32 ?_
              refine ob_top (A d) (sbt_at _ _ _) ?_
              refine lv_aload_n hx hb dX2_perform_33 rfl (lv_at hl 0 rfl) ?_
              refine lv_iload_n hx hb dX2_perform_34 rfl (lv_at hl 1 rfl) ?_
              refine lv_iload_n hx hb dX2_perform_35 rfl (lv_at hl 3 rfl) ?_
              refine ob_callR (As := [.int (iI (((z.toNat : Nat) : Int))), .int (iI d)]) (rest := [.int (iI (A d)), .int (iI d), .ref (bd 3)]) (metM_digit l dC dI bd cI cZ n c D C (sbt A (dgZ c z.toNat) d) O Nt2 z.toNat d (by omega) (by omega) hc) ⟨hx, hb, hml, hown, hts⟩ (cwV 2 hts (lw_V q262 q264 qs18 q24 q265) rfl rfl rfl (by decide +kernel) ⟨Nat.le_of_ble_eq_true rfl, Nat.le_of_ble_eq_true rfl⟩) hK hP [0, 1, 2, 3, 4, 5] [0, 1] rfl rfl (ci := 1) rfl rfl rfl rfl hl.1 rfl (Nat.le_of_ble_eq_true rfl) dX2_perform_36 ⟨Nat.zero_le _, Nat.zero_le _⟩ (fun r36 e36 => ?_)
              subst e36
              refine ob_isub hx hb dX2_perform_39 ?_
              refine ob_top (A d - dgZ c z.toNat d) (rfl) ?_
              refine ob_iast hx hb hK hP hD hS 3 0 rfl rfl (d) (by omega) (by omega) (by decide) dX2_perform_40 (fun H locs hP hD hS => ?_)
              have hP : va_P (dC, dI) vwCl (wM bd cI cZ n c D C (va_up (sbt A (dgZ c z.toNat) d) d (A d - dgZ c z.toNat d)) O Nt2) H := hP
              have hD : va_D AA (wM bd cI cZ n c D C (va_up (sbt A (dgZ c z.toNat) d) d (A d - dgZ c z.toNat d)) O Nt2) := hD
              have hwe : va_up (sbt A (dgZ c z.toNat) d) d (A d - dgZ c z.toNat d) = sbt A (dgZ c z.toNat) (d + 1) := sbt_up _ _ _
              rw [hwe] at hP hD
              clear hwe
              have hP : va_P (dC, dI) vwCl (wM bd cI cZ n c D C (sbt A (dgZ c z.toNat) (d + 1)) O Nt2) H := hP
              have hD : va_D AA (wM bd cI cZ n c D C (sbt A (dgZ c z.toNat) (d + 1)) O Nt2) := hD
              refine ob_iinc (k := 3) hx hb (((d + 1 : Nat) : Int)) (lv' := [(3, .int (iI (((d + 1 : Nat) : Int)))), (0, .ref (bd 0)), (1, .int (iI (((z.toNat : Nat) : Int)))), (2, .int (iI (sZ (dgZ c z.toNat) c)))]) dX2_perform_41 hl rfl (by omega) (by decide) rfl (fun ls hl => ?_)
              refine lv_goto (tgt := 8) hx hb dX2_perform_44 (by decide) ?_
              exact ih_8 (d + 1) (by omega) (by omega) _ _ hP hD hS ls (lv_sub hl [1, 2, 3, 0] rfl)
    exact lp_8 (c + 1) 0 (by omega) (by omega) _ _ hP hD hS ls (lv_sub hl [2, 3, 1, 0] rfl)
  · have hP : va_P (dC, dI) vwCl (wM bd cI cZ n c D C A O Nt2) H := hP
    have hD : va_D AA (wM bd cI cZ n c D C A O Nt2) := hD
    refine lv_istore_n (lv' := [(2, .int (iI (-1))), (0, .ref (bd 0)), (1, .int (iI z))]) hx hb dX2_perform_5 rfl hl (by decide) rfl (fun ls hl => ?_)
    refine ob_ic hx hb dX2_perform_6 ?_
    refine lv_istore_n (lv' := [(3, .int (iI 0)), (2, .int (iI (-1))), (0, .ref (bd 0)), (1, .int (iI z))]) hx hb dX2_perform_7 rfl hl (by decide) rfl (fun ls hl => ?_)
    refine lv_iload_n hx hb dX2_perform_8 rfl (lv_at hl 0 rfl) ?_
    refine lv_aload_n hx hb dX2_perform_9 rfl (lv_at hl 2 rfl) ?_
    refine va_get (D := (dC, dI)) (ci := 1) (v := .int (iI c)) (C := RX2) (T := TX2) (N := 7) hx hb hts in_X2 hown hK hP 0 rfl rfl 1 (by decide) (hts _ q205) (fun _ h9 => h9) rfl dX2_perform_10 ?_
    refine ob_icmp_ge (tgt := 47) hx hb dX2_perform_13 (by decide) (by omega) (by omega) (fun h13 => ?_) (fun h13 => ?_)
    · refine lv_iload_n hx hb dX2_perform_47 rfl (lv_at hl 1 rfl) ?_
      exact W.iret (v := iI (-1)) hx hb hr (fun t ht hWm => ⟨⟨_, (c, D, C, A, O, Nt2), rfl, (by first | exact ⟨_, Or.inl ⟨hcc, rfl, rfl⟩⟩ | exact ⟨_, Or.inr ⟨hno, rfl, rfl⟩⟩), by rw [ht]; exact hP, va_K.moved hWm.alike hK, hD⟩, hS.F ht⟩) hS.2.2 dX2_perform_48
    · refine lv_iload_n hx hb dX2_perform_16 rfl (lv_at hl 0 rfl) ?_
      refine ob_bi hx hb dX2_perform_17 (by decide) ?_
      refine ob_icmp_ge (tgt := 47) hx hb dX2_perform_19 (by decide) (by omega) (by omega) (fun h19 => ?_) (fun h19 => ?_)
      · exfalso; omega
      · refine lv_iload_n hx hb dX2_perform_22 rfl (lv_at hl 1 rfl) ?_
        refine ob_if_le (tgt := 47) hx hb dX2_perform_23 (by decide) (by omega) (fun h23 => ?_) (fun h23 => ?_)
        · refine lv_iload_n hx hb dX2_perform_47 rfl (lv_at hl 1 rfl) ?_
          exact W.iret (v := iI (-1)) hx hb hr (fun t ht hWm => ⟨⟨_, (c, D, C, A, O, Nt2), rfl, (by first | exact ⟨_, Or.inl ⟨hcc, rfl, rfl⟩⟩ | exact ⟨_, Or.inr ⟨hno, rfl, rfl⟩⟩), by rw [ht]; exact hP, va_K.moved hWm.alike hK, hD⟩, hS.F ht⟩) hS.2.2 dX2_perform_48
        · exfalso; omega
set_option maxHeartbeats 4000000 in
set_option maxRecDepth 100000 in
theorem metM_clear (l : Launch) (dC : Nat → ClassId) (dI : Nat → Nat → Nat) (bd : Nat → Nat) (cI cZ : ClassId) (n c : Nat) (D C : Nat → Nat) (A O Nt : Nat → Int) (sz : Nat) (hW : WF n c D C A O) : Met l yX2_clear (ws_ yX2_clear cX2_clear 2 (some .int)) ({ frames := 3, cells := 0, slots := 0, locals := 71 }) (obW (dC, dI) vwCl (wM bd cI cZ n c D C A O Nt) [(cI, .int), (cZ, .boolean)] sz [.ref (bd 0)]) (va_Qi (fun r u => ∃ x Nt2, Opt n c D C (rm D C A O) (gnA c (-1)) x ∧ r = iI (sZ x c) ∧ u = (c, D, C, sbt A x c, O, Nt2)) (obB (dC, dI) vwCl [(cI, .int), (cZ, .boolean)] (va_A (wM bd cI cZ n c D C A O Nt) sz) (BM bd cI cZ n)) (va_A (wM bd cI cZ n c D C A O Nt) sz)) 0 0 (va_A (wM bd cI cZ n c D C A O Nt) sz) := by
  refine Met.ofW (cc := cX2_clear) (maxL := 2) (ret := (some .int)) (by decide) rfl ?_
  intro p e s m args below meth cd s₁ B hml hv
  obtain ⟨rfl, hsz, hP, hK, hD0⟩ := hv
  have hx := B.exec
  have hb := B.bytes
  have hr := B.returns
  have hts := atoms_spec (ws := (ws_ yX2_clear cX2_clear 2 (some .int))) B.pre
  have hts : ∀ w ∈ lw_all, w.before _ s = true := fun w h => hts w (List.mem_cons_of_mem _ h)
  have hown : s.vm.findClass RX2 = some m.cls := findClass_of_methodNamed B.named
  have hlocks := B.notSynchronized
  subst hsz
  have hD := hD0.self (sz := s.heap.size)
  generalize hAe : va_A (wM bd cI cZ n c D C A O Nt) s.heap.size = AA at hD ⊢
  have hA : ∀ q : Nat, s.heap.size ≤ q → AA q := fun q h => by rw [← hAe]; exact Or.inr h
  have hS : va_S AA s.heap s.heap [] := va_S.rf
  have hl := lv_entry ([.ref (bd 0)]) (n := 2) (Nat.le_of_ble_eq_true rfl)
  rw [lg_entry_eq]
  generalize (lg_sl ([.ref (bd 0)]) ++ List.replicate (2 - (lg_sl ([.ref (bd 0)])).length) Slot.unset).toArray = ls at hl ⊢
  have hl : lv_has ls 2 [(0, .ref (bd 0))] := hl
  have hc := hW.2.2.1
  have hn := hW.2.1
  have hp4 := p4_le hc
  refine lv_aload_n hx hb dX2_clear_0 rfl (lv_at hl 0 rfl) ?_
  refine ob_callI (As := []) (rest := []) (wr := []) (metM_search l dC dI bd cI cZ n c D C A O Nt s.heap.size hW) ⟨hx, hb, hml, hown, hts⟩ (cwV 0 hts (lw_V q254 q256 qs16 q24 q257) rfl rfl rfl (by decide +kernel) ⟨Nat.le_of_ble_eq_true rfl, Nat.le_of_ble_eq_true rfl⟩) hK hP hD hS hA [0, 1, 2, 3, 4, 5] [] [0, 1] rfl rfl rfl (by decide) (by decide) (by decide) rfl (ci := 1) rfl rfl rfl rfl hl.1 rfl (Nat.le_of_ble_eq_true rfl) dX2_clear_1 ⟨Nat.zero_le _, Nat.zero_le _⟩ (fun r1 u1 H locs hw hP hD hS => ?_)
  obtain ⟨Nt3, ch, rfl, hch, hop, rfl⟩ := hw
  have hcc := CC_of hch hop.1
  have hP : va_P (dC, dI) vwCl (wM bd cI cZ n c D C A O Nt3) H := hP
  have hD : va_D AA (wM bd cI cZ n c D C A O Nt3) := hD
  refine lv_istore_n (lv' := [(1, .int (iI ch)), (0, .ref (bd 0))]) hx hb dX2_clear_4 rfl hl (by decide) rfl (fun ls hl => ?_)
  refine lv_aload_n hx hb dX2_clear_5 rfl (lv_at hl 1 rfl) ?_
  refine lv_iload_n hx hb dX2_clear_6 rfl (lv_at hl 0 rfl) ?_
  refine ob_callI (As := [.int (iI ch)]) (rest := []) (wr := []) (metM_perform l dC dI bd cI cZ n c D C A O Nt3 H.size (ch : Int) (by omega) hW) ⟨hx, hb, hml, hown, hts⟩ (cwV 1 hts (lw_V q266 q268 qs19 q24 q269) rfl rfl rfl (by decide +kernel) ⟨Nat.le_of_ble_eq_true rfl, Nat.le_of_ble_eq_true rfl⟩) hK hP hD hS hA [0, 1, 2, 3, 4, 5] [] [0, 1] rfl rfl rfl (by decide) (by decide) (by decide) rfl (ci := 1) rfl rfl rfl rfl hl.1 rfl (Nat.le_of_ble_eq_true rfl) dX2_clear_7 ⟨Nat.zero_le _, Nat.zero_le _⟩ (fun r7 u7 H locs hw hP hD hS => ?_)
  obtain ⟨Nt4, hw⟩ := hw
  rcases hw with ⟨-, rfl, rfl⟩ | ⟨hno, -, -⟩
  · have hP : va_P (dC, dI) vwCl (wM bd cI cZ n c D C (sbt A (dgZ c ch) c) O Nt4) H := hP
    have hD : va_D AA (wM bd cI cZ n c D C (sbt A (dgZ c ch) c) O Nt4) := hD
    exact W.iret (v := iI (sZ (dgZ c ch) c)) hx hb hr (fun t ht hWm => ⟨⟨_, (c, D, C, sbt A (dgZ c ch) c, O, Nt4), rfl, (by exact ⟨dgZ c ch, _, hop, rfl, rfl⟩), by rw [ht]; exact hP, va_K.moved hWm.alike hK, hD⟩, hS.F ht⟩) hS.2.2 dX2_clear_10
  · exact absurd hcc hno
set_option maxHeartbeats 4000000 in
set_option maxRecDepth 100000 in
theorem metM_carryOut (l : Launch) (dC : Nat → ClassId) (dI : Nat → Nat → Nat) (bd : Nat → Nat) (cI cZ : ClassId) (n c : Nat) (D C : Nat → Nat) (A O Nt : Nat → Int) (sz : Nat) (z : Int) (hz : -2147483648 ≤ z ∧ z < 2147483648) (hW : WF n c D C A O) : Met l yX2_carryOut (ws_ yX2_carryOut cX2_carryOut 2 (some .int)) ({ frames := 3, cells := 0, slots := 0, locals := 70 }) (obW (dC, dI) vwCl (wM bd cI cZ n c D C A O Nt) [(cI, .int), (cZ, .boolean)] sz [.ref (bd 0), .int (iI z)]) (va_Qi (fun r u => ∃ Nt2, (CC n c D C (rm D C A O) z ∧ r = iI (sZ (dgZ c z.toNat) c) ∧ u = (c, D, C, sbt A (dgZ c z.toNat) c, O, Nt2)) ∨ (¬ CC n c D C (rm D C A O) z ∧ r = iI (-1) ∧ u = (c, D, C, A, O, Nt2))) (obB (dC, dI) vwCl [(cI, .int), (cZ, .boolean)] (va_A (wM bd cI cZ n c D C A O Nt) sz) (BM bd cI cZ n)) (va_A (wM bd cI cZ n c D C A O Nt) sz)) 0 0 (va_A (wM bd cI cZ n c D C A O Nt) sz) := by
  refine Met.ofW (cc := cX2_carryOut) (maxL := 2) (ret := (some .int)) (by decide) rfl ?_
  intro p e s m args below meth cd s₁ B hml hv
  obtain ⟨rfl, hsz, hP, hK, hD0⟩ := hv
  have hx := B.exec
  have hb := B.bytes
  have hr := B.returns
  have hts := atoms_spec (ws := (ws_ yX2_carryOut cX2_carryOut 2 (some .int))) B.pre
  have hts : ∀ w ∈ lw_all, w.before _ s = true := fun w h => hts w (List.mem_cons_of_mem _ h)
  have hown : s.vm.findClass RX2 = some m.cls := findClass_of_methodNamed B.named
  have hlocks := B.notSynchronized
  subst hsz
  have hD := hD0.self (sz := s.heap.size)
  generalize hAe : va_A (wM bd cI cZ n c D C A O Nt) s.heap.size = AA at hD ⊢
  have hA : ∀ q : Nat, s.heap.size ≤ q → AA q := fun q h => by rw [← hAe]; exact Or.inr h
  have hS : va_S AA s.heap s.heap [] := va_S.rf
  have hl := lv_entry ([.ref (bd 0), .int (iI z)]) (n := 2) (Nat.le_of_ble_eq_true rfl)
  rw [lg_entry_eq]
  generalize (lg_sl ([.ref (bd 0), .int (iI z)]) ++ List.replicate (2 - (lg_sl ([.ref (bd 0), .int (iI z)])).length) Slot.unset).toArray = ls at hl ⊢
  have hl : lv_has ls 2 [(0, .ref (bd 0)), (1, .int (iI z))] := hl
  have hc := hW.2.2.1
  have hn := hW.2.1
  refine lv_aload_n hx hb dX2_carryOut_0 rfl (lv_at hl 0 rfl) ?_
  refine lv_iload_n hx hb dX2_carryOut_1 rfl (lv_at hl 1 rfl) ?_
  refine ob_callI (As := [.int (iI z)]) (rest := []) (wr := []) (metM_perform l dC dI bd cI cZ n c D C A O Nt s.heap.size z hz hW) ⟨hx, hb, hml, hown, hts⟩ (cwV 1 hts (lw_V q266 q268 qs19 q24 q269) rfl rfl rfl (by decide +kernel) ⟨Nat.le_of_ble_eq_true rfl, Nat.le_of_ble_eq_true rfl⟩) hK hP hD hS hA [0, 1, 2, 3, 4, 5] [] [0, 1] rfl rfl rfl (by decide) (by decide) (by decide) rfl (ci := 1) rfl rfl rfl rfl hl.1 rfl (Nat.le_of_ble_eq_true rfl) dX2_carryOut_2 ⟨Nat.zero_le _, Nat.zero_le _⟩ (fun r2 u2 H locs hw hP hD hS => ?_)
  obtain ⟨Nt2, hw⟩ := hw
  rcases hw with ⟨hcc, rfl, rfl⟩ | ⟨hno, rfl, rfl⟩
  · have hP : va_P (dC, dI) vwCl (wM bd cI cZ n c D C (sbt A (dgZ c z.toNat) c) O Nt2) H := hP
    have hD : va_D AA (wM bd cI cZ n c D C (sbt A (dgZ c z.toNat) c) O Nt2) := hD
    exact W.iret (v := iI (sZ (dgZ c z.toNat) c)) hx hb hr (fun t ht hWm => ⟨⟨_, (c, D, C, sbt A (dgZ c z.toNat) c, O, Nt2), rfl, (by first | exact ⟨_, Or.inl ⟨hcc, rfl, rfl⟩⟩ | exact ⟨_, Or.inr ⟨hno, rfl, rfl⟩⟩), by rw [ht]; exact hP, va_K.moved hWm.alike hK, hD⟩, hS.F ht⟩) hS.2.2 dX2_carryOut_5
  · have hP : va_P (dC, dI) vwCl (wM bd cI cZ n c D C A O Nt2) H := hP
    have hD : va_D AA (wM bd cI cZ n c D C A O Nt2) := hD
    exact W.iret (v := iI (-1)) hx hb hr (fun t ht hWm => ⟨⟨_, (c, D, C, A, O, Nt2), rfl, (by first | exact ⟨_, Or.inl ⟨hcc, rfl, rfl⟩⟩ | exact ⟨_, Or.inr ⟨hno, rfl, rfl⟩⟩), by rw [ht]; exact hP, va_K.moved hWm.alike hK, hD⟩, hS.F ht⟩) hS.2.2 dX2_carryOut_5
set_option maxHeartbeats 4000000 in
set_option maxRecDepth 100000 in
theorem metM_greatest (l : Launch) (dC : Nat → ClassId) (dI : Nat → Nat → Nat) (bd : Nat → Nat) (cI cZ : ClassId) (n c : Nat) (D C : Nat → Nat) (A O Nt : Nat → Int) (sz : Nat) (hW : WF n c D C A O) : Met l yX2_greatest (ws_ yX2_greatest cX2_greatest 2 (some .int)) ({ frames := 3, cells := 0, slots := 0, locals := 71 }) (obW (dC, dI) vwCl (wM bd cI cZ n c D C A O Nt) [(cI, .int), (cZ, .boolean)] sz [.ref (bd 0)]) (va_Qi (fun r u => ∃ x Nt2, Opt n c D C (rm D C A O) (gnA c (-1)) x ∧ r = iI (sZ x c) ∧ u = (c, D, C, A, O, Nt2)) (obB (dC, dI) vwCl [(cI, .int), (cZ, .boolean)] (va_A (wM bd cI cZ n c D C A O Nt) sz) (BM bd cI cZ n)) (va_A (wM bd cI cZ n c D C A O Nt) sz)) 0 0 (va_A (wM bd cI cZ n c D C A O Nt) sz) := by
  refine Met.ofW (cc := cX2_greatest) (maxL := 2) (ret := (some .int)) (by decide) rfl ?_
  intro p e s m args below meth cd s₁ B hml hv
  obtain ⟨rfl, hsz, hP, hK, hD0⟩ := hv
  have hx := B.exec
  have hb := B.bytes
  have hr := B.returns
  have hts := atoms_spec (ws := (ws_ yX2_greatest cX2_greatest 2 (some .int))) B.pre
  have hts : ∀ w ∈ lw_all, w.before _ s = true := fun w h => hts w (List.mem_cons_of_mem _ h)
  have hown : s.vm.findClass RX2 = some m.cls := findClass_of_methodNamed B.named
  have hlocks := B.notSynchronized
  subst hsz
  have hD := hD0.self (sz := s.heap.size)
  generalize hAe : va_A (wM bd cI cZ n c D C A O Nt) s.heap.size = AA at hD ⊢
  have hA : ∀ q : Nat, s.heap.size ≤ q → AA q := fun q h => by rw [← hAe]; exact Or.inr h
  have hS : va_S AA s.heap s.heap [] := va_S.rf
  have hl := lv_entry ([.ref (bd 0)]) (n := 2) (Nat.le_of_ble_eq_true rfl)
  rw [lg_entry_eq]
  generalize (lg_sl ([.ref (bd 0)]) ++ List.replicate (2 - (lg_sl ([.ref (bd 0)])).length) Slot.unset).toArray = ls at hl ⊢
  have hl : lv_has ls 2 [(0, .ref (bd 0))] := hl
  have hc := hW.2.2.1
  have hn := hW.2.1
  have hp4 := p4_le hc
  refine lv_aload_n hx hb dX2_greatest_0 rfl (lv_at hl 0 rfl) ?_
  refine ob_callI (As := []) (rest := []) (wr := []) (metM_search l dC dI bd cI cZ n c D C A O Nt s.heap.size hW) ⟨hx, hb, hml, hown, hts⟩ (cwV 0 hts (lw_V q254 q256 qs16 q24 q257) rfl rfl rfl (by decide +kernel) ⟨Nat.le_of_ble_eq_true rfl, Nat.le_of_ble_eq_true rfl⟩) hK hP hD hS hA [0, 1, 2, 3, 4, 5] [] [0, 1] rfl rfl rfl (by decide) (by decide) (by decide) rfl (ci := 1) rfl rfl rfl rfl hl.1 rfl (Nat.le_of_ble_eq_true rfl) dX2_greatest_1 ⟨Nat.zero_le _, Nat.zero_le _⟩ (fun r1 u1 H locs hw hP hD hS => ?_)
  obtain ⟨Nt3, ch, rfl, hch, hop, rfl⟩ := hw
  have hcc := CC_of hch hop.1
  have hP : va_P (dC, dI) vwCl (wM bd cI cZ n c D C A O Nt3) H := hP
  have hD : va_D AA (wM bd cI cZ n c D C A O Nt3) := hD
  refine lv_istore_n (lv' := [(1, .int (iI ch)), (0, .ref (bd 0))]) hx hb dX2_greatest_4 rfl hl (by decide) rfl (fun ls hl => ?_)
  refine lv_aload_n hx hb dX2_greatest_5 rfl (lv_at hl 1 rfl) ?_
  refine lv_iload_n hx hb dX2_greatest_6 rfl (lv_at hl 0 rfl) ?_
  refine ob_callI (As := [.int (iI ch)]) (rest := []) (wr := []) (metM_total l dC dI bd cI cZ n c D C A O Nt3 H.size (ch : Int) (by omega) hW) ⟨hx, hb, hml, hown, hts⟩ (cwV 1 hts (lw_V q258 q260 qs17 q24 q261) rfl rfl rfl (by decide +kernel) ⟨Nat.le_of_ble_eq_true rfl, Nat.le_of_ble_eq_true rfl⟩) hK hP hD hS hA [0, 1, 2, 3, 4, 5] [] [0, 1] rfl rfl rfl (by decide) (by decide) (by decide) rfl (ci := 1) rfl rfl rfl rfl hl.1 rfl (Nat.le_of_ble_eq_true rfl) dX2_greatest_7 ⟨Nat.zero_le _, Nat.zero_le _⟩ (fun r7 u7 H locs hw hP hD hS => ?_)
  obtain ⟨Nt4, rfl, hw⟩ := hw
  rcases hw with ⟨-, rfl⟩ | ⟨hno, -⟩
  · have hP : va_P (dC, dI) vwCl (wM bd cI cZ n c D C A O Nt4) H := hP
    have hD : va_D AA (wM bd cI cZ n c D C A O Nt4) := hD
    exact W.iret (v := iI (sZ (dgZ c ch) c)) hx hb hr (fun t ht hWm => ⟨⟨_, (c, D, C, A, O, Nt4), rfl, (by exact ⟨dgZ c ch, _, hop, rfl, rfl⟩), by rw [ht]; exact hP, va_K.moved hWm.alike hK, hD⟩, hS.F ht⟩) hS.2.2 dX2_greatest_10
  · exact absurd hcc hno
set_option maxHeartbeats 4000000 in
set_option maxRecDepth 100000 in
theorem metM_best (l : Launch) (dC : Nat → ClassId) (dI : Nat → Nat → Nat) (bd : Nat → Nat) (cI cZ : ClassId) (n c : Nat) (D C : Nat → Nat) (A O Nt : Nat → Int) (sz : Nat) (hW : WF n c D C A O) : Met l yX2_best (ws_ yX2_best cX2_best 1 (some .int)) ({ frames := 4, cells := 0, slots := 0, locals := 92 }) (obW (dC, dI) vwCl (wM bd cI cZ n c D C A O Nt) [(cI, .int), (cZ, .boolean)] sz [.ref (bd 0)]) (va_Qi (fun r u => ∃ x Nt2, Opt n c D C (rm D C A O) (gnA c (-1)) x ∧ r = iI (sZ x c) ∧ u = (c, D, C, A, O, Nt2)) (obB (dC, dI) vwCl [(cI, .int), (cZ, .boolean)] (va_A (wM bd cI cZ n c D C A O Nt) sz) (BM bd cI cZ n)) (va_A (wM bd cI cZ n c D C A O Nt) sz)) 0 0 (va_A (wM bd cI cZ n c D C A O Nt) sz) := by
  refine Met.ofW (cc := cX2_best) (maxL := 1) (ret := (some .int)) (by decide) rfl ?_
  intro p e s m args below meth cd s₁ B hml hv
  obtain ⟨rfl, hsz, hP, hK, hD0⟩ := hv
  have hx := B.exec
  have hb := B.bytes
  have hr := B.returns
  have hts := atoms_spec (ws := (ws_ yX2_best cX2_best 1 (some .int))) B.pre
  have hts : ∀ w ∈ lw_all, w.before _ s = true := fun w h => hts w (List.mem_cons_of_mem _ h)
  have hown : s.vm.findClass RX2 = some m.cls := findClass_of_methodNamed B.named
  have hlocks := B.notSynchronized
  subst hsz
  have hD := hD0.self (sz := s.heap.size)
  generalize hAe : va_A (wM bd cI cZ n c D C A O Nt) s.heap.size = AA at hD ⊢
  have hA : ∀ q : Nat, s.heap.size ≤ q → AA q := fun q h => by rw [← hAe]; exact Or.inr h
  have hS : va_S AA s.heap s.heap [] := va_S.rf
  have hl := lv_entry ([.ref (bd 0)]) (n := 1) (Nat.le_of_ble_eq_true rfl)
  rw [lg_entry_eq]
  generalize (lg_sl ([.ref (bd 0)]) ++ List.replicate (1 - (lg_sl ([.ref (bd 0)])).length) Slot.unset).toArray = ls at hl ⊢
  have hl : lv_has ls 1 [(0, .ref (bd 0))] := hl
  have hc := hW.2.2.1
  have hn := hW.2.1
  refine lv_aload_n hx hb dX2_best_0 rfl (lv_at hl 0 rfl) ?_
  refine ob_callI (As := []) (rest := []) (wr := []) (metM_greatest l dC dI bd cI cZ n c D C A O Nt s.heap.size hW) ⟨hx, hb, hml, hown, hts⟩ (cwV 0 hts (lw_V q298 q300 qs21 q24 q301) rfl rfl rfl (by decide +kernel) ⟨Nat.le_of_ble_eq_true rfl, Nat.le_of_ble_eq_true rfl⟩) hK hP hD hS hA [0, 1, 2, 3, 4, 5] [] [0, 1] rfl rfl rfl (by decide) (by decide) (by decide) rfl (ci := 1) rfl rfl rfl rfl hl.1 rfl (Nat.le_of_ble_eq_true rfl) dX2_best_1 ⟨Nat.zero_le _, Nat.zero_le _⟩ (fun r1 u1 H locs hw hP hD hS => ?_)
  obtain ⟨x3, Nt3, hop3, rfl, rfl⟩ := hw
  have hP : va_P (dC, dI) vwCl (wM bd cI cZ n c D C A O Nt3) H := hP
  have hD : va_D AA (wM bd cI cZ n c D C A O Nt3) := hD
  exact W.iret (v := iI (sZ x3 c)) hx hb hr (fun t ht hWm => ⟨⟨_, (c, D, C, A, O, Nt3), rfl, (by exact ⟨x3, _, hop3, rfl, rfl⟩), by rw [ht]; exact hP, va_K.moved hWm.alike hK, hD⟩, hS.F ht⟩) hS.2.2 dX2_best_4
set_option maxHeartbeats 4000000 in
set_option maxRecDepth 100000 in
theorem metM_bestCode (l : Launch) (dC : Nat → ClassId) (dI : Nat → Nat → Nat) (bd : Nat → Nat) (cI cZ : ClassId) (n c : Nat) (D C : Nat → Nat) (A O Nt : Nat → Int) (sz : Nat) (hW : WF n c D C A O) : Met l yX2_bestCode (ws_ yX2_bestCode cX2_bestCode 1 (some .int)) ({ frames := 3, cells := 0, slots := 0, locals := 71 }) (obW (dC, dI) vwCl (wM bd cI cZ n c D C A O Nt) [(cI, .int), (cZ, .boolean)] sz [.ref (bd 0)]) (va_Qi (fun r u => ∃ x Nt2, Opt n c D C (rm D C A O) (gnA c (-1)) x ∧ r = iI (cdZ x c) ∧ u = (c, D, C, A, O, Nt2)) (obB (dC, dI) vwCl [(cI, .int), (cZ, .boolean)] (va_A (wM bd cI cZ n c D C A O Nt) sz) (BM bd cI cZ n)) (va_A (wM bd cI cZ n c D C A O Nt) sz)) 0 0 (va_A (wM bd cI cZ n c D C A O Nt) sz) := by
  refine Met.ofW (cc := cX2_bestCode) (maxL := 1) (ret := (some .int)) (by decide) rfl ?_
  intro p e s m args below meth cd s₁ B hml hv
  obtain ⟨rfl, hsz, hP, hK, hD0⟩ := hv
  have hx := B.exec
  have hb := B.bytes
  have hr := B.returns
  have hts := atoms_spec (ws := (ws_ yX2_bestCode cX2_bestCode 1 (some .int))) B.pre
  have hts : ∀ w ∈ lw_all, w.before _ s = true := fun w h => hts w (List.mem_cons_of_mem _ h)
  have hown : s.vm.findClass RX2 = some m.cls := findClass_of_methodNamed B.named
  have hlocks := B.notSynchronized
  subst hsz
  have hD := hD0.self (sz := s.heap.size)
  generalize hAe : va_A (wM bd cI cZ n c D C A O Nt) s.heap.size = AA at hD ⊢
  have hA : ∀ q : Nat, s.heap.size ≤ q → AA q := fun q h => by rw [← hAe]; exact Or.inr h
  have hS : va_S AA s.heap s.heap [] := va_S.rf
  have hl := lv_entry ([.ref (bd 0)]) (n := 1) (Nat.le_of_ble_eq_true rfl)
  rw [lg_entry_eq]
  generalize (lg_sl ([.ref (bd 0)]) ++ List.replicate (1 - (lg_sl ([.ref (bd 0)])).length) Slot.unset).toArray = ls at hl ⊢
  have hl : lv_has ls 1 [(0, .ref (bd 0))] := hl
  have hc := hW.2.2.1
  have hn := hW.2.1
  refine lv_aload_n hx hb dX2_bestCode_0 rfl (lv_at hl 0 rfl) ?_
  refine ob_callI (As := []) (rest := []) (wr := []) (metM_search l dC dI bd cI cZ n c D C A O Nt s.heap.size hW) ⟨hx, hb, hml, hown, hts⟩ (cwV 0 hts (lw_V q254 q256 qs16 q24 q257) rfl rfl rfl (by decide +kernel) ⟨Nat.le_of_ble_eq_true rfl, Nat.le_of_ble_eq_true rfl⟩) hK hP hD hS hA [0, 1, 2, 3, 4, 5] [] [0, 1] rfl rfl rfl (by decide) (by decide) (by decide) rfl (ci := 1) rfl rfl rfl rfl hl.1 rfl (Nat.le_of_ble_eq_true rfl) dX2_bestCode_1 ⟨Nat.zero_le _, Nat.zero_le _⟩ (fun r1 u1 H locs hw hP hD hS => ?_)
  obtain ⟨Nt3, ch, rfl, hch, hop, rfl⟩ := hw
  have hcc := CC_of hch hop.1
  have hP : va_P (dC, dI) vwCl (wM bd cI cZ n c D C A O Nt3) H := hP
  have hD : va_D AA (wM bd cI cZ n c D C A O Nt3) := hD
  exact W.iret (v := iI ch) hx hb hr (fun t ht hWm => ⟨⟨_, (c, D, C, A, O, Nt3), rfl, (by exact ⟨dgZ c ch, _, hop, by rw [cdZ_dg c ch hch], rfl⟩), by rw [ht]; exact hP, va_K.moved hWm.alike hK, hD⟩, hS.F ht⟩) hS.2.2 dX2_bestCode_4
set_option maxHeartbeats 4000000 in
set_option maxRecDepth 100000 in
theorem metM_isClearing (l : Launch) (dC : Nat → ClassId) (dI : Nat → Nat → Nat) (bd : Nat → Nat) (cI cZ : ClassId) (n c : Nat) (D C : Nat → Nat) (A O Nt : Nat → Int) (sz : Nat) (z : Int) (hz : -2147483648 ≤ z ∧ z < 2147483648) (hW : WF n c D C A O) : Met l yX2_isClearing (ws_ yX2_isClearing cX2_isClearing 2 (some .int)) ({ frames := 2, cells := 0, slots := 0, locals := 47 }) (obW (dC, dI) vwCl (wM bd cI cZ n c D C A O Nt) [(cI, .int), (cZ, .boolean)] sz [.ref (bd 0), .int (iI z)]) (va_Qi (fun r u => ∃ Nt2, u = (c, D, C, A, O, Nt2) ∧ ((CC n c D C (rm D C A O) z ∧ r = iI 1) ∨ (¬ CC n c D C (rm D C A O) z ∧ r = iI 0))) (obB (dC, dI) vwCl [(cI, .int), (cZ, .boolean)] (va_A (wM bd cI cZ n c D C A O Nt) sz) (BM bd cI cZ n)) (va_A (wM bd cI cZ n c D C A O Nt) sz)) 0 0 (va_A (wM bd cI cZ n c D C A O Nt) sz) := by
  refine Met.ofW (cc := cX2_isClearing) (maxL := 2) (ret := (some .int)) (by decide) rfl ?_
  intro p e s m args below meth cd s₁ B hml hv
  obtain ⟨rfl, hsz, hP, hK, hD0⟩ := hv
  have hx := B.exec
  have hb := B.bytes
  have hr := B.returns
  have hts := atoms_spec (ws := (ws_ yX2_isClearing cX2_isClearing 2 (some .int))) B.pre
  have hts : ∀ w ∈ lw_all, w.before _ s = true := fun w h => hts w (List.mem_cons_of_mem _ h)
  have hown : s.vm.findClass RX2 = some m.cls := findClass_of_methodNamed B.named
  have hlocks := B.notSynchronized
  subst hsz
  have hD := hD0.self (sz := s.heap.size)
  generalize hAe : va_A (wM bd cI cZ n c D C A O Nt) s.heap.size = AA at hD ⊢
  have hA : ∀ q : Nat, s.heap.size ≤ q → AA q := fun q h => by rw [← hAe]; exact Or.inr h
  have hS : va_S AA s.heap s.heap [] := va_S.rf
  have hl := lv_entry ([.ref (bd 0), .int (iI z)]) (n := 2) (Nat.le_of_ble_eq_true rfl)
  rw [lg_entry_eq]
  generalize (lg_sl ([.ref (bd 0), .int (iI z)]) ++ List.replicate (2 - (lg_sl ([.ref (bd 0), .int (iI z)])).length) Slot.unset).toArray = ls at hl ⊢
  have hl : lv_has ls 2 [(0, .ref (bd 0)), (1, .int (iI z))] := hl
  have hc := hW.2.2.1
  have hn := hW.2.1
  have sb := sZ_bnd3 hc (fun d _ => dgZ_bnd c z.toNat d)
  refine lv_aload_n hx hb dX2_isClearing_0 rfl (lv_at hl 0 rfl) ?_
  refine lv_iload_n hx hb dX2_isClearing_1 rfl (lv_at hl 1 rfl) ?_
  refine ob_callI (As := [.int (iI z)]) (rest := []) (wr := []) (metM_total l dC dI bd cI cZ n c D C A O Nt s.heap.size z hz hW) ⟨hx, hb, hml, hown, hts⟩ (cwV 1 hts (lw_V q258 q260 qs17 q24 q261) rfl rfl rfl (by decide +kernel) ⟨Nat.le_of_ble_eq_true rfl, Nat.le_of_ble_eq_true rfl⟩) hK hP hD hS hA [0, 1, 2, 3, 4, 5] [] [0, 1] rfl rfl rfl (by decide) (by decide) (by decide) rfl (ci := 1) rfl rfl rfl rfl hl.1 rfl (Nat.le_of_ble_eq_true rfl) dX2_isClearing_2 ⟨Nat.zero_le _, Nat.zero_le _⟩ (fun r2 u2 H locs hw hP hD hS => ?_)
  obtain ⟨Nt2, rfl, hw⟩ := hw
  rcases hw with ⟨hcc, rfl⟩ | ⟨hno, rfl⟩
  · have hP : va_P (dC, dI) vwCl (wM bd cI cZ n c D C A O Nt2) H := hP
    have hD : va_D AA (wM bd cI cZ n c D C A O Nt2) := hD
    refine ob_if_ge (tgt := 12) hx hb dX2_isClearing_5 (by decide) (by omega) (fun h5 => ?_) (fun h5 => ?_)
    · refine ob_ic hx hb dX2_isClearing_12 ?_
      exact W.iret (v := iI 1) hx hb hr (fun t ht hWm => ⟨⟨_, (c, D, C, A, O, Nt2), rfl, (by first | exact ⟨_, rfl, Or.inl ⟨hcc, rfl⟩⟩ | exact ⟨_, rfl, Or.inr ⟨hno, rfl⟩⟩), by rw [ht]; exact hP, va_K.moved hWm.alike hK, hD⟩, hS.F ht⟩) hS.2.2 dX2_isClearing_13
    · exfalso; omega
  · have hP : va_P (dC, dI) vwCl (wM bd cI cZ n c D C A O Nt2) H := hP
    have hD : va_D AA (wM bd cI cZ n c D C A O Nt2) := hD
    refine ob_if_ge (tgt := 12) hx hb dX2_isClearing_5 (by decide) (by omega) (fun h5 => ?_) (fun h5 => ?_)
    · exfalso; omega
    · refine ob_ic hx hb dX2_isClearing_8 ?_
      refine lv_goto (tgt := 13) hx hb dX2_isClearing_9 (by decide) ?_
      exact W.iret (v := iI 0) hx hb hr (fun t ht hWm => ⟨⟨_, (c, D, C, A, O, Nt2), rfl, (by first | exact ⟨_, rfl, Or.inl ⟨hcc, rfl⟩⟩ | exact ⟨_, rfl, Or.inr ⟨hno, rfl⟩⟩), by rw [ht]; exact hP, va_K.moved hWm.alike hK, hD⟩, hS.F ht⟩) hS.2.2 dX2_isClearing_13
set_option maxHeartbeats 4000000 in
set_option maxRecDepth 100000 in
theorem metM_weight (l : Launch) (dC : Nat → ClassId) (dI : Nat → Nat → Nat) (bd : Nat → Nat) (cI cZ : ClassId) (n c : Nat) (D C : Nat → Nat) (A O Nt : Nat → Int) (sz : Nat) (z : Int) (hz : -2147483648 ≤ z ∧ z < 2147483648) (hW : WF n c D C A O) : Met l yX2_weight (ws_ yX2_weight cX2_weight 5 (some .int)) ({ frames := 4, cells := 0, slots := 0, locals := 92 }) (obW (dC, dI) vwCl (wM bd cI cZ n c D C A O Nt) [(cI, .int), (cZ, .boolean)] sz [.ref (bd 0), .int (iI z)]) (va_Qi (fun r u => ∃ Nt2, u = (c, D, C, A, O, Nt2) ∧ (((0 ≤ z ∧ z < (n : Int)) ∧ ∃ x y, Opt n c D C (rm D C A O) (gnA c (-1)) x ∧ Opt n c D C (rm D C A (va_up O z.toNat 1)) (gnA c (-1)) y ∧ r = iI (sZ x c - sZ y c)) ∨ (¬ (0 ≤ z ∧ z < (n : Int)) ∧ r = iI (-1)))) (obB (dC, dI) vwCl [(cI, .int), (cZ, .boolean)] (va_A (wM bd cI cZ n c D C A O Nt) sz) (BM bd cI cZ n)) (va_A (wM bd cI cZ n c D C A O Nt) sz)) 0 0 (va_A (wM bd cI cZ n c D C A O Nt) sz) := by
  refine Met.ofW (cc := cX2_weight) (maxL := 5) (ret := (some .int)) (by decide) rfl ?_
  intro p e s m args below meth cd s₁ B hml hv
  obtain ⟨rfl, hsz, hP, hK, hD0⟩ := hv
  have hx := B.exec
  have hb := B.bytes
  have hr := B.returns
  have hts := atoms_spec (ws := (ws_ yX2_weight cX2_weight 5 (some .int))) B.pre
  have hts : ∀ w ∈ lw_all, w.before _ s = true := fun w h => hts w (List.mem_cons_of_mem _ h)
  have hown : s.vm.findClass RX2 = some m.cls := findClass_of_methodNamed B.named
  have hlocks := B.notSynchronized
  subst hsz
  have hD := hD0.self (sz := s.heap.size)
  generalize hAe : va_A (wM bd cI cZ n c D C A O Nt) s.heap.size = AA at hD ⊢
  have hA : ∀ q : Nat, s.heap.size ≤ q → AA q := fun q h => by rw [← hAe]; exact Or.inr h
  have hS : va_S AA s.heap s.heap [] := va_S.rf
  have hl := lv_entry ([.ref (bd 0), .int (iI z)]) (n := 5) (Nat.le_of_ble_eq_true rfl)
  rw [lg_entry_eq]
  generalize (lg_sl ([.ref (bd 0), .int (iI z)]) ++ List.replicate (5 - (lg_sl ([.ref (bd 0), .int (iI z)])).length) Slot.unset).toArray = ls at hl ⊢
  have hl : lv_has ls 5 [(0, .ref (bd 0)), (1, .int (iI z))] := hl
  have hc := hW.2.2.1
  have hn := hW.2.1
  have o1 := hW.2.2.2.2 z.toNat
  refine lv_aload_n hx hb dX2_weight_0 rfl (lv_at hl 0 rfl) ?_
  refine lv_iload_n hx hb dX2_weight_1 rfl (lv_at hl 1 rfl) ?_
  refine ob_callR (As := [.int (iI z)]) (rest := []) (metM_badFirm l dC dI bd cI cZ n c D C A O Nt z hz hn) ⟨hx, hb, hml, hown, hts⟩ (cwV 1 hts (lw_V q230 q232 qs14 q24 q233) rfl rfl rfl (by decide +kernel) ⟨Nat.le_of_ble_eq_true rfl, Nat.le_of_ble_eq_true rfl⟩) hK hP [0, 1, 2, 3, 4, 5] [0, 1] rfl rfl (ci := 1) rfl rfl rfl rfl hl.1 rfl (Nat.le_of_ble_eq_true rfl) dX2_weight_2 ⟨Nat.zero_le _, Nat.zero_le _⟩ (fun r2 e2 => ?_)
  subst e2
  refine ob_if_eq (tgt := 10) hx hb dX2_weight_5 (by decide) (tb_bnd _) (fun h5 => ?_) (fun h5 => ?_)
  · have g5 : 0 ≤ z ∧ z < (n : Int) := by have q := tb_f h5; omega
    refine lv_aload_n hx hb dX2_weight_10 rfl (lv_at hl 0 rfl) ?_
    refine ob_callI (As := []) (rest := []) (wr := []) (metM_greatest l dC dI bd cI cZ n c D C A O Nt s.heap.size hW) ⟨hx, hb, hml, hown, hts⟩ (cwV 0 hts (lw_V q298 q300 qs21 q24 q301) rfl rfl rfl (by decide +kernel) ⟨Nat.le_of_ble_eq_true rfl, Nat.le_of_ble_eq_true rfl⟩) hK hP hD hS hA [0, 1, 2, 3, 4, 5] [] [0, 1] rfl rfl rfl (by decide) (by decide) (by decide) rfl (ci := 1) rfl rfl rfl rfl hl.1 rfl (Nat.le_of_ble_eq_true rfl) dX2_weight_11 ⟨Nat.zero_le _, Nat.zero_le _⟩ (fun r11 u11 H locs hw hP hD hS => ?_)
    obtain ⟨x3, Nt3, hop3, rfl, rfl⟩ := hw
    have hP : va_P (dC, dI) vwCl (wM bd cI cZ n c D C A O Nt3) H := hP
    have hD : va_D AA (wM bd cI cZ n c D C A O Nt3) := hD
    refine lv_istore_n (lv' := [(2, .int (iI (sZ x3 c))), (0, .ref (bd 0)), (1, .int (iI z))]) hx hb dX2_weight_14 rfl hl (by decide) rfl (fun ls hl => ?_)
    refine lv_aload_n hx hb dX2_weight_15 rfl (lv_at hl 1 rfl) ?_
    refine va_get (D := (dC, dI)) (ci := 1) (v := .ref (bd 4)) (C := RX2) (T := TX2) (N := 7) hx hb hts in_X2 hown hK hP 0 rfl rfl 5 (by decide) (hts _ q209) (fun _ h9 => h9) rfl dX2_weight_16 ?_
    refine lv_iload_n hx hb dX2_weight_19 rfl (lv_at hl 2 rfl) ?_
    refine ob_zald hx hb hK hP 4 1 rfl rfl (z.toNat) (by omega) (by omega) (by decide) dX2_weight_20 ?_
    refine lv_istore_n (lv' := [(3, .int (iI (O z.toNat))), (2, .int (iI (sZ x3 c))), (0, .ref (bd 0)), (1, .int (iI z))]) hx hb dX2_weight_21 rfl hl (by decide) rfl (fun ls hl => ?_)
    refine lv_aload_n hx hb dX2_weight_22 rfl (lv_at hl 2 rfl) ?_
    refine va_get (D := (dC, dI)) (ci := 1) (v := .ref (bd 4)) (C := RX2) (T := TX2) (N := 7) hx hb hts in_X2 hown hK hP 0 rfl rfl 5 (by decide) (hts _ q209) (fun _ h9 => h9) rfl dX2_weight_23 ?_
    refine lv_iload_n hx hb dX2_weight_26 rfl (lv_at hl 3 rfl) ?_
    refine ob_ic hx hb dX2_weight_27 ?_
    refine ob_zast hx hb hK hP hD hS 4 1 rfl rfl (z.toNat) (by omega) (by omega) (by decide) (by omega) dX2_weight_28 (fun H locs hP hD hS => ?_)
    have hP : va_P (dC, dI) vwCl (wM bd cI cZ n c D C A (va_up O z.toNat 1) Nt3) H := hP
    have hD : va_D AA (wM bd cI cZ n c D C A (va_up O z.toNat 1) Nt3) := hD
    refine lv_aload_n hx hb dX2_weight_29 rfl (lv_at hl 2 rfl) ?_
    refine ob_callI (As := []) (rest := []) (wr := []) (metM_greatest l dC dI bd cI cZ n c D C A (va_up O z.toNat 1) Nt3 H.size (hW.out z.toNat (Or.inr rfl))) ⟨hx, hb, hml, hown, hts⟩ (cwV 0 hts (lw_V q298 q300 qs21 q24 q301) rfl rfl rfl (by decide +kernel) ⟨Nat.le_of_ble_eq_true rfl, Nat.le_of_ble_eq_true rfl⟩) hK hP hD hS hA [0, 1, 2, 3, 4, 5] [] [0, 1] rfl rfl rfl (by decide) (by decide) (by decide) rfl (ci := 1) rfl rfl rfl rfl hl.1 rfl (Nat.le_of_ble_eq_true rfl) dX2_weight_30 ⟨Nat.zero_le _, Nat.zero_le _⟩ (fun r30 u30 H locs hw hP hD hS => ?_)
    obtain ⟨x4, Nt4, hop4, rfl, rfl⟩ := hw
    have hP : va_P (dC, dI) vwCl (wM bd cI cZ n c D C A (va_up O z.toNat 1) Nt4) H := hP
    have hD : va_D AA (wM bd cI cZ n c D C A (va_up O z.toNat 1) Nt4) := hD
    refine lv_istore (lv' := [(4, .int (iI (sZ x4 c))), (3, .int (iI (O z.toNat))), (2, .int (iI (sZ x3 c))), (0, .ref (bd 0)), (1, .int (iI z))]) hx hb dX2_weight_33 hl (by decide) rfl (fun ls hl => ?_)
    refine lv_aload_n hx hb dX2_weight_35 rfl (lv_at hl 3 rfl) ?_
    refine va_get (D := (dC, dI)) (ci := 1) (v := .ref (bd 4)) (C := RX2) (T := TX2) (N := 7) hx hb hts in_X2 hown hK hP 0 rfl rfl 5 (by decide) (hts _ q209) (fun _ h9 => h9) rfl dX2_weight_36 ?_
    refine lv_iload_n hx hb dX2_weight_39 rfl (lv_at hl 4 rfl) ?_
    refine lv_iload_n hx hb dX2_weight_40 rfl (lv_at hl 1 rfl) ?_
    refine ob_zast hx hb hK hP hD hS 4 1 rfl rfl (z.toNat) (by omega) (by omega) (by decide) (by omega) dX2_weight_41 (fun H locs hP hD hS => ?_)
    have hP : va_P (dC, dI) vwCl (wM bd cI cZ n c D C A (va_up (va_up O z.toNat 1) z.toNat (O z.toNat)) Nt4) H := hP
    have hD : va_D AA (wM bd cI cZ n c D C A (va_up (va_up O z.toNat 1) z.toNat (O z.toNat)) Nt4) := hD
    have hwe : va_up (va_up O z.toNat 1) z.toNat (O z.toNat) = O := up_back _ _ _
    rw [hwe] at hP hD
    clear hwe
    have hP : va_P (dC, dI) vwCl (wM bd cI cZ n c D C A O Nt4) H := hP
    have hD : va_D AA (wM bd cI cZ n c D C A O Nt4) := hD
    refine lv_iload_n hx hb dX2_weight_42 rfl (lv_at hl 2 rfl) ?_
    refine lv_iload hx hb dX2_weight_43 (lv_at hl 0 rfl) ?_
    refine ob_isub hx hb dX2_weight_45 ?_
    exact W.iret (v := iI ((sZ x3 c) - (sZ x4 c))) hx hb hr (fun t ht hWm => ⟨⟨_, (c, D, C, A, O, Nt4), rfl, (by exact ⟨_, rfl, Or.inl ⟨g5, x3, x4, hop3, hop4, rfl⟩⟩), by rw [ht]; exact hP, va_K.moved hWm.alike hK, hD⟩, hS.F ht⟩) hS.2.2 dX2_weight_46
  · have g5 := tb_t h5
    refine ob_ic hx hb dX2_weight_8 ?_
    exact W.iret (v := iI ((-1))) hx hb hr (fun t ht hWm => ⟨⟨_, (c, D, C, A, O, Nt), rfl, (by exact ⟨_, rfl, Or.inr ⟨g5, rfl⟩⟩), by rw [ht]; exact hP, va_K.moved hWm.alike hK, hD⟩, hS.F ht⟩) hS.2.2 dX2_weight_9
set_option maxHeartbeats 4000000 in
set_option maxRecDepth 100000 in
theorem metM_most (l : Launch) (dC : Nat → ClassId) (dI : Nat → Nat → Nat) (bd : Nat → Nat) (cI cZ : ClassId) (n c : Nat) (D C : Nat → Nat) (A O Nt : Nat → Int) (sz : Nat) (z : Int) (hz : -2147483648 ≤ z ∧ z < 2147483648) (hW : WF n c D C A O) : Met l yX2_most (ws_ yX2_most cX2_most 5 (some .int)) ({ frames := 2, cells := 0, slots := 0, locals := 47 }) (obW (dC, dI) vwCl (wM bd cI cZ n c D C A O Nt) [(cI, .int), (cZ, .boolean)] sz [.ref (bd 0), .int (iI z)]) (va_Qi (fun r u => ∃ Nt2, u = (c, D, C, A, O, Nt2) ∧ (((0 ≤ z ∧ z < (c : Int)) ∧ ∃ x, Opt n c D C (rm D C A O) (gnA c z) x ∧ r = iI (x z.toNat)) ∨ (¬ (0 ≤ z ∧ z < (c : Int)) ∧ r = iI (-1)))) (obB (dC, dI) vwCl [(cI, .int), (cZ, .boolean)] (va_A (wM bd cI cZ n c D C A O Nt) sz) (BM bd cI cZ n)) (va_A (wM bd cI cZ n c D C A O Nt) sz)) 0 0 (va_A (wM bd cI cZ n c D C A O Nt) sz) := by
  refine Met.ofW (cc := cX2_most) (maxL := 5) (ret := (some .int)) (by decide) rfl ?_
  intro p e s m args below meth cd s₁ B hml hv
  obtain ⟨rfl, hsz, hP, hK, hD0⟩ := hv
  have hx := B.exec
  have hb := B.bytes
  have hr := B.returns
  have hts := atoms_spec (ws := (ws_ yX2_most cX2_most 5 (some .int))) B.pre
  have hts : ∀ w ∈ lw_all, w.before _ s = true := fun w h => hts w (List.mem_cons_of_mem _ h)
  have hown : s.vm.findClass RX2 = some m.cls := findClass_of_methodNamed B.named
  have hlocks := B.notSynchronized
  subst hsz
  have hD := hD0.self (sz := s.heap.size)
  generalize hAe : va_A (wM bd cI cZ n c D C A O Nt) s.heap.size = AA at hD ⊢
  have hA : ∀ q : Nat, s.heap.size ≤ q → AA q := fun q h => by rw [← hAe]; exact Or.inr h
  have hS : va_S AA s.heap s.heap [] := va_S.rf
  have hl := lv_entry ([.ref (bd 0), .int (iI z)]) (n := 5) (Nat.le_of_ble_eq_true rfl)
  rw [lg_entry_eq]
  generalize (lg_sl ([.ref (bd 0), .int (iI z)]) ++ List.replicate (5 - (lg_sl ([.ref (bd 0), .int (iI z)])).length) Slot.unset).toArray = ls at hl ⊢
  have hl : lv_has ls 5 [(0, .ref (bd 0)), (1, .int (iI z))] := hl
  have hc := hW.2.2.1
  have hn := hW.2.1
  have hp4 := p4_le hc
  refine lv_aload_n hx hb dX2_most_0 rfl (lv_at hl 0 rfl) ?_
  refine lv_iload_n hx hb dX2_most_1 rfl (lv_at hl 1 rfl) ?_
  refine ob_callR (As := [.int (iI z)]) (rest := []) (metM_bad l dC dI bd cI cZ n c D C A O Nt z hz hc) ⟨hx, hb, hml, hown, hts⟩ (cwV 1 hts (lw_V q238 q240 qs15 q24 q241) rfl rfl rfl (by decide +kernel) ⟨Nat.le_of_ble_eq_true rfl, Nat.le_of_ble_eq_true rfl⟩) hK hP [0, 1, 2, 3, 4, 5] [0, 1] rfl rfl (ci := 1) rfl rfl rfl rfl hl.1 rfl (Nat.le_of_ble_eq_true rfl) dX2_most_2 ⟨Nat.zero_le _, Nat.zero_le _⟩ (fun r2 e2 => ?_)
  subst e2
  refine ob_if_eq (tgt := 10) hx hb dX2_most_5 (by decide) (tb_bnd _) (fun h5 => ?_) (fun h5 => ?_)
  · have g5 : 0 ≤ z ∧ z < (c : Int) := by have q := tb_f h5; omega
    have hle : z = (((z.toNat : Nat) : Int) : Int) := by omega
    rw [hle] at hl
    clear hle
    have hl : lv_has ls 5 [(0, .ref (bd 0)), (1, .int (iI (((z.toNat : Nat) : Int))))] := hl
    refine ob_ic hx hb dX2_most_10 ?_
    refine lv_istore_n (lv' := [(2, .int (iI 0)), (0, .ref (bd 0)), (1, .int (iI (((z.toNat : Nat) : Int))))]) hx hb dX2_most_11 rfl hl (by decide) rfl (fun ls hl => ?_)
    refine ob_ic hx hb dX2_most_12 ?_
    refine lv_istore_n (lv' := [(3, .int (iI 0)), (2, .int (iI 0)), (0, .ref (bd 0)), (1, .int (iI (((z.toNat : Nat) : Int))))]) hx hb dX2_most_13 rfl hl (by decide) rfl (fun ls hl => ?_)
    have lp_14 : ∀ (nn : Nat) (k : Nat) (fd : Int) (Nt1 : Nat → Int), (4 ^ c < k + nn) → (k ≤ 4 ^ c) → (MI n c D C (rm D C A O) z.toNat k fd) → ∀ (H : Heap) (locs : List Loc), va_P (dC, dI) vwCl (wM bd cI cZ n c D C A O Nt1) H → va_D AA (wM bd cI cZ n c D C A O Nt1) → va_S AA s.heap H locs → ∀ (ls : Array Slot), lv_has ls 5 [(0, .ref (bd 0)), (1, .int (iI (((z.toNat : Nat) : Int)))), (2, .int (iI fd)), (3, .int (iI k))] → W p l e (headSpec (ws_ yX2_most cX2_most 5 (some .int)) ({ frames := 2, cells := 0, slots := 0, locals := 47 })).room s m ([.ref (bd 0), .int (iI z)] : List Value).toArray below meth cd H locs 0 0 (MQ below (va_Qi (fun r u => ∃ Nt2, u = (c, D, C, A, O, Nt2) ∧ (((0 ≤ z ∧ z < (c : Int)) ∧ ∃ x, Opt n c D C (rm D C A O) (gnA c z) x ∧ r = iI (x z.toNat)) ∨ (¬ (0 ≤ z ∧ z < (c : Int)) ∧ r = iI (-1)))) (obB (dC, dI) vwCl [(cI, .int), (cZ, .boolean)] AA (BM bd cI cZ n)) AA) ([.ref (bd 0), .int (iI z)] : List Value).toArray s 0 0 AA) (F0 m 14 ls []) := by
      intro nn
      induction nn with
      | zero => intro k fd Nt1 hm hk hs; exfalso; omega
      | succ nn ih_14 =>
        intro k fd Nt1 hm hk hs H locs hP hD hS ls hl
        refine lv_iload_n hx hb dX2_most_14 rfl (lv_at hl 3 rfl) ?_
        refine ob_ic hx hb dX2_most_15 ?_
        refine ob_ic hx hb dX2_most_16 ?_
        refine lv_aload_n hx hb dX2_most_17 rfl (lv_at hl 0 rfl) ?_
        refine va_get (D := (dC, dI)) (ci := 1) (v := .int (iI c)) (C := RX2) (T := TX2) (N := 7) hx hb hts in_X2 hown hK hP 0 rfl rfl 1 (by decide) (hts _ q205) (fun _ h9 => h9) rfl dX2_most_18 ?_
        refine ob_imul hx hb dX2_most_21 ?_
        refine ob_top (((2 * c : Nat) : Int)) (by omega) ?_
        refine ob_ishl hx hb dX2_most_22 (2 * c) (by omega) (by omega) ?_
        refine ob_top (((4 ^ c : Nat) : Int)) (by rw [p42]) ?_
        refine ob_icmp_ge (tgt := 57) hx hb dX2_most_23 (by decide) (by omega) (by omega) (fun h23 => ?_) (fun h23 => ?_)
        · have ek : k = 4 ^ c := by omega
          rw [ek] at hs
          obtain ⟨x5, hx5, hx6⟩ := hs.opt hW g5
          refine lv_iload_n hx hb dX2_most_57 rfl (lv_at hl 2 rfl) ?_
          exact W.iret (v := iI fd) hx hb hr (fun t ht hWm => ⟨⟨_, (c, D, C, A, O, Nt1), rfl, (by exact ⟨_, rfl, Or.inl ⟨g5, x5, hx5, by rw [hx6]⟩⟩), by rw [ht]; exact hP, va_K.moved hWm.alike hK, hD⟩, hS.F ht⟩) hS.2.2 dX2_most_58
        · have fb := hs.1
          have xb := dgZ_bnd c k z.toNat
          refine lv_aload_n hx hb dX2_most_26 rfl (lv_at hl 0 rfl) ?_
          refine lv_iload_n hx hb dX2_most_27 rfl (lv_at hl 3 rfl) ?_
          refine lv_iload_n hx hb dX2_most_28 rfl (lv_at hl 1 rfl) ?_
          refine ob_callR (As := [.int (iI k), .int (iI (((z.toNat : Nat) : Int)))]) (rest := []) (metM_digit l dC dI bd cI cZ n c D C A O Nt1 k z.toNat (by omega) (by omega) hc) ⟨hx, hb, hml, hown, hts⟩ (cwV 2 hts (lw_V q262 q264 qs18 q24 q265) rfl rfl rfl (by decide +kernel) ⟨Nat.le_of_ble_eq_true rfl, Nat.le_of_ble_eq_true rfl⟩) hK hP [0, 1, 2, 3, 4, 5] [0, 1] rfl rfl (ci := 1) rfl rfl rfl rfl hl.1 rfl (Nat.le_of_ble_eq_true rfl) dX2_most_29 ⟨Nat.zero_le _, Nat.zero_le _⟩ (fun r29 e29 => ?_)
          subst e29
          refine ob_top (dgZ c k z.toNat) (rfl) ?_
          refine lv_istore (lv' := [(4, .int (iI (dgZ c k z.toNat))), (0, .ref (bd 0)), (1, .int (iI (((z.toNat : Nat) : Int)))), (2, .int (iI fd)), (3, .int (iI k))]) hx hb dX2_most_32 hl (by decide) rfl (fun ls hl => ?_)
          refine lv_iload hx hb dX2_most_34 (lv_at hl 0 rfl) ?_
          refine lv_iload_n hx hb dX2_most_36 rfl (lv_at hl 3 rfl) ?_
          refine ob_icmp_le (tgt := 51) hx hb dX2_most_37 (by decide) (by omega) (by omega) (fun h37 => ?_) (fun h37 => ?_)
          · have hle9 : Clr n c D C (rm D C A O) (dgZ c k) → dgZ c k z.toNat ≤ fd := fun _ => h37
            refine ob_iinc (k := 4) hx hb (((k + 1 : Nat) : Int)) (lv' := [(3, .int (iI (((k + 1 : Nat) : Int)))), (4, .int (iI (dgZ c k z.toNat))), (0, .ref (bd 0)), (1, .int (iI (((z.toNat : Nat) : Int)))), (2, .int (iI fd))]) dX2_most_51 hl rfl (by omega) (by decide) rfl (fun ls hl => ?_)
            refine lv_goto (tgt := 14) hx hb dX2_most_54 (by decide) ?_
            exact ih_14 (k + 1) fd Nt1 (by omega) (by omega) (hs.old hle9) _ _ hP hD hS ls (lv_sub hl [2, 3, 4, 0] rfl)
          · refine lv_aload_n hx hb dX2_most_40 rfl (lv_at hl 1 rfl) ?_
            refine lv_iload_n hx hb dX2_most_41 rfl (lv_at hl 4 rfl) ?_
            refine ob_callI (As := [.int (iI k)]) (rest := []) (wr := []) (metM_total l dC dI bd cI cZ n c D C A O Nt1 H.size (k : Int) (by omega) hW) ⟨hx, hb, hml, hown, hts⟩ (cwV 1 hts (lw_V q258 q260 qs17 q24 q261) rfl rfl rfl (by decide +kernel) ⟨Nat.le_of_ble_eq_true rfl, Nat.le_of_ble_eq_true rfl⟩) hK hP hD hS hA [0, 1, 2, 3, 4, 5] [] [0, 1] rfl rfl rfl (by decide) (by decide) (by decide) rfl (ci := 1) rfl rfl rfl rfl hl.1 rfl (Nat.le_of_ble_eq_true rfl) dX2_most_42 ⟨Nat.zero_le _, Nat.zero_le _⟩ (fun r42 u42 H locs hw hP hD hS => ?_)
            obtain ⟨Nt2, rfl, hw⟩ := hw
            rcases hw with ⟨hcc, rfl⟩ | ⟨hno, rfl⟩
            · have hP : va_P (dC, dI) vwCl (wM bd cI cZ n c D C A O Nt2) H := hP
              have hD : va_D AA (wM bd cI cZ n c D C A O Nt2) := hD
              refine ob_top (sZ (dgZ c k) c) (rfl) ?_
              have sb := sZ_bnd3 hc (fun d _ => dgZ_bnd c k d)
              refine ob_if_lt (tgt := 51) hx hb dX2_most_45 (by decide) (by omega) (fun h45 => ?_) (fun h45 => ?_)
              · exfalso; omega
              · refine lv_iload hx hb dX2_most_48 (lv_at hl 0 rfl) ?_
                refine lv_istore_n (lv' := [(2, .int (iI (dgZ c k z.toNat))), (4, .int (iI (dgZ c k z.toNat))), (0, .ref (bd 0)), (1, .int (iI (((z.toNat : Nat) : Int)))), (3, .int (iI k))]) hx hb dX2_most_50 rfl hl (by decide) rfl (fun ls hl => ?_)
                refine ob_iinc (k := 4) hx hb (((k + 1 : Nat) : Int)) (lv' := [(3, .int (iI (((k + 1 : Nat) : Int)))), (2, .int (iI (dgZ c k z.toNat))), (4, .int (iI (dgZ c k z.toNat))), (0, .ref (bd 0)), (1, .int (iI (((z.toNat : Nat) : Int))))]) dX2_most_51 hl rfl (by omega) (by decide) rfl (fun ls hl => ?_)
                refine lv_goto (tgt := 14) hx hb dX2_most_54 (by decide) ?_
                exact ih_14 (k + 1) (dgZ c k z.toNat) Nt2 (by omega) (by omega) (hs.new hcc.2.2 h37) _ _ hP hD hS ls (lv_sub hl [3, 4, 1, 0] rfl)
            · have hP : va_P (dC, dI) vwCl (wM bd cI cZ n c D C A O Nt2) H := hP
              have hD : va_D AA (wM bd cI cZ n c D C A O Nt2) := hD
              refine ob_if_lt (tgt := 51) hx hb dX2_most_45 (by decide) (by omega) (fun h45 => ?_) (fun h45 => ?_)
              · have hle9 : Clr n c D C (rm D C A O) (dgZ c k) → dgZ c k z.toNat ≤ fd := fun q => absurd (CC_of (by omega) q) hno
                refine ob_iinc (k := 4) hx hb (((k + 1 : Nat) : Int)) (lv' := [(3, .int (iI (((k + 1 : Nat) : Int)))), (4, .int (iI (dgZ c k z.toNat))), (0, .ref (bd 0)), (1, .int (iI (((z.toNat : Nat) : Int)))), (2, .int (iI fd))]) dX2_most_51 hl rfl (by omega) (by decide) rfl (fun ls hl => ?_)
                refine lv_goto (tgt := 14) hx hb dX2_most_54 (by decide) ?_
                exact ih_14 (k + 1) fd Nt2 (by omega) (by omega) (hs.old hle9) _ _ hP hD hS ls (lv_sub hl [2, 3, 4, 0] rfl)
              · exfalso; omega
    exact lp_14 (4 ^ c + 1) 0 0 Nt (by omega) (by omega) (MI.init _ (fun d hd => (hW.rm d hd).1)) _ _ hP hD hS ls (lv_sub hl [2, 3, 1, 0] rfl)
  · have g5 := tb_t h5
    refine ob_ic hx hb dX2_most_8 ?_
    exact W.iret (v := iI ((-1))) hx hb hr (fun t ht hWm => ⟨⟨_, (c, D, C, A, O, Nt), rfl, (by exact ⟨_, rfl, Or.inr ⟨g5, rfl⟩⟩), by rw [ht]; exact hP, va_K.moved hWm.alike hK, hD⟩, hS.F ht⟩) hS.2.2 dX2_most_9
set_option maxHeartbeats 4000000 in
set_option maxRecDepth 100000 in
theorem metM_possible (l : Launch) (dC : Nat → ClassId) (dI : Nat → Nat → Nat) (bd : Nat → Nat) (cI cZ : ClassId) (n c : Nat) (D C : Nat → Nat) (A O Nt : Nat → Int) (sz : Nat) (hW : WF n c D C A O) : Met l yX2_possible (ws_ yX2_possible cX2_possible 1 (some .int)) ({ frames := 4, cells := 0, slots := 0, locals := 92 }) (obW (dC, dI) vwCl (wM bd cI cZ n c D C A O Nt) [(cI, .int), (cZ, .boolean)] sz [.ref (bd 0)]) (va_Qi (fun r u => ∃ x Nt2, Opt n c D C (rm D C A O) (gnA c (-1)) x ∧ r = iI (tb (0 < sZ x c)) ∧ u = (c, D, C, A, O, Nt2)) (obB (dC, dI) vwCl [(cI, .int), (cZ, .boolean)] (va_A (wM bd cI cZ n c D C A O Nt) sz) (BM bd cI cZ n)) (va_A (wM bd cI cZ n c D C A O Nt) sz)) 0 0 (va_A (wM bd cI cZ n c D C A O Nt) sz) := by
  refine Met.ofW (cc := cX2_possible) (maxL := 1) (ret := (some .int)) (by decide) rfl ?_
  intro p e s m args below meth cd s₁ B hml hv
  obtain ⟨rfl, hsz, hP, hK, hD0⟩ := hv
  have hx := B.exec
  have hb := B.bytes
  have hr := B.returns
  have hts := atoms_spec (ws := (ws_ yX2_possible cX2_possible 1 (some .int))) B.pre
  have hts : ∀ w ∈ lw_all, w.before _ s = true := fun w h => hts w (List.mem_cons_of_mem _ h)
  have hown : s.vm.findClass RX2 = some m.cls := findClass_of_methodNamed B.named
  have hlocks := B.notSynchronized
  subst hsz
  have hD := hD0.self (sz := s.heap.size)
  generalize hAe : va_A (wM bd cI cZ n c D C A O Nt) s.heap.size = AA at hD ⊢
  have hA : ∀ q : Nat, s.heap.size ≤ q → AA q := fun q h => by rw [← hAe]; exact Or.inr h
  have hS : va_S AA s.heap s.heap [] := va_S.rf
  have hl := lv_entry ([.ref (bd 0)]) (n := 1) (Nat.le_of_ble_eq_true rfl)
  rw [lg_entry_eq]
  generalize (lg_sl ([.ref (bd 0)]) ++ List.replicate (1 - (lg_sl ([.ref (bd 0)])).length) Slot.unset).toArray = ls at hl ⊢
  have hl : lv_has ls 1 [(0, .ref (bd 0))] := hl
  have hc := hW.2.2.1
  have hn := hW.2.1
  refine lv_aload_n hx hb dX2_possible_0 rfl (lv_at hl 0 rfl) ?_
  refine ob_callI (As := []) (rest := []) (wr := []) (metM_greatest l dC dI bd cI cZ n c D C A O Nt s.heap.size hW) ⟨hx, hb, hml, hown, hts⟩ (cwV 0 hts (lw_V q298 q300 qs21 q24 q301) rfl rfl rfl (by decide +kernel) ⟨Nat.le_of_ble_eq_true rfl, Nat.le_of_ble_eq_true rfl⟩) hK hP hD hS hA [0, 1, 2, 3, 4, 5] [] [0, 1] rfl rfl rfl (by decide) (by decide) (by decide) rfl (ci := 1) rfl rfl rfl rfl hl.1 rfl (Nat.le_of_ble_eq_true rfl) dX2_possible_1 ⟨Nat.zero_le _, Nat.zero_le _⟩ (fun r1 u1 H locs hw hP hD hS => ?_)
  obtain ⟨x3, Nt3, hop3, rfl, rfl⟩ := hw
  have hP : va_P (dC, dI) vwCl (wM bd cI cZ n c D C A O Nt3) H := hP
  have hD : va_D AA (wM bd cI cZ n c D C A O Nt3) := hD
  have sb := sZ_bnd3 hc (hop3.1.b3 hW)
  refine ob_if_le (tgt := 11) hx hb dX2_possible_4 (by decide) (by omega) (fun h4 => ?_) (fun h4 => ?_)
  · refine ob_ic hx hb dX2_possible_11 ?_
    exact W.iret (v := iI 0) hx hb hr (fun t ht hWm => ⟨⟨_, (c, D, C, A, O, Nt3), rfl, (by exact ⟨x3, _, hop3, (by first | rw [tb_1 (by omega)] | rw [tb_0 (by omega)]), rfl⟩), by rw [ht]; exact hP, va_K.moved hWm.alike hK, hD⟩, hS.F ht⟩) hS.2.2 dX2_possible_12
  · refine ob_ic hx hb dX2_possible_7 ?_
    refine lv_goto (tgt := 12) hx hb dX2_possible_8 (by decide) ?_
    exact W.iret (v := iI 1) hx hb hr (fun t ht hWm => ⟨⟨_, (c, D, C, A, O, Nt3), rfl, (by exact ⟨x3, _, hop3, (by first | rw [tb_1 (by omega)] | rw [tb_0 (by omega)]), rfl⟩), by rw [ht]; exact hP, va_K.moved hWm.alike hK, hD⟩, hS.F ht⟩) hS.2.2 dX2_possible_12
end
section
/-! THE CONSTRUCTORS -/
def nCl (z : Int) : Nat := if z < 2 then 2 else if 5 < z then 5 else z.toNat
set_option maxHeartbeats 8000000 in
set_option maxRecDepth 100000 in
theorem metN_init (l : Launch) (dC : Nat → ClassId) (dI : Nat → Nat → Nat) (h0 sz : Nat) (z : Int) (hz : -2147483648 ≤ z ∧ z < 2147483648) : Met l yX1_init (ws_ yX1_init cX1_init 2 none) ({ frames := 1, cells := 9, slots := 57, locals := 12 }) (obW (dC, dI) vwCl [(h0, .inr (0, [.null, .null, .null, .null, .null, .null, .null, .null, .null, .int (iI 0), .int (iI 0)]))] [] sz [.ref h0, .int (iI z)]) (va_Qv (fun u : (Nat → Nat) × ClassId × ClassId => u.1 0 = h0) (fun (u : (Nat → Nat) × ClassId × ClassId) t => va_P (dC, dI) vwCl (wN u.1 u.2.1 u.2.2 (nCl z) 0 (fun _ => 0) (fun _ => 0) (fun _ => 0) (fun _ => 0) (fun _ => 0) (fun _ => 0) (fun _ => 0) (fun _ => 0)) t.heap ∧ va_K (dC, dI) vwCl [(u.2.1, .int), (u.2.2, .boolean)] t ∧ va_D (va_A [(h0, .inr (0, [.null, .null, .null, .null, .null, .null, .null, .null, .null, .int (iI 0), .int (iI 0)]))] sz) (wN u.1 u.2.1 u.2.2 (nCl z) 0 (fun _ => 0) (fun _ => 0) (fun _ => 0) (fun _ => 0) (fun _ => 0) (fun _ => 0) (fun _ => 0) (fun _ => 0))) (va_A [(h0, .inr (0, [.null, .null, .null, .null, .null, .null, .null, .null, .null, .int (iI 0), .int (iI 0)]))] sz)) 9 57 (va_A [(h0, .inr (0, [.null, .null, .null, .null, .null, .null, .null, .null, .null, .int (iI 0), .int (iI 0)]))] sz) := by
  refine Met.ofW (cc := cX1_init) (maxL := 2) (ret := none) (by decide) rfl ?_
  intro p e s m args below meth cd s₁ B hml hv
  obtain ⟨rfl, hsz, hP, hK, hD0⟩ := hv
  have hx := B.exec
  have hb := B.bytes
  have hr := B.returns
  have hts := atoms_spec (ws := (ws_ yX1_init cX1_init 2 none)) B.pre
  have hts : ∀ w ∈ lw_all, w.before _ s = true := fun w h => hts w (List.mem_cons_of_mem _ h)
  have hown : s.vm.findClass RX1 = some m.cls := findClass_of_methodNamed B.named
  have hlocks := B.notSynchronized
  have hin : meth.name = "<init>" := (name_of_methodNamed B.named B.method).1
  subst hsz
  have hD := hD0.self (sz := s.heap.size)
  generalize hAe : va_A [(h0, .inr (0, [.null, .null, .null, .null, .null, .null, .null, .null, .null, .int (iI 0), .int (iI 0)]))] s.heap.size = AA at hD ⊢
  have hA : ∀ q : Nat, s.heap.size ≤ q → AA q := fun q h => by rw [← hAe]; exact Or.inr h
  have hS : va_S AA s.heap s.heap [] := va_S.rf
  have hl := lv_entry ([.ref h0, .int (iI z)]) (n := 2) (Nat.le_of_ble_eq_true rfl)
  rw [lg_entry_eq]
  generalize (lg_sl ([.ref h0, .int (iI z)]) ++ List.replicate (2 - (lg_sl ([.ref h0, .int (iI z)])).length) Slot.unset).toArray = ls at hl ⊢
  have hl : lv_has ls 2 [(0, .ref h0), (1, .int (iI z))] := hl
  refine lv_aload_n hx hb dX1_init_0 rfl (lv_at hl 0 rfl) ?_
  refine W.objInit hx hb hown (hts _ q30) (hts _ q31) (hts _ q32) rfl (by rw [hml]; exact hl.1) rfl dX1_init_1 (Nat.le_of_ble_eq_true rfl) (Nat.le_of_ble_eq_true rfl) ?_
  refine W.eq (g2 := F0 m 4 ls []) rfl ?_
  refine lv_aload_n hx hb dX1_init_4 rfl (lv_at hl 0 rfl) ?_
  refine ob_bi hx hb dX1_init_5 (by decide) ?_
  refine va_newa (atype := .int) (ty := .int) (N' := 7) (a0 := (7, .inl (iN (fun _ => 0)))) hx hb (hts _ q67) rfl hK hP hD hS hA (fun _ => rfl) (by decide) (by decide) (by decide) (Nat.le_of_ble_eq_true rfl) (Nat.le_of_ble_eq_true rfl) dX1_init_7 (fun q1 cI H hK hP hD hS => ?_)
  have hP : va_P (dC, dI) vwCl [(h0, .inr (0, [.null, .null, .null, .null, .null, .null, .null, .null, .null, .int (iI 0), .int (iI 0)])), (q1, .inl (cI, 7, .inl (iN (fun _ => 0))))] H := hP
  have hD : va_D AA [(h0, .inr (0, [.null, .null, .null, .null, .null, .null, .null, .null, .null, .int (iI 0), .int (iI 0)])), (q1, .inl (cI, 7, .inl (iN (fun _ => 0))))] := hD
  have hK : va_K (dC, dI) vwCl [(cI, .int)] s := hK
  refine W.widen (k := 1) (n := 7) (Nat.le_of_ble_eq_true rfl) (Nat.le_of_ble_eq_true rfl) ?_
  refine va_putF (D := (dC, dI)) (ci := 0) (v := .ref q1) (ty := .array .int) (C := RX1) (T := TX1) (N := 11) hx hb hts in_X1 tyX1 tyX1_ok nmX1 hown hK hP hD hS 0 rfl rfl 0 (by decide) (hts _ q33) (fun _ h9 => h9) rfl hin rfl (by decide +kernel) rfl rfl (Nat.le_of_ble_eq_true rfl) dX1_init_9 (fun H locs hP hD hS => ?_)
  have hP : va_P (dC, dI) vwCl [(h0, .inr (0, [.ref q1, .null, .null, .null, .null, .null, .null, .null, .null, .int (iI 0), .int (iI 0)])), (q1, .inl (cI, 7, .inl (iN (fun _ => 0))))] H := hP
  have hD : va_D AA [(h0, .inr (0, [.ref q1, .null, .null, .null, .null, .null, .null, .null, .null, .int (iI 0), .int (iI 0)])), (q1, .inl (cI, 7, .inl (iN (fun _ => 0))))] := hD
  refine lv_aload_n hx hb dX1_init_12 rfl (lv_at hl 0 rfl) ?_
  refine ob_bi hx hb dX1_init_13 (by decide) ?_
  refine va_newa (atype := .int) (ty := .int) (N' := 7) (a0 := (7, .inl (iN (fun _ => 0)))) hx hb (hts _ q67) rfl hK hP hD hS hA (fun _ => rfl) (by decide) (by decide) (by decide) (Nat.le_of_ble_eq_true rfl) (Nat.le_of_ble_eq_true rfl) dX1_init_15 (fun q2 c2 H hK hP hD hS => ?_)
  have f1 : s.vm.findClass ("[" ++ FieldType.int.toString) = some cI := (hK.2 0 _ rfl).2
  have f2 : s.vm.findClass ("[" ++ FieldType.int.toString) = some c2 := (hK.2 1 _ rfl).2
  have f3 : c2 = cI := Option.some.inj (f2.symm.trans f1)
  rw [f3] at hP hD
  have hK := hK.sub (tys' := [(cI, .int)]) [0] rfl
  have hP : va_P (dC, dI) vwCl [(h0, .inr (0, [.ref q1, .null, .null, .null, .null, .null, .null, .null, .null, .int (iI 0), .int (iI 0)])), (q1, .inl (cI, 7, .inl (iN (fun _ => 0)))), (q2, .inl (cI, 7, .inl (iN (fun _ => 0))))] H := hP
  have hD : va_D AA [(h0, .inr (0, [.ref q1, .null, .null, .null, .null, .null, .null, .null, .null, .int (iI 0), .int (iI 0)])), (q1, .inl (cI, 7, .inl (iN (fun _ => 0)))), (q2, .inl (cI, 7, .inl (iN (fun _ => 0))))] := hD
  have hK : va_K (dC, dI) vwCl [(cI, .int)] s := hK
  refine W.widen (k := 2) (n := 14) (Nat.le_of_ble_eq_true rfl) (Nat.le_of_ble_eq_true rfl) ?_
  refine va_putF (D := (dC, dI)) (ci := 0) (v := .ref q2) (ty := .array .int) (C := RX1) (T := TX1) (N := 11) hx hb hts in_X1 tyX1 tyX1_ok nmX1 hown hK hP hD hS 0 rfl rfl 1 (by decide) (hts _ q34) (fun _ h9 => h9) rfl hin rfl (by decide +kernel) rfl rfl (Nat.le_of_ble_eq_true rfl) dX1_init_17 (fun H locs hP hD hS => ?_)
  have hP : va_P (dC, dI) vwCl [(h0, .inr (0, [.ref q1, .ref q2, .null, .null, .null, .null, .null, .null, .null, .int (iI 0), .int (iI 0)])), (q1, .inl (cI, 7, .inl (iN (fun _ => 0)))), (q2, .inl (cI, 7, .inl (iN (fun _ => 0))))] H := hP
  have hD : va_D AA [(h0, .inr (0, [.ref q1, .ref q2, .null, .null, .null, .null, .null, .null, .null, .int (iI 0), .int (iI 0)])), (q1, .inl (cI, 7, .inl (iN (fun _ => 0)))), (q2, .inl (cI, 7, .inl (iN (fun _ => 0))))] := hD
  refine lv_aload_n hx hb dX1_init_20 rfl (lv_at hl 0 rfl) ?_
  refine ob_bi hx hb dX1_init_21 (by decide) ?_
  refine va_newa (atype := .int) (ty := .int) (N' := 7) (a0 := (7, .inl (iF (fun _ => 0)))) hx hb (hts _ q67) rfl hK hP hD hS hA (fun _ => rfl) (by decide) (by decide) (by decide) (Nat.le_of_ble_eq_true rfl) (Nat.le_of_ble_eq_true rfl) dX1_init_23 (fun q3 c3 H hK hP hD hS => ?_)
  have f1 : s.vm.findClass ("[" ++ FieldType.int.toString) = some cI := (hK.2 0 _ rfl).2
  have f2 : s.vm.findClass ("[" ++ FieldType.int.toString) = some c3 := (hK.2 1 _ rfl).2
  have f3 : c3 = cI := Option.some.inj (f2.symm.trans f1)
  rw [f3] at hP hD
  have hK := hK.sub (tys' := [(cI, .int)]) [0] rfl
  have hP : va_P (dC, dI) vwCl [(h0, .inr (0, [.ref q1, .ref q2, .null, .null, .null, .null, .null, .null, .null, .int (iI 0), .int (iI 0)])), (q1, .inl (cI, 7, .inl (iN (fun _ => 0)))), (q2, .inl (cI, 7, .inl (iN (fun _ => 0)))), (q3, .inl (cI, 7, .inl (iF (fun _ => 0))))] H := hP
  have hD : va_D AA [(h0, .inr (0, [.ref q1, .ref q2, .null, .null, .null, .null, .null, .null, .null, .int (iI 0), .int (iI 0)])), (q1, .inl (cI, 7, .inl (iN (fun _ => 0)))), (q2, .inl (cI, 7, .inl (iN (fun _ => 0)))), (q3, .inl (cI, 7, .inl (iF (fun _ => 0))))] := hD
  have hK : va_K (dC, dI) vwCl [(cI, .int)] s := hK
  refine W.widen (k := 3) (n := 21) (Nat.le_of_ble_eq_true rfl) (Nat.le_of_ble_eq_true rfl) ?_
  refine va_putF (D := (dC, dI)) (ci := 0) (v := .ref q3) (ty := .array .int) (C := RX1) (T := TX1) (N := 11) hx hb hts in_X1 tyX1 tyX1_ok nmX1 hown hK hP hD hS 0 rfl rfl 2 (by decide) (hts _ q35) (fun _ h9 => h9) rfl hin rfl (by decide +kernel) rfl rfl (Nat.le_of_ble_eq_true rfl) dX1_init_25 (fun H locs hP hD hS => ?_)
  have hP : va_P (dC, dI) vwCl [(h0, .inr (0, [.ref q1, .ref q2, .ref q3, .null, .null, .null, .null, .null, .null, .int (iI 0), .int (iI 0)])), (q1, .inl (cI, 7, .inl (iN (fun _ => 0)))), (q2, .inl (cI, 7, .inl (iN (fun _ => 0)))), (q3, .inl (cI, 7, .inl (iF (fun _ => 0))))] H := hP
  have hD : va_D AA [(h0, .inr (0, [.ref q1, .ref q2, .ref q3, .null, .null, .null, .null, .null, .null, .int (iI 0), .int (iI 0)])), (q1, .inl (cI, 7, .inl (iN (fun _ => 0)))), (q2, .inl (cI, 7, .inl (iN (fun _ => 0)))), (q3, .inl (cI, 7, .inl (iF (fun _ => 0))))] := hD
  refine lv_aload_n hx hb dX1_init_28 rfl (lv_at hl 0 rfl) ?_
  refine ob_bi hx hb dX1_init_29 (by decide) ?_
  refine va_newa (atype := .int) (ty := .int) (N' := 7) (a0 := (7, .inl (iF (fun _ => 0)))) hx hb (hts _ q67) rfl hK hP hD hS hA (fun _ => rfl) (by decide) (by decide) (by decide) (Nat.le_of_ble_eq_true rfl) (Nat.le_of_ble_eq_true rfl) dX1_init_31 (fun q4 c4 H hK hP hD hS => ?_)
  have f1 : s.vm.findClass ("[" ++ FieldType.int.toString) = some cI := (hK.2 0 _ rfl).2
  have f2 : s.vm.findClass ("[" ++ FieldType.int.toString) = some c4 := (hK.2 1 _ rfl).2
  have f3 : c4 = cI := Option.some.inj (f2.symm.trans f1)
  rw [f3] at hP hD
  have hK := hK.sub (tys' := [(cI, .int)]) [0] rfl
  have hP : va_P (dC, dI) vwCl [(h0, .inr (0, [.ref q1, .ref q2, .ref q3, .null, .null, .null, .null, .null, .null, .int (iI 0), .int (iI 0)])), (q1, .inl (cI, 7, .inl (iN (fun _ => 0)))), (q2, .inl (cI, 7, .inl (iN (fun _ => 0)))), (q3, .inl (cI, 7, .inl (iF (fun _ => 0)))), (q4, .inl (cI, 7, .inl (iF (fun _ => 0))))] H := hP
  have hD : va_D AA [(h0, .inr (0, [.ref q1, .ref q2, .ref q3, .null, .null, .null, .null, .null, .null, .int (iI 0), .int (iI 0)])), (q1, .inl (cI, 7, .inl (iN (fun _ => 0)))), (q2, .inl (cI, 7, .inl (iN (fun _ => 0)))), (q3, .inl (cI, 7, .inl (iF (fun _ => 0)))), (q4, .inl (cI, 7, .inl (iF (fun _ => 0))))] := hD
  have hK : va_K (dC, dI) vwCl [(cI, .int)] s := hK
  refine W.widen (k := 4) (n := 28) (Nat.le_of_ble_eq_true rfl) (Nat.le_of_ble_eq_true rfl) ?_
  refine va_putF (D := (dC, dI)) (ci := 0) (v := .ref q4) (ty := .array .int) (C := RX1) (T := TX1) (N := 11) hx hb hts in_X1 tyX1 tyX1_ok nmX1 hown hK hP hD hS 0 rfl rfl 3 (by decide) (hts _ q36) (fun _ h9 => h9) rfl hin rfl (by decide +kernel) rfl rfl (Nat.le_of_ble_eq_true rfl) dX1_init_33 (fun H locs hP hD hS => ?_)
  have hP : va_P (dC, dI) vwCl [(h0, .inr (0, [.ref q1, .ref q2, .ref q3, .ref q4, .null, .null, .null, .null, .null, .int (iI 0), .int (iI 0)])), (q1, .inl (cI, 7, .inl (iN (fun _ => 0)))), (q2, .inl (cI, 7, .inl (iN (fun _ => 0)))), (q3, .inl (cI, 7, .inl (iF (fun _ => 0)))), (q4, .inl (cI, 7, .inl (iF (fun _ => 0))))] H := hP
  have hD : va_D AA [(h0, .inr (0, [.ref q1, .ref q2, .ref q3, .ref q4, .null, .null, .null, .null, .null, .int (iI 0), .int (iI 0)])), (q1, .inl (cI, 7, .inl (iN (fun _ => 0)))), (q2, .inl (cI, 7, .inl (iN (fun _ => 0)))), (q3, .inl (cI, 7, .inl (iF (fun _ => 0)))), (q4, .inl (cI, 7, .inl (iF (fun _ => 0))))] := hD
  refine lv_aload_n hx hb dX1_init_36 rfl (lv_at hl 0 rfl) ?_
  refine ob_bi hx hb dX1_init_37 (by decide) ?_
  refine va_newa (atype := .int) (ty := .int) (N' := 7) (a0 := (7, .inl (iF (fun _ => 0)))) hx hb (hts _ q67) rfl hK hP hD hS hA (fun _ => rfl) (by decide) (by decide) (by decide) (Nat.le_of_ble_eq_true rfl) (Nat.le_of_ble_eq_true rfl) dX1_init_39 (fun q5 c5 H hK hP hD hS => ?_)
  have f1 : s.vm.findClass ("[" ++ FieldType.int.toString) = some cI := (hK.2 0 _ rfl).2
  have f2 : s.vm.findClass ("[" ++ FieldType.int.toString) = some c5 := (hK.2 1 _ rfl).2
  have f3 : c5 = cI := Option.some.inj (f2.symm.trans f1)
  rw [f3] at hP hD
  have hK := hK.sub (tys' := [(cI, .int)]) [0] rfl
  have hP : va_P (dC, dI) vwCl [(h0, .inr (0, [.ref q1, .ref q2, .ref q3, .ref q4, .null, .null, .null, .null, .null, .int (iI 0), .int (iI 0)])), (q1, .inl (cI, 7, .inl (iN (fun _ => 0)))), (q2, .inl (cI, 7, .inl (iN (fun _ => 0)))), (q3, .inl (cI, 7, .inl (iF (fun _ => 0)))), (q4, .inl (cI, 7, .inl (iF (fun _ => 0)))), (q5, .inl (cI, 7, .inl (iF (fun _ => 0))))] H := hP
  have hD : va_D AA [(h0, .inr (0, [.ref q1, .ref q2, .ref q3, .ref q4, .null, .null, .null, .null, .null, .int (iI 0), .int (iI 0)])), (q1, .inl (cI, 7, .inl (iN (fun _ => 0)))), (q2, .inl (cI, 7, .inl (iN (fun _ => 0)))), (q3, .inl (cI, 7, .inl (iF (fun _ => 0)))), (q4, .inl (cI, 7, .inl (iF (fun _ => 0)))), (q5, .inl (cI, 7, .inl (iF (fun _ => 0))))] := hD
  have hK : va_K (dC, dI) vwCl [(cI, .int)] s := hK
  refine W.widen (k := 5) (n := 35) (Nat.le_of_ble_eq_true rfl) (Nat.le_of_ble_eq_true rfl) ?_
  refine va_putF (D := (dC, dI)) (ci := 0) (v := .ref q5) (ty := .array .int) (C := RX1) (T := TX1) (N := 11) hx hb hts in_X1 tyX1 tyX1_ok nmX1 hown hK hP hD hS 0 rfl rfl 4 (by decide) (hts _ q37) (fun _ h9 => h9) rfl hin rfl (by decide +kernel) rfl rfl (Nat.le_of_ble_eq_true rfl) dX1_init_41 (fun H locs hP hD hS => ?_)
  have hP : va_P (dC, dI) vwCl [(h0, .inr (0, [.ref q1, .ref q2, .ref q3, .ref q4, .ref q5, .null, .null, .null, .null, .int (iI 0), .int (iI 0)])), (q1, .inl (cI, 7, .inl (iN (fun _ => 0)))), (q2, .inl (cI, 7, .inl (iN (fun _ => 0)))), (q3, .inl (cI, 7, .inl (iF (fun _ => 0)))), (q4, .inl (cI, 7, .inl (iF (fun _ => 0)))), (q5, .inl (cI, 7, .inl (iF (fun _ => 0))))] H := hP
  have hD : va_D AA [(h0, .inr (0, [.ref q1, .ref q2, .ref q3, .ref q4, .ref q5, .null, .null, .null, .null, .int (iI 0), .int (iI 0)])), (q1, .inl (cI, 7, .inl (iN (fun _ => 0)))), (q2, .inl (cI, 7, .inl (iN (fun _ => 0)))), (q3, .inl (cI, 7, .inl (iF (fun _ => 0)))), (q4, .inl (cI, 7, .inl (iF (fun _ => 0)))), (q5, .inl (cI, 7, .inl (iF (fun _ => 0))))] := hD
  refine lv_aload_n hx hb dX1_init_44 rfl (lv_at hl 0 rfl) ?_
  refine ob_ic hx hb dX1_init_45 ?_
  refine va_newa (atype := .boolean) (ty := .boolean) (N' := 5) (a0 := (5, .inl (iF (fun _ => 0)))) hx hb (hts _ q68) rfl hK hP hD hS hA (fun _ => rfl) (by decide) (by decide) (by decide) (Nat.le_of_ble_eq_true rfl) (Nat.le_of_ble_eq_true rfl) dX1_init_46 (fun q6 cZ H hK hP hD hS => ?_)
  have hP : va_P (dC, dI) vwCl [(h0, .inr (0, [.ref q1, .ref q2, .ref q3, .ref q4, .ref q5, .null, .null, .null, .null, .int (iI 0), .int (iI 0)])), (q1, .inl (cI, 7, .inl (iN (fun _ => 0)))), (q2, .inl (cI, 7, .inl (iN (fun _ => 0)))), (q3, .inl (cI, 7, .inl (iF (fun _ => 0)))), (q4, .inl (cI, 7, .inl (iF (fun _ => 0)))), (q5, .inl (cI, 7, .inl (iF (fun _ => 0)))), (q6, .inl (cZ, 5, .inl (iF (fun _ => 0))))] H := hP
  have hD : va_D AA [(h0, .inr (0, [.ref q1, .ref q2, .ref q3, .ref q4, .ref q5, .null, .null, .null, .null, .int (iI 0), .int (iI 0)])), (q1, .inl (cI, 7, .inl (iN (fun _ => 0)))), (q2, .inl (cI, 7, .inl (iN (fun _ => 0)))), (q3, .inl (cI, 7, .inl (iF (fun _ => 0)))), (q4, .inl (cI, 7, .inl (iF (fun _ => 0)))), (q5, .inl (cI, 7, .inl (iF (fun _ => 0)))), (q6, .inl (cZ, 5, .inl (iF (fun _ => 0))))] := hD
  have hK : va_K (dC, dI) vwCl [(cI, .int), (cZ, .boolean)] s := hK
  refine W.widen (k := 6) (n := 40) (Nat.le_of_ble_eq_true rfl) (Nat.le_of_ble_eq_true rfl) ?_
  refine va_putF (D := (dC, dI)) (ci := 0) (v := .ref q6) (ty := .array .boolean) (C := RX1) (T := TX1) (N := 11) hx hb hts in_X1 tyX1 tyX1_ok nmX1 hown hK hP hD hS 0 rfl rfl 5 (by decide) (hts _ q38) (fun _ h9 => h9) rfl hin rfl (by decide +kernel) rfl rfl (Nat.le_of_ble_eq_true rfl) dX1_init_48 (fun H locs hP hD hS => ?_)
  have hP : va_P (dC, dI) vwCl [(h0, .inr (0, [.ref q1, .ref q2, .ref q3, .ref q4, .ref q5, .ref q6, .null, .null, .null, .int (iI 0), .int (iI 0)])), (q1, .inl (cI, 7, .inl (iN (fun _ => 0)))), (q2, .inl (cI, 7, .inl (iN (fun _ => 0)))), (q3, .inl (cI, 7, .inl (iF (fun _ => 0)))), (q4, .inl (cI, 7, .inl (iF (fun _ => 0)))), (q5, .inl (cI, 7, .inl (iF (fun _ => 0)))), (q6, .inl (cZ, 5, .inl (iF (fun _ => 0))))] H := hP
  have hD : va_D AA [(h0, .inr (0, [.ref q1, .ref q2, .ref q3, .ref q4, .ref q5, .ref q6, .null, .null, .null, .int (iI 0), .int (iI 0)])), (q1, .inl (cI, 7, .inl (iN (fun _ => 0)))), (q2, .inl (cI, 7, .inl (iN (fun _ => 0)))), (q3, .inl (cI, 7, .inl (iF (fun _ => 0)))), (q4, .inl (cI, 7, .inl (iF (fun _ => 0)))), (q5, .inl (cI, 7, .inl (iF (fun _ => 0)))), (q6, .inl (cZ, 5, .inl (iF (fun _ => 0))))] := hD
  refine lv_aload_n hx hb dX1_init_51 rfl (lv_at hl 0 rfl) ?_
  refine ob_ic hx hb dX1_init_52 ?_
  refine va_newa (atype := .int) (ty := .int) (N' := 5) (a0 := (5, .inl (iF (fun _ => 0)))) hx hb (hts _ q67) rfl hK hP hD hS hA (fun _ => rfl) (by decide) (by decide) (by decide) (Nat.le_of_ble_eq_true rfl) (Nat.le_of_ble_eq_true rfl) dX1_init_53 (fun q7 c7 H hK hP hD hS => ?_)
  have f1 : s.vm.findClass ("[" ++ FieldType.int.toString) = some cI := (hK.2 0 _ rfl).2
  have f2 : s.vm.findClass ("[" ++ FieldType.int.toString) = some c7 := (hK.2 2 _ rfl).2
  have f3 : c7 = cI := Option.some.inj (f2.symm.trans f1)
  rw [f3] at hP hD
  have hK := hK.sub (tys' := [(cI, .int), (cZ, .boolean)]) [0, 1] rfl
  have hP : va_P (dC, dI) vwCl [(h0, .inr (0, [.ref q1, .ref q2, .ref q3, .ref q4, .ref q5, .ref q6, .null, .null, .null, .int (iI 0), .int (iI 0)])), (q1, .inl (cI, 7, .inl (iN (fun _ => 0)))), (q2, .inl (cI, 7, .inl (iN (fun _ => 0)))), (q3, .inl (cI, 7, .inl (iF (fun _ => 0)))), (q4, .inl (cI, 7, .inl (iF (fun _ => 0)))), (q5, .inl (cI, 7, .inl (iF (fun _ => 0)))), (q6, .inl (cZ, 5, .inl (iF (fun _ => 0)))), (q7, .inl (cI, 5, .inl (iF (fun _ => 0))))] H := hP
  have hD : va_D AA [(h0, .inr (0, [.ref q1, .ref q2, .ref q3, .ref q4, .ref q5, .ref q6, .null, .null, .null, .int (iI 0), .int (iI 0)])), (q1, .inl (cI, 7, .inl (iN (fun _ => 0)))), (q2, .inl (cI, 7, .inl (iN (fun _ => 0)))), (q3, .inl (cI, 7, .inl (iF (fun _ => 0)))), (q4, .inl (cI, 7, .inl (iF (fun _ => 0)))), (q5, .inl (cI, 7, .inl (iF (fun _ => 0)))), (q6, .inl (cZ, 5, .inl (iF (fun _ => 0)))), (q7, .inl (cI, 5, .inl (iF (fun _ => 0))))] := hD
  have hK : va_K (dC, dI) vwCl [(cI, .int), (cZ, .boolean)] s := hK
  refine W.widen (k := 7) (n := 45) (Nat.le_of_ble_eq_true rfl) (Nat.le_of_ble_eq_true rfl) ?_
  refine va_putF (D := (dC, dI)) (ci := 0) (v := .ref q7) (ty := .array .int) (C := RX1) (T := TX1) (N := 11) hx hb hts in_X1 tyX1 tyX1_ok nmX1 hown hK hP hD hS 0 rfl rfl 6 (by decide) (hts _ q39) (fun _ h9 => h9) rfl hin rfl (by decide +kernel) rfl rfl (Nat.le_of_ble_eq_true rfl) dX1_init_55 (fun H locs hP hD hS => ?_)
  have hP : va_P (dC, dI) vwCl [(h0, .inr (0, [.ref q1, .ref q2, .ref q3, .ref q4, .ref q5, .ref q6, .ref q7, .null, .null, .int (iI 0), .int (iI 0)])), (q1, .inl (cI, 7, .inl (iN (fun _ => 0)))), (q2, .inl (cI, 7, .inl (iN (fun _ => 0)))), (q3, .inl (cI, 7, .inl (iF (fun _ => 0)))), (q4, .inl (cI, 7, .inl (iF (fun _ => 0)))), (q5, .inl (cI, 7, .inl (iF (fun _ => 0)))), (q6, .inl (cZ, 5, .inl (iF (fun _ => 0)))), (q7, .inl (cI, 5, .inl (iF (fun _ => 0))))] H := hP
  have hD : va_D AA [(h0, .inr (0, [.ref q1, .ref q2, .ref q3, .ref q4, .ref q5, .ref q6, .ref q7, .null, .null, .int (iI 0), .int (iI 0)])), (q1, .inl (cI, 7, .inl (iN (fun _ => 0)))), (q2, .inl (cI, 7, .inl (iN (fun _ => 0)))), (q3, .inl (cI, 7, .inl (iF (fun _ => 0)))), (q4, .inl (cI, 7, .inl (iF (fun _ => 0)))), (q5, .inl (cI, 7, .inl (iF (fun _ => 0)))), (q6, .inl (cZ, 5, .inl (iF (fun _ => 0)))), (q7, .inl (cI, 5, .inl (iF (fun _ => 0))))] := hD
  refine lv_aload_n hx hb dX1_init_58 rfl (lv_at hl 0 rfl) ?_
  refine ob_ic hx hb dX1_init_59 ?_
  refine va_newa (atype := .int) (ty := .int) (N' := 5) (a0 := (5, .inl (iF (fun _ => 0)))) hx hb (hts _ q67) rfl hK hP hD hS hA (fun _ => rfl) (by decide) (by decide) (by decide) (Nat.le_of_ble_eq_true rfl) (Nat.le_of_ble_eq_true rfl) dX1_init_60 (fun q8 c8 H hK hP hD hS => ?_)
  have f1 : s.vm.findClass ("[" ++ FieldType.int.toString) = some cI := (hK.2 0 _ rfl).2
  have f2 : s.vm.findClass ("[" ++ FieldType.int.toString) = some c8 := (hK.2 2 _ rfl).2
  have f3 : c8 = cI := Option.some.inj (f2.symm.trans f1)
  rw [f3] at hP hD
  have hK := hK.sub (tys' := [(cI, .int), (cZ, .boolean)]) [0, 1] rfl
  have hP : va_P (dC, dI) vwCl [(h0, .inr (0, [.ref q1, .ref q2, .ref q3, .ref q4, .ref q5, .ref q6, .ref q7, .null, .null, .int (iI 0), .int (iI 0)])), (q1, .inl (cI, 7, .inl (iN (fun _ => 0)))), (q2, .inl (cI, 7, .inl (iN (fun _ => 0)))), (q3, .inl (cI, 7, .inl (iF (fun _ => 0)))), (q4, .inl (cI, 7, .inl (iF (fun _ => 0)))), (q5, .inl (cI, 7, .inl (iF (fun _ => 0)))), (q6, .inl (cZ, 5, .inl (iF (fun _ => 0)))), (q7, .inl (cI, 5, .inl (iF (fun _ => 0)))), (q8, .inl (cI, 5, .inl (iF (fun _ => 0))))] H := hP
  have hD : va_D AA [(h0, .inr (0, [.ref q1, .ref q2, .ref q3, .ref q4, .ref q5, .ref q6, .ref q7, .null, .null, .int (iI 0), .int (iI 0)])), (q1, .inl (cI, 7, .inl (iN (fun _ => 0)))), (q2, .inl (cI, 7, .inl (iN (fun _ => 0)))), (q3, .inl (cI, 7, .inl (iF (fun _ => 0)))), (q4, .inl (cI, 7, .inl (iF (fun _ => 0)))), (q5, .inl (cI, 7, .inl (iF (fun _ => 0)))), (q6, .inl (cZ, 5, .inl (iF (fun _ => 0)))), (q7, .inl (cI, 5, .inl (iF (fun _ => 0)))), (q8, .inl (cI, 5, .inl (iF (fun _ => 0))))] := hD
  have hK : va_K (dC, dI) vwCl [(cI, .int), (cZ, .boolean)] s := hK
  refine W.widen (k := 8) (n := 50) (Nat.le_of_ble_eq_true rfl) (Nat.le_of_ble_eq_true rfl) ?_
  refine va_putF (D := (dC, dI)) (ci := 0) (v := .ref q8) (ty := .array .int) (C := RX1) (T := TX1) (N := 11) hx hb hts in_X1 tyX1 tyX1_ok nmX1 hown hK hP hD hS 0 rfl rfl 7 (by decide) (hts _ q40) (fun _ h9 => h9) rfl hin rfl (by decide +kernel) rfl rfl (Nat.le_of_ble_eq_true rfl) dX1_init_62 (fun H locs hP hD hS => ?_)
  have hP : va_P (dC, dI) vwCl [(h0, .inr (0, [.ref q1, .ref q2, .ref q3, .ref q4, .ref q5, .ref q6, .ref q7, .ref q8, .null, .int (iI 0), .int (iI 0)])), (q1, .inl (cI, 7, .inl (iN (fun _ => 0)))), (q2, .inl (cI, 7, .inl (iN (fun _ => 0)))), (q3, .inl (cI, 7, .inl (iF (fun _ => 0)))), (q4, .inl (cI, 7, .inl (iF (fun _ => 0)))), (q5, .inl (cI, 7, .inl (iF (fun _ => 0)))), (q6, .inl (cZ, 5, .inl (iF (fun _ => 0)))), (q7, .inl (cI, 5, .inl (iF (fun _ => 0)))), (q8, .inl (cI, 5, .inl (iF (fun _ => 0))))] H := hP
  have hD : va_D AA [(h0, .inr (0, [.ref q1, .ref q2, .ref q3, .ref q4, .ref q5, .ref q6, .ref q7, .ref q8, .null, .int (iI 0), .int (iI 0)])), (q1, .inl (cI, 7, .inl (iN (fun _ => 0)))), (q2, .inl (cI, 7, .inl (iN (fun _ => 0)))), (q3, .inl (cI, 7, .inl (iF (fun _ => 0)))), (q4, .inl (cI, 7, .inl (iF (fun _ => 0)))), (q5, .inl (cI, 7, .inl (iF (fun _ => 0)))), (q6, .inl (cZ, 5, .inl (iF (fun _ => 0)))), (q7, .inl (cI, 5, .inl (iF (fun _ => 0)))), (q8, .inl (cI, 5, .inl (iF (fun _ => 0))))] := hD
  refine lv_aload_n hx hb dX1_init_65 rfl (lv_at hl 0 rfl) ?_
  refine ob_bi hx hb dX1_init_66 (by decide) ?_
  refine va_newa (atype := .int) (ty := .int) (N' := 7) (a0 := (7, .inl (iF (fun _ => 0)))) hx hb (hts _ q67) rfl hK hP hD hS hA (fun _ => rfl) (by decide) (by decide) (by decide) (Nat.le_of_ble_eq_true rfl) (Nat.le_of_ble_eq_true rfl) dX1_init_68 (fun q9 c9 H hK hP hD hS => ?_)
  have f1 : s.vm.findClass ("[" ++ FieldType.int.toString) = some cI := (hK.2 0 _ rfl).2
  have f2 : s.vm.findClass ("[" ++ FieldType.int.toString) = some c9 := (hK.2 2 _ rfl).2
  have f3 : c9 = cI := Option.some.inj (f2.symm.trans f1)
  rw [f3] at hP hD
  have hK := hK.sub (tys' := [(cI, .int), (cZ, .boolean)]) [0, 1] rfl
  have hP : va_P (dC, dI) vwCl [(h0, .inr (0, [.ref q1, .ref q2, .ref q3, .ref q4, .ref q5, .ref q6, .ref q7, .ref q8, .null, .int (iI 0), .int (iI 0)])), (q1, .inl (cI, 7, .inl (iN (fun _ => 0)))), (q2, .inl (cI, 7, .inl (iN (fun _ => 0)))), (q3, .inl (cI, 7, .inl (iF (fun _ => 0)))), (q4, .inl (cI, 7, .inl (iF (fun _ => 0)))), (q5, .inl (cI, 7, .inl (iF (fun _ => 0)))), (q6, .inl (cZ, 5, .inl (iF (fun _ => 0)))), (q7, .inl (cI, 5, .inl (iF (fun _ => 0)))), (q8, .inl (cI, 5, .inl (iF (fun _ => 0)))), (q9, .inl (cI, 7, .inl (iF (fun _ => 0))))] H := hP
  have hD : va_D AA [(h0, .inr (0, [.ref q1, .ref q2, .ref q3, .ref q4, .ref q5, .ref q6, .ref q7, .ref q8, .null, .int (iI 0), .int (iI 0)])), (q1, .inl (cI, 7, .inl (iN (fun _ => 0)))), (q2, .inl (cI, 7, .inl (iN (fun _ => 0)))), (q3, .inl (cI, 7, .inl (iF (fun _ => 0)))), (q4, .inl (cI, 7, .inl (iF (fun _ => 0)))), (q5, .inl (cI, 7, .inl (iF (fun _ => 0)))), (q6, .inl (cZ, 5, .inl (iF (fun _ => 0)))), (q7, .inl (cI, 5, .inl (iF (fun _ => 0)))), (q8, .inl (cI, 5, .inl (iF (fun _ => 0)))), (q9, .inl (cI, 7, .inl (iF (fun _ => 0))))] := hD
  have hK : va_K (dC, dI) vwCl [(cI, .int), (cZ, .boolean)] s := hK
  refine W.widen (k := 9) (n := 57) (Nat.le_of_ble_eq_true rfl) (Nat.le_of_ble_eq_true rfl) ?_
  refine va_putF (D := (dC, dI)) (ci := 0) (v := .ref q9) (ty := .array .int) (C := RX1) (T := TX1) (N := 11) hx hb hts in_X1 tyX1 tyX1_ok nmX1 hown hK hP hD hS 0 rfl rfl 8 (by decide) (hts _ q41) (fun _ h9 => h9) rfl hin rfl (by decide +kernel) rfl rfl (Nat.le_of_ble_eq_true rfl) dX1_init_70 (fun H locs hP hD hS => ?_)
  have hP : va_P (dC, dI) vwCl [(h0, .inr (0, [.ref q1, .ref q2, .ref q3, .ref q4, .ref q5, .ref q6, .ref q7, .ref q8, .ref q9, .int (iI 0), .int (iI 0)])), (q1, .inl (cI, 7, .inl (iN (fun _ => 0)))), (q2, .inl (cI, 7, .inl (iN (fun _ => 0)))), (q3, .inl (cI, 7, .inl (iF (fun _ => 0)))), (q4, .inl (cI, 7, .inl (iF (fun _ => 0)))), (q5, .inl (cI, 7, .inl (iF (fun _ => 0)))), (q6, .inl (cZ, 5, .inl (iF (fun _ => 0)))), (q7, .inl (cI, 5, .inl (iF (fun _ => 0)))), (q8, .inl (cI, 5, .inl (iF (fun _ => 0)))), (q9, .inl (cI, 7, .inl (iF (fun _ => 0))))] H := hP
  have hD : va_D AA [(h0, .inr (0, [.ref q1, .ref q2, .ref q3, .ref q4, .ref q5, .ref q6, .ref q7, .ref q8, .ref q9, .int (iI 0), .int (iI 0)])), (q1, .inl (cI, 7, .inl (iN (fun _ => 0)))), (q2, .inl (cI, 7, .inl (iN (fun _ => 0)))), (q3, .inl (cI, 7, .inl (iF (fun _ => 0)))), (q4, .inl (cI, 7, .inl (iF (fun _ => 0)))), (q5, .inl (cI, 7, .inl (iF (fun _ => 0)))), (q6, .inl (cZ, 5, .inl (iF (fun _ => 0)))), (q7, .inl (cI, 5, .inl (iF (fun _ => 0)))), (q8, .inl (cI, 5, .inl (iF (fun _ => 0)))), (q9, .inl (cI, 7, .inl (iF (fun _ => 0))))] := hD
  refine lv_aload_n hx hb dX1_init_73 rfl (lv_at hl 0 rfl) ?_
  refine lv_iload_n hx hb dX1_init_74 rfl (lv_at hl 1 rfl) ?_
  refine ob_ic hx hb dX1_init_75 ?_
  refine ob_icmp_ge (tgt := 83) hx hb dX1_init_76 (by decide) hz (by omega) (fun h76 => ?_) (fun h76 => ?_)
  · refine lv_iload_n hx hb dX1_init_83 rfl (lv_at hl 1 rfl) ?_
    refine va_put (D := (dC, dI)) (ci := 0) (v := .int (iI z)) (ty := .int) (C := RX1) (T := TX1) (N := 11) hx hb hts in_X1 tyX1 tyX1_ok nmX1 hown hK hP hD hS 0 rfl rfl 9 (by decide) (hts _ q42) (fun _ h9 => h9) rfl (by decide +kernel) rfl rfl (Nat.le_of_ble_eq_true rfl) dX1_init_84 (fun H locs hP hD hS => ?_)
    have hP : va_P (dC, dI) vwCl [(h0, .inr (0, [.ref q1, .ref q2, .ref q3, .ref q4, .ref q5, .ref q6, .ref q7, .ref q8, .ref q9, .int (iI z), .int (iI 0)])), (q1, .inl (cI, 7, .inl (iN (fun _ => 0)))), (q2, .inl (cI, 7, .inl (iN (fun _ => 0)))), (q3, .inl (cI, 7, .inl (iF (fun _ => 0)))), (q4, .inl (cI, 7, .inl (iF (fun _ => 0)))), (q5, .inl (cI, 7, .inl (iF (fun _ => 0)))), (q6, .inl (cZ, 5, .inl (iF (fun _ => 0)))), (q7, .inl (cI, 5, .inl (iF (fun _ => 0)))), (q8, .inl (cI, 5, .inl (iF (fun _ => 0)))), (q9, .inl (cI, 7, .inl (iF (fun _ => 0))))] H := hP
    have hD : va_D AA [(h0, .inr (0, [.ref q1, .ref q2, .ref q3, .ref q4, .ref q5, .ref q6, .ref q7, .ref q8, .ref q9, .int (iI z), .int (iI 0)])), (q1, .inl (cI, 7, .inl (iN (fun _ => 0)))), (q2, .inl (cI, 7, .inl (iN (fun _ => 0)))), (q3, .inl (cI, 7, .inl (iF (fun _ => 0)))), (q4, .inl (cI, 7, .inl (iF (fun _ => 0)))), (q5, .inl (cI, 7, .inl (iF (fun _ => 0)))), (q6, .inl (cZ, 5, .inl (iF (fun _ => 0)))), (q7, .inl (cI, 5, .inl (iF (fun _ => 0)))), (q8, .inl (cI, 5, .inl (iF (fun _ => 0)))), (q9, .inl (cI, 7, .inl (iF (fun _ => 0))))] := hD
    refine lv_aload_n hx hb dX1_init_87 rfl (lv_at hl 0 rfl) ?_
    refine va_get (D := (dC, dI)) (ci := 0) (v := .int (iI z)) (C := RX1) (T := TX1) (N := 11) hx hb hts in_X1 hown hK hP 0 rfl rfl 9 (by decide) (hts _ q42) (fun _ h9 => h9) rfl dX1_init_88 ?_
    refine ob_ic hx hb dX1_init_91 ?_
    refine ob_icmp_le (tgt := 100) hx hb dX1_init_92 (by decide) (by omega) (by omega) (fun h92 => ?_) (fun h92 => ?_)
    · have en : (z : Int) = ((nCl z : Nat) : Int) := by unfold nCl; (repeat' split) <;> omega
      rw [show iI z = iI ((nCl z : Nat) : Int) by rw [← en]] at hP hD
      have hP : va_P (dC, dI) vwCl [(h0, .inr (0, [.ref q1, .ref q2, .ref q3, .ref q4, .ref q5, .ref q6, .ref q7, .ref q8, .ref q9, .int (iI ((nCl z : Nat) : Int)), .int (iI 0)])), (q1, .inl (cI, 7, .inl (iN (fun _ => 0)))), (q2, .inl (cI, 7, .inl (iN (fun _ => 0)))), (q3, .inl (cI, 7, .inl (iF (fun _ => 0)))), (q4, .inl (cI, 7, .inl (iF (fun _ => 0)))), (q5, .inl (cI, 7, .inl (iF (fun _ => 0)))), (q6, .inl (cZ, 5, .inl (iF (fun _ => 0)))), (q7, .inl (cI, 5, .inl (iF (fun _ => 0)))), (q8, .inl (cI, 5, .inl (iF (fun _ => 0)))), (q9, .inl (cI, 7, .inl (iF (fun _ => 0))))] H := hP
      have hD : va_D AA [(h0, .inr (0, [.ref q1, .ref q2, .ref q3, .ref q4, .ref q5, .ref q6, .ref q7, .ref q8, .ref q9, .int (iI ((nCl z : Nat) : Int)), .int (iI 0)])), (q1, .inl (cI, 7, .inl (iN (fun _ => 0)))), (q2, .inl (cI, 7, .inl (iN (fun _ => 0)))), (q3, .inl (cI, 7, .inl (iF (fun _ => 0)))), (q4, .inl (cI, 7, .inl (iF (fun _ => 0)))), (q5, .inl (cI, 7, .inl (iF (fun _ => 0)))), (q6, .inl (cZ, 5, .inl (iF (fun _ => 0)))), (q7, .inl (cI, 5, .inl (iF (fun _ => 0)))), (q8, .inl (cI, 5, .inl (iF (fun _ => 0)))), (q9, .inl (cI, 7, .inl (iF (fun _ => 0))))] := hD
      have hP9 := hP.sub (ws' := wN (fun k => match k with | 0 => h0 | 1 => q1 | 2 => q2 | 3 => q3 | 4 => q4 | 5 => q6 | 6 => q7 | 7 => q8 | 8 => q9 | _ => q5) cI cZ (nCl z) 0 (fun _ => 0) (fun _ => 0) (fun _ => 0) (fun _ => 0) (fun _ => 0) (fun _ => 0) (fun _ => 0) (fun _ => 0)) [0, 1, 2, 3, 4, 6, 7, 8, 9] rfl
      have hD9 := hD.sub (ws' := wN (fun k => match k with | 0 => h0 | 1 => q1 | 2 => q2 | 3 => q3 | 4 => q4 | 5 => q6 | 6 => q7 | 7 => q8 | 8 => q9 | _ => q5) cI cZ (nCl z) 0 (fun _ => 0) (fun _ => 0) (fun _ => 0) (fun _ => 0) (fun _ => 0) (fun _ => 0) (fun _ => 0) (fun _ => 0)) [0, 1, 2, 3, 4, 6, 7, 8, 9] (by decide) rfl
      have hK9 := hK.sub (tys' := [(cI, .int), (cZ, .boolean)]) [0, 1] rfl
      exact W.vret hx hb hr (fun t ht hWm => ⟨⟨((fun k => match k with | 0 => h0 | 1 => q1 | 2 => q2 | 3 => q3 | 4 => q4 | 5 => q6 | 6 => q7 | 7 => q8 | 8 => q9 | _ => q5), cI, cZ), rfl, rfl, by rw [ht]; exact hP9, va_K.moved hWm.alike hK9, hD9⟩, hS.F ht⟩) hS.2.2 dX1_init_100
    · refine lv_aload_n hx hb dX1_init_95 rfl (lv_at hl 0 rfl) ?_
      refine ob_ic hx hb dX1_init_96 ?_
      refine ob_top ((nCl z : Nat) : Int) (by unfold nCl; (repeat' split) <;> omega) ?_
      refine va_put (D := (dC, dI)) (ci := 0) (v := .int (iI ((nCl z : Nat) : Int))) (ty := .int) (C := RX1) (T := TX1) (N := 11) hx hb hts in_X1 tyX1 tyX1_ok nmX1 hown hK hP hD hS 0 rfl rfl 9 (by decide) (hts _ q42) (fun _ h9 => h9) rfl (by decide +kernel) rfl rfl (Nat.le_of_ble_eq_true rfl) dX1_init_97 (fun H locs hP hD hS => ?_)
      have hP : va_P (dC, dI) vwCl [(h0, .inr (0, [.ref q1, .ref q2, .ref q3, .ref q4, .ref q5, .ref q6, .ref q7, .ref q8, .ref q9, .int (iI ((nCl z : Nat) : Int)), .int (iI 0)])), (q1, .inl (cI, 7, .inl (iN (fun _ => 0)))), (q2, .inl (cI, 7, .inl (iN (fun _ => 0)))), (q3, .inl (cI, 7, .inl (iF (fun _ => 0)))), (q4, .inl (cI, 7, .inl (iF (fun _ => 0)))), (q5, .inl (cI, 7, .inl (iF (fun _ => 0)))), (q6, .inl (cZ, 5, .inl (iF (fun _ => 0)))), (q7, .inl (cI, 5, .inl (iF (fun _ => 0)))), (q8, .inl (cI, 5, .inl (iF (fun _ => 0)))), (q9, .inl (cI, 7, .inl (iF (fun _ => 0))))] H := hP
      have hD : va_D AA [(h0, .inr (0, [.ref q1, .ref q2, .ref q3, .ref q4, .ref q5, .ref q6, .ref q7, .ref q8, .ref q9, .int (iI ((nCl z : Nat) : Int)), .int (iI 0)])), (q1, .inl (cI, 7, .inl (iN (fun _ => 0)))), (q2, .inl (cI, 7, .inl (iN (fun _ => 0)))), (q3, .inl (cI, 7, .inl (iF (fun _ => 0)))), (q4, .inl (cI, 7, .inl (iF (fun _ => 0)))), (q5, .inl (cI, 7, .inl (iF (fun _ => 0)))), (q6, .inl (cZ, 5, .inl (iF (fun _ => 0)))), (q7, .inl (cI, 5, .inl (iF (fun _ => 0)))), (q8, .inl (cI, 5, .inl (iF (fun _ => 0)))), (q9, .inl (cI, 7, .inl (iF (fun _ => 0))))] := hD
      have hP9 := hP.sub (ws' := wN (fun k => match k with | 0 => h0 | 1 => q1 | 2 => q2 | 3 => q3 | 4 => q4 | 5 => q6 | 6 => q7 | 7 => q8 | 8 => q9 | _ => q5) cI cZ (nCl z) 0 (fun _ => 0) (fun _ => 0) (fun _ => 0) (fun _ => 0) (fun _ => 0) (fun _ => 0) (fun _ => 0) (fun _ => 0)) [0, 1, 2, 3, 4, 6, 7, 8, 9] rfl
      have hD9 := hD.sub (ws' := wN (fun k => match k with | 0 => h0 | 1 => q1 | 2 => q2 | 3 => q3 | 4 => q4 | 5 => q6 | 6 => q7 | 7 => q8 | 8 => q9 | _ => q5) cI cZ (nCl z) 0 (fun _ => 0) (fun _ => 0) (fun _ => 0) (fun _ => 0) (fun _ => 0) (fun _ => 0) (fun _ => 0) (fun _ => 0)) [0, 1, 2, 3, 4, 6, 7, 8, 9] (by decide) rfl
      have hK9 := hK.sub (tys' := [(cI, .int), (cZ, .boolean)]) [0, 1] rfl
      exact W.vret hx hb hr (fun t ht hWm => ⟨⟨((fun k => match k with | 0 => h0 | 1 => q1 | 2 => q2 | 3 => q3 | 4 => q4 | 5 => q6 | 6 => q7 | 7 => q8 | 8 => q9 | _ => q5), cI, cZ), rfl, rfl, by rw [ht]; exact hP9, va_K.moved hWm.alike hK9, hD9⟩, hS.F ht⟩) hS.2.2 dX1_init_100
  · refine ob_ic hx hb dX1_init_79 ?_
    refine lv_goto (tgt := 84) hx hb dX1_init_80 (by decide) ?_
    refine va_put (D := (dC, dI)) (ci := 0) (v := .int (iI 2)) (ty := .int) (C := RX1) (T := TX1) (N := 11) hx hb hts in_X1 tyX1 tyX1_ok nmX1 hown hK hP hD hS 0 rfl rfl 9 (by decide) (hts _ q42) (fun _ h9 => h9) rfl (by decide +kernel) rfl rfl (Nat.le_of_ble_eq_true rfl) dX1_init_84 (fun H locs hP hD hS => ?_)
    have hP : va_P (dC, dI) vwCl [(h0, .inr (0, [.ref q1, .ref q2, .ref q3, .ref q4, .ref q5, .ref q6, .ref q7, .ref q8, .ref q9, .int (iI 2), .int (iI 0)])), (q1, .inl (cI, 7, .inl (iN (fun _ => 0)))), (q2, .inl (cI, 7, .inl (iN (fun _ => 0)))), (q3, .inl (cI, 7, .inl (iF (fun _ => 0)))), (q4, .inl (cI, 7, .inl (iF (fun _ => 0)))), (q5, .inl (cI, 7, .inl (iF (fun _ => 0)))), (q6, .inl (cZ, 5, .inl (iF (fun _ => 0)))), (q7, .inl (cI, 5, .inl (iF (fun _ => 0)))), (q8, .inl (cI, 5, .inl (iF (fun _ => 0)))), (q9, .inl (cI, 7, .inl (iF (fun _ => 0))))] H := hP
    have hD : va_D AA [(h0, .inr (0, [.ref q1, .ref q2, .ref q3, .ref q4, .ref q5, .ref q6, .ref q7, .ref q8, .ref q9, .int (iI 2), .int (iI 0)])), (q1, .inl (cI, 7, .inl (iN (fun _ => 0)))), (q2, .inl (cI, 7, .inl (iN (fun _ => 0)))), (q3, .inl (cI, 7, .inl (iF (fun _ => 0)))), (q4, .inl (cI, 7, .inl (iF (fun _ => 0)))), (q5, .inl (cI, 7, .inl (iF (fun _ => 0)))), (q6, .inl (cZ, 5, .inl (iF (fun _ => 0)))), (q7, .inl (cI, 5, .inl (iF (fun _ => 0)))), (q8, .inl (cI, 5, .inl (iF (fun _ => 0)))), (q9, .inl (cI, 7, .inl (iF (fun _ => 0))))] := hD
    refine lv_aload_n hx hb dX1_init_87 rfl (lv_at hl 0 rfl) ?_
    refine va_get (D := (dC, dI)) (ci := 0) (v := .int (iI 2)) (C := RX1) (T := TX1) (N := 11) hx hb hts in_X1 hown hK hP 0 rfl rfl 9 (by decide) (hts _ q42) (fun _ h9 => h9) rfl dX1_init_88 ?_
    refine ob_ic hx hb dX1_init_91 ?_
    refine ob_icmp_le (tgt := 100) hx hb dX1_init_92 (by decide) (by omega) (by omega) (fun h92 => ?_) (fun h92 => ?_)
    · have en : (2 : Int) = ((nCl z : Nat) : Int) := by unfold nCl; (repeat' split) <;> omega
      rw [show iI 2 = iI ((nCl z : Nat) : Int) by rw [← en]] at hP hD
      have hP : va_P (dC, dI) vwCl [(h0, .inr (0, [.ref q1, .ref q2, .ref q3, .ref q4, .ref q5, .ref q6, .ref q7, .ref q8, .ref q9, .int (iI ((nCl z : Nat) : Int)), .int (iI 0)])), (q1, .inl (cI, 7, .inl (iN (fun _ => 0)))), (q2, .inl (cI, 7, .inl (iN (fun _ => 0)))), (q3, .inl (cI, 7, .inl (iF (fun _ => 0)))), (q4, .inl (cI, 7, .inl (iF (fun _ => 0)))), (q5, .inl (cI, 7, .inl (iF (fun _ => 0)))), (q6, .inl (cZ, 5, .inl (iF (fun _ => 0)))), (q7, .inl (cI, 5, .inl (iF (fun _ => 0)))), (q8, .inl (cI, 5, .inl (iF (fun _ => 0)))), (q9, .inl (cI, 7, .inl (iF (fun _ => 0))))] H := hP
      have hD : va_D AA [(h0, .inr (0, [.ref q1, .ref q2, .ref q3, .ref q4, .ref q5, .ref q6, .ref q7, .ref q8, .ref q9, .int (iI ((nCl z : Nat) : Int)), .int (iI 0)])), (q1, .inl (cI, 7, .inl (iN (fun _ => 0)))), (q2, .inl (cI, 7, .inl (iN (fun _ => 0)))), (q3, .inl (cI, 7, .inl (iF (fun _ => 0)))), (q4, .inl (cI, 7, .inl (iF (fun _ => 0)))), (q5, .inl (cI, 7, .inl (iF (fun _ => 0)))), (q6, .inl (cZ, 5, .inl (iF (fun _ => 0)))), (q7, .inl (cI, 5, .inl (iF (fun _ => 0)))), (q8, .inl (cI, 5, .inl (iF (fun _ => 0)))), (q9, .inl (cI, 7, .inl (iF (fun _ => 0))))] := hD
      have hP9 := hP.sub (ws' := wN (fun k => match k with | 0 => h0 | 1 => q1 | 2 => q2 | 3 => q3 | 4 => q4 | 5 => q6 | 6 => q7 | 7 => q8 | 8 => q9 | _ => q5) cI cZ (nCl z) 0 (fun _ => 0) (fun _ => 0) (fun _ => 0) (fun _ => 0) (fun _ => 0) (fun _ => 0) (fun _ => 0) (fun _ => 0)) [0, 1, 2, 3, 4, 6, 7, 8, 9] rfl
      have hD9 := hD.sub (ws' := wN (fun k => match k with | 0 => h0 | 1 => q1 | 2 => q2 | 3 => q3 | 4 => q4 | 5 => q6 | 6 => q7 | 7 => q8 | 8 => q9 | _ => q5) cI cZ (nCl z) 0 (fun _ => 0) (fun _ => 0) (fun _ => 0) (fun _ => 0) (fun _ => 0) (fun _ => 0) (fun _ => 0) (fun _ => 0)) [0, 1, 2, 3, 4, 6, 7, 8, 9] (by decide) rfl
      have hK9 := hK.sub (tys' := [(cI, .int), (cZ, .boolean)]) [0, 1] rfl
      exact W.vret hx hb hr (fun t ht hWm => ⟨⟨((fun k => match k with | 0 => h0 | 1 => q1 | 2 => q2 | 3 => q3 | 4 => q4 | 5 => q6 | 6 => q7 | 7 => q8 | 8 => q9 | _ => q5), cI, cZ), rfl, rfl, by rw [ht]; exact hP9, va_K.moved hWm.alike hK9, hD9⟩, hS.F ht⟩) hS.2.2 dX1_init_100
    · refine lv_aload_n hx hb dX1_init_95 rfl (lv_at hl 0 rfl) ?_
      refine ob_ic hx hb dX1_init_96 ?_
      refine ob_top ((nCl z : Nat) : Int) (by unfold nCl; (repeat' split) <;> omega) ?_
      refine va_put (D := (dC, dI)) (ci := 0) (v := .int (iI ((nCl z : Nat) : Int))) (ty := .int) (C := RX1) (T := TX1) (N := 11) hx hb hts in_X1 tyX1 tyX1_ok nmX1 hown hK hP hD hS 0 rfl rfl 9 (by decide) (hts _ q42) (fun _ h9 => h9) rfl (by decide +kernel) rfl rfl (Nat.le_of_ble_eq_true rfl) dX1_init_97 (fun H locs hP hD hS => ?_)
      have hP : va_P (dC, dI) vwCl [(h0, .inr (0, [.ref q1, .ref q2, .ref q3, .ref q4, .ref q5, .ref q6, .ref q7, .ref q8, .ref q9, .int (iI ((nCl z : Nat) : Int)), .int (iI 0)])), (q1, .inl (cI, 7, .inl (iN (fun _ => 0)))), (q2, .inl (cI, 7, .inl (iN (fun _ => 0)))), (q3, .inl (cI, 7, .inl (iF (fun _ => 0)))), (q4, .inl (cI, 7, .inl (iF (fun _ => 0)))), (q5, .inl (cI, 7, .inl (iF (fun _ => 0)))), (q6, .inl (cZ, 5, .inl (iF (fun _ => 0)))), (q7, .inl (cI, 5, .inl (iF (fun _ => 0)))), (q8, .inl (cI, 5, .inl (iF (fun _ => 0)))), (q9, .inl (cI, 7, .inl (iF (fun _ => 0))))] H := hP
      have hD : va_D AA [(h0, .inr (0, [.ref q1, .ref q2, .ref q3, .ref q4, .ref q5, .ref q6, .ref q7, .ref q8, .ref q9, .int (iI ((nCl z : Nat) : Int)), .int (iI 0)])), (q1, .inl (cI, 7, .inl (iN (fun _ => 0)))), (q2, .inl (cI, 7, .inl (iN (fun _ => 0)))), (q3, .inl (cI, 7, .inl (iF (fun _ => 0)))), (q4, .inl (cI, 7, .inl (iF (fun _ => 0)))), (q5, .inl (cI, 7, .inl (iF (fun _ => 0)))), (q6, .inl (cZ, 5, .inl (iF (fun _ => 0)))), (q7, .inl (cI, 5, .inl (iF (fun _ => 0)))), (q8, .inl (cI, 5, .inl (iF (fun _ => 0)))), (q9, .inl (cI, 7, .inl (iF (fun _ => 0))))] := hD
      have hP9 := hP.sub (ws' := wN (fun k => match k with | 0 => h0 | 1 => q1 | 2 => q2 | 3 => q3 | 4 => q4 | 5 => q6 | 6 => q7 | 7 => q8 | 8 => q9 | _ => q5) cI cZ (nCl z) 0 (fun _ => 0) (fun _ => 0) (fun _ => 0) (fun _ => 0) (fun _ => 0) (fun _ => 0) (fun _ => 0) (fun _ => 0)) [0, 1, 2, 3, 4, 6, 7, 8, 9] rfl
      have hD9 := hD.sub (ws' := wN (fun k => match k with | 0 => h0 | 1 => q1 | 2 => q2 | 3 => q3 | 4 => q4 | 5 => q6 | 6 => q7 | 7 => q8 | 8 => q9 | _ => q5) cI cZ (nCl z) 0 (fun _ => 0) (fun _ => 0) (fun _ => 0) (fun _ => 0) (fun _ => 0) (fun _ => 0) (fun _ => 0) (fun _ => 0)) [0, 1, 2, 3, 4, 6, 7, 8, 9] (by decide) rfl
      have hK9 := hK.sub (tys' := [(cI, .int), (cZ, .boolean)]) [0, 1] rfl
      exact W.vret hx hb hr (fun t ht hWm => ⟨⟨((fun k => match k with | 0 => h0 | 1 => q1 | 2 => q2 | 3 => q3 | 4 => q4 | 5 => q6 | 6 => q7 | 7 => q8 | 8 => q9 | _ => q5), cI, cZ), rfl, rfl, by rw [ht]; exact hP9, va_K.moved hWm.alike hK9, hD9⟩, hS.F ht⟩) hS.2.2 dX1_init_100
set_option maxHeartbeats 8000000 in
set_option maxRecDepth 100000 in
theorem metM_init (l : Launch) (dC : Nat → ClassId) (dI : Nat → Nat → Nat) (h0 sz : Nat) (z : Int) (hz : -2147483648 ≤ z ∧ z < 2147483648) : Met l yX2_init (ws_ yX2_init cX2_init 2 none) ({ frames := 1, cells := 5, slots := 31, locals := 12 }) (obW (dC, dI) vwCl [(h0, .inr (1, [.int (iI 0), .int (iI 0), .null, .null, .null, .null, .null]))] [] sz [.ref h0, .int (iI z)]) (va_Qv (fun u : (Nat → Nat) × ClassId × ClassId => u.1 0 = h0) (fun (u : (Nat → Nat) × ClassId × ClassId) t => va_P (dC, dI) vwCl (wM u.1 u.2.1 u.2.2 (nCl z) 0 (fun _ => 0) (fun _ => 0) (fun _ => 0) (fun _ => 0) (fun _ => 0)) t.heap ∧ va_K (dC, dI) vwCl [(u.2.1, .int), (u.2.2, .boolean)] t ∧ va_D (va_A [(h0, .inr (1, [.int (iI 0), .int (iI 0), .null, .null, .null, .null, .null]))] sz) (wM u.1 u.2.1 u.2.2 (nCl z) 0 (fun _ => 0) (fun _ => 0) (fun _ => 0) (fun _ => 0) (fun _ => 0))) (va_A [(h0, .inr (1, [.int (iI 0), .int (iI 0), .null, .null, .null, .null, .null]))] sz)) 5 31 (va_A [(h0, .inr (1, [.int (iI 0), .int (iI 0), .null, .null, .null, .null, .null]))] sz) := by
  refine Met.ofW (cc := cX2_init) (maxL := 2) (ret := none) (by decide) rfl ?_
  intro p e s m args below meth cd s₁ B hml hv
  obtain ⟨rfl, hsz, hP, hK, hD0⟩ := hv
  have hx := B.exec
  have hb := B.bytes
  have hr := B.returns
  have hts := atoms_spec (ws := (ws_ yX2_init cX2_init 2 none)) B.pre
  have hts : ∀ w ∈ lw_all, w.before _ s = true := fun w h => hts w (List.mem_cons_of_mem _ h)
  have hown : s.vm.findClass RX2 = some m.cls := findClass_of_methodNamed B.named
  have hlocks := B.notSynchronized
  have hin : meth.name = "<init>" := (name_of_methodNamed B.named B.method).1
  subst hsz
  have hD := hD0.self (sz := s.heap.size)
  generalize hAe : va_A [(h0, .inr (1, [.int (iI 0), .int (iI 0), .null, .null, .null, .null, .null]))] s.heap.size = AA at hD ⊢
  have hA : ∀ q : Nat, s.heap.size ≤ q → AA q := fun q h => by rw [← hAe]; exact Or.inr h
  have hS : va_S AA s.heap s.heap [] := va_S.rf
  have hl := lv_entry ([.ref h0, .int (iI z)]) (n := 2) (Nat.le_of_ble_eq_true rfl)
  rw [lg_entry_eq]
  generalize (lg_sl ([.ref h0, .int (iI z)]) ++ List.replicate (2 - (lg_sl ([.ref h0, .int (iI z)])).length) Slot.unset).toArray = ls at hl ⊢
  have hl : lv_has ls 2 [(0, .ref h0), (1, .int (iI z))] := hl
  refine lv_aload_n hx hb dX2_init_0 rfl (lv_at hl 0 rfl) ?_
  refine W.objInit hx hb hown (hts _ q203) (hts _ q31) (hts _ q32) rfl (by rw [hml]; exact hl.1) rfl dX2_init_1 (Nat.le_of_ble_eq_true rfl) (Nat.le_of_ble_eq_true rfl) ?_
  refine W.eq (g2 := F0 m 4 ls []) rfl ?_
  refine lv_aload_n hx hb dX2_init_4 rfl (lv_at hl 0 rfl) ?_
  refine ob_bi hx hb dX2_init_5 (by decide) ?_
  refine va_newa (atype := .int) (ty := .int) (N' := 7) (a0 := (7, .inl (iN (fun _ => 0)))) hx hb (hts _ q67) rfl hK hP hD hS hA (fun _ => rfl) (by decide) (by decide) (by decide) (Nat.le_of_ble_eq_true rfl) (Nat.le_of_ble_eq_true rfl) dX2_init_7 (fun q1 cI H hK hP hD hS => ?_)
  have hP : va_P (dC, dI) vwCl [(h0, .inr (1, [.int (iI 0), .int (iI 0), .null, .null, .null, .null, .null])), (q1, .inl (cI, 7, .inl (iN (fun _ => 0))))] H := hP
  have hD : va_D AA [(h0, .inr (1, [.int (iI 0), .int (iI 0), .null, .null, .null, .null, .null])), (q1, .inl (cI, 7, .inl (iN (fun _ => 0))))] := hD
  have hK : va_K (dC, dI) vwCl [(cI, .int)] s := hK
  refine W.widen (k := 1) (n := 7) (Nat.le_of_ble_eq_true rfl) (Nat.le_of_ble_eq_true rfl) ?_
  refine va_put (D := (dC, dI)) (ci := 1) (v := .ref q1) (ty := .array .int) (C := RX2) (T := TX2) (N := 7) hx hb hts in_X2 tyX2 tyX2_ok nmX2 hown hK hP hD hS 0 rfl rfl 2 (by decide) (hts _ q206) (fun _ h9 => h9) rfl (by decide +kernel) rfl rfl (Nat.le_of_ble_eq_true rfl) dX2_init_9 (fun H locs hP hD hS => ?_)
  have hP : va_P (dC, dI) vwCl [(h0, .inr (1, [.int (iI 0), .int (iI 0), .ref q1, .null, .null, .null, .null])), (q1, .inl (cI, 7, .inl (iN (fun _ => 0))))] H := hP
  have hD : va_D AA [(h0, .inr (1, [.int (iI 0), .int (iI 0), .ref q1, .null, .null, .null, .null])), (q1, .inl (cI, 7, .inl (iN (fun _ => 0))))] := hD
  refine lv_aload_n hx hb dX2_init_12 rfl (lv_at hl 0 rfl) ?_
  refine ob_bi hx hb dX2_init_13 (by decide) ?_
  refine va_newa (atype := .int) (ty := .int) (N' := 7) (a0 := (7, .inl (iN (fun _ => 0)))) hx hb (hts _ q67) rfl hK hP hD hS hA (fun _ => rfl) (by decide) (by decide) (by decide) (Nat.le_of_ble_eq_true rfl) (Nat.le_of_ble_eq_true rfl) dX2_init_15 (fun q2 c2 H hK hP hD hS => ?_)
  have f1 : s.vm.findClass ("[" ++ FieldType.int.toString) = some cI := (hK.2 0 _ rfl).2
  have f2 : s.vm.findClass ("[" ++ FieldType.int.toString) = some c2 := (hK.2 1 _ rfl).2
  have f3 : c2 = cI := Option.some.inj (f2.symm.trans f1)
  rw [f3] at hP hD
  have hK := hK.sub (tys' := [(cI, .int)]) [0] rfl
  have hP : va_P (dC, dI) vwCl [(h0, .inr (1, [.int (iI 0), .int (iI 0), .ref q1, .null, .null, .null, .null])), (q1, .inl (cI, 7, .inl (iN (fun _ => 0)))), (q2, .inl (cI, 7, .inl (iN (fun _ => 0))))] H := hP
  have hD : va_D AA [(h0, .inr (1, [.int (iI 0), .int (iI 0), .ref q1, .null, .null, .null, .null])), (q1, .inl (cI, 7, .inl (iN (fun _ => 0)))), (q2, .inl (cI, 7, .inl (iN (fun _ => 0))))] := hD
  have hK : va_K (dC, dI) vwCl [(cI, .int)] s := hK
  refine W.widen (k := 2) (n := 14) (Nat.le_of_ble_eq_true rfl) (Nat.le_of_ble_eq_true rfl) ?_
  refine va_put (D := (dC, dI)) (ci := 1) (v := .ref q2) (ty := .array .int) (C := RX2) (T := TX2) (N := 7) hx hb hts in_X2 tyX2 tyX2_ok nmX2 hown hK hP hD hS 0 rfl rfl 3 (by decide) (hts _ q207) (fun _ h9 => h9) rfl (by decide +kernel) rfl rfl (Nat.le_of_ble_eq_true rfl) dX2_init_17 (fun H locs hP hD hS => ?_)
  have hP : va_P (dC, dI) vwCl [(h0, .inr (1, [.int (iI 0), .int (iI 0), .ref q1, .ref q2, .null, .null, .null])), (q1, .inl (cI, 7, .inl (iN (fun _ => 0)))), (q2, .inl (cI, 7, .inl (iN (fun _ => 0))))] H := hP
  have hD : va_D AA [(h0, .inr (1, [.int (iI 0), .int (iI 0), .ref q1, .ref q2, .null, .null, .null])), (q1, .inl (cI, 7, .inl (iN (fun _ => 0)))), (q2, .inl (cI, 7, .inl (iN (fun _ => 0))))] := hD
  refine lv_aload_n hx hb dX2_init_20 rfl (lv_at hl 0 rfl) ?_
  refine ob_bi hx hb dX2_init_21 (by decide) ?_
  refine va_newa (atype := .int) (ty := .int) (N' := 7) (a0 := (7, .inl (iF (fun _ => 0)))) hx hb (hts _ q67) rfl hK hP hD hS hA (fun _ => rfl) (by decide) (by decide) (by decide) (Nat.le_of_ble_eq_true rfl) (Nat.le_of_ble_eq_true rfl) dX2_init_23 (fun q3 c3 H hK hP hD hS => ?_)
  have f1 : s.vm.findClass ("[" ++ FieldType.int.toString) = some cI := (hK.2 0 _ rfl).2
  have f2 : s.vm.findClass ("[" ++ FieldType.int.toString) = some c3 := (hK.2 1 _ rfl).2
  have f3 : c3 = cI := Option.some.inj (f2.symm.trans f1)
  rw [f3] at hP hD
  have hK := hK.sub (tys' := [(cI, .int)]) [0] rfl
  have hP : va_P (dC, dI) vwCl [(h0, .inr (1, [.int (iI 0), .int (iI 0), .ref q1, .ref q2, .null, .null, .null])), (q1, .inl (cI, 7, .inl (iN (fun _ => 0)))), (q2, .inl (cI, 7, .inl (iN (fun _ => 0)))), (q3, .inl (cI, 7, .inl (iF (fun _ => 0))))] H := hP
  have hD : va_D AA [(h0, .inr (1, [.int (iI 0), .int (iI 0), .ref q1, .ref q2, .null, .null, .null])), (q1, .inl (cI, 7, .inl (iN (fun _ => 0)))), (q2, .inl (cI, 7, .inl (iN (fun _ => 0)))), (q3, .inl (cI, 7, .inl (iF (fun _ => 0))))] := hD
  have hK : va_K (dC, dI) vwCl [(cI, .int)] s := hK
  refine W.widen (k := 3) (n := 21) (Nat.le_of_ble_eq_true rfl) (Nat.le_of_ble_eq_true rfl) ?_
  refine va_put (D := (dC, dI)) (ci := 1) (v := .ref q3) (ty := .array .int) (C := RX2) (T := TX2) (N := 7) hx hb hts in_X2 tyX2 tyX2_ok nmX2 hown hK hP hD hS 0 rfl rfl 4 (by decide) (hts _ q208) (fun _ h9 => h9) rfl (by decide +kernel) rfl rfl (Nat.le_of_ble_eq_true rfl) dX2_init_25 (fun H locs hP hD hS => ?_)
  have hP : va_P (dC, dI) vwCl [(h0, .inr (1, [.int (iI 0), .int (iI 0), .ref q1, .ref q2, .ref q3, .null, .null])), (q1, .inl (cI, 7, .inl (iN (fun _ => 0)))), (q2, .inl (cI, 7, .inl (iN (fun _ => 0)))), (q3, .inl (cI, 7, .inl (iF (fun _ => 0))))] H := hP
  have hD : va_D AA [(h0, .inr (1, [.int (iI 0), .int (iI 0), .ref q1, .ref q2, .ref q3, .null, .null])), (q1, .inl (cI, 7, .inl (iN (fun _ => 0)))), (q2, .inl (cI, 7, .inl (iN (fun _ => 0)))), (q3, .inl (cI, 7, .inl (iF (fun _ => 0))))] := hD
  refine lv_aload_n hx hb dX2_init_28 rfl (lv_at hl 0 rfl) ?_
  refine ob_ic hx hb dX2_init_29 ?_
  refine va_newa (atype := .boolean) (ty := .boolean) (N' := 5) (a0 := (5, .inl (iF (fun _ => 0)))) hx hb (hts _ q68) rfl hK hP hD hS hA (fun _ => rfl) (by decide) (by decide) (by decide) (Nat.le_of_ble_eq_true rfl) (Nat.le_of_ble_eq_true rfl) dX2_init_30 (fun q4 cZ H hK hP hD hS => ?_)
  have hP : va_P (dC, dI) vwCl [(h0, .inr (1, [.int (iI 0), .int (iI 0), .ref q1, .ref q2, .ref q3, .null, .null])), (q1, .inl (cI, 7, .inl (iN (fun _ => 0)))), (q2, .inl (cI, 7, .inl (iN (fun _ => 0)))), (q3, .inl (cI, 7, .inl (iF (fun _ => 0)))), (q4, .inl (cZ, 5, .inl (iF (fun _ => 0))))] H := hP
  have hD : va_D AA [(h0, .inr (1, [.int (iI 0), .int (iI 0), .ref q1, .ref q2, .ref q3, .null, .null])), (q1, .inl (cI, 7, .inl (iN (fun _ => 0)))), (q2, .inl (cI, 7, .inl (iN (fun _ => 0)))), (q3, .inl (cI, 7, .inl (iF (fun _ => 0)))), (q4, .inl (cZ, 5, .inl (iF (fun _ => 0))))] := hD
  have hK : va_K (dC, dI) vwCl [(cI, .int), (cZ, .boolean)] s := hK
  refine W.widen (k := 4) (n := 26) (Nat.le_of_ble_eq_true rfl) (Nat.le_of_ble_eq_true rfl) ?_
  refine va_put (D := (dC, dI)) (ci := 1) (v := .ref q4) (ty := .array .boolean) (C := RX2) (T := TX2) (N := 7) hx hb hts in_X2 tyX2 tyX2_ok nmX2 hown hK hP hD hS 0 rfl rfl 5 (by decide) (hts _ q209) (fun _ h9 => h9) rfl (by decide +kernel) rfl rfl (Nat.le_of_ble_eq_true rfl) dX2_init_32 (fun H locs hP hD hS => ?_)
  have hP : va_P (dC, dI) vwCl [(h0, .inr (1, [.int (iI 0), .int (iI 0), .ref q1, .ref q2, .ref q3, .ref q4, .null])), (q1, .inl (cI, 7, .inl (iN (fun _ => 0)))), (q2, .inl (cI, 7, .inl (iN (fun _ => 0)))), (q3, .inl (cI, 7, .inl (iF (fun _ => 0)))), (q4, .inl (cZ, 5, .inl (iF (fun _ => 0))))] H := hP
  have hD : va_D AA [(h0, .inr (1, [.int (iI 0), .int (iI 0), .ref q1, .ref q2, .ref q3, .ref q4, .null])), (q1, .inl (cI, 7, .inl (iN (fun _ => 0)))), (q2, .inl (cI, 7, .inl (iN (fun _ => 0)))), (q3, .inl (cI, 7, .inl (iF (fun _ => 0)))), (q4, .inl (cZ, 5, .inl (iF (fun _ => 0))))] := hD
  refine lv_aload_n hx hb dX2_init_35 rfl (lv_at hl 0 rfl) ?_
  refine ob_ic hx hb dX2_init_36 ?_
  refine va_newa (atype := .int) (ty := .int) (N' := 5) (a0 := (5, .inl (iF (fun _ => 0)))) hx hb (hts _ q67) rfl hK hP hD hS hA (fun _ => rfl) (by decide) (by decide) (by decide) (Nat.le_of_ble_eq_true rfl) (Nat.le_of_ble_eq_true rfl) dX2_init_37 (fun q5 c5 H hK hP hD hS => ?_)
  have f1 : s.vm.findClass ("[" ++ FieldType.int.toString) = some cI := (hK.2 0 _ rfl).2
  have f2 : s.vm.findClass ("[" ++ FieldType.int.toString) = some c5 := (hK.2 2 _ rfl).2
  have f3 : c5 = cI := Option.some.inj (f2.symm.trans f1)
  rw [f3] at hP hD
  have hK := hK.sub (tys' := [(cI, .int), (cZ, .boolean)]) [0, 1] rfl
  have hP : va_P (dC, dI) vwCl [(h0, .inr (1, [.int (iI 0), .int (iI 0), .ref q1, .ref q2, .ref q3, .ref q4, .null])), (q1, .inl (cI, 7, .inl (iN (fun _ => 0)))), (q2, .inl (cI, 7, .inl (iN (fun _ => 0)))), (q3, .inl (cI, 7, .inl (iF (fun _ => 0)))), (q4, .inl (cZ, 5, .inl (iF (fun _ => 0)))), (q5, .inl (cI, 5, .inl (iF (fun _ => 0))))] H := hP
  have hD : va_D AA [(h0, .inr (1, [.int (iI 0), .int (iI 0), .ref q1, .ref q2, .ref q3, .ref q4, .null])), (q1, .inl (cI, 7, .inl (iN (fun _ => 0)))), (q2, .inl (cI, 7, .inl (iN (fun _ => 0)))), (q3, .inl (cI, 7, .inl (iF (fun _ => 0)))), (q4, .inl (cZ, 5, .inl (iF (fun _ => 0)))), (q5, .inl (cI, 5, .inl (iF (fun _ => 0))))] := hD
  have hK : va_K (dC, dI) vwCl [(cI, .int), (cZ, .boolean)] s := hK
  refine W.widen (k := 5) (n := 31) (Nat.le_of_ble_eq_true rfl) (Nat.le_of_ble_eq_true rfl) ?_
  refine va_put (D := (dC, dI)) (ci := 1) (v := .ref q5) (ty := .array .int) (C := RX2) (T := TX2) (N := 7) hx hb hts in_X2 tyX2 tyX2_ok nmX2 hown hK hP hD hS 0 rfl rfl 6 (by decide) (hts _ q210) (fun _ h9 => h9) rfl (by decide +kernel) rfl rfl (Nat.le_of_ble_eq_true rfl) dX2_init_39 (fun H locs hP hD hS => ?_)
  have hP : va_P (dC, dI) vwCl [(h0, .inr (1, [.int (iI 0), .int (iI 0), .ref q1, .ref q2, .ref q3, .ref q4, .ref q5])), (q1, .inl (cI, 7, .inl (iN (fun _ => 0)))), (q2, .inl (cI, 7, .inl (iN (fun _ => 0)))), (q3, .inl (cI, 7, .inl (iF (fun _ => 0)))), (q4, .inl (cZ, 5, .inl (iF (fun _ => 0)))), (q5, .inl (cI, 5, .inl (iF (fun _ => 0))))] H := hP
  have hD : va_D AA [(h0, .inr (1, [.int (iI 0), .int (iI 0), .ref q1, .ref q2, .ref q3, .ref q4, .ref q5])), (q1, .inl (cI, 7, .inl (iN (fun _ => 0)))), (q2, .inl (cI, 7, .inl (iN (fun _ => 0)))), (q3, .inl (cI, 7, .inl (iF (fun _ => 0)))), (q4, .inl (cZ, 5, .inl (iF (fun _ => 0)))), (q5, .inl (cI, 5, .inl (iF (fun _ => 0))))] := hD
  refine lv_aload_n hx hb dX2_init_42 rfl (lv_at hl 0 rfl) ?_
  refine lv_iload_n hx hb dX2_init_43 rfl (lv_at hl 1 rfl) ?_
  refine ob_ic hx hb dX2_init_44 ?_
  refine ob_icmp_ge (tgt := 52) hx hb dX2_init_45 (by decide) hz (by omega) (fun h45 => ?_) (fun h45 => ?_)
  · refine lv_iload_n hx hb dX2_init_52 rfl (lv_at hl 1 rfl) ?_
    refine ob_ic hx hb dX2_init_53 ?_
    refine ob_icmp_le (tgt := 61) hx hb dX2_init_54 (by decide) hz (by omega) (fun h54 => ?_) (fun h54 => ?_)
    · refine lv_iload_n hx hb dX2_init_61 rfl (lv_at hl 1 rfl) ?_
      refine ob_top ((nCl z : Nat) : Int) (by unfold nCl; (repeat' split) <;> omega) ?_
      refine va_put (D := (dC, dI)) (ci := 1) (v := .int (iI ((nCl z : Nat) : Int))) (ty := .int) (C := RX2) (T := TX2) (N := 7) hx hb hts in_X2 tyX2 tyX2_ok nmX2 hown hK hP hD hS 0 rfl rfl 0 (by decide) (hts _ q204) (fun _ h9 => h9) rfl (by decide +kernel) rfl rfl (Nat.le_of_ble_eq_true rfl) dX2_init_62 (fun H locs hP hD hS => ?_)
      have hP : va_P (dC, dI) vwCl [(h0, .inr (1, [.int (iI ((nCl z : Nat) : Int)), .int (iI 0), .ref q1, .ref q2, .ref q3, .ref q4, .ref q5])), (q1, .inl (cI, 7, .inl (iN (fun _ => 0)))), (q2, .inl (cI, 7, .inl (iN (fun _ => 0)))), (q3, .inl (cI, 7, .inl (iF (fun _ => 0)))), (q4, .inl (cZ, 5, .inl (iF (fun _ => 0)))), (q5, .inl (cI, 5, .inl (iF (fun _ => 0))))] H := hP
      have hD : va_D AA [(h0, .inr (1, [.int (iI ((nCl z : Nat) : Int)), .int (iI 0), .ref q1, .ref q2, .ref q3, .ref q4, .ref q5])), (q1, .inl (cI, 7, .inl (iN (fun _ => 0)))), (q2, .inl (cI, 7, .inl (iN (fun _ => 0)))), (q3, .inl (cI, 7, .inl (iF (fun _ => 0)))), (q4, .inl (cZ, 5, .inl (iF (fun _ => 0)))), (q5, .inl (cI, 5, .inl (iF (fun _ => 0))))] := hD
      have hP9 := hP.sub (ws' := wM (fun k => match k with | 0 => h0 | 1 => q1 | 2 => q2 | 3 => q3 | 4 => q4 | _ => q5) cI cZ (nCl z) 0 (fun _ => 0) (fun _ => 0) (fun _ => 0) (fun _ => 0) (fun _ => 0)) [0, 1, 2, 3, 4, 5] rfl
      have hD9 := hD.sub (ws' := wM (fun k => match k with | 0 => h0 | 1 => q1 | 2 => q2 | 3 => q3 | 4 => q4 | _ => q5) cI cZ (nCl z) 0 (fun _ => 0) (fun _ => 0) (fun _ => 0) (fun _ => 0) (fun _ => 0)) [0, 1, 2, 3, 4, 5] (by decide) rfl
      have hK9 := hK.sub (tys' := [(cI, .int), (cZ, .boolean)]) [0, 1] rfl
      exact W.vret hx hb hr (fun t ht hWm => ⟨⟨((fun k => match k with | 0 => h0 | 1 => q1 | 2 => q2 | 3 => q3 | 4 => q4 | _ => q5), cI, cZ), rfl, rfl, by rw [ht]; exact hP9, va_K.moved hWm.alike hK9, hD9⟩, hS.F ht⟩) hS.2.2 dX2_init_65
    · refine ob_ic hx hb dX2_init_57 ?_
      refine lv_goto (tgt := 62) hx hb dX2_init_58 (by decide) ?_
      refine ob_top ((nCl z : Nat) : Int) (by unfold nCl; (repeat' split) <;> omega) ?_
      refine va_put (D := (dC, dI)) (ci := 1) (v := .int (iI ((nCl z : Nat) : Int))) (ty := .int) (C := RX2) (T := TX2) (N := 7) hx hb hts in_X2 tyX2 tyX2_ok nmX2 hown hK hP hD hS 0 rfl rfl 0 (by decide) (hts _ q204) (fun _ h9 => h9) rfl (by decide +kernel) rfl rfl (Nat.le_of_ble_eq_true rfl) dX2_init_62 (fun H locs hP hD hS => ?_)
      have hP : va_P (dC, dI) vwCl [(h0, .inr (1, [.int (iI ((nCl z : Nat) : Int)), .int (iI 0), .ref q1, .ref q2, .ref q3, .ref q4, .ref q5])), (q1, .inl (cI, 7, .inl (iN (fun _ => 0)))), (q2, .inl (cI, 7, .inl (iN (fun _ => 0)))), (q3, .inl (cI, 7, .inl (iF (fun _ => 0)))), (q4, .inl (cZ, 5, .inl (iF (fun _ => 0)))), (q5, .inl (cI, 5, .inl (iF (fun _ => 0))))] H := hP
      have hD : va_D AA [(h0, .inr (1, [.int (iI ((nCl z : Nat) : Int)), .int (iI 0), .ref q1, .ref q2, .ref q3, .ref q4, .ref q5])), (q1, .inl (cI, 7, .inl (iN (fun _ => 0)))), (q2, .inl (cI, 7, .inl (iN (fun _ => 0)))), (q3, .inl (cI, 7, .inl (iF (fun _ => 0)))), (q4, .inl (cZ, 5, .inl (iF (fun _ => 0)))), (q5, .inl (cI, 5, .inl (iF (fun _ => 0))))] := hD
      have hP9 := hP.sub (ws' := wM (fun k => match k with | 0 => h0 | 1 => q1 | 2 => q2 | 3 => q3 | 4 => q4 | _ => q5) cI cZ (nCl z) 0 (fun _ => 0) (fun _ => 0) (fun _ => 0) (fun _ => 0) (fun _ => 0)) [0, 1, 2, 3, 4, 5] rfl
      have hD9 := hD.sub (ws' := wM (fun k => match k with | 0 => h0 | 1 => q1 | 2 => q2 | 3 => q3 | 4 => q4 | _ => q5) cI cZ (nCl z) 0 (fun _ => 0) (fun _ => 0) (fun _ => 0) (fun _ => 0) (fun _ => 0)) [0, 1, 2, 3, 4, 5] (by decide) rfl
      have hK9 := hK.sub (tys' := [(cI, .int), (cZ, .boolean)]) [0, 1] rfl
      exact W.vret hx hb hr (fun t ht hWm => ⟨⟨((fun k => match k with | 0 => h0 | 1 => q1 | 2 => q2 | 3 => q3 | 4 => q4 | _ => q5), cI, cZ), rfl, rfl, by rw [ht]; exact hP9, va_K.moved hWm.alike hK9, hD9⟩, hS.F ht⟩) hS.2.2 dX2_init_65
  · refine ob_ic hx hb dX2_init_48 ?_
    refine lv_goto (tgt := 62) hx hb dX2_init_49 (by decide) ?_
    refine ob_top ((nCl z : Nat) : Int) (by unfold nCl; (repeat' split) <;> omega) ?_
    refine va_put (D := (dC, dI)) (ci := 1) (v := .int (iI ((nCl z : Nat) : Int))) (ty := .int) (C := RX2) (T := TX2) (N := 7) hx hb hts in_X2 tyX2 tyX2_ok nmX2 hown hK hP hD hS 0 rfl rfl 0 (by decide) (hts _ q204) (fun _ h9 => h9) rfl (by decide +kernel) rfl rfl (Nat.le_of_ble_eq_true rfl) dX2_init_62 (fun H locs hP hD hS => ?_)
    have hP : va_P (dC, dI) vwCl [(h0, .inr (1, [.int (iI ((nCl z : Nat) : Int)), .int (iI 0), .ref q1, .ref q2, .ref q3, .ref q4, .ref q5])), (q1, .inl (cI, 7, .inl (iN (fun _ => 0)))), (q2, .inl (cI, 7, .inl (iN (fun _ => 0)))), (q3, .inl (cI, 7, .inl (iF (fun _ => 0)))), (q4, .inl (cZ, 5, .inl (iF (fun _ => 0)))), (q5, .inl (cI, 5, .inl (iF (fun _ => 0))))] H := hP
    have hD : va_D AA [(h0, .inr (1, [.int (iI ((nCl z : Nat) : Int)), .int (iI 0), .ref q1, .ref q2, .ref q3, .ref q4, .ref q5])), (q1, .inl (cI, 7, .inl (iN (fun _ => 0)))), (q2, .inl (cI, 7, .inl (iN (fun _ => 0)))), (q3, .inl (cI, 7, .inl (iF (fun _ => 0)))), (q4, .inl (cZ, 5, .inl (iF (fun _ => 0)))), (q5, .inl (cI, 5, .inl (iF (fun _ => 0))))] := hD
    have hP9 := hP.sub (ws' := wM (fun k => match k with | 0 => h0 | 1 => q1 | 2 => q2 | 3 => q3 | 4 => q4 | _ => q5) cI cZ (nCl z) 0 (fun _ => 0) (fun _ => 0) (fun _ => 0) (fun _ => 0) (fun _ => 0)) [0, 1, 2, 3, 4, 5] rfl
    have hD9 := hD.sub (ws' := wM (fun k => match k with | 0 => h0 | 1 => q1 | 2 => q2 | 3 => q3 | 4 => q4 | _ => q5) cI cZ (nCl z) 0 (fun _ => 0) (fun _ => 0) (fun _ => 0) (fun _ => 0) (fun _ => 0)) [0, 1, 2, 3, 4, 5] (by decide) rfl
    have hK9 := hK.sub (tys' := [(cI, .int), (cZ, .boolean)]) [0, 1] rfl
    exact W.vret hx hb hr (fun t ht hWm => ⟨⟨((fun k => match k with | 0 => h0 | 1 => q1 | 2 => q2 | 3 => q3 | 4 => q4 | _ => q5), cI, cZ), rfl, rfl, by rw [ht]; exact hP9, va_K.moved hWm.alike hK9, hD9⟩, hS.F ht⟩) hS.2.2 dX2_init_65
end
section
/-! BOTH CLASSES: the same answer, the same state behind it -/
def Same (n : Nat) (r1 r2 : Int32) (u1 : sN) (u2 : sM) : Prop := r1 = r2 ∧ u1.1 = u2.1 ∧ u1.2.1 = u2.2.1 ∧ u1.2.2.1 = u2.2.2.1 ∧ u1.2.2.2.1 = u2.2.2.2.1 ∧ u1.2.2.2.2.1 = u2.2.2.2.2.1 ∧ WF n u1.1 u1.2.1 u1.2.2.1 u1.2.2.2.1 u1.2.2.2.2.1
theorem same_owe {n c : Nat} {D C : Nat → Nat} {A O S Ln Ar Rd Nt : Nat → Int} {z1 z2 z3 : Int} {r1 r2 : Int32} {u1 : sN} {u2 : sM} (hW : WF n c D C A O) (h1 : (fun r u => r = iI (oweR n c z1 z2 z3) ∧ ((oweK n c z1 z2 z3 ∧ u = (c + 1, va_up D c z1.toNat, va_up C c z2.toNat, va_up A c z3, O, S, Ln, Ar, Rd)) ∨ (¬ oweK n c z1 z2 z3 ∧ u = (c, D, C, A, O, S, Ln, Ar, Rd)))) r1 u1) (h2 : (fun r u => r = iI (oweR n c z1 z2 z3) ∧ ((oweK n c z1 z2 z3 ∧ u = (c + 1, va_up D c z1.toNat, va_up C c z2.toNat, va_up A c z3, O, Nt)) ∨ (¬ oweK n c z1 z2 z3 ∧ u = (c, D, C, A, O, Nt)))) r2 u2) : Same n r1 r2 u1 u2 := by
  obtain ⟨rfl, h1⟩ := h1
  obtain ⟨rfl, h2⟩ := h2
  rcases h1 with ⟨k1, rfl⟩ | ⟨k1, rfl⟩ <;> rcases h2 with ⟨k2, rfl⟩ | ⟨k2, rfl⟩
  · exact ⟨rfl, rfl, rfl, rfl, rfl, rfl, hW.owe k1⟩
  · exact absurd k1 k2
  · exact absurd k2 k1
  · exact ⟨rfl, rfl, rfl, rfl, rfl, rfl, hW⟩
theorem same_change {n c : Nat} {D C : Nat → Nat} {A O S Ln Ar Rd Nt : Nat → Int} {z1 z2 : Int} {r1 r2 : Int32} {u1 : sN} {u2 : sM} (hW : WF n c D C A O) (h1 : (fun r u => r = iI (chaR c A z1 z2) ∧ ((chaK c z1 z2 ∧ u = (c, D, C, va_up A z1.toNat z2, O, S, Ln, Ar, Rd)) ∨ (¬ chaK c z1 z2 ∧ u = (c, D, C, A, O, S, Ln, Ar, Rd)))) r1 u1) (h2 : (fun r u => r = iI (chaR c A z1 z2) ∧ ((chaK c z1 z2 ∧ u = (c, D, C, va_up A z1.toNat z2, O, Nt)) ∨ (¬ chaK c z1 z2 ∧ u = (c, D, C, A, O, Nt)))) r2 u2) : Same n r1 r2 u1 u2 := by
  obtain ⟨rfl, h1⟩ := h1
  obtain ⟨rfl, h2⟩ := h2
  rcases h1 with ⟨k1, rfl⟩ | ⟨k1, rfl⟩ <;> rcases h2 with ⟨k2, rfl⟩ | ⟨k2, rfl⟩
  · exact ⟨rfl, rfl, rfl, rfl, rfl, rfl, hW.cha k1⟩
  · exact absurd k1 k2
  · exact absurd k2 k1
  · exact ⟨rfl, rfl, rfl, rfl, rfl, rfl, hW⟩
theorem same_pay {n c : Nat} {D C : Nat → Nat} {A O S Ln Ar Rd Nt : Nat → Int} {z : Int} {r1 r2 : Int32} {u1 : sN} {u2 : sM} (hW : WF n c D C A O) (h1 : (fun r u => r = iI (if (0 ≤ z ∧ z < (c : Int)) then (c : Int) - 1 else -1) ∧ (((0 ≤ z ∧ z < (c : Int)) ∧ u = (c - 1, sh D z.toNat c, sh C z.toNat c, sh A z.toNat c, O, S, Ln, Ar, Rd)) ∨ (¬ (0 ≤ z ∧ z < (c : Int)) ∧ u = (c, D, C, A, O, S, Ln, Ar, Rd)))) r1 u1) (h2 : (fun r u => r = iI (if (0 ≤ z ∧ z < (c : Int)) then (c : Int) - 1 else -1) ∧ (((0 ≤ z ∧ z < (c : Int)) ∧ u = (c - 1, sh D z.toNat c, sh C z.toNat c, sh A z.toNat c, O, Nt)) ∨ (¬ (0 ≤ z ∧ z < (c : Int)) ∧ u = (c, D, C, A, O, Nt)))) r2 u2) : Same n r1 r2 u1 u2 := by
  obtain ⟨rfl, h1⟩ := h1
  obtain ⟨rfl, h2⟩ := h2
  rcases h1 with ⟨k1, rfl⟩ | ⟨k1, rfl⟩ <;> rcases h2 with ⟨k2, rfl⟩ | ⟨k2, rfl⟩
  · exact ⟨rfl, rfl, rfl, rfl, rfl, rfl, hW.pay _⟩
  · exact absurd k1 k2
  · exact absurd k2 k1
  · exact ⟨rfl, rfl, rfl, rfl, rfl, rfl, hW⟩
theorem same_exclude {n c : Nat} {D C : Nat → Nat} {A O S Ln Ar Rd Nt : Nat → Int} {z1 z2 : Int} {r1 r2 : Int32} {u1 : sN} {u2 : sM} (hW : WF n c D C A O) (h1 : (fun r u => r = iI (if (0 ≤ z1 ∧ z1 < (n : Int)) then O z1.toNat else -1) ∧ (((0 ≤ z1 ∧ z1 < (n : Int)) ∧ u = (c, D, C, A, va_up O z1.toNat (if z2 = 0 then 0 else 1), S, Ln, Ar, Rd)) ∨ (¬ (0 ≤ z1 ∧ z1 < (n : Int)) ∧ u = (c, D, C, A, O, S, Ln, Ar, Rd)))) r1 u1) (h2 : (fun r u => r = iI (if (0 ≤ z1 ∧ z1 < (n : Int)) then O z1.toNat else -1) ∧ (((0 ≤ z1 ∧ z1 < (n : Int)) ∧ u = (c, D, C, A, va_up O z1.toNat (if z2 = 0 then 0 else 1), Nt)) ∨ (¬ (0 ≤ z1 ∧ z1 < (n : Int)) ∧ u = (c, D, C, A, O, Nt)))) r2 u2) : Same n r1 r2 u1 u2 := by
  obtain ⟨rfl, h1⟩ := h1
  obtain ⟨rfl, h2⟩ := h2
  rcases h1 with ⟨k1, rfl⟩ | ⟨k1, rfl⟩ <;> rcases h2 with ⟨k2, rfl⟩ | ⟨k2, rfl⟩
  · exact ⟨rfl, rfl, rfl, rfl, rfl, rfl, hW.out _ (by split <;> simp)⟩
  · exact absurd k1 k2
  · exact absurd k2 k1
  · exact ⟨rfl, rfl, rfl, rfl, rfl, rfl, hW⟩
theorem same_clear {n c : Nat} {D C : Nat → Nat} {A O S Ln Ar Rd Nt : Nat → Int} {r1 r2 : Int32} {u1 : sN} {u2 : sM} (hW : WF n c D C A O) (h1 : (fun r u => ∃ x S2 Ln2 Ar2, Opt n c D C (rm D C A O) (gnA c (-1)) x ∧ r = iI (sZ x c) ∧ u = (c, D, C, sbt A x c, O, S2, Ln2, Ar2, Rd)) r1 u1) (h2 : (fun r u => ∃ x Nt2, Opt n c D C (rm D C A O) (gnA c (-1)) x ∧ r = iI (sZ x c) ∧ u = (c, D, C, sbt A x c, O, Nt2)) r2 u2) : Same n r1 r2 u1 u2 := by
  obtain ⟨x, S2, Ln2, Ar2, o1, rfl, rfl⟩ := h1
  obtain ⟨y, Nt2, o2, rfl, rfl⟩ := h2
  have e := Opt.uniq (by decide) hW.2.2.1 (fun d hd => (hW.rm d hd).2) o1 o2
  exact ⟨congrArg iI (sZ_congr c e), rfl, rfl, rfl, sbt_congr e, rfl, wf_sbt hW o1.1⟩
theorem same_carryOut {n c : Nat} {D C : Nat → Nat} {A O S Ln Ar Rd Nt : Nat → Int} {z : Int} {r1 r2 : Int32} {u1 : sN} {u2 : sM} (hW : WF n c D C A O) (h1 : (fun r u => ∃ Rd2, (CC n c D C (rm D C A O) z ∧ r = iI (sZ (dgZ c z.toNat) c) ∧ u = (c, D, C, sbt A (dgZ c z.toNat) c, O, S, Ln, Ar, Rd2)) ∨ (¬ CC n c D C (rm D C A O) z ∧ r = iI (-1) ∧ u = (c, D, C, A, O, S, Ln, Ar, Rd2))) r1 u1) (h2 : (fun r u => ∃ Nt2, (CC n c D C (rm D C A O) z ∧ r = iI (sZ (dgZ c z.toNat) c) ∧ u = (c, D, C, sbt A (dgZ c z.toNat) c, O, Nt2)) ∨ (¬ CC n c D C (rm D C A O) z ∧ r = iI (-1) ∧ u = (c, D, C, A, O, Nt2))) r2 u2) : Same n r1 r2 u1 u2 := by
  obtain ⟨Rd2, h1⟩ := h1
  obtain ⟨Nt2, h2⟩ := h2
  rcases h1 with ⟨k1, rfl, rfl⟩ | ⟨k1, rfl, rfl⟩ <;> rcases h2 with ⟨k2, rfl, rfl⟩ | ⟨k2, rfl, rfl⟩
  · exact ⟨rfl, rfl, rfl, rfl, rfl, rfl, wf_sbt hW k1.2.2⟩
  · exact absurd k1 k2
  · exact absurd k2 k1
  · exact ⟨rfl, rfl, rfl, rfl, rfl, rfl, hW⟩
theorem same_best {n c : Nat} {D C : Nat → Nat} {A O S Ln Ar Rd Nt : Nat → Int} {r1 r2 : Int32} {u1 : sN} {u2 : sM} (hW : WF n c D C A O) (h1 : (fun r u => ∃ x S2 Ln2 Ar2, Opt n c D C (rm D C A O) (gnA c (-1)) x ∧ r = iI (sZ x c) ∧ u = (c, D, C, A, O, S2, Ln2, Ar2, Rd)) r1 u1) (h2 : (fun r u => ∃ x Nt2, Opt n c D C (rm D C A O) (gnA c (-1)) x ∧ r = iI (sZ x c) ∧ u = (c, D, C, A, O, Nt2)) r2 u2) : Same n r1 r2 u1 u2 := by
  obtain ⟨x, S2, Ln2, Ar2, o1, rfl, rfl⟩ := h1
  obtain ⟨y, Nt2, o2, rfl, rfl⟩ := h2
  have e := Opt.uniq (by decide) hW.2.2.1 (fun d hd => (hW.rm d hd).2) o1 o2
  exact ⟨congrArg iI (sZ_congr c e), rfl, rfl, rfl, rfl, rfl, hW⟩
theorem same_bestCode {n c : Nat} {D C : Nat → Nat} {A O S Ln Ar Rd Nt : Nat → Int} {r1 r2 : Int32} {u1 : sN} {u2 : sM} (hW : WF n c D C A O) (h1 : (fun r u => ∃ x S2 Ln2 Ar2, Opt n c D C (rm D C A O) (gnA c (-1)) x ∧ r = iI (cdZ x c) ∧ u = (c, D, C, A, O, S2, Ln2, Ar2, Rd)) r1 u1) (h2 : (fun r u => ∃ x Nt2, Opt n c D C (rm D C A O) (gnA c (-1)) x ∧ r = iI (cdZ x c) ∧ u = (c, D, C, A, O, Nt2)) r2 u2) : Same n r1 r2 u1 u2 := by
  obtain ⟨x, S2, Ln2, Ar2, o1, rfl, rfl⟩ := h1
  obtain ⟨y, Nt2, o2, rfl, rfl⟩ := h2
  have e := Opt.uniq (by decide) hW.2.2.1 (fun d hd => (hW.rm d hd).2) o1 o2
  exact ⟨congrArg iI (cdZ_congr c e), rfl, rfl, rfl, rfl, rfl, hW⟩
theorem same_isClearing {n c : Nat} {D C : Nat → Nat} {A O S Ln Ar Rd Nt : Nat → Int} {z : Int} {r1 r2 : Int32} {u1 : sN} {u2 : sM} (hW : WF n c D C A O) (h1 : (fun r u => ∃ Rd2, u = (c, D, C, A, O, S, Ln, Ar, Rd2) ∧ ((CC n c D C (rm D C A O) z ∧ r = iI 1) ∨ (¬ CC n c D C (rm D C A O) z ∧ r = iI 0))) r1 u1) (h2 : (fun r u => ∃ Nt2, u = (c, D, C, A, O, Nt2) ∧ ((CC n c D C (rm D C A O) z ∧ r = iI 1) ∨ (¬ CC n c D C (rm D C A O) z ∧ r = iI 0))) r2 u2) : Same n r1 r2 u1 u2 := by
  obtain ⟨Rd2, rfl, h1⟩ := h1
  obtain ⟨Nt2, rfl, h2⟩ := h2
  rcases h1 with ⟨k1, rfl⟩ | ⟨k1, rfl⟩ <;> rcases h2 with ⟨k2, rfl⟩ | ⟨k2, rfl⟩
  · exact ⟨rfl, rfl, rfl, rfl, rfl, rfl, hW⟩
  · exact absurd k1 k2
  · exact absurd k2 k1
  · exact ⟨rfl, rfl, rfl, rfl, rfl, rfl, hW⟩
theorem same_weight {n c : Nat} {D C : Nat → Nat} {A O S Ln Ar Rd Nt : Nat → Int} {z : Int} {r1 r2 : Int32} {u1 : sN} {u2 : sM} (hW : WF n c D C A O) (h1 : (fun r u => ∃ S2 Ln2 Ar2, u = (c, D, C, A, O, S2, Ln2, Ar2, Rd) ∧ (((0 ≤ z ∧ z < (n : Int)) ∧ ∃ x y, Opt n c D C (rm D C A O) (gnA c (-1)) x ∧ Opt n c D C (rm D C A (va_up O z.toNat 1)) (gnA c (-1)) y ∧ r = iI (sZ x c - sZ y c)) ∨ (¬ (0 ≤ z ∧ z < (n : Int)) ∧ r = iI (-1)))) r1 u1) (h2 : (fun r u => ∃ Nt2, u = (c, D, C, A, O, Nt2) ∧ (((0 ≤ z ∧ z < (n : Int)) ∧ ∃ x y, Opt n c D C (rm D C A O) (gnA c (-1)) x ∧ Opt n c D C (rm D C A (va_up O z.toNat 1)) (gnA c (-1)) y ∧ r = iI (sZ x c - sZ y c)) ∨ (¬ (0 ≤ z ∧ z < (n : Int)) ∧ r = iI (-1)))) r2 u2) : Same n r1 r2 u1 u2 := by
  obtain ⟨S2, Ln2, Ar2, rfl, h1⟩ := h1
  obtain ⟨Nt2, rfl, h2⟩ := h2
  have hW2 := hW.out z.toNat (v := 1) (Or.inr rfl)
  rcases h1 with ⟨k1, x1, y1, o1, p1, rfl⟩ | ⟨k1, rfl⟩ <;> rcases h2 with ⟨k2, x2, y2, o2, p2, rfl⟩ | ⟨k2, rfl⟩
  · have e := Opt.uniq (by decide) hW.2.2.1 (fun d hd => (hW.rm d hd).2) o1 o2
    have e2 := Opt.uniq (by decide) hW2.2.2.1 (fun d hd => (hW2.rm d hd).2) p1 p2
    exact ⟨by rw [sZ_congr c e, sZ_congr c e2], rfl, rfl, rfl, rfl, rfl, hW⟩
  · exact absurd k1 k2
  · exact absurd k2 k1
  · exact ⟨rfl, rfl, rfl, rfl, rfl, rfl, hW⟩
theorem same_most {n c : Nat} {D C : Nat → Nat} {A O S Ln Ar Rd Nt : Nat → Int} {z : Int} {r1 r2 : Int32} {u1 : sN} {u2 : sM} (hW : WF n c D C A O) (h1 : (fun r u => ∃ S2 Ln2 Ar2, u = (c, D, C, A, O, S2, Ln2, Ar2, Rd) ∧ (((0 ≤ z ∧ z < (c : Int)) ∧ ∃ x, Opt n c D C (rm D C A O) (gnA c z) x ∧ r = iI (x z.toNat)) ∨ (¬ (0 ≤ z ∧ z < (c : Int)) ∧ r = iI (-1)))) r1 u1) (h2 : (fun r u => ∃ Nt2, u = (c, D, C, A, O, Nt2) ∧ (((0 ≤ z ∧ z < (c : Int)) ∧ ∃ x, Opt n c D C (rm D C A O) (gnA c z) x ∧ r = iI (x z.toNat)) ∨ (¬ (0 ≤ z ∧ z < (c : Int)) ∧ r = iI (-1)))) r2 u2) : Same n r1 r2 u1 u2 := by
  obtain ⟨S2, Ln2, Ar2, rfl, h1⟩ := h1
  obtain ⟨Nt2, rfl, h2⟩ := h2
  rcases h1 with ⟨k1, x1, o1, rfl⟩ | ⟨k1, rfl⟩ <;> rcases h2 with ⟨k2, x2, o2, rfl⟩ | ⟨k2, rfl⟩
  · have ez : z = ((z.toNat : Nat) : Int) := by omega
    have hq : z.toNat < c := by omega
    have e1 := o1.2 x2 o2.1
    have e2 := o2.2 x1 o1.1
    rw [ez, gG_fav c x1 hq, gG_fav c x2 hq] at e1 e2
    have e3 : x1 z.toNat = x2 z.toNat := by omega
    exact ⟨by rw [e3], rfl, rfl, rfl, rfl, rfl, hW⟩
  · exact absurd k1 k2
  · exact absurd k2 k1
  · exact ⟨rfl, rfl, rfl, rfl, rfl, rfl, hW⟩
theorem same_possible {n c : Nat} {D C : Nat → Nat} {A O S Ln Ar Rd Nt : Nat → Int} {r1 r2 : Int32} {u1 : sN} {u2 : sM} (hW : WF n c D C A O) (h1 : (fun r u => ∃ x S2 Ln2 Ar2, Opt n c D C (rm D C A O) (gnA c (-1)) x ∧ r = iI (tb (0 < sZ x c)) ∧ u = (c, D, C, A, O, S2, Ln2, Ar2, Rd)) r1 u1) (h2 : (fun r u => ∃ x Nt2, Opt n c D C (rm D C A O) (gnA c (-1)) x ∧ r = iI (tb (0 < sZ x c)) ∧ u = (c, D, C, A, O, Nt2)) r2 u2) : Same n r1 r2 u1 u2 := by
  obtain ⟨x, S2, Ln2, Ar2, o1, rfl, rfl⟩ := h1
  obtain ⟨y, Nt2, o2, rfl, rfl⟩ := h2
  have e := Opt.uniq (by decide) hW.2.2.1 (fun d hd => (hW.rm d hd).2) o1 o2
  exact ⟨by rw [sZ_congr c e], rfl, rfl, rfl, rfl, rfl, hW⟩
end
section
/-! THE CLAIM OUT OF ONE WALK OF THE LAW'S BODY. Your part is whole_start (and what it stands on); all else here is the same for every law, but numbers. -/
def R_law : String := "ObligationNettingLaw"
def lw_P (b : Addr) (xs : List Int32) (args : Array Value) (s : State) : Prop := args = #[.ref b] ∧ s.IntsAt b xs ∧ xs.length ≤ 257 ∧ (Jvm.Cond.and given_1 narrow_1).before args s = true
def lw_Q (_ : Array Value) (s : State) (o : Outcome) (t : State) : Prop := o = .returned (some (.int 1)) ∧ Framed s o t [] 600000 7290000
def lw_Z (below : List Frame) (a : Array Value) (s : State) : State → Prop := fun t => ∃ o, t.status = .running ∧ Ended t below o ∧ lw_Q a s o t
/-- the law's own end, with 1 on the stack, nothing written that was there before, its room as the claim has it -/
theorem lw_ret {p : Program} {l : Launch} {e : Env} {s : State} {m : MethodId} {below : List Frame} {meth : Method} {c : Code} {b : Nat} (hx : p.tables.exec = Jvm.exec) (hb : c.code = code) (hr : meth.sig.returnType = ret) (hlocks : meth.locks = false) {pc : Nat} {H : Heap} {ls : Array Slot} (hdg : decode code pc = .ok (.ireturn, 1)) : W p l e room_1 s m #[Value.ref b] below meth c H [] 600000 7290000 (lw_Z below #[Value.ref b] s) (F0 m pc ls [.int 1]) := by
  intro T hT X
  obtain ⟨fs, hret, hrun, hended, hW, hframe⟩ := X.leave (v := some (.int 1)) (hlocks := hlocks) (fun h => by rw [hr] at h; cases h)
  have hmeth' : T.vm.method? m = some meth := X.method'
  refine ⟨T.setFrames fs, ?_, .returned (some (.int 1)), hrun, hended, rfl, ⟨_, rfl⟩, hW, hframe⟩
  jvm_step X.here [X.here.top, hx, hb, hdg, hmeth', hr, ret, narrow_b1]
  (try refine ⟨rfl, ?_⟩); (try refine ⟨rfl, ?_⟩)
  first | (intro acts; rw [hret _ acts rfl rfl rfl]) | rw [hret _ _ rfl rfl rfl]
  exact Steps.refl _
/-- what holds at the law's entry: the machine, the code, the tables' words (any of lw_tbl by 'hts w (by decide +kernel)'), the script of L ints xs at the cell b, what the Statement gives of the start (any of its parts by flat_of_before) -/
def lw_At (p : Program) (s : State) (m : MethodId) (meth : Method) (c : Code) (b L : Nat) (xs : Nat → Int32) : Prop :=
  p.tables.exec = Jvm.exec ∧ c.code = code ∧ meth.sig.returnType = ret ∧ c.maxLocals = 4 ∧ s.vm.findClass R_law = some m.cls ∧ (∀ w ∈ lw_tbl, w.before #[Value.ref b] s = true) ∧ va_X b L xs s s.heap ∧ b < s.heap.size ∧ meth.locks = false ∧ (Jvm.Cond.and given_1 narrow_1).before #[Value.ref b] s = true
section OS
variable {p : Program} {l : Launch} {e : Env} {R : Room} {s : State} {m : MethodId} {args : Array Value} {below : List Frame} {meth : Method} {c : Code} {H : Heap} {locs : List Loc} {cells slots : Nat} {Q : State → Prop}
variable {cc : ByteArray} {pc : Nat} {ls : Array Slot} {rest : List Value} {A : Nat → Prop} {H0 : Heap}
theorem ob_sld (hexec : p.tables.exec = Jvm.exec) (hb : c.code = cc) {b L : Nat} {xs : Nat → Int32} (hX : va_X b L xs s H0) (hbl : b < H0.size) (hbA : ¬ A b) (hS : va_S A H0 H locs) {z : Int} (k : Nat) (hz : z = (k : Int)) (hk : k < L) (hL : L < 2147483648) (hdg : decode cc pc = .ok (.iaload, 1))
    (kk : W p l e R s m args below meth c H locs cells slots Q (F0 m (pc + 1) ls (.int (iI (xs k).toInt) :: rest))) : W p l e R s m args below meth c H locs cells slots Q (F0 m pc ls (.int (iI z) :: .ref b :: rest)) := by
  obtain ⟨h1, h2⟩ := iI_in hz hk hL
  refine va_sld hexec hb hX hbl hbA hS h1 hdg ?_
  rw [h2]
  rw [iI_of (xs k)] at kk
  exact kk
theorem ob_slen (hexec : p.tables.exec = Jvm.exec) (hb : c.code = cc) {b L : Nat} {xs : Nat → Int32} (hX : va_X b L xs s H0) (hbl : b < H0.size) (hbA : ¬ A b) (hS : va_S A H0 H locs) (hdg : decode cc pc = .ok (.arraylength, 1))
    (kk : W p l e R s m args below meth c H locs cells slots Q (F0 m (pc + 1) ls (.int (iI (L : Int)) :: rest))) : W p l e R s m args below meth c H locs cells slots Q (F0 m pc ls (.ref b :: rest)) := by
  refine va_slen hexec hb hX hbl hbA hS hdg ?_
  rw [iI_nI] at kk
  exact kk
end OS
def cvZ (L : Nat) (xs : Nat → Int32) : Int := if 0 < L then (xs 0).toInt else 0
theorem cvZ_bnd (L : Nat) (xs : Nat → Int32) : -2147483648 ≤ cvZ L xs ∧ cvZ L xs < 2147483648 := by
  unfold cvZ
  split
  · exact iI_bnd _
  · omega
def cellP (b L : Nat) (xs : Nat → Int32) : Array Value → State → Prop := va_Pc [.ref b, .int (iI 0)] (fun U => va_X b L xs U U.heap)
theorem cellP_blind {b L : Nat} {xs : Nat → Int32} : FrameBlind (cellP b L xs) := fun a U g mk q => by
  obtain ⟨q0, qX⟩ := q
  exact ⟨q0, va_X.moved (u := U) (U := U.calling g mk a) (Vm.Alike.refl U.vm) qX⟩
set_option maxHeartbeats 4000000 in
set_option maxRecDepth 100000 in
theorem metL_cell (l : Launch) (b L : Nat) (xs : Nat → Int32) (hL : L ≤ 257) : Met l yX0_cell (ws_ yX0_cell cX0_cell 2 (some .int)) ({ frames := 0, cells := 0, slots := 0, locals := 0 }) (cellP b L xs) (vp_Si (fun r => r = iI (cvZ L xs))) 0 0 (fun _ => False) := by
  refine Met.ofW (cc := cX0_cell) (maxL := 2) (ret := (some .int)) (by decide) rfl ?_
  intro p e s m args below meth cd s₁ B hml hv
  obtain ⟨rfl, hX⟩ := hv
  have hx := B.exec
  have hb := B.bytes
  have hr := B.returns
  have hlocks := B.notSynchronized
  have hbl : b < s.heap.size := by
    obtain ⟨scr, h1, -⟩ := hX
    exact (Array.getElem?_eq_some_iff.mp h1).1
  have hS : va_S (fun _ => False) s.heap s.heap [] := va_S.rf
  have hbA : ¬ (fun _ : Nat => False) b := id
  have hl := lv_entry ([.ref b, .int (iI 0)]) (n := 2) (Nat.le_of_ble_eq_true rfl)
  rw [lg_entry_eq]
  generalize (lg_sl ([.ref b, .int (iI 0)]) ++ List.replicate (2 - (lg_sl ([.ref b, .int (iI 0)])).length) Slot.unset).toArray = ls at hl ⊢
  have hl : lv_has ls 2 [(0, .ref b), (1, .int (iI 0))] := hl
  refine lv_iload_n hx hb dX0_cell_0 rfl (lv_at hl 1 rfl) ?_
  refine lv_aload_n hx hb dX0_cell_1 rfl (lv_at hl 0 rfl) ?_
  refine ob_slen hx hb hX hbl hbA hS dX0_cell_2 ?_
  refine ob_icmp_ge (tgt := 12) hx hb dX0_cell_3 (by decide) (by omega) (by omega) (fun h3 => ?_) (fun h3 => ?_)
  · refine ob_ic hx hb dX0_cell_12 ?_
    exact W.iret (v := iI 0) hx hb hr (fun t ht hWm => ⟨_, rfl, (by unfold cvZ; rw [if_neg (by omega)]), ht⟩) (fun q h => by cases h) dX0_cell_13
  · refine lv_aload_n hx hb dX0_cell_6 rfl (lv_at hl 0 rfl) ?_
    refine lv_iload_n hx hb dX0_cell_7 rfl (lv_at hl 1 rfl) ?_
    refine ob_sld hx hb hX hbl hbA hS 0 (by omega) (by omega) (by omega) dX0_cell_8 ?_
    refine lv_goto (tgt := 13) hx hb dX0_cell_9 (by decide) ?_
    exact W.iret (v := iI (xs 0).toInt) hx hb hr (fun t ht hWm => ⟨_, rfl, (by unfold cvZ; rw [if_pos (by omega)]), ht⟩) (fun q h => by cases h) dX0_cell_13
end
section
/-! THE LAW: a row a case of its switch -/
set_option maxHeartbeats 4000000 in
set_option maxRecDepth 100000 in
theorem law_owe {p : Program} {l : Launch} {e : Env} {s : State} {m : MethodId} {below : List Frame} {meth : Method} {cd : Code} {dC : Nat → ClassId} {dI : Nat → Nat → Nat} {ad bd : Nat → Nat} {cI cZ : ClassId} {n b L : Nat} {xs : Nat → Int32} {Q : State → Prop} (hL : L ≤ 257) (hx : p.tables.exec = Jvm.exec) (hb : cd.code = code) (hml : cd.maxLocals = 4) (hown : s.vm.findClass R_law = some m.cls) (hts : ∀ w ∈ lw_all, w.before #[Value.ref b] s = true) (hX : va_X b L xs s s.heap) (hbl : b < s.heap.size) (hK : va_K (dC, dI) vwCl [(cI, .int), (cZ, .boolean)] s) (i : Nat) (hi : i + 4 ≤ L) (K : ∀ (c : Nat) (D C : Nat → Nat) (A O S Ln Ar Rd Nt : Nat → Int) (H : Heap) (locs : List Loc), WF n c D C A O → va_P (dC, dI) vwCl (wN ad cI cZ n c D C A O S Ln Ar Rd ++ wM bd cI cZ n c D C A O Nt) H → va_D (fun q : Nat => s.heap.size ≤ q) (wN ad cI cZ n c D C A O S Ln Ar Rd ++ wM bd cI cZ n c D C A O Nt) → va_S (fun q : Nat => s.heap.size ≤ q) s.heap H locs → ∀ (ls : Array Slot), lv_has ls 4 [(0, .ref b), (1, .ref (ad 0)), (2, .ref (bd 0)), (3, .int (iI i))] → W p l e room_1 s m #[Value.ref b] below meth cd H locs 600000 7290000 Q (F0 m 485 ls [])) (c : Nat) (D C : Nat → Nat) (A O S Ln Ar Rd Nt : Nat → Int) (H : Heap) (locs : List Loc) (hW : WF n c D C A O) (hP : va_P (dC, dI) vwCl (wN ad cI cZ n c D C A O S Ln Ar Rd ++ wM bd cI cZ n c D C A O Nt) H) (hD : va_D (fun q : Nat => s.heap.size ≤ q) (wN ad cI cZ n c D C A O S Ln Ar Rd ++ wM bd cI cZ n c D C A O Nt)) (hS : va_S (fun q : Nat => s.heap.size ≤ q) s.heap H locs) (ls : Array Slot) (hl : lv_has ls 4 [(0, .ref b), (1, .ref (ad 0)), (2, .ref (bd 0)), (3, .int (iI i))]) : W p l e room_1 s m #[Value.ref b] below meth cd H locs 600000 7290000 Q (F0 m 124 ls []) := by
  have hA : ∀ q : Nat, s.heap.size ≤ q → (fun q : Nat => s.heap.size ≤ q) q := fun _ h => h
  have hbA : ¬ (fun q : Nat => s.heap.size ≤ q) b := Nat.not_le.mpr hbl
  refine lv_aload_n hx hb dL_law_124 rfl (lv_at hl 1 rfl) ?_
  refine lv_aload_n hx hb dL_law_125 rfl (lv_at hl 0 rfl) ?_
  refine lv_iload_n hx hb dL_law_126 rfl (lv_at hl 3 rfl) ?_
  refine ob_ic hx hb dL_law_127 ?_
  refine ob_iadd hx hb dL_law_128 ?_
  refine ob_sld hx hb hX hbl hbA hS (i + 1) (by omega) (by omega) (by omega) dL_law_129 ?_
  refine lv_aload_n hx hb dL_law_130 rfl (lv_at hl 0 rfl) ?_
  refine lv_iload_n hx hb dL_law_131 rfl (lv_at hl 3 rfl) ?_
  refine ob_ic hx hb dL_law_132 ?_
  refine ob_iadd hx hb dL_law_133 ?_
  refine ob_sld hx hb hX hbl hbA hS (i + 2) (by omega) (by omega) (by omega) dL_law_134 ?_
  refine lv_aload_n hx hb dL_law_135 rfl (lv_at hl 0 rfl) ?_
  refine lv_iload_n hx hb dL_law_136 rfl (lv_at hl 3 rfl) ?_
  refine ob_ic hx hb dL_law_137 ?_
  refine ob_iadd hx hb dL_law_138 ?_
  refine ob_sld hx hb hX hbl hbA hS (i + 3) (by omega) (by omega) (by omega) dL_law_139 ?_
  refine ob_callI (As := [.int (iI (xs (i + 1)).toInt), .int (iI (xs (i + 2)).toInt), .int (iI (xs (i + 3)).toInt)]) (rest := []) (wr := wM bd cI cZ n c D C A O Nt) (metN_owe l dC dI ad cI cZ n c D C A O S Ln Ar Rd H.size (xs (i + 1)).toInt (iI_bnd _) (xs (i + 2)).toInt (iI_bnd _) (xs (i + 3)).toInt (iI_bnd _) hW) ⟨hx, hb, hml, hown, hts⟩ (cwV 3 hts (lw_V q69 q70 q71 q23 q72) rfl rfl rfl (by decide +kernel) ⟨Nat.le_of_ble_eq_true rfl, Nat.le_of_ble_eq_true rfl⟩) hK hP hD hS hA [0, 1, 2, 3, 4, 5, 6, 7, 8] [9, 10, 11, 12, 13, 14] [0, 1] rfl rfl rfl (by decide) (by decide) (by decide) rfl (ci := 0) rfl rfl rfl rfl hl.1 rfl (Nat.le_of_ble_eq_true rfl) dL_law_140 ⟨Nat.le_refl _, Nat.le_refl _⟩ (fun rN uN H locs hwN hP hD hS => ?_)
  obtain ⟨c1, D1, C1, A1, O1, S1, Ln1, Ar1, Rd1⟩ := uN
  have hP : va_P (dC, dI) vwCl (wN ad cI cZ n c1 D1 C1 A1 O1 S1 Ln1 Ar1 Rd1 ++ wM bd cI cZ n c D C A O Nt) H := hP.sub [6, 7, 8, 9, 10, 11, 12, 13, 14, 0, 1, 2, 3, 4, 5] rfl
  have hD : va_D (fun q : Nat => s.heap.size ≤ q) (wN ad cI cZ n c1 D1 C1 A1 O1 S1 Ln1 Ar1 Rd1 ++ wM bd cI cZ n c D C A O Nt) := hD.sub [6, 7, 8, 9, 10, 11, 12, 13, 14, 0, 1, 2, 3, 4, 5] (by decide) rfl
  refine lv_aload_n hx hb dL_law_143 rfl (lv_at hl 2 rfl) ?_
  refine lv_aload_n hx hb dL_law_144 rfl (lv_at hl 0 rfl) ?_
  refine lv_iload_n hx hb dL_law_145 rfl (lv_at hl 3 rfl) ?_
  refine ob_ic hx hb dL_law_146 ?_
  refine ob_iadd hx hb dL_law_147 ?_
  refine ob_sld hx hb hX hbl hbA hS (i + 1) (by omega) (by omega) (by omega) dL_law_148 ?_
  refine lv_aload_n hx hb dL_law_149 rfl (lv_at hl 0 rfl) ?_
  refine lv_iload_n hx hb dL_law_150 rfl (lv_at hl 3 rfl) ?_
  refine ob_ic hx hb dL_law_151 ?_
  refine ob_iadd hx hb dL_law_152 ?_
  refine ob_sld hx hb hX hbl hbA hS (i + 2) (by omega) (by omega) (by omega) dL_law_153 ?_
  refine lv_aload_n hx hb dL_law_154 rfl (lv_at hl 0 rfl) ?_
  refine lv_iload_n hx hb dL_law_155 rfl (lv_at hl 3 rfl) ?_
  refine ob_ic hx hb dL_law_156 ?_
  refine ob_iadd hx hb dL_law_157 ?_
  refine ob_sld hx hb hX hbl hbA hS (i + 3) (by omega) (by omega) (by omega) dL_law_158 ?_
  refine ob_callI (As := [.int (iI (xs (i + 1)).toInt), .int (iI (xs (i + 2)).toInt), .int (iI (xs (i + 3)).toInt)]) (rest := [.int rN]) (wr := wN ad cI cZ n c1 D1 C1 A1 O1 S1 Ln1 Ar1 Rd1) (metM_owe l dC dI bd cI cZ n c D C A O Nt H.size (xs (i + 1)).toInt (iI_bnd _) (xs (i + 2)).toInt (iI_bnd _) (xs (i + 3)).toInt (iI_bnd _) hW) ⟨hx, hb, hml, hown, hts⟩ (cwV 3 hts (lw_V q226 q227 q228 q24 q229) rfl rfl rfl (by decide +kernel) ⟨Nat.le_of_ble_eq_true rfl, Nat.le_of_ble_eq_true rfl⟩) hK hP hD hS hA [9, 10, 11, 12, 13, 14] [0, 1, 2, 3, 4, 5, 6, 7, 8] [0, 1] rfl rfl rfl (by decide) (by decide) (by decide) rfl (ci := 1) rfl rfl rfl rfl hl.1 rfl (Nat.le_of_ble_eq_true rfl) dL_law_159 ⟨Nat.le_refl _, Nat.le_refl _⟩ (fun rM uM H locs hwM hP hD hS => ?_)
  obtain ⟨c2, D2, C2, A2, O2, Nt2⟩ := uM
  have hP : va_P (dC, dI) vwCl (wN ad cI cZ n c1 D1 C1 A1 O1 S1 Ln1 Ar1 Rd1 ++ wM bd cI cZ n c2 D2 C2 A2 O2 Nt2) H := hP
  have hD : va_D (fun q : Nat => s.heap.size ≤ q) (wN ad cI cZ n c1 D1 C1 A1 O1 S1 Ln1 Ar1 Rd1 ++ wM bd cI cZ n c2 D2 C2 A2 O2 Nt2) := hD
  have hsame := same_owe (S := S) (Ln := Ln) (Ar := Ar) (Rd := Rd) (Nt := Nt) hW hwN hwM
  refine lv_icmp_eq (tgt := 485) hx hb dL_law_162 (by decide) (fun _ => ?_) (fun hne => absurd hsame.1 hne)
  obtain ⟨-, e1, e2, e3, e4, e5, hW2⟩ := hsame
  have e1 : c1 = c2 := e1
  have e2 : D1 = D2 := e2
  have e3 : C1 = C2 := e3
  have e4 : A1 = A2 := e4
  have e5 : O1 = O2 := e5
  rw [← e1, ← e2, ← e3, ← e4, ← e5] at hP hD
  exact K c1 D1 C1 A1 O1 S1 Ln1 Ar1 Rd1 Nt2 _ _ hW2 hP hD hS ls hl
set_option maxHeartbeats 4000000 in
set_option maxRecDepth 100000 in
theorem law_change {p : Program} {l : Launch} {e : Env} {s : State} {m : MethodId} {below : List Frame} {meth : Method} {cd : Code} {dC : Nat → ClassId} {dI : Nat → Nat → Nat} {ad bd : Nat → Nat} {cI cZ : ClassId} {n b L : Nat} {xs : Nat → Int32} {Q : State → Prop} (hL : L ≤ 257) (hx : p.tables.exec = Jvm.exec) (hb : cd.code = code) (hml : cd.maxLocals = 4) (hown : s.vm.findClass R_law = some m.cls) (hts : ∀ w ∈ lw_all, w.before #[Value.ref b] s = true) (hX : va_X b L xs s s.heap) (hbl : b < s.heap.size) (hK : va_K (dC, dI) vwCl [(cI, .int), (cZ, .boolean)] s) (i : Nat) (hi : i + 4 ≤ L) (K : ∀ (c : Nat) (D C : Nat → Nat) (A O S Ln Ar Rd Nt : Nat → Int) (H : Heap) (locs : List Loc), WF n c D C A O → va_P (dC, dI) vwCl (wN ad cI cZ n c D C A O S Ln Ar Rd ++ wM bd cI cZ n c D C A O Nt) H → va_D (fun q : Nat => s.heap.size ≤ q) (wN ad cI cZ n c D C A O S Ln Ar Rd ++ wM bd cI cZ n c D C A O Nt) → va_S (fun q : Nat => s.heap.size ≤ q) s.heap H locs → ∀ (ls : Array Slot), lv_has ls 4 [(0, .ref b), (1, .ref (ad 0)), (2, .ref (bd 0)), (3, .int (iI i))] → W p l e room_1 s m #[Value.ref b] below meth cd H locs 600000 7290000 Q (F0 m 485 ls [])) (c : Nat) (D C : Nat → Nat) (A O S Ln Ar Rd Nt : Nat → Int) (H : Heap) (locs : List Loc) (hW : WF n c D C A O) (hP : va_P (dC, dI) vwCl (wN ad cI cZ n c D C A O S Ln Ar Rd ++ wM bd cI cZ n c D C A O Nt) H) (hD : va_D (fun q : Nat => s.heap.size ≤ q) (wN ad cI cZ n c D C A O S Ln Ar Rd ++ wM bd cI cZ n c D C A O Nt)) (hS : va_S (fun q : Nat => s.heap.size ≤ q) s.heap H locs) (ls : Array Slot) (hl : lv_has ls 4 [(0, .ref b), (1, .ref (ad 0)), (2, .ref (bd 0)), (3, .int (iI i))]) : W p l e room_1 s m #[Value.ref b] below meth cd H locs 600000 7290000 Q (F0 m 167 ls []) := by
  have hA : ∀ q : Nat, s.heap.size ≤ q → (fun q : Nat => s.heap.size ≤ q) q := fun _ h => h
  have hbA : ¬ (fun q : Nat => s.heap.size ≤ q) b := Nat.not_le.mpr hbl
  refine lv_aload_n hx hb dL_law_167 rfl (lv_at hl 1 rfl) ?_
  refine lv_aload_n hx hb dL_law_168 rfl (lv_at hl 0 rfl) ?_
  refine lv_iload_n hx hb dL_law_169 rfl (lv_at hl 3 rfl) ?_
  refine ob_ic hx hb dL_law_170 ?_
  refine ob_iadd hx hb dL_law_171 ?_
  refine ob_sld hx hb hX hbl hbA hS (i + 1) (by omega) (by omega) (by omega) dL_law_172 ?_
  refine lv_aload_n hx hb dL_law_173 rfl (lv_at hl 0 rfl) ?_
  refine lv_iload_n hx hb dL_law_174 rfl (lv_at hl 3 rfl) ?_
  refine ob_ic hx hb dL_law_175 ?_
  refine ob_iadd hx hb dL_law_176 ?_
  refine ob_sld hx hb hX hbl hbA hS (i + 2) (by omega) (by omega) (by omega) dL_law_177 ?_
  refine ob_callI (As := [.int (iI (xs (i + 1)).toInt), .int (iI (xs (i + 2)).toInt)]) (rest := []) (wr := wM bd cI cZ n c D C A O Nt) (metN_change l dC dI ad cI cZ n c D C A O S Ln Ar Rd H.size (xs (i + 1)).toInt (iI_bnd _) (xs (i + 2)).toInt (iI_bnd _) hW) ⟨hx, hb, hml, hown, hts⟩ (cwV 2 hts (lw_V q77 q78 q79 q23 q80) rfl rfl rfl (by decide +kernel) ⟨Nat.le_of_ble_eq_true rfl, Nat.le_of_ble_eq_true rfl⟩) hK hP hD hS hA [0, 1, 2, 3, 4, 5, 6, 7, 8] [9, 10, 11, 12, 13, 14] [0, 1] rfl rfl rfl (by decide) (by decide) (by decide) rfl (ci := 0) rfl rfl rfl rfl hl.1 rfl (Nat.le_of_ble_eq_true rfl) dL_law_178 ⟨Nat.le_refl _, Nat.le_refl _⟩ (fun rN uN H locs hwN hP hD hS => ?_)
  obtain ⟨c1, D1, C1, A1, O1, S1, Ln1, Ar1, Rd1⟩ := uN
  have hP : va_P (dC, dI) vwCl (wN ad cI cZ n c1 D1 C1 A1 O1 S1 Ln1 Ar1 Rd1 ++ wM bd cI cZ n c D C A O Nt) H := hP.sub [6, 7, 8, 9, 10, 11, 12, 13, 14, 0, 1, 2, 3, 4, 5] rfl
  have hD : va_D (fun q : Nat => s.heap.size ≤ q) (wN ad cI cZ n c1 D1 C1 A1 O1 S1 Ln1 Ar1 Rd1 ++ wM bd cI cZ n c D C A O Nt) := hD.sub [6, 7, 8, 9, 10, 11, 12, 13, 14, 0, 1, 2, 3, 4, 5] (by decide) rfl
  refine lv_aload_n hx hb dL_law_181 rfl (lv_at hl 2 rfl) ?_
  refine lv_aload_n hx hb dL_law_182 rfl (lv_at hl 0 rfl) ?_
  refine lv_iload_n hx hb dL_law_183 rfl (lv_at hl 3 rfl) ?_
  refine ob_ic hx hb dL_law_184 ?_
  refine ob_iadd hx hb dL_law_185 ?_
  refine ob_sld hx hb hX hbl hbA hS (i + 1) (by omega) (by omega) (by omega) dL_law_186 ?_
  refine lv_aload_n hx hb dL_law_187 rfl (lv_at hl 0 rfl) ?_
  refine lv_iload_n hx hb dL_law_188 rfl (lv_at hl 3 rfl) ?_
  refine ob_ic hx hb dL_law_189 ?_
  refine ob_iadd hx hb dL_law_190 ?_
  refine ob_sld hx hb hX hbl hbA hS (i + 2) (by omega) (by omega) (by omega) dL_law_191 ?_
  refine ob_callI (As := [.int (iI (xs (i + 1)).toInt), .int (iI (xs (i + 2)).toInt)]) (rest := [.int rN]) (wr := wN ad cI cZ n c1 D1 C1 A1 O1 S1 Ln1 Ar1 Rd1) (metM_change l dC dI bd cI cZ n c D C A O Nt H.size (xs (i + 1)).toInt (iI_bnd _) (xs (i + 2)).toInt (iI_bnd _) hW) ⟨hx, hb, hml, hown, hts⟩ (cwV 2 hts (lw_V q234 q235 q236 q24 q237) rfl rfl rfl (by decide +kernel) ⟨Nat.le_of_ble_eq_true rfl, Nat.le_of_ble_eq_true rfl⟩) hK hP hD hS hA [9, 10, 11, 12, 13, 14] [0, 1, 2, 3, 4, 5, 6, 7, 8] [0, 1] rfl rfl rfl (by decide) (by decide) (by decide) rfl (ci := 1) rfl rfl rfl rfl hl.1 rfl (Nat.le_of_ble_eq_true rfl) dL_law_192 ⟨Nat.le_refl _, Nat.le_refl _⟩ (fun rM uM H locs hwM hP hD hS => ?_)
  obtain ⟨c2, D2, C2, A2, O2, Nt2⟩ := uM
  have hP : va_P (dC, dI) vwCl (wN ad cI cZ n c1 D1 C1 A1 O1 S1 Ln1 Ar1 Rd1 ++ wM bd cI cZ n c2 D2 C2 A2 O2 Nt2) H := hP
  have hD : va_D (fun q : Nat => s.heap.size ≤ q) (wN ad cI cZ n c1 D1 C1 A1 O1 S1 Ln1 Ar1 Rd1 ++ wM bd cI cZ n c2 D2 C2 A2 O2 Nt2) := hD
  have hsame := same_change (S := S) (Ln := Ln) (Ar := Ar) (Rd := Rd) (Nt := Nt) hW hwN hwM
  refine lv_icmp_eq (tgt := 485) hx hb dL_law_195 (by decide) (fun _ => ?_) (fun hne => absurd hsame.1 hne)
  obtain ⟨-, e1, e2, e3, e4, e5, hW2⟩ := hsame
  have e1 : c1 = c2 := e1
  have e2 : D1 = D2 := e2
  have e3 : C1 = C2 := e3
  have e4 : A1 = A2 := e4
  have e5 : O1 = O2 := e5
  rw [← e1, ← e2, ← e3, ← e4, ← e5] at hP hD
  exact K c1 D1 C1 A1 O1 S1 Ln1 Ar1 Rd1 Nt2 _ _ hW2 hP hD hS ls hl
set_option maxHeartbeats 4000000 in
set_option maxRecDepth 100000 in
theorem law_pay {p : Program} {l : Launch} {e : Env} {s : State} {m : MethodId} {below : List Frame} {meth : Method} {cd : Code} {dC : Nat → ClassId} {dI : Nat → Nat → Nat} {ad bd : Nat → Nat} {cI cZ : ClassId} {n b L : Nat} {xs : Nat → Int32} {Q : State → Prop} (hL : L ≤ 257) (hx : p.tables.exec = Jvm.exec) (hb : cd.code = code) (hml : cd.maxLocals = 4) (hown : s.vm.findClass R_law = some m.cls) (hts : ∀ w ∈ lw_all, w.before #[Value.ref b] s = true) (hX : va_X b L xs s s.heap) (hbl : b < s.heap.size) (hK : va_K (dC, dI) vwCl [(cI, .int), (cZ, .boolean)] s) (i : Nat) (hi : i + 4 ≤ L) (K : ∀ (c : Nat) (D C : Nat → Nat) (A O S Ln Ar Rd Nt : Nat → Int) (H : Heap) (locs : List Loc), WF n c D C A O → va_P (dC, dI) vwCl (wN ad cI cZ n c D C A O S Ln Ar Rd ++ wM bd cI cZ n c D C A O Nt) H → va_D (fun q : Nat => s.heap.size ≤ q) (wN ad cI cZ n c D C A O S Ln Ar Rd ++ wM bd cI cZ n c D C A O Nt) → va_S (fun q : Nat => s.heap.size ≤ q) s.heap H locs → ∀ (ls : Array Slot), lv_has ls 4 [(0, .ref b), (1, .ref (ad 0)), (2, .ref (bd 0)), (3, .int (iI i))] → W p l e room_1 s m #[Value.ref b] below meth cd H locs 600000 7290000 Q (F0 m 485 ls [])) (c : Nat) (D C : Nat → Nat) (A O S Ln Ar Rd Nt : Nat → Int) (H : Heap) (locs : List Loc) (hW : WF n c D C A O) (hP : va_P (dC, dI) vwCl (wN ad cI cZ n c D C A O S Ln Ar Rd ++ wM bd cI cZ n c D C A O Nt) H) (hD : va_D (fun q : Nat => s.heap.size ≤ q) (wN ad cI cZ n c D C A O S Ln Ar Rd ++ wM bd cI cZ n c D C A O Nt)) (hS : va_S (fun q : Nat => s.heap.size ≤ q) s.heap H locs) (ls : Array Slot) (hl : lv_has ls 4 [(0, .ref b), (1, .ref (ad 0)), (2, .ref (bd 0)), (3, .int (iI i))]) : W p l e room_1 s m #[Value.ref b] below meth cd H locs 600000 7290000 Q (F0 m 200 ls []) := by
  have hA : ∀ q : Nat, s.heap.size ≤ q → (fun q : Nat => s.heap.size ≤ q) q := fun _ h => h
  have hbA : ¬ (fun q : Nat => s.heap.size ≤ q) b := Nat.not_le.mpr hbl
  refine lv_aload_n hx hb dL_law_200 rfl (lv_at hl 1 rfl) ?_
  refine lv_aload_n hx hb dL_law_201 rfl (lv_at hl 0 rfl) ?_
  refine lv_iload_n hx hb dL_law_202 rfl (lv_at hl 3 rfl) ?_
  refine ob_ic hx hb dL_law_203 ?_
  refine ob_iadd hx hb dL_law_204 ?_
  refine ob_sld hx hb hX hbl hbA hS (i + 1) (by omega) (by omega) (by omega) dL_law_205 ?_
  refine ob_callI (As := [.int (iI (xs (i + 1)).toInt)]) (rest := []) (wr := wM bd cI cZ n c D C A O Nt) (metN_pay l dC dI ad cI cZ n c D C A O S Ln Ar Rd H.size (xs (i + 1)).toInt (iI_bnd _) hW) ⟨hx, hb, hml, hown, hts⟩ (cwV 1 hts (lw_V q85 q86 q87 q23 q88) rfl rfl rfl (by decide +kernel) ⟨Nat.le_of_ble_eq_true rfl, Nat.le_of_ble_eq_true rfl⟩) hK hP hD hS hA [0, 1, 2, 3, 4, 5, 6, 7, 8] [9, 10, 11, 12, 13, 14] [0, 1] rfl rfl rfl (by decide) (by decide) (by decide) rfl (ci := 0) rfl rfl rfl rfl hl.1 rfl (Nat.le_of_ble_eq_true rfl) dL_law_206 ⟨Nat.le_refl _, Nat.le_refl _⟩ (fun rN uN H locs hwN hP hD hS => ?_)
  obtain ⟨c1, D1, C1, A1, O1, S1, Ln1, Ar1, Rd1⟩ := uN
  have hP : va_P (dC, dI) vwCl (wN ad cI cZ n c1 D1 C1 A1 O1 S1 Ln1 Ar1 Rd1 ++ wM bd cI cZ n c D C A O Nt) H := hP.sub [6, 7, 8, 9, 10, 11, 12, 13, 14, 0, 1, 2, 3, 4, 5] rfl
  have hD : va_D (fun q : Nat => s.heap.size ≤ q) (wN ad cI cZ n c1 D1 C1 A1 O1 S1 Ln1 Ar1 Rd1 ++ wM bd cI cZ n c D C A O Nt) := hD.sub [6, 7, 8, 9, 10, 11, 12, 13, 14, 0, 1, 2, 3, 4, 5] (by decide) rfl
  refine lv_aload_n hx hb dL_law_209 rfl (lv_at hl 2 rfl) ?_
  refine lv_aload_n hx hb dL_law_210 rfl (lv_at hl 0 rfl) ?_
  refine lv_iload_n hx hb dL_law_211 rfl (lv_at hl 3 rfl) ?_
  refine ob_ic hx hb dL_law_212 ?_
  refine ob_iadd hx hb dL_law_213 ?_
  refine ob_sld hx hb hX hbl hbA hS (i + 1) (by omega) (by omega) (by omega) dL_law_214 ?_
  refine ob_callI (As := [.int (iI (xs (i + 1)).toInt)]) (rest := [.int rN]) (wr := wN ad cI cZ n c1 D1 C1 A1 O1 S1 Ln1 Ar1 Rd1) (metM_pay l dC dI bd cI cZ n c D C A O Nt H.size (xs (i + 1)).toInt (iI_bnd _) hW) ⟨hx, hb, hml, hown, hts⟩ (cwV 1 hts (lw_V q242 q243 q244 q24 q245) rfl rfl rfl (by decide +kernel) ⟨Nat.le_of_ble_eq_true rfl, Nat.le_of_ble_eq_true rfl⟩) hK hP hD hS hA [9, 10, 11, 12, 13, 14] [0, 1, 2, 3, 4, 5, 6, 7, 8] [0, 1] rfl rfl rfl (by decide) (by decide) (by decide) rfl (ci := 1) rfl rfl rfl rfl hl.1 rfl (Nat.le_of_ble_eq_true rfl) dL_law_215 ⟨Nat.le_refl _, Nat.le_refl _⟩ (fun rM uM H locs hwM hP hD hS => ?_)
  obtain ⟨c2, D2, C2, A2, O2, Nt2⟩ := uM
  have hP : va_P (dC, dI) vwCl (wN ad cI cZ n c1 D1 C1 A1 O1 S1 Ln1 Ar1 Rd1 ++ wM bd cI cZ n c2 D2 C2 A2 O2 Nt2) H := hP
  have hD : va_D (fun q : Nat => s.heap.size ≤ q) (wN ad cI cZ n c1 D1 C1 A1 O1 S1 Ln1 Ar1 Rd1 ++ wM bd cI cZ n c2 D2 C2 A2 O2 Nt2) := hD
  have hsame := same_pay (S := S) (Ln := Ln) (Ar := Ar) (Rd := Rd) (Nt := Nt) hW hwN hwM
  refine lv_icmp_eq (tgt := 485) hx hb dL_law_218 (by decide) (fun _ => ?_) (fun hne => absurd hsame.1 hne)
  obtain ⟨-, e1, e2, e3, e4, e5, hW2⟩ := hsame
  have e1 : c1 = c2 := e1
  have e2 : D1 = D2 := e2
  have e3 : C1 = C2 := e3
  have e4 : A1 = A2 := e4
  have e5 : O1 = O2 := e5
  rw [← e1, ← e2, ← e3, ← e4, ← e5] at hP hD
  exact K c1 D1 C1 A1 O1 S1 Ln1 Ar1 Rd1 Nt2 _ _ hW2 hP hD hS ls hl
set_option maxHeartbeats 4000000 in
set_option maxRecDepth 100000 in
theorem law_exclude {p : Program} {l : Launch} {e : Env} {s : State} {m : MethodId} {below : List Frame} {meth : Method} {cd : Code} {dC : Nat → ClassId} {dI : Nat → Nat → Nat} {ad bd : Nat → Nat} {cI cZ : ClassId} {n b L : Nat} {xs : Nat → Int32} {Q : State → Prop} (hL : L ≤ 257) (hx : p.tables.exec = Jvm.exec) (hb : cd.code = code) (hml : cd.maxLocals = 4) (hown : s.vm.findClass R_law = some m.cls) (hts : ∀ w ∈ lw_all, w.before #[Value.ref b] s = true) (hX : va_X b L xs s s.heap) (hbl : b < s.heap.size) (hK : va_K (dC, dI) vwCl [(cI, .int), (cZ, .boolean)] s) (i : Nat) (hi : i + 4 ≤ L) (K : ∀ (c : Nat) (D C : Nat → Nat) (A O S Ln Ar Rd Nt : Nat → Int) (H : Heap) (locs : List Loc), WF n c D C A O → va_P (dC, dI) vwCl (wN ad cI cZ n c D C A O S Ln Ar Rd ++ wM bd cI cZ n c D C A O Nt) H → va_D (fun q : Nat => s.heap.size ≤ q) (wN ad cI cZ n c D C A O S Ln Ar Rd ++ wM bd cI cZ n c D C A O Nt) → va_S (fun q : Nat => s.heap.size ≤ q) s.heap H locs → ∀ (ls : Array Slot), lv_has ls 4 [(0, .ref b), (1, .ref (ad 0)), (2, .ref (bd 0)), (3, .int (iI i))] → W p l e room_1 s m #[Value.ref b] below meth cd H locs 600000 7290000 Q (F0 m 485 ls [])) (c : Nat) (D C : Nat → Nat) (A O S Ln Ar Rd Nt : Nat → Int) (H : Heap) (locs : List Loc) (hW : WF n c D C A O) (hP : va_P (dC, dI) vwCl (wN ad cI cZ n c D C A O S Ln Ar Rd ++ wM bd cI cZ n c D C A O Nt) H) (hD : va_D (fun q : Nat => s.heap.size ≤ q) (wN ad cI cZ n c D C A O S Ln Ar Rd ++ wM bd cI cZ n c D C A O Nt)) (hS : va_S (fun q : Nat => s.heap.size ≤ q) s.heap H locs) (ls : Array Slot) (hl : lv_has ls 4 [(0, .ref b), (1, .ref (ad 0)), (2, .ref (bd 0)), (3, .int (iI i))]) : W p l e room_1 s m #[Value.ref b] below meth cd H locs 600000 7290000 Q (F0 m 223 ls []) := by
  have hA : ∀ q : Nat, s.heap.size ≤ q → (fun q : Nat => s.heap.size ≤ q) q := fun _ h => h
  have hbA : ¬ (fun q : Nat => s.heap.size ≤ q) b := Nat.not_le.mpr hbl
  refine lv_aload_n hx hb dL_law_223 rfl (lv_at hl 1 rfl) ?_
  refine lv_aload_n hx hb dL_law_224 rfl (lv_at hl 0 rfl) ?_
  refine lv_iload_n hx hb dL_law_225 rfl (lv_at hl 3 rfl) ?_
  refine ob_ic hx hb dL_law_226 ?_
  refine ob_iadd hx hb dL_law_227 ?_
  refine ob_sld hx hb hX hbl hbA hS (i + 1) (by omega) (by omega) (by omega) dL_law_228 ?_
  refine lv_aload_n hx hb dL_law_229 rfl (lv_at hl 0 rfl) ?_
  refine lv_iload_n hx hb dL_law_230 rfl (lv_at hl 3 rfl) ?_
  refine ob_ic hx hb dL_law_231 ?_
  refine ob_iadd hx hb dL_law_232 ?_
  refine ob_sld hx hb hX hbl hbA hS (i + 2) (by omega) (by omega) (by omega) dL_law_233 ?_
  refine ob_callI (As := [.int (iI (xs (i + 1)).toInt), .int (iI (xs (i + 2)).toInt)]) (rest := []) (wr := wM bd cI cZ n c D C A O Nt) (metN_exclude l dC dI ad cI cZ n c D C A O S Ln Ar Rd H.size (xs (i + 1)).toInt (iI_bnd _) (xs (i + 2)).toInt (iI_bnd _) hW) ⟨hx, hb, hml, hown, hts⟩ (cwV 2 hts (lw_V q89 q90 q91 q23 q92) rfl rfl rfl (by decide +kernel) ⟨Nat.le_of_ble_eq_true rfl, Nat.le_of_ble_eq_true rfl⟩) hK hP hD hS hA [0, 1, 2, 3, 4, 5, 6, 7, 8] [9, 10, 11, 12, 13, 14] [0, 1] rfl rfl rfl (by decide) (by decide) (by decide) rfl (ci := 0) rfl rfl rfl rfl hl.1 rfl (Nat.le_of_ble_eq_true rfl) dL_law_234 ⟨Nat.le_refl _, Nat.le_refl _⟩ (fun rN uN H locs hwN hP hD hS => ?_)
  obtain ⟨c1, D1, C1, A1, O1, S1, Ln1, Ar1, Rd1⟩ := uN
  have hP : va_P (dC, dI) vwCl (wN ad cI cZ n c1 D1 C1 A1 O1 S1 Ln1 Ar1 Rd1 ++ wM bd cI cZ n c D C A O Nt) H := hP.sub [6, 7, 8, 9, 10, 11, 12, 13, 14, 0, 1, 2, 3, 4, 5] rfl
  have hD : va_D (fun q : Nat => s.heap.size ≤ q) (wN ad cI cZ n c1 D1 C1 A1 O1 S1 Ln1 Ar1 Rd1 ++ wM bd cI cZ n c D C A O Nt) := hD.sub [6, 7, 8, 9, 10, 11, 12, 13, 14, 0, 1, 2, 3, 4, 5] (by decide) rfl
  refine lv_aload_n hx hb dL_law_237 rfl (lv_at hl 2 rfl) ?_
  refine lv_aload_n hx hb dL_law_238 rfl (lv_at hl 0 rfl) ?_
  refine lv_iload_n hx hb dL_law_239 rfl (lv_at hl 3 rfl) ?_
  refine ob_ic hx hb dL_law_240 ?_
  refine ob_iadd hx hb dL_law_241 ?_
  refine ob_sld hx hb hX hbl hbA hS (i + 1) (by omega) (by omega) (by omega) dL_law_242 ?_
  refine lv_aload_n hx hb dL_law_243 rfl (lv_at hl 0 rfl) ?_
  refine lv_iload_n hx hb dL_law_244 rfl (lv_at hl 3 rfl) ?_
  refine ob_ic hx hb dL_law_245 ?_
  refine ob_iadd hx hb dL_law_246 ?_
  refine ob_sld hx hb hX hbl hbA hS (i + 2) (by omega) (by omega) (by omega) dL_law_247 ?_
  refine ob_callI (As := [.int (iI (xs (i + 1)).toInt), .int (iI (xs (i + 2)).toInt)]) (rest := [.int rN]) (wr := wN ad cI cZ n c1 D1 C1 A1 O1 S1 Ln1 Ar1 Rd1) (metM_exclude l dC dI bd cI cZ n c D C A O Nt H.size (xs (i + 1)).toInt (iI_bnd _) (xs (i + 2)).toInt (iI_bnd _) hW) ⟨hx, hb, hml, hown, hts⟩ (cwV 2 hts (lw_V q246 q247 q248 q24 q249) rfl rfl rfl (by decide +kernel) ⟨Nat.le_of_ble_eq_true rfl, Nat.le_of_ble_eq_true rfl⟩) hK hP hD hS hA [9, 10, 11, 12, 13, 14] [0, 1, 2, 3, 4, 5, 6, 7, 8] [0, 1] rfl rfl rfl (by decide) (by decide) (by decide) rfl (ci := 1) rfl rfl rfl rfl hl.1 rfl (Nat.le_of_ble_eq_true rfl) dL_law_248 ⟨Nat.le_refl _, Nat.le_refl _⟩ (fun rM uM H locs hwM hP hD hS => ?_)
  obtain ⟨c2, D2, C2, A2, O2, Nt2⟩ := uM
  have hP : va_P (dC, dI) vwCl (wN ad cI cZ n c1 D1 C1 A1 O1 S1 Ln1 Ar1 Rd1 ++ wM bd cI cZ n c2 D2 C2 A2 O2 Nt2) H := hP
  have hD : va_D (fun q : Nat => s.heap.size ≤ q) (wN ad cI cZ n c1 D1 C1 A1 O1 S1 Ln1 Ar1 Rd1 ++ wM bd cI cZ n c2 D2 C2 A2 O2 Nt2) := hD
  have hsame := same_exclude (S := S) (Ln := Ln) (Ar := Ar) (Rd := Rd) (Nt := Nt) hW hwN hwM
  refine lv_icmp_eq (tgt := 485) hx hb dL_law_251 (by decide) (fun _ => ?_) (fun hne => absurd hsame.1 hne)
  obtain ⟨-, e1, e2, e3, e4, e5, hW2⟩ := hsame
  have e1 : c1 = c2 := e1
  have e2 : D1 = D2 := e2
  have e3 : C1 = C2 := e3
  have e4 : A1 = A2 := e4
  have e5 : O1 = O2 := e5
  rw [← e1, ← e2, ← e3, ← e4, ← e5] at hP hD
  exact K c1 D1 C1 A1 O1 S1 Ln1 Ar1 Rd1 Nt2 _ _ hW2 hP hD hS ls hl
set_option maxHeartbeats 4000000 in
set_option maxRecDepth 100000 in
theorem law_clear {p : Program} {l : Launch} {e : Env} {s : State} {m : MethodId} {below : List Frame} {meth : Method} {cd : Code} {dC : Nat → ClassId} {dI : Nat → Nat → Nat} {ad bd : Nat → Nat} {cI cZ : ClassId} {n b L : Nat} {xs : Nat → Int32} {Q : State → Prop} (hL : L ≤ 257) (hx : p.tables.exec = Jvm.exec) (hb : cd.code = code) (hml : cd.maxLocals = 4) (hown : s.vm.findClass R_law = some m.cls) (hts : ∀ w ∈ lw_all, w.before #[Value.ref b] s = true) (hX : va_X b L xs s s.heap) (hbl : b < s.heap.size) (hK : va_K (dC, dI) vwCl [(cI, .int), (cZ, .boolean)] s) (i : Nat) (hi : i + 4 ≤ L) (K : ∀ (c : Nat) (D C : Nat → Nat) (A O S Ln Ar Rd Nt : Nat → Int) (H : Heap) (locs : List Loc), WF n c D C A O → va_P (dC, dI) vwCl (wN ad cI cZ n c D C A O S Ln Ar Rd ++ wM bd cI cZ n c D C A O Nt) H → va_D (fun q : Nat => s.heap.size ≤ q) (wN ad cI cZ n c D C A O S Ln Ar Rd ++ wM bd cI cZ n c D C A O Nt) → va_S (fun q : Nat => s.heap.size ≤ q) s.heap H locs → ∀ (ls : Array Slot), lv_has ls 4 [(0, .ref b), (1, .ref (ad 0)), (2, .ref (bd 0)), (3, .int (iI i))] → W p l e room_1 s m #[Value.ref b] below meth cd H locs 600000 7290000 Q (F0 m 485 ls [])) (c : Nat) (D C : Nat → Nat) (A O S Ln Ar Rd Nt : Nat → Int) (H : Heap) (locs : List Loc) (hW : WF n c D C A O) (hP : va_P (dC, dI) vwCl (wN ad cI cZ n c D C A O S Ln Ar Rd ++ wM bd cI cZ n c D C A O Nt) H) (hD : va_D (fun q : Nat => s.heap.size ≤ q) (wN ad cI cZ n c D C A O S Ln Ar Rd ++ wM bd cI cZ n c D C A O Nt)) (hS : va_S (fun q : Nat => s.heap.size ≤ q) s.heap H locs) (ls : Array Slot) (hl : lv_has ls 4 [(0, .ref b), (1, .ref (ad 0)), (2, .ref (bd 0)), (3, .int (iI i))]) : W p l e room_1 s m #[Value.ref b] below meth cd H locs 600000 7290000 Q (F0 m 256 ls []) := by
  have hA : ∀ q : Nat, s.heap.size ≤ q → (fun q : Nat => s.heap.size ≤ q) q := fun _ h => h
  have hbA : ¬ (fun q : Nat => s.heap.size ≤ q) b := Nat.not_le.mpr hbl
  refine lv_aload_n hx hb dL_law_256 rfl (lv_at hl 1 rfl) ?_
  refine ob_callI (As := []) (rest := []) (wr := wM bd cI cZ n c D C A O Nt) (metN_clear l dC dI ad cI cZ n c D C A O S Ln Ar Rd H.size hW) ⟨hx, hb, hml, hown, hts⟩ (cwV 0 hts (lw_V q93 q94 q95 q23 q96) rfl rfl rfl (by decide +kernel) ⟨Nat.le_of_ble_eq_true rfl, Nat.le_of_ble_eq_true rfl⟩) hK hP hD hS hA [0, 1, 2, 3, 4, 5, 6, 7, 8] [9, 10, 11, 12, 13, 14] [0, 1] rfl rfl rfl (by decide) (by decide) (by decide) rfl (ci := 0) rfl rfl rfl rfl hl.1 rfl (Nat.le_of_ble_eq_true rfl) dL_law_257 ⟨Nat.le_refl _, Nat.le_refl _⟩ (fun rN uN H locs hwN hP hD hS => ?_)
  obtain ⟨c1, D1, C1, A1, O1, S1, Ln1, Ar1, Rd1⟩ := uN
  have hP : va_P (dC, dI) vwCl (wN ad cI cZ n c1 D1 C1 A1 O1 S1 Ln1 Ar1 Rd1 ++ wM bd cI cZ n c D C A O Nt) H := hP.sub [6, 7, 8, 9, 10, 11, 12, 13, 14, 0, 1, 2, 3, 4, 5] rfl
  have hD : va_D (fun q : Nat => s.heap.size ≤ q) (wN ad cI cZ n c1 D1 C1 A1 O1 S1 Ln1 Ar1 Rd1 ++ wM bd cI cZ n c D C A O Nt) := hD.sub [6, 7, 8, 9, 10, 11, 12, 13, 14, 0, 1, 2, 3, 4, 5] (by decide) rfl
  refine lv_aload_n hx hb dL_law_260 rfl (lv_at hl 2 rfl) ?_
  refine ob_callI (As := []) (rest := [.int rN]) (wr := wN ad cI cZ n c1 D1 C1 A1 O1 S1 Ln1 Ar1 Rd1) (metM_clear l dC dI bd cI cZ n c D C A O Nt H.size hW) ⟨hx, hb, hml, hown, hts⟩ (cwV 0 hts (lw_V q250 q251 q252 q24 q253) rfl rfl rfl (by decide +kernel) ⟨Nat.le_of_ble_eq_true rfl, Nat.le_of_ble_eq_true rfl⟩) hK hP hD hS hA [9, 10, 11, 12, 13, 14] [0, 1, 2, 3, 4, 5, 6, 7, 8] [0, 1] rfl rfl rfl (by decide) (by decide) (by decide) rfl (ci := 1) rfl rfl rfl rfl hl.1 rfl (Nat.le_of_ble_eq_true rfl) dL_law_261 ⟨Nat.le_refl _, Nat.le_refl _⟩ (fun rM uM H locs hwM hP hD hS => ?_)
  obtain ⟨c2, D2, C2, A2, O2, Nt2⟩ := uM
  have hP : va_P (dC, dI) vwCl (wN ad cI cZ n c1 D1 C1 A1 O1 S1 Ln1 Ar1 Rd1 ++ wM bd cI cZ n c2 D2 C2 A2 O2 Nt2) H := hP
  have hD : va_D (fun q : Nat => s.heap.size ≤ q) (wN ad cI cZ n c1 D1 C1 A1 O1 S1 Ln1 Ar1 Rd1 ++ wM bd cI cZ n c2 D2 C2 A2 O2 Nt2) := hD
  have hsame := same_clear (S := S) (Ln := Ln) (Ar := Ar) (Rd := Rd) (Nt := Nt) hW hwN hwM
  refine lv_icmp_eq (tgt := 485) hx hb dL_law_264 (by decide) (fun _ => ?_) (fun hne => absurd hsame.1 hne)
  obtain ⟨-, e1, e2, e3, e4, e5, hW2⟩ := hsame
  have e1 : c1 = c2 := e1
  have e2 : D1 = D2 := e2
  have e3 : C1 = C2 := e3
  have e4 : A1 = A2 := e4
  have e5 : O1 = O2 := e5
  rw [← e1, ← e2, ← e3, ← e4, ← e5] at hP hD
  exact K c1 D1 C1 A1 O1 S1 Ln1 Ar1 Rd1 Nt2 _ _ hW2 hP hD hS ls hl
set_option maxHeartbeats 4000000 in
set_option maxRecDepth 100000 in
theorem law_carryOut {p : Program} {l : Launch} {e : Env} {s : State} {m : MethodId} {below : List Frame} {meth : Method} {cd : Code} {dC : Nat → ClassId} {dI : Nat → Nat → Nat} {ad bd : Nat → Nat} {cI cZ : ClassId} {n b L : Nat} {xs : Nat → Int32} {Q : State → Prop} (hL : L ≤ 257) (hx : p.tables.exec = Jvm.exec) (hb : cd.code = code) (hml : cd.maxLocals = 4) (hown : s.vm.findClass R_law = some m.cls) (hts : ∀ w ∈ lw_all, w.before #[Value.ref b] s = true) (hX : va_X b L xs s s.heap) (hbl : b < s.heap.size) (hK : va_K (dC, dI) vwCl [(cI, .int), (cZ, .boolean)] s) (i : Nat) (hi : i + 4 ≤ L) (K : ∀ (c : Nat) (D C : Nat → Nat) (A O S Ln Ar Rd Nt : Nat → Int) (H : Heap) (locs : List Loc), WF n c D C A O → va_P (dC, dI) vwCl (wN ad cI cZ n c D C A O S Ln Ar Rd ++ wM bd cI cZ n c D C A O Nt) H → va_D (fun q : Nat => s.heap.size ≤ q) (wN ad cI cZ n c D C A O S Ln Ar Rd ++ wM bd cI cZ n c D C A O Nt) → va_S (fun q : Nat => s.heap.size ≤ q) s.heap H locs → ∀ (ls : Array Slot), lv_has ls 4 [(0, .ref b), (1, .ref (ad 0)), (2, .ref (bd 0)), (3, .int (iI i))] → W p l e room_1 s m #[Value.ref b] below meth cd H locs 600000 7290000 Q (F0 m 485 ls [])) (c : Nat) (D C : Nat → Nat) (A O S Ln Ar Rd Nt : Nat → Int) (H : Heap) (locs : List Loc) (hW : WF n c D C A O) (hP : va_P (dC, dI) vwCl (wN ad cI cZ n c D C A O S Ln Ar Rd ++ wM bd cI cZ n c D C A O Nt) H) (hD : va_D (fun q : Nat => s.heap.size ≤ q) (wN ad cI cZ n c D C A O S Ln Ar Rd ++ wM bd cI cZ n c D C A O Nt)) (hS : va_S (fun q : Nat => s.heap.size ≤ q) s.heap H locs) (ls : Array Slot) (hl : lv_has ls 4 [(0, .ref b), (1, .ref (ad 0)), (2, .ref (bd 0)), (3, .int (iI i))]) : W p l e room_1 s m #[Value.ref b] below meth cd H locs 600000 7290000 Q (F0 m 269 ls []) := by
  have hA : ∀ q : Nat, s.heap.size ≤ q → (fun q : Nat => s.heap.size ≤ q) q := fun _ h => h
  have hbA : ¬ (fun q : Nat => s.heap.size ≤ q) b := Nat.not_le.mpr hbl
  refine lv_aload_n hx hb dL_law_269 rfl (lv_at hl 1 rfl) ?_
  refine lv_aload_n hx hb dL_law_270 rfl (lv_at hl 0 rfl) ?_
  refine lv_iload_n hx hb dL_law_271 rfl (lv_at hl 3 rfl) ?_
  refine ob_ic hx hb dL_law_272 ?_
  refine ob_iadd hx hb dL_law_273 ?_
  refine ob_sld hx hb hX hbl hbA hS (i + 1) (by omega) (by omega) (by omega) dL_law_274 ?_
  refine ob_callI (As := [.int (iI (xs (i + 1)).toInt)]) (rest := []) (wr := wM bd cI cZ n c D C A O Nt) (metN_carryOut l dC dI ad cI cZ n c D C A O S Ln Ar Rd H.size (xs (i + 1)).toInt (iI_bnd _) hW) ⟨hx, hb, hml, hown, hts⟩ (cwV 1 hts (lw_V q134 q135 q136 q23 q137) rfl rfl rfl (by decide +kernel) ⟨Nat.le_of_ble_eq_true rfl, Nat.le_of_ble_eq_true rfl⟩) hK hP hD hS hA [0, 1, 2, 3, 4, 5, 6, 7, 8] [9, 10, 11, 12, 13, 14] [0, 1] rfl rfl rfl (by decide) (by decide) (by decide) rfl (ci := 0) rfl rfl rfl rfl hl.1 rfl (Nat.le_of_ble_eq_true rfl) dL_law_275 ⟨Nat.le_refl _, Nat.le_refl _⟩ (fun rN uN H locs hwN hP hD hS => ?_)
  obtain ⟨c1, D1, C1, A1, O1, S1, Ln1, Ar1, Rd1⟩ := uN
  have hP : va_P (dC, dI) vwCl (wN ad cI cZ n c1 D1 C1 A1 O1 S1 Ln1 Ar1 Rd1 ++ wM bd cI cZ n c D C A O Nt) H := hP.sub [6, 7, 8, 9, 10, 11, 12, 13, 14, 0, 1, 2, 3, 4, 5] rfl
  have hD : va_D (fun q : Nat => s.heap.size ≤ q) (wN ad cI cZ n c1 D1 C1 A1 O1 S1 Ln1 Ar1 Rd1 ++ wM bd cI cZ n c D C A O Nt) := hD.sub [6, 7, 8, 9, 10, 11, 12, 13, 14, 0, 1, 2, 3, 4, 5] (by decide) rfl
  refine lv_aload_n hx hb dL_law_278 rfl (lv_at hl 2 rfl) ?_
  refine lv_aload_n hx hb dL_law_279 rfl (lv_at hl 0 rfl) ?_
  refine lv_iload_n hx hb dL_law_280 rfl (lv_at hl 3 rfl) ?_
  refine ob_ic hx hb dL_law_281 ?_
  refine ob_iadd hx hb dL_law_282 ?_
  refine ob_sld hx hb hX hbl hbA hS (i + 1) (by omega) (by omega) (by omega) dL_law_283 ?_
  refine ob_callI (As := [.int (iI (xs (i + 1)).toInt)]) (rest := [.int rN]) (wr := wN ad cI cZ n c1 D1 C1 A1 O1 S1 Ln1 Ar1 Rd1) (metM_carryOut l dC dI bd cI cZ n c D C A O Nt H.size (xs (i + 1)).toInt (iI_bnd _) hW) ⟨hx, hb, hml, hown, hts⟩ (cwV 1 hts (lw_V q270 q271 q272 q24 q273) rfl rfl rfl (by decide +kernel) ⟨Nat.le_of_ble_eq_true rfl, Nat.le_of_ble_eq_true rfl⟩) hK hP hD hS hA [9, 10, 11, 12, 13, 14] [0, 1, 2, 3, 4, 5, 6, 7, 8] [0, 1] rfl rfl rfl (by decide) (by decide) (by decide) rfl (ci := 1) rfl rfl rfl rfl hl.1 rfl (Nat.le_of_ble_eq_true rfl) dL_law_284 ⟨Nat.le_refl _, Nat.le_refl _⟩ (fun rM uM H locs hwM hP hD hS => ?_)
  obtain ⟨c2, D2, C2, A2, O2, Nt2⟩ := uM
  have hP : va_P (dC, dI) vwCl (wN ad cI cZ n c1 D1 C1 A1 O1 S1 Ln1 Ar1 Rd1 ++ wM bd cI cZ n c2 D2 C2 A2 O2 Nt2) H := hP
  have hD : va_D (fun q : Nat => s.heap.size ≤ q) (wN ad cI cZ n c1 D1 C1 A1 O1 S1 Ln1 Ar1 Rd1 ++ wM bd cI cZ n c2 D2 C2 A2 O2 Nt2) := hD
  have hsame := same_carryOut (S := S) (Ln := Ln) (Ar := Ar) (Rd := Rd) (Nt := Nt) hW hwN hwM
  refine lv_icmp_eq (tgt := 485) hx hb dL_law_287 (by decide) (fun _ => ?_) (fun hne => absurd hsame.1 hne)
  obtain ⟨-, e1, e2, e3, e4, e5, hW2⟩ := hsame
  have e1 : c1 = c2 := e1
  have e2 : D1 = D2 := e2
  have e3 : C1 = C2 := e3
  have e4 : A1 = A2 := e4
  have e5 : O1 = O2 := e5
  rw [← e1, ← e2, ← e3, ← e4, ← e5] at hP hD
  exact K c1 D1 C1 A1 O1 S1 Ln1 Ar1 Rd1 Nt2 _ _ hW2 hP hD hS ls hl
set_option maxHeartbeats 4000000 in
set_option maxRecDepth 100000 in
theorem law_debts {p : Program} {l : Launch} {e : Env} {s : State} {m : MethodId} {below : List Frame} {meth : Method} {cd : Code} {dC : Nat → ClassId} {dI : Nat → Nat → Nat} {ad bd : Nat → Nat} {cI cZ : ClassId} {n b L : Nat} {xs : Nat → Int32} {Q : State → Prop} (hL : L ≤ 257) (hx : p.tables.exec = Jvm.exec) (hb : cd.code = code) (hml : cd.maxLocals = 4) (hown : s.vm.findClass R_law = some m.cls) (hts : ∀ w ∈ lw_all, w.before #[Value.ref b] s = true) (hX : va_X b L xs s s.heap) (hbl : b < s.heap.size) (hK : va_K (dC, dI) vwCl [(cI, .int), (cZ, .boolean)] s) (i : Nat) (hi : i + 4 ≤ L) (K : ∀ (c : Nat) (D C : Nat → Nat) (A O S Ln Ar Rd Nt : Nat → Int) (H : Heap) (locs : List Loc), WF n c D C A O → va_P (dC, dI) vwCl (wN ad cI cZ n c D C A O S Ln Ar Rd ++ wM bd cI cZ n c D C A O Nt) H → va_D (fun q : Nat => s.heap.size ≤ q) (wN ad cI cZ n c D C A O S Ln Ar Rd ++ wM bd cI cZ n c D C A O Nt) → va_S (fun q : Nat => s.heap.size ≤ q) s.heap H locs → ∀ (ls : Array Slot), lv_has ls 4 [(0, .ref b), (1, .ref (ad 0)), (2, .ref (bd 0)), (3, .int (iI i))] → W p l e room_1 s m #[Value.ref b] below meth cd H locs 600000 7290000 Q (F0 m 485 ls [])) (c : Nat) (D C : Nat → Nat) (A O S Ln Ar Rd Nt : Nat → Int) (H : Heap) (locs : List Loc) (hW : WF n c D C A O) (hP : va_P (dC, dI) vwCl (wN ad cI cZ n c D C A O S Ln Ar Rd ++ wM bd cI cZ n c D C A O Nt) H) (hD : va_D (fun q : Nat => s.heap.size ≤ q) (wN ad cI cZ n c D C A O S Ln Ar Rd ++ wM bd cI cZ n c D C A O Nt)) (hS : va_S (fun q : Nat => s.heap.size ≤ q) s.heap H locs) (ls : Array Slot) (hl : lv_has ls 4 [(0, .ref b), (1, .ref (ad 0)), (2, .ref (bd 0)), (3, .int (iI i))]) : W p l e room_1 s m #[Value.ref b] below meth cd H locs 600000 7290000 Q (F0 m 292 ls []) := by
  have hA : ∀ q : Nat, s.heap.size ≤ q → (fun q : Nat => s.heap.size ≤ q) q := fun _ h => h
  have hbA : ¬ (fun q : Nat => s.heap.size ≤ q) b := Nat.not_le.mpr hbl
  refine lv_aload_n hx hb dL_law_292 rfl (lv_at hl 1 rfl) ?_
  refine ob_callR (As := []) (rest := []) (metN_debts l dC dI ad cI cZ n c D C A O S Ln Ar Rd ) ⟨hx, hb, hml, hown, hts⟩ (cwV 0 hts (lw_V q142 q143 q144 q23 q145) rfl rfl rfl (by decide +kernel) ⟨Nat.le_of_ble_eq_true rfl, Nat.le_of_ble_eq_true rfl⟩) hK hP [0, 1, 2, 3, 4, 5, 6, 7, 8] [0, 1] rfl rfl (ci := 0) rfl rfl rfl rfl hl.1 rfl (Nat.le_of_ble_eq_true rfl) dL_law_293 ⟨Nat.le_refl _, Nat.le_refl _⟩ (fun rN eN => ?_)
  refine lv_aload_n hx hb dL_law_296 rfl (lv_at hl 2 rfl) ?_
  refine ob_callR (As := []) (rest := [.int rN]) (metM_debts l dC dI bd cI cZ n c D C A O Nt ) ⟨hx, hb, hml, hown, hts⟩ (cwV 0 hts (lw_V q274 q275 q276 q24 q277) rfl rfl rfl (by decide +kernel) ⟨Nat.le_of_ble_eq_true rfl, Nat.le_of_ble_eq_true rfl⟩) hK hP [9, 10, 11, 12, 13, 14] [0, 1] rfl rfl (ci := 1) rfl rfl rfl rfl hl.1 rfl (Nat.le_of_ble_eq_true rfl) dL_law_297 ⟨Nat.le_refl _, Nat.le_refl _⟩ (fun rM eM => ?_)
  refine lv_icmp_eq (tgt := 485) hx hb dL_law_300 (by decide) (fun _ => ?_) (fun hne => absurd (eN.trans eM.symm) hne)
  exact K _ _ _ _ _ _ _ _ _ _ _ _ hW hP hD hS ls hl
set_option maxHeartbeats 4000000 in
set_option maxRecDepth 100000 in
theorem law_amount {p : Program} {l : Launch} {e : Env} {s : State} {m : MethodId} {below : List Frame} {meth : Method} {cd : Code} {dC : Nat → ClassId} {dI : Nat → Nat → Nat} {ad bd : Nat → Nat} {cI cZ : ClassId} {n b L : Nat} {xs : Nat → Int32} {Q : State → Prop} (hL : L ≤ 257) (hx : p.tables.exec = Jvm.exec) (hb : cd.code = code) (hml : cd.maxLocals = 4) (hown : s.vm.findClass R_law = some m.cls) (hts : ∀ w ∈ lw_all, w.before #[Value.ref b] s = true) (hX : va_X b L xs s s.heap) (hbl : b < s.heap.size) (hK : va_K (dC, dI) vwCl [(cI, .int), (cZ, .boolean)] s) (i : Nat) (hi : i + 4 ≤ L) (K : ∀ (c : Nat) (D C : Nat → Nat) (A O S Ln Ar Rd Nt : Nat → Int) (H : Heap) (locs : List Loc), WF n c D C A O → va_P (dC, dI) vwCl (wN ad cI cZ n c D C A O S Ln Ar Rd ++ wM bd cI cZ n c D C A O Nt) H → va_D (fun q : Nat => s.heap.size ≤ q) (wN ad cI cZ n c D C A O S Ln Ar Rd ++ wM bd cI cZ n c D C A O Nt) → va_S (fun q : Nat => s.heap.size ≤ q) s.heap H locs → ∀ (ls : Array Slot), lv_has ls 4 [(0, .ref b), (1, .ref (ad 0)), (2, .ref (bd 0)), (3, .int (iI i))] → W p l e room_1 s m #[Value.ref b] below meth cd H locs 600000 7290000 Q (F0 m 485 ls [])) (c : Nat) (D C : Nat → Nat) (A O S Ln Ar Rd Nt : Nat → Int) (H : Heap) (locs : List Loc) (hW : WF n c D C A O) (hP : va_P (dC, dI) vwCl (wN ad cI cZ n c D C A O S Ln Ar Rd ++ wM bd cI cZ n c D C A O Nt) H) (hD : va_D (fun q : Nat => s.heap.size ≤ q) (wN ad cI cZ n c D C A O S Ln Ar Rd ++ wM bd cI cZ n c D C A O Nt)) (hS : va_S (fun q : Nat => s.heap.size ≤ q) s.heap H locs) (ls : Array Slot) (hl : lv_has ls 4 [(0, .ref b), (1, .ref (ad 0)), (2, .ref (bd 0)), (3, .int (iI i))]) : W p l e room_1 s m #[Value.ref b] below meth cd H locs 600000 7290000 Q (F0 m 305 ls []) := by
  have hA : ∀ q : Nat, s.heap.size ≤ q → (fun q : Nat => s.heap.size ≤ q) q := fun _ h => h
  have hbA : ¬ (fun q : Nat => s.heap.size ≤ q) b := Nat.not_le.mpr hbl
  refine lv_aload_n hx hb dL_law_305 rfl (lv_at hl 1 rfl) ?_
  refine lv_aload_n hx hb dL_law_306 rfl (lv_at hl 0 rfl) ?_
  refine lv_iload_n hx hb dL_law_307 rfl (lv_at hl 3 rfl) ?_
  refine ob_ic hx hb dL_law_308 ?_
  refine ob_iadd hx hb dL_law_309 ?_
  refine ob_sld hx hb hX hbl hbA hS (i + 1) (by omega) (by omega) (by omega) dL_law_310 ?_
  refine ob_callR (As := [.int (iI (xs (i + 1)).toInt)]) (rest := []) (metN_amount l dC dI ad cI cZ n c D C A O S Ln Ar Rd (xs (i + 1)).toInt (iI_bnd _) hW.2.2.1) ⟨hx, hb, hml, hown, hts⟩ (cwV 1 hts (lw_V q146 q147 q148 q23 q149) rfl rfl rfl (by decide +kernel) ⟨Nat.le_of_ble_eq_true rfl, Nat.le_of_ble_eq_true rfl⟩) hK hP [0, 1, 2, 3, 4, 5, 6, 7, 8] [0, 1] rfl rfl (ci := 0) rfl rfl rfl rfl hl.1 rfl (Nat.le_of_ble_eq_true rfl) dL_law_311 ⟨Nat.le_refl _, Nat.le_refl _⟩ (fun rN eN => ?_)
  refine lv_aload_n hx hb dL_law_314 rfl (lv_at hl 2 rfl) ?_
  refine lv_aload_n hx hb dL_law_315 rfl (lv_at hl 0 rfl) ?_
  refine lv_iload_n hx hb dL_law_316 rfl (lv_at hl 3 rfl) ?_
  refine ob_ic hx hb dL_law_317 ?_
  refine ob_iadd hx hb dL_law_318 ?_
  refine ob_sld hx hb hX hbl hbA hS (i + 1) (by omega) (by omega) (by omega) dL_law_319 ?_
  refine ob_callR (As := [.int (iI (xs (i + 1)).toInt)]) (rest := [.int rN]) (metM_amount l dC dI bd cI cZ n c D C A O Nt (xs (i + 1)).toInt (iI_bnd _) hW.2.2.1) ⟨hx, hb, hml, hown, hts⟩ (cwV 1 hts (lw_V q278 q279 q280 q24 q281) rfl rfl rfl (by decide +kernel) ⟨Nat.le_of_ble_eq_true rfl, Nat.le_of_ble_eq_true rfl⟩) hK hP [9, 10, 11, 12, 13, 14] [0, 1] rfl rfl (ci := 1) rfl rfl rfl rfl hl.1 rfl (Nat.le_of_ble_eq_true rfl) dL_law_320 ⟨Nat.le_refl _, Nat.le_refl _⟩ (fun rM eM => ?_)
  refine lv_icmp_eq (tgt := 485) hx hb dL_law_323 (by decide) (fun _ => ?_) (fun hne => absurd (eN.trans eM.symm) hne)
  exact K _ _ _ _ _ _ _ _ _ _ _ _ hW hP hD hS ls hl
set_option maxHeartbeats 4000000 in
set_option maxRecDepth 100000 in
theorem law_balance {p : Program} {l : Launch} {e : Env} {s : State} {m : MethodId} {below : List Frame} {meth : Method} {cd : Code} {dC : Nat → ClassId} {dI : Nat → Nat → Nat} {ad bd : Nat → Nat} {cI cZ : ClassId} {n b L : Nat} {xs : Nat → Int32} {Q : State → Prop} (hL : L ≤ 257) (hx : p.tables.exec = Jvm.exec) (hb : cd.code = code) (hml : cd.maxLocals = 4) (hown : s.vm.findClass R_law = some m.cls) (hts : ∀ w ∈ lw_all, w.before #[Value.ref b] s = true) (hX : va_X b L xs s s.heap) (hbl : b < s.heap.size) (hK : va_K (dC, dI) vwCl [(cI, .int), (cZ, .boolean)] s) (i : Nat) (hi : i + 4 ≤ L) (K : ∀ (c : Nat) (D C : Nat → Nat) (A O S Ln Ar Rd Nt : Nat → Int) (H : Heap) (locs : List Loc), WF n c D C A O → va_P (dC, dI) vwCl (wN ad cI cZ n c D C A O S Ln Ar Rd ++ wM bd cI cZ n c D C A O Nt) H → va_D (fun q : Nat => s.heap.size ≤ q) (wN ad cI cZ n c D C A O S Ln Ar Rd ++ wM bd cI cZ n c D C A O Nt) → va_S (fun q : Nat => s.heap.size ≤ q) s.heap H locs → ∀ (ls : Array Slot), lv_has ls 4 [(0, .ref b), (1, .ref (ad 0)), (2, .ref (bd 0)), (3, .int (iI i))] → W p l e room_1 s m #[Value.ref b] below meth cd H locs 600000 7290000 Q (F0 m 485 ls [])) (c : Nat) (D C : Nat → Nat) (A O S Ln Ar Rd Nt : Nat → Int) (H : Heap) (locs : List Loc) (hW : WF n c D C A O) (hP : va_P (dC, dI) vwCl (wN ad cI cZ n c D C A O S Ln Ar Rd ++ wM bd cI cZ n c D C A O Nt) H) (hD : va_D (fun q : Nat => s.heap.size ≤ q) (wN ad cI cZ n c D C A O S Ln Ar Rd ++ wM bd cI cZ n c D C A O Nt)) (hS : va_S (fun q : Nat => s.heap.size ≤ q) s.heap H locs) (ls : Array Slot) (hl : lv_has ls 4 [(0, .ref b), (1, .ref (ad 0)), (2, .ref (bd 0)), (3, .int (iI i))]) : W p l e room_1 s m #[Value.ref b] below meth cd H locs 600000 7290000 Q (F0 m 328 ls []) := by
  have hA : ∀ q : Nat, s.heap.size ≤ q → (fun q : Nat => s.heap.size ≤ q) q := fun _ h => h
  have hbA : ¬ (fun q : Nat => s.heap.size ≤ q) b := Nat.not_le.mpr hbl
  refine lv_aload_n hx hb dL_law_328 rfl (lv_at hl 1 rfl) ?_
  refine lv_aload_n hx hb dL_law_329 rfl (lv_at hl 0 rfl) ?_
  refine lv_iload_n hx hb dL_law_330 rfl (lv_at hl 3 rfl) ?_
  refine ob_ic hx hb dL_law_331 ?_
  refine ob_iadd hx hb dL_law_332 ?_
  refine ob_sld hx hb hX hbl hbA hS (i + 1) (by omega) (by omega) (by omega) dL_law_333 ?_
  refine ob_callR (As := [.int (iI (xs (i + 1)).toInt)]) (rest := []) (metN_balance l dC dI ad cI cZ n c D C A O S Ln Ar Rd (xs (i + 1)).toInt (iI_bnd _) hW.2.1 hW.2.2.1 hW.DC5) ⟨hx, hb, hml, hown, hts⟩ (cwV 1 hts (lw_V q150 q151 q152 q23 q153) rfl rfl rfl (by decide +kernel) ⟨Nat.le_of_ble_eq_true rfl, Nat.le_of_ble_eq_true rfl⟩) hK hP [0, 1, 2, 3, 4, 5, 6, 7, 8] [0, 1] rfl rfl (ci := 0) rfl rfl rfl rfl hl.1 rfl (Nat.le_of_ble_eq_true rfl) dL_law_334 ⟨Nat.le_refl _, Nat.le_refl _⟩ (fun rN eN => ?_)
  refine lv_aload_n hx hb dL_law_337 rfl (lv_at hl 2 rfl) ?_
  refine lv_aload_n hx hb dL_law_338 rfl (lv_at hl 0 rfl) ?_
  refine lv_iload_n hx hb dL_law_339 rfl (lv_at hl 3 rfl) ?_
  refine ob_ic hx hb dL_law_340 ?_
  refine ob_iadd hx hb dL_law_341 ?_
  refine ob_sld hx hb hX hbl hbA hS (i + 1) (by omega) (by omega) (by omega) dL_law_342 ?_
  refine ob_callR (As := [.int (iI (xs (i + 1)).toInt)]) (rest := [.int rN]) (metM_balance l dC dI bd cI cZ n c D C A O Nt (xs (i + 1)).toInt (iI_bnd _) hW.2.1 hW.2.2.1 hW.DC5) ⟨hx, hb, hml, hown, hts⟩ (cwV 1 hts (lw_V q282 q283 q284 q24 q285) rfl rfl rfl (by decide +kernel) ⟨Nat.le_of_ble_eq_true rfl, Nat.le_of_ble_eq_true rfl⟩) hK hP [9, 10, 11, 12, 13, 14] [0, 1] rfl rfl (ci := 1) rfl rfl rfl rfl hl.1 rfl (Nat.le_of_ble_eq_true rfl) dL_law_343 ⟨Nat.le_refl _, Nat.le_refl _⟩ (fun rM eM => ?_)
  refine lv_icmp_eq (tgt := 485) hx hb dL_law_346 (by decide) (fun _ => ?_) (fun hne => absurd (eN.trans eM.symm) hne)
  exact K _ _ _ _ _ _ _ _ _ _ _ _ hW hP hD hS ls hl
set_option maxHeartbeats 4000000 in
set_option maxRecDepth 100000 in
theorem law_outstanding {p : Program} {l : Launch} {e : Env} {s : State} {m : MethodId} {below : List Frame} {meth : Method} {cd : Code} {dC : Nat → ClassId} {dI : Nat → Nat → Nat} {ad bd : Nat → Nat} {cI cZ : ClassId} {n b L : Nat} {xs : Nat → Int32} {Q : State → Prop} (hL : L ≤ 257) (hx : p.tables.exec = Jvm.exec) (hb : cd.code = code) (hml : cd.maxLocals = 4) (hown : s.vm.findClass R_law = some m.cls) (hts : ∀ w ∈ lw_all, w.before #[Value.ref b] s = true) (hX : va_X b L xs s s.heap) (hbl : b < s.heap.size) (hK : va_K (dC, dI) vwCl [(cI, .int), (cZ, .boolean)] s) (i : Nat) (hi : i + 4 ≤ L) (K : ∀ (c : Nat) (D C : Nat → Nat) (A O S Ln Ar Rd Nt : Nat → Int) (H : Heap) (locs : List Loc), WF n c D C A O → va_P (dC, dI) vwCl (wN ad cI cZ n c D C A O S Ln Ar Rd ++ wM bd cI cZ n c D C A O Nt) H → va_D (fun q : Nat => s.heap.size ≤ q) (wN ad cI cZ n c D C A O S Ln Ar Rd ++ wM bd cI cZ n c D C A O Nt) → va_S (fun q : Nat => s.heap.size ≤ q) s.heap H locs → ∀ (ls : Array Slot), lv_has ls 4 [(0, .ref b), (1, .ref (ad 0)), (2, .ref (bd 0)), (3, .int (iI i))] → W p l e room_1 s m #[Value.ref b] below meth cd H locs 600000 7290000 Q (F0 m 485 ls [])) (c : Nat) (D C : Nat → Nat) (A O S Ln Ar Rd Nt : Nat → Int) (H : Heap) (locs : List Loc) (hW : WF n c D C A O) (hP : va_P (dC, dI) vwCl (wN ad cI cZ n c D C A O S Ln Ar Rd ++ wM bd cI cZ n c D C A O Nt) H) (hD : va_D (fun q : Nat => s.heap.size ≤ q) (wN ad cI cZ n c D C A O S Ln Ar Rd ++ wM bd cI cZ n c D C A O Nt)) (hS : va_S (fun q : Nat => s.heap.size ≤ q) s.heap H locs) (ls : Array Slot) (hl : lv_has ls 4 [(0, .ref b), (1, .ref (ad 0)), (2, .ref (bd 0)), (3, .int (iI i))]) : W p l e room_1 s m #[Value.ref b] below meth cd H locs 600000 7290000 Q (F0 m 351 ls []) := by
  have hA : ∀ q : Nat, s.heap.size ≤ q → (fun q : Nat => s.heap.size ≤ q) q := fun _ h => h
  have hbA : ¬ (fun q : Nat => s.heap.size ≤ q) b := Nat.not_le.mpr hbl
  refine lv_aload_n hx hb dL_law_351 rfl (lv_at hl 1 rfl) ?_
  refine ob_callR (As := []) (rest := []) (metN_outstanding l dC dI ad cI cZ n c D C A O S Ln Ar Rd hW.2.2.1) ⟨hx, hb, hml, hown, hts⟩ (cwV 0 hts (lw_V q158 q159 q160 q23 q161) rfl rfl rfl (by decide +kernel) ⟨Nat.le_of_ble_eq_true rfl, Nat.le_of_ble_eq_true rfl⟩) hK hP [0, 1, 2, 3, 4, 5, 6, 7, 8] [0, 1] rfl rfl (ci := 0) rfl rfl rfl rfl hl.1 rfl (Nat.le_of_ble_eq_true rfl) dL_law_352 ⟨Nat.le_refl _, Nat.le_refl _⟩ (fun rN eN => ?_)
  refine lv_aload_n hx hb dL_law_355 rfl (lv_at hl 2 rfl) ?_
  refine ob_callR (As := []) (rest := [.int rN]) (metM_outstanding l dC dI bd cI cZ n c D C A O Nt hW.2.2.1) ⟨hx, hb, hml, hown, hts⟩ (cwV 0 hts (lw_V q290 q291 q292 q24 q293) rfl rfl rfl (by decide +kernel) ⟨Nat.le_of_ble_eq_true rfl, Nat.le_of_ble_eq_true rfl⟩) hK hP [9, 10, 11, 12, 13, 14] [0, 1] rfl rfl (ci := 1) rfl rfl rfl rfl hl.1 rfl (Nat.le_of_ble_eq_true rfl) dL_law_356 ⟨Nat.le_refl _, Nat.le_refl _⟩ (fun rM eM => ?_)
  refine lv_icmp_eq (tgt := 485) hx hb dL_law_359 (by decide) (fun _ => ?_) (fun hne => absurd (eN.trans eM.symm) hne)
  exact K _ _ _ _ _ _ _ _ _ _ _ _ hW hP hD hS ls hl
set_option maxHeartbeats 4000000 in
set_option maxRecDepth 100000 in
theorem law_best {p : Program} {l : Launch} {e : Env} {s : State} {m : MethodId} {below : List Frame} {meth : Method} {cd : Code} {dC : Nat → ClassId} {dI : Nat → Nat → Nat} {ad bd : Nat → Nat} {cI cZ : ClassId} {n b L : Nat} {xs : Nat → Int32} {Q : State → Prop} (hL : L ≤ 257) (hx : p.tables.exec = Jvm.exec) (hb : cd.code = code) (hml : cd.maxLocals = 4) (hown : s.vm.findClass R_law = some m.cls) (hts : ∀ w ∈ lw_all, w.before #[Value.ref b] s = true) (hX : va_X b L xs s s.heap) (hbl : b < s.heap.size) (hK : va_K (dC, dI) vwCl [(cI, .int), (cZ, .boolean)] s) (i : Nat) (hi : i + 4 ≤ L) (K : ∀ (c : Nat) (D C : Nat → Nat) (A O S Ln Ar Rd Nt : Nat → Int) (H : Heap) (locs : List Loc), WF n c D C A O → va_P (dC, dI) vwCl (wN ad cI cZ n c D C A O S Ln Ar Rd ++ wM bd cI cZ n c D C A O Nt) H → va_D (fun q : Nat => s.heap.size ≤ q) (wN ad cI cZ n c D C A O S Ln Ar Rd ++ wM bd cI cZ n c D C A O Nt) → va_S (fun q : Nat => s.heap.size ≤ q) s.heap H locs → ∀ (ls : Array Slot), lv_has ls 4 [(0, .ref b), (1, .ref (ad 0)), (2, .ref (bd 0)), (3, .int (iI i))] → W p l e room_1 s m #[Value.ref b] below meth cd H locs 600000 7290000 Q (F0 m 485 ls [])) (c : Nat) (D C : Nat → Nat) (A O S Ln Ar Rd Nt : Nat → Int) (H : Heap) (locs : List Loc) (hW : WF n c D C A O) (hP : va_P (dC, dI) vwCl (wN ad cI cZ n c D C A O S Ln Ar Rd ++ wM bd cI cZ n c D C A O Nt) H) (hD : va_D (fun q : Nat => s.heap.size ≤ q) (wN ad cI cZ n c D C A O S Ln Ar Rd ++ wM bd cI cZ n c D C A O Nt)) (hS : va_S (fun q : Nat => s.heap.size ≤ q) s.heap H locs) (ls : Array Slot) (hl : lv_has ls 4 [(0, .ref b), (1, .ref (ad 0)), (2, .ref (bd 0)), (3, .int (iI i))]) : W p l e room_1 s m #[Value.ref b] below meth cd H locs 600000 7290000 Q (F0 m 364 ls []) := by
  have hA : ∀ q : Nat, s.heap.size ≤ q → (fun q : Nat => s.heap.size ≤ q) q := fun _ h => h
  have hbA : ¬ (fun q : Nat => s.heap.size ≤ q) b := Nat.not_le.mpr hbl
  refine lv_aload_n hx hb dL_law_364 rfl (lv_at hl 1 rfl) ?_
  refine ob_callI (As := []) (rest := []) (wr := wM bd cI cZ n c D C A O Nt) (metN_best l dC dI ad cI cZ n c D C A O S Ln Ar Rd H.size hW) ⟨hx, hb, hml, hown, hts⟩ (cwV 0 hts (lw_V q162 q163 q164 q23 q165) rfl rfl rfl (by decide +kernel) ⟨Nat.le_of_ble_eq_true rfl, Nat.le_of_ble_eq_true rfl⟩) hK hP hD hS hA [0, 1, 2, 3, 4, 5, 6, 7, 8] [9, 10, 11, 12, 13, 14] [0, 1] rfl rfl rfl (by decide) (by decide) (by decide) rfl (ci := 0) rfl rfl rfl rfl hl.1 rfl (Nat.le_of_ble_eq_true rfl) dL_law_365 ⟨Nat.le_refl _, Nat.le_refl _⟩ (fun rN uN H locs hwN hP hD hS => ?_)
  obtain ⟨c1, D1, C1, A1, O1, S1, Ln1, Ar1, Rd1⟩ := uN
  have hP : va_P (dC, dI) vwCl (wN ad cI cZ n c1 D1 C1 A1 O1 S1 Ln1 Ar1 Rd1 ++ wM bd cI cZ n c D C A O Nt) H := hP.sub [6, 7, 8, 9, 10, 11, 12, 13, 14, 0, 1, 2, 3, 4, 5] rfl
  have hD : va_D (fun q : Nat => s.heap.size ≤ q) (wN ad cI cZ n c1 D1 C1 A1 O1 S1 Ln1 Ar1 Rd1 ++ wM bd cI cZ n c D C A O Nt) := hD.sub [6, 7, 8, 9, 10, 11, 12, 13, 14, 0, 1, 2, 3, 4, 5] (by decide) rfl
  refine lv_aload_n hx hb dL_law_368 rfl (lv_at hl 2 rfl) ?_
  refine ob_callI (As := []) (rest := [.int rN]) (wr := wN ad cI cZ n c1 D1 C1 A1 O1 S1 Ln1 Ar1 Rd1) (metM_best l dC dI bd cI cZ n c D C A O Nt H.size hW) ⟨hx, hb, hml, hown, hts⟩ (cwV 0 hts (lw_V q294 q295 q296 q24 q297) rfl rfl rfl (by decide +kernel) ⟨Nat.le_of_ble_eq_true rfl, Nat.le_of_ble_eq_true rfl⟩) hK hP hD hS hA [9, 10, 11, 12, 13, 14] [0, 1, 2, 3, 4, 5, 6, 7, 8] [0, 1] rfl rfl rfl (by decide) (by decide) (by decide) rfl (ci := 1) rfl rfl rfl rfl hl.1 rfl (Nat.le_of_ble_eq_true rfl) dL_law_369 ⟨Nat.le_refl _, Nat.le_refl _⟩ (fun rM uM H locs hwM hP hD hS => ?_)
  obtain ⟨c2, D2, C2, A2, O2, Nt2⟩ := uM
  have hP : va_P (dC, dI) vwCl (wN ad cI cZ n c1 D1 C1 A1 O1 S1 Ln1 Ar1 Rd1 ++ wM bd cI cZ n c2 D2 C2 A2 O2 Nt2) H := hP
  have hD : va_D (fun q : Nat => s.heap.size ≤ q) (wN ad cI cZ n c1 D1 C1 A1 O1 S1 Ln1 Ar1 Rd1 ++ wM bd cI cZ n c2 D2 C2 A2 O2 Nt2) := hD
  have hsame := same_best (S := S) (Ln := Ln) (Ar := Ar) (Rd := Rd) (Nt := Nt) hW hwN hwM
  refine lv_icmp_eq (tgt := 485) hx hb dL_law_372 (by decide) (fun _ => ?_) (fun hne => absurd hsame.1 hne)
  obtain ⟨-, e1, e2, e3, e4, e5, hW2⟩ := hsame
  have e1 : c1 = c2 := e1
  have e2 : D1 = D2 := e2
  have e3 : C1 = C2 := e3
  have e4 : A1 = A2 := e4
  have e5 : O1 = O2 := e5
  rw [← e1, ← e2, ← e3, ← e4, ← e5] at hP hD
  exact K c1 D1 C1 A1 O1 S1 Ln1 Ar1 Rd1 Nt2 _ _ hW2 hP hD hS ls hl
set_option maxHeartbeats 4000000 in
set_option maxRecDepth 100000 in
theorem law_bestCode {p : Program} {l : Launch} {e : Env} {s : State} {m : MethodId} {below : List Frame} {meth : Method} {cd : Code} {dC : Nat → ClassId} {dI : Nat → Nat → Nat} {ad bd : Nat → Nat} {cI cZ : ClassId} {n b L : Nat} {xs : Nat → Int32} {Q : State → Prop} (hL : L ≤ 257) (hx : p.tables.exec = Jvm.exec) (hb : cd.code = code) (hml : cd.maxLocals = 4) (hown : s.vm.findClass R_law = some m.cls) (hts : ∀ w ∈ lw_all, w.before #[Value.ref b] s = true) (hX : va_X b L xs s s.heap) (hbl : b < s.heap.size) (hK : va_K (dC, dI) vwCl [(cI, .int), (cZ, .boolean)] s) (i : Nat) (hi : i + 4 ≤ L) (K : ∀ (c : Nat) (D C : Nat → Nat) (A O S Ln Ar Rd Nt : Nat → Int) (H : Heap) (locs : List Loc), WF n c D C A O → va_P (dC, dI) vwCl (wN ad cI cZ n c D C A O S Ln Ar Rd ++ wM bd cI cZ n c D C A O Nt) H → va_D (fun q : Nat => s.heap.size ≤ q) (wN ad cI cZ n c D C A O S Ln Ar Rd ++ wM bd cI cZ n c D C A O Nt) → va_S (fun q : Nat => s.heap.size ≤ q) s.heap H locs → ∀ (ls : Array Slot), lv_has ls 4 [(0, .ref b), (1, .ref (ad 0)), (2, .ref (bd 0)), (3, .int (iI i))] → W p l e room_1 s m #[Value.ref b] below meth cd H locs 600000 7290000 Q (F0 m 485 ls [])) (c : Nat) (D C : Nat → Nat) (A O S Ln Ar Rd Nt : Nat → Int) (H : Heap) (locs : List Loc) (hW : WF n c D C A O) (hP : va_P (dC, dI) vwCl (wN ad cI cZ n c D C A O S Ln Ar Rd ++ wM bd cI cZ n c D C A O Nt) H) (hD : va_D (fun q : Nat => s.heap.size ≤ q) (wN ad cI cZ n c D C A O S Ln Ar Rd ++ wM bd cI cZ n c D C A O Nt)) (hS : va_S (fun q : Nat => s.heap.size ≤ q) s.heap H locs) (ls : Array Slot) (hl : lv_has ls 4 [(0, .ref b), (1, .ref (ad 0)), (2, .ref (bd 0)), (3, .int (iI i))]) : W p l e room_1 s m #[Value.ref b] below meth cd H locs 600000 7290000 Q (F0 m 377 ls []) := by
  have hA : ∀ q : Nat, s.heap.size ≤ q → (fun q : Nat => s.heap.size ≤ q) q := fun _ h => h
  have hbA : ¬ (fun q : Nat => s.heap.size ≤ q) b := Nat.not_le.mpr hbl
  refine lv_aload_n hx hb dL_law_377 rfl (lv_at hl 1 rfl) ?_
  refine ob_callI (As := []) (rest := []) (wr := wM bd cI cZ n c D C A O Nt) (metN_bestCode l dC dI ad cI cZ n c D C A O S Ln Ar Rd H.size hW) ⟨hx, hb, hml, hown, hts⟩ (cwV 0 hts (lw_V q170 q171 q172 q23 q173) rfl rfl rfl (by decide +kernel) ⟨Nat.le_of_ble_eq_true rfl, Nat.le_of_ble_eq_true rfl⟩) hK hP hD hS hA [0, 1, 2, 3, 4, 5, 6, 7, 8] [9, 10, 11, 12, 13, 14] [0, 1] rfl rfl rfl (by decide) (by decide) (by decide) rfl (ci := 0) rfl rfl rfl rfl hl.1 rfl (Nat.le_of_ble_eq_true rfl) dL_law_378 ⟨Nat.le_refl _, Nat.le_refl _⟩ (fun rN uN H locs hwN hP hD hS => ?_)
  obtain ⟨c1, D1, C1, A1, O1, S1, Ln1, Ar1, Rd1⟩ := uN
  have hP : va_P (dC, dI) vwCl (wN ad cI cZ n c1 D1 C1 A1 O1 S1 Ln1 Ar1 Rd1 ++ wM bd cI cZ n c D C A O Nt) H := hP.sub [6, 7, 8, 9, 10, 11, 12, 13, 14, 0, 1, 2, 3, 4, 5] rfl
  have hD : va_D (fun q : Nat => s.heap.size ≤ q) (wN ad cI cZ n c1 D1 C1 A1 O1 S1 Ln1 Ar1 Rd1 ++ wM bd cI cZ n c D C A O Nt) := hD.sub [6, 7, 8, 9, 10, 11, 12, 13, 14, 0, 1, 2, 3, 4, 5] (by decide) rfl
  refine lv_aload_n hx hb dL_law_381 rfl (lv_at hl 2 rfl) ?_
  refine ob_callI (As := []) (rest := [.int rN]) (wr := wN ad cI cZ n c1 D1 C1 A1 O1 S1 Ln1 Ar1 Rd1) (metM_bestCode l dC dI bd cI cZ n c D C A O Nt H.size hW) ⟨hx, hb, hml, hown, hts⟩ (cwV 0 hts (lw_V q302 q303 q304 q24 q305) rfl rfl rfl (by decide +kernel) ⟨Nat.le_of_ble_eq_true rfl, Nat.le_of_ble_eq_true rfl⟩) hK hP hD hS hA [9, 10, 11, 12, 13, 14] [0, 1, 2, 3, 4, 5, 6, 7, 8] [0, 1] rfl rfl rfl (by decide) (by decide) (by decide) rfl (ci := 1) rfl rfl rfl rfl hl.1 rfl (Nat.le_of_ble_eq_true rfl) dL_law_382 ⟨Nat.le_refl _, Nat.le_refl _⟩ (fun rM uM H locs hwM hP hD hS => ?_)
  obtain ⟨c2, D2, C2, A2, O2, Nt2⟩ := uM
  have hP : va_P (dC, dI) vwCl (wN ad cI cZ n c1 D1 C1 A1 O1 S1 Ln1 Ar1 Rd1 ++ wM bd cI cZ n c2 D2 C2 A2 O2 Nt2) H := hP
  have hD : va_D (fun q : Nat => s.heap.size ≤ q) (wN ad cI cZ n c1 D1 C1 A1 O1 S1 Ln1 Ar1 Rd1 ++ wM bd cI cZ n c2 D2 C2 A2 O2 Nt2) := hD
  have hsame := same_bestCode (S := S) (Ln := Ln) (Ar := Ar) (Rd := Rd) (Nt := Nt) hW hwN hwM
  refine lv_icmp_eq (tgt := 485) hx hb dL_law_385 (by decide) (fun _ => ?_) (fun hne => absurd hsame.1 hne)
  obtain ⟨-, e1, e2, e3, e4, e5, hW2⟩ := hsame
  have e1 : c1 = c2 := e1
  have e2 : D1 = D2 := e2
  have e3 : C1 = C2 := e3
  have e4 : A1 = A2 := e4
  have e5 : O1 = O2 := e5
  rw [← e1, ← e2, ← e3, ← e4, ← e5] at hP hD
  exact K c1 D1 C1 A1 O1 S1 Ln1 Ar1 Rd1 Nt2 _ _ hW2 hP hD hS ls hl
set_option maxHeartbeats 4000000 in
set_option maxRecDepth 100000 in
theorem law_isClearing {p : Program} {l : Launch} {e : Env} {s : State} {m : MethodId} {below : List Frame} {meth : Method} {cd : Code} {dC : Nat → ClassId} {dI : Nat → Nat → Nat} {ad bd : Nat → Nat} {cI cZ : ClassId} {n b L : Nat} {xs : Nat → Int32} {Q : State → Prop} (hL : L ≤ 257) (hx : p.tables.exec = Jvm.exec) (hb : cd.code = code) (hml : cd.maxLocals = 4) (hown : s.vm.findClass R_law = some m.cls) (hts : ∀ w ∈ lw_all, w.before #[Value.ref b] s = true) (hX : va_X b L xs s s.heap) (hbl : b < s.heap.size) (hK : va_K (dC, dI) vwCl [(cI, .int), (cZ, .boolean)] s) (i : Nat) (hi : i + 4 ≤ L) (K : ∀ (c : Nat) (D C : Nat → Nat) (A O S Ln Ar Rd Nt : Nat → Int) (H : Heap) (locs : List Loc), WF n c D C A O → va_P (dC, dI) vwCl (wN ad cI cZ n c D C A O S Ln Ar Rd ++ wM bd cI cZ n c D C A O Nt) H → va_D (fun q : Nat => s.heap.size ≤ q) (wN ad cI cZ n c D C A O S Ln Ar Rd ++ wM bd cI cZ n c D C A O Nt) → va_S (fun q : Nat => s.heap.size ≤ q) s.heap H locs → ∀ (ls : Array Slot), lv_has ls 4 [(0, .ref b), (1, .ref (ad 0)), (2, .ref (bd 0)), (3, .int (iI i))] → W p l e room_1 s m #[Value.ref b] below meth cd H locs 600000 7290000 Q (F0 m 485 ls [])) (c : Nat) (D C : Nat → Nat) (A O S Ln Ar Rd Nt : Nat → Int) (H : Heap) (locs : List Loc) (hW : WF n c D C A O) (hP : va_P (dC, dI) vwCl (wN ad cI cZ n c D C A O S Ln Ar Rd ++ wM bd cI cZ n c D C A O Nt) H) (hD : va_D (fun q : Nat => s.heap.size ≤ q) (wN ad cI cZ n c D C A O S Ln Ar Rd ++ wM bd cI cZ n c D C A O Nt)) (hS : va_S (fun q : Nat => s.heap.size ≤ q) s.heap H locs) (ls : Array Slot) (hl : lv_has ls 4 [(0, .ref b), (1, .ref (ad 0)), (2, .ref (bd 0)), (3, .int (iI i))]) : W p l e room_1 s m #[Value.ref b] below meth cd H locs 600000 7290000 Q (F0 m 390 ls []) := by
  have hA : ∀ q : Nat, s.heap.size ≤ q → (fun q : Nat => s.heap.size ≤ q) q := fun _ h => h
  have hbA : ¬ (fun q : Nat => s.heap.size ≤ q) b := Nat.not_le.mpr hbl
  refine lv_aload_n hx hb dL_law_390 rfl (lv_at hl 1 rfl) ?_
  refine lv_aload_n hx hb dL_law_391 rfl (lv_at hl 0 rfl) ?_
  refine lv_iload_n hx hb dL_law_392 rfl (lv_at hl 3 rfl) ?_
  refine ob_ic hx hb dL_law_393 ?_
  refine ob_iadd hx hb dL_law_394 ?_
  refine ob_sld hx hb hX hbl hbA hS (i + 1) (by omega) (by omega) (by omega) dL_law_395 ?_
  refine ob_callI (As := [.int (iI (xs (i + 1)).toInt)]) (rest := []) (wr := wM bd cI cZ n c D C A O Nt) (metN_isClearing l dC dI ad cI cZ n c D C A O S Ln Ar Rd H.size (xs (i + 1)).toInt (iI_bnd _) hW) ⟨hx, hb, hml, hown, hts⟩ (cwV 1 hts (lw_V q174 q175 q176 q23 q177) rfl rfl rfl (by decide +kernel) ⟨Nat.le_of_ble_eq_true rfl, Nat.le_of_ble_eq_true rfl⟩) hK hP hD hS hA [0, 1, 2, 3, 4, 5, 6, 7, 8] [9, 10, 11, 12, 13, 14] [0, 1] rfl rfl rfl (by decide) (by decide) (by decide) rfl (ci := 0) rfl rfl rfl rfl hl.1 rfl (Nat.le_of_ble_eq_true rfl) dL_law_396 ⟨Nat.le_refl _, Nat.le_refl _⟩ (fun rN uN H locs hwN hP hD hS => ?_)
  obtain ⟨c1, D1, C1, A1, O1, S1, Ln1, Ar1, Rd1⟩ := uN
  have hP : va_P (dC, dI) vwCl (wN ad cI cZ n c1 D1 C1 A1 O1 S1 Ln1 Ar1 Rd1 ++ wM bd cI cZ n c D C A O Nt) H := hP.sub [6, 7, 8, 9, 10, 11, 12, 13, 14, 0, 1, 2, 3, 4, 5] rfl
  have hD : va_D (fun q : Nat => s.heap.size ≤ q) (wN ad cI cZ n c1 D1 C1 A1 O1 S1 Ln1 Ar1 Rd1 ++ wM bd cI cZ n c D C A O Nt) := hD.sub [6, 7, 8, 9, 10, 11, 12, 13, 14, 0, 1, 2, 3, 4, 5] (by decide) rfl
  refine lv_aload_n hx hb dL_law_399 rfl (lv_at hl 2 rfl) ?_
  refine lv_aload_n hx hb dL_law_400 rfl (lv_at hl 0 rfl) ?_
  refine lv_iload_n hx hb dL_law_401 rfl (lv_at hl 3 rfl) ?_
  refine ob_ic hx hb dL_law_402 ?_
  refine ob_iadd hx hb dL_law_403 ?_
  refine ob_sld hx hb hX hbl hbA hS (i + 1) (by omega) (by omega) (by omega) dL_law_404 ?_
  refine ob_callI (As := [.int (iI (xs (i + 1)).toInt)]) (rest := [.int rN]) (wr := wN ad cI cZ n c1 D1 C1 A1 O1 S1 Ln1 Ar1 Rd1) (metM_isClearing l dC dI bd cI cZ n c D C A O Nt H.size (xs (i + 1)).toInt (iI_bnd _) hW) ⟨hx, hb, hml, hown, hts⟩ (cwV 1 hts (lw_V q306 q307 q308 q24 q309) rfl rfl rfl (by decide +kernel) ⟨Nat.le_of_ble_eq_true rfl, Nat.le_of_ble_eq_true rfl⟩) hK hP hD hS hA [9, 10, 11, 12, 13, 14] [0, 1, 2, 3, 4, 5, 6, 7, 8] [0, 1] rfl rfl rfl (by decide) (by decide) (by decide) rfl (ci := 1) rfl rfl rfl rfl hl.1 rfl (Nat.le_of_ble_eq_true rfl) dL_law_405 ⟨Nat.le_refl _, Nat.le_refl _⟩ (fun rM uM H locs hwM hP hD hS => ?_)
  obtain ⟨c2, D2, C2, A2, O2, Nt2⟩ := uM
  have hP : va_P (dC, dI) vwCl (wN ad cI cZ n c1 D1 C1 A1 O1 S1 Ln1 Ar1 Rd1 ++ wM bd cI cZ n c2 D2 C2 A2 O2 Nt2) H := hP
  have hD : va_D (fun q : Nat => s.heap.size ≤ q) (wN ad cI cZ n c1 D1 C1 A1 O1 S1 Ln1 Ar1 Rd1 ++ wM bd cI cZ n c2 D2 C2 A2 O2 Nt2) := hD
  have hsame := same_isClearing (S := S) (Ln := Ln) (Ar := Ar) (Rd := Rd) (Nt := Nt) hW hwN hwM
  refine lv_icmp_eq (tgt := 485) hx hb dL_law_408 (by decide) (fun _ => ?_) (fun hne => absurd hsame.1 hne)
  obtain ⟨-, e1, e2, e3, e4, e5, hW2⟩ := hsame
  have e1 : c1 = c2 := e1
  have e2 : D1 = D2 := e2
  have e3 : C1 = C2 := e3
  have e4 : A1 = A2 := e4
  have e5 : O1 = O2 := e5
  rw [← e1, ← e2, ← e3, ← e4, ← e5] at hP hD
  exact K c1 D1 C1 A1 O1 S1 Ln1 Ar1 Rd1 Nt2 _ _ hW2 hP hD hS ls hl
set_option maxHeartbeats 4000000 in
set_option maxRecDepth 100000 in
theorem law_weight {p : Program} {l : Launch} {e : Env} {s : State} {m : MethodId} {below : List Frame} {meth : Method} {cd : Code} {dC : Nat → ClassId} {dI : Nat → Nat → Nat} {ad bd : Nat → Nat} {cI cZ : ClassId} {n b L : Nat} {xs : Nat → Int32} {Q : State → Prop} (hL : L ≤ 257) (hx : p.tables.exec = Jvm.exec) (hb : cd.code = code) (hml : cd.maxLocals = 4) (hown : s.vm.findClass R_law = some m.cls) (hts : ∀ w ∈ lw_all, w.before #[Value.ref b] s = true) (hX : va_X b L xs s s.heap) (hbl : b < s.heap.size) (hK : va_K (dC, dI) vwCl [(cI, .int), (cZ, .boolean)] s) (i : Nat) (hi : i + 4 ≤ L) (K : ∀ (c : Nat) (D C : Nat → Nat) (A O S Ln Ar Rd Nt : Nat → Int) (H : Heap) (locs : List Loc), WF n c D C A O → va_P (dC, dI) vwCl (wN ad cI cZ n c D C A O S Ln Ar Rd ++ wM bd cI cZ n c D C A O Nt) H → va_D (fun q : Nat => s.heap.size ≤ q) (wN ad cI cZ n c D C A O S Ln Ar Rd ++ wM bd cI cZ n c D C A O Nt) → va_S (fun q : Nat => s.heap.size ≤ q) s.heap H locs → ∀ (ls : Array Slot), lv_has ls 4 [(0, .ref b), (1, .ref (ad 0)), (2, .ref (bd 0)), (3, .int (iI i))] → W p l e room_1 s m #[Value.ref b] below meth cd H locs 600000 7290000 Q (F0 m 485 ls [])) (c : Nat) (D C : Nat → Nat) (A O S Ln Ar Rd Nt : Nat → Int) (H : Heap) (locs : List Loc) (hW : WF n c D C A O) (hP : va_P (dC, dI) vwCl (wN ad cI cZ n c D C A O S Ln Ar Rd ++ wM bd cI cZ n c D C A O Nt) H) (hD : va_D (fun q : Nat => s.heap.size ≤ q) (wN ad cI cZ n c D C A O S Ln Ar Rd ++ wM bd cI cZ n c D C A O Nt)) (hS : va_S (fun q : Nat => s.heap.size ≤ q) s.heap H locs) (ls : Array Slot) (hl : lv_has ls 4 [(0, .ref b), (1, .ref (ad 0)), (2, .ref (bd 0)), (3, .int (iI i))]) : W p l e room_1 s m #[Value.ref b] below meth cd H locs 600000 7290000 Q (F0 m 413 ls []) := by
  have hA : ∀ q : Nat, s.heap.size ≤ q → (fun q : Nat => s.heap.size ≤ q) q := fun _ h => h
  have hbA : ¬ (fun q : Nat => s.heap.size ≤ q) b := Nat.not_le.mpr hbl
  refine lv_aload_n hx hb dL_law_413 rfl (lv_at hl 1 rfl) ?_
  refine lv_aload_n hx hb dL_law_414 rfl (lv_at hl 0 rfl) ?_
  refine lv_iload_n hx hb dL_law_415 rfl (lv_at hl 3 rfl) ?_
  refine ob_ic hx hb dL_law_416 ?_
  refine ob_iadd hx hb dL_law_417 ?_
  refine ob_sld hx hb hX hbl hbA hS (i + 1) (by omega) (by omega) (by omega) dL_law_418 ?_
  refine ob_callI (As := [.int (iI (xs (i + 1)).toInt)]) (rest := []) (wr := wM bd cI cZ n c D C A O Nt) (metN_weight l dC dI ad cI cZ n c D C A O S Ln Ar Rd H.size (xs (i + 1)).toInt (iI_bnd _) hW) ⟨hx, hb, hml, hown, hts⟩ (cwV 1 hts (lw_V q178 q179 q180 q23 q181) rfl rfl rfl (by decide +kernel) ⟨Nat.le_of_ble_eq_true rfl, Nat.le_of_ble_eq_true rfl⟩) hK hP hD hS hA [0, 1, 2, 3, 4, 5, 6, 7, 8] [9, 10, 11, 12, 13, 14] [0, 1] rfl rfl rfl (by decide) (by decide) (by decide) rfl (ci := 0) rfl rfl rfl rfl hl.1 rfl (Nat.le_of_ble_eq_true rfl) dL_law_419 ⟨Nat.le_refl _, Nat.le_refl _⟩ (fun rN uN H locs hwN hP hD hS => ?_)
  obtain ⟨c1, D1, C1, A1, O1, S1, Ln1, Ar1, Rd1⟩ := uN
  have hP : va_P (dC, dI) vwCl (wN ad cI cZ n c1 D1 C1 A1 O1 S1 Ln1 Ar1 Rd1 ++ wM bd cI cZ n c D C A O Nt) H := hP.sub [6, 7, 8, 9, 10, 11, 12, 13, 14, 0, 1, 2, 3, 4, 5] rfl
  have hD : va_D (fun q : Nat => s.heap.size ≤ q) (wN ad cI cZ n c1 D1 C1 A1 O1 S1 Ln1 Ar1 Rd1 ++ wM bd cI cZ n c D C A O Nt) := hD.sub [6, 7, 8, 9, 10, 11, 12, 13, 14, 0, 1, 2, 3, 4, 5] (by decide) rfl
  refine lv_aload_n hx hb dL_law_422 rfl (lv_at hl 2 rfl) ?_
  refine lv_aload_n hx hb dL_law_423 rfl (lv_at hl 0 rfl) ?_
  refine lv_iload_n hx hb dL_law_424 rfl (lv_at hl 3 rfl) ?_
  refine ob_ic hx hb dL_law_425 ?_
  refine ob_iadd hx hb dL_law_426 ?_
  refine ob_sld hx hb hX hbl hbA hS (i + 1) (by omega) (by omega) (by omega) dL_law_427 ?_
  refine ob_callI (As := [.int (iI (xs (i + 1)).toInt)]) (rest := [.int rN]) (wr := wN ad cI cZ n c1 D1 C1 A1 O1 S1 Ln1 Ar1 Rd1) (metM_weight l dC dI bd cI cZ n c D C A O Nt H.size (xs (i + 1)).toInt (iI_bnd _) hW) ⟨hx, hb, hml, hown, hts⟩ (cwV 1 hts (lw_V q310 q311 q312 q24 q313) rfl rfl rfl (by decide +kernel) ⟨Nat.le_of_ble_eq_true rfl, Nat.le_of_ble_eq_true rfl⟩) hK hP hD hS hA [9, 10, 11, 12, 13, 14] [0, 1, 2, 3, 4, 5, 6, 7, 8] [0, 1] rfl rfl rfl (by decide) (by decide) (by decide) rfl (ci := 1) rfl rfl rfl rfl hl.1 rfl (Nat.le_of_ble_eq_true rfl) dL_law_428 ⟨Nat.le_refl _, Nat.le_refl _⟩ (fun rM uM H locs hwM hP hD hS => ?_)
  obtain ⟨c2, D2, C2, A2, O2, Nt2⟩ := uM
  have hP : va_P (dC, dI) vwCl (wN ad cI cZ n c1 D1 C1 A1 O1 S1 Ln1 Ar1 Rd1 ++ wM bd cI cZ n c2 D2 C2 A2 O2 Nt2) H := hP
  have hD : va_D (fun q : Nat => s.heap.size ≤ q) (wN ad cI cZ n c1 D1 C1 A1 O1 S1 Ln1 Ar1 Rd1 ++ wM bd cI cZ n c2 D2 C2 A2 O2 Nt2) := hD
  have hsame := same_weight (S := S) (Ln := Ln) (Ar := Ar) (Rd := Rd) (Nt := Nt) hW hwN hwM
  refine lv_icmp_eq (tgt := 485) hx hb dL_law_431 (by decide) (fun _ => ?_) (fun hne => absurd hsame.1 hne)
  obtain ⟨-, e1, e2, e3, e4, e5, hW2⟩ := hsame
  have e1 : c1 = c2 := e1
  have e2 : D1 = D2 := e2
  have e3 : C1 = C2 := e3
  have e4 : A1 = A2 := e4
  have e5 : O1 = O2 := e5
  rw [← e1, ← e2, ← e3, ← e4, ← e5] at hP hD
  exact K c1 D1 C1 A1 O1 S1 Ln1 Ar1 Rd1 Nt2 _ _ hW2 hP hD hS ls hl
set_option maxHeartbeats 4000000 in
set_option maxRecDepth 100000 in
theorem law_most {p : Program} {l : Launch} {e : Env} {s : State} {m : MethodId} {below : List Frame} {meth : Method} {cd : Code} {dC : Nat → ClassId} {dI : Nat → Nat → Nat} {ad bd : Nat → Nat} {cI cZ : ClassId} {n b L : Nat} {xs : Nat → Int32} {Q : State → Prop} (hL : L ≤ 257) (hx : p.tables.exec = Jvm.exec) (hb : cd.code = code) (hml : cd.maxLocals = 4) (hown : s.vm.findClass R_law = some m.cls) (hts : ∀ w ∈ lw_all, w.before #[Value.ref b] s = true) (hX : va_X b L xs s s.heap) (hbl : b < s.heap.size) (hK : va_K (dC, dI) vwCl [(cI, .int), (cZ, .boolean)] s) (i : Nat) (hi : i + 4 ≤ L) (K : ∀ (c : Nat) (D C : Nat → Nat) (A O S Ln Ar Rd Nt : Nat → Int) (H : Heap) (locs : List Loc), WF n c D C A O → va_P (dC, dI) vwCl (wN ad cI cZ n c D C A O S Ln Ar Rd ++ wM bd cI cZ n c D C A O Nt) H → va_D (fun q : Nat => s.heap.size ≤ q) (wN ad cI cZ n c D C A O S Ln Ar Rd ++ wM bd cI cZ n c D C A O Nt) → va_S (fun q : Nat => s.heap.size ≤ q) s.heap H locs → ∀ (ls : Array Slot), lv_has ls 4 [(0, .ref b), (1, .ref (ad 0)), (2, .ref (bd 0)), (3, .int (iI i))] → W p l e room_1 s m #[Value.ref b] below meth cd H locs 600000 7290000 Q (F0 m 485 ls [])) (c : Nat) (D C : Nat → Nat) (A O S Ln Ar Rd Nt : Nat → Int) (H : Heap) (locs : List Loc) (hW : WF n c D C A O) (hP : va_P (dC, dI) vwCl (wN ad cI cZ n c D C A O S Ln Ar Rd ++ wM bd cI cZ n c D C A O Nt) H) (hD : va_D (fun q : Nat => s.heap.size ≤ q) (wN ad cI cZ n c D C A O S Ln Ar Rd ++ wM bd cI cZ n c D C A O Nt)) (hS : va_S (fun q : Nat => s.heap.size ≤ q) s.heap H locs) (ls : Array Slot) (hl : lv_has ls 4 [(0, .ref b), (1, .ref (ad 0)), (2, .ref (bd 0)), (3, .int (iI i))]) : W p l e room_1 s m #[Value.ref b] below meth cd H locs 600000 7290000 Q (F0 m 436 ls []) := by
  have hA : ∀ q : Nat, s.heap.size ≤ q → (fun q : Nat => s.heap.size ≤ q) q := fun _ h => h
  have hbA : ¬ (fun q : Nat => s.heap.size ≤ q) b := Nat.not_le.mpr hbl
  refine lv_aload_n hx hb dL_law_436 rfl (lv_at hl 1 rfl) ?_
  refine lv_aload_n hx hb dL_law_437 rfl (lv_at hl 0 rfl) ?_
  refine lv_iload_n hx hb dL_law_438 rfl (lv_at hl 3 rfl) ?_
  refine ob_ic hx hb dL_law_439 ?_
  refine ob_iadd hx hb dL_law_440 ?_
  refine ob_sld hx hb hX hbl hbA hS (i + 1) (by omega) (by omega) (by omega) dL_law_441 ?_
  refine ob_callI (As := [.int (iI (xs (i + 1)).toInt)]) (rest := []) (wr := wM bd cI cZ n c D C A O Nt) (metN_most l dC dI ad cI cZ n c D C A O S Ln Ar Rd H.size (xs (i + 1)).toInt (iI_bnd _) hW) ⟨hx, hb, hml, hown, hts⟩ (cwV 1 hts (lw_V q183 q184 q185 q23 q186) rfl rfl rfl (by decide +kernel) ⟨Nat.le_of_ble_eq_true rfl, Nat.le_of_ble_eq_true rfl⟩) hK hP hD hS hA [0, 1, 2, 3, 4, 5, 6, 7, 8] [9, 10, 11, 12, 13, 14] [0, 1] rfl rfl rfl (by decide) (by decide) (by decide) rfl (ci := 0) rfl rfl rfl rfl hl.1 rfl (Nat.le_of_ble_eq_true rfl) dL_law_442 ⟨Nat.le_refl _, Nat.le_refl _⟩ (fun rN uN H locs hwN hP hD hS => ?_)
  obtain ⟨c1, D1, C1, A1, O1, S1, Ln1, Ar1, Rd1⟩ := uN
  have hP : va_P (dC, dI) vwCl (wN ad cI cZ n c1 D1 C1 A1 O1 S1 Ln1 Ar1 Rd1 ++ wM bd cI cZ n c D C A O Nt) H := hP.sub [6, 7, 8, 9, 10, 11, 12, 13, 14, 0, 1, 2, 3, 4, 5] rfl
  have hD : va_D (fun q : Nat => s.heap.size ≤ q) (wN ad cI cZ n c1 D1 C1 A1 O1 S1 Ln1 Ar1 Rd1 ++ wM bd cI cZ n c D C A O Nt) := hD.sub [6, 7, 8, 9, 10, 11, 12, 13, 14, 0, 1, 2, 3, 4, 5] (by decide) rfl
  refine lv_aload_n hx hb dL_law_445 rfl (lv_at hl 2 rfl) ?_
  refine lv_aload_n hx hb dL_law_446 rfl (lv_at hl 0 rfl) ?_
  refine lv_iload_n hx hb dL_law_447 rfl (lv_at hl 3 rfl) ?_
  refine ob_ic hx hb dL_law_448 ?_
  refine ob_iadd hx hb dL_law_449 ?_
  refine ob_sld hx hb hX hbl hbA hS (i + 1) (by omega) (by omega) (by omega) dL_law_450 ?_
  refine ob_callI (As := [.int (iI (xs (i + 1)).toInt)]) (rest := [.int rN]) (wr := wN ad cI cZ n c1 D1 C1 A1 O1 S1 Ln1 Ar1 Rd1) (metM_most l dC dI bd cI cZ n c D C A O Nt H.size (xs (i + 1)).toInt (iI_bnd _) hW) ⟨hx, hb, hml, hown, hts⟩ (cwV 1 hts (lw_V q314 q315 q316 q24 q317) rfl rfl rfl (by decide +kernel) ⟨Nat.le_of_ble_eq_true rfl, Nat.le_of_ble_eq_true rfl⟩) hK hP hD hS hA [9, 10, 11, 12, 13, 14] [0, 1, 2, 3, 4, 5, 6, 7, 8] [0, 1] rfl rfl rfl (by decide) (by decide) (by decide) rfl (ci := 1) rfl rfl rfl rfl hl.1 rfl (Nat.le_of_ble_eq_true rfl) dL_law_451 ⟨Nat.le_refl _, Nat.le_refl _⟩ (fun rM uM H locs hwM hP hD hS => ?_)
  obtain ⟨c2, D2, C2, A2, O2, Nt2⟩ := uM
  have hP : va_P (dC, dI) vwCl (wN ad cI cZ n c1 D1 C1 A1 O1 S1 Ln1 Ar1 Rd1 ++ wM bd cI cZ n c2 D2 C2 A2 O2 Nt2) H := hP
  have hD : va_D (fun q : Nat => s.heap.size ≤ q) (wN ad cI cZ n c1 D1 C1 A1 O1 S1 Ln1 Ar1 Rd1 ++ wM bd cI cZ n c2 D2 C2 A2 O2 Nt2) := hD
  have hsame := same_most (S := S) (Ln := Ln) (Ar := Ar) (Rd := Rd) (Nt := Nt) hW hwN hwM
  refine lv_icmp_eq (tgt := 485) hx hb dL_law_454 (by decide) (fun _ => ?_) (fun hne => absurd hsame.1 hne)
  obtain ⟨-, e1, e2, e3, e4, e5, hW2⟩ := hsame
  have e1 : c1 = c2 := e1
  have e2 : D1 = D2 := e2
  have e3 : C1 = C2 := e3
  have e4 : A1 = A2 := e4
  have e5 : O1 = O2 := e5
  rw [← e1, ← e2, ← e3, ← e4, ← e5] at hP hD
  exact K c1 D1 C1 A1 O1 S1 Ln1 Ar1 Rd1 Nt2 _ _ hW2 hP hD hS ls hl
set_option maxHeartbeats 4000000 in
set_option maxRecDepth 100000 in
theorem law_possible {p : Program} {l : Launch} {e : Env} {s : State} {m : MethodId} {below : List Frame} {meth : Method} {cd : Code} {dC : Nat → ClassId} {dI : Nat → Nat → Nat} {ad bd : Nat → Nat} {cI cZ : ClassId} {n b L : Nat} {xs : Nat → Int32} {Q : State → Prop} (hL : L ≤ 257) (hx : p.tables.exec = Jvm.exec) (hb : cd.code = code) (hml : cd.maxLocals = 4) (hown : s.vm.findClass R_law = some m.cls) (hts : ∀ w ∈ lw_all, w.before #[Value.ref b] s = true) (hX : va_X b L xs s s.heap) (hbl : b < s.heap.size) (hK : va_K (dC, dI) vwCl [(cI, .int), (cZ, .boolean)] s) (i : Nat) (hi : i + 4 ≤ L) (K : ∀ (c : Nat) (D C : Nat → Nat) (A O S Ln Ar Rd Nt : Nat → Int) (H : Heap) (locs : List Loc), WF n c D C A O → va_P (dC, dI) vwCl (wN ad cI cZ n c D C A O S Ln Ar Rd ++ wM bd cI cZ n c D C A O Nt) H → va_D (fun q : Nat => s.heap.size ≤ q) (wN ad cI cZ n c D C A O S Ln Ar Rd ++ wM bd cI cZ n c D C A O Nt) → va_S (fun q : Nat => s.heap.size ≤ q) s.heap H locs → ∀ (ls : Array Slot), lv_has ls 4 [(0, .ref b), (1, .ref (ad 0)), (2, .ref (bd 0)), (3, .int (iI i))] → W p l e room_1 s m #[Value.ref b] below meth cd H locs 600000 7290000 Q (F0 m 485 ls [])) (c : Nat) (D C : Nat → Nat) (A O S Ln Ar Rd Nt : Nat → Int) (H : Heap) (locs : List Loc) (hW : WF n c D C A O) (hP : va_P (dC, dI) vwCl (wN ad cI cZ n c D C A O S Ln Ar Rd ++ wM bd cI cZ n c D C A O Nt) H) (hD : va_D (fun q : Nat => s.heap.size ≤ q) (wN ad cI cZ n c D C A O S Ln Ar Rd ++ wM bd cI cZ n c D C A O Nt)) (hS : va_S (fun q : Nat => s.heap.size ≤ q) s.heap H locs) (ls : Array Slot) (hl : lv_has ls 4 [(0, .ref b), (1, .ref (ad 0)), (2, .ref (bd 0)), (3, .int (iI i))]) : W p l e room_1 s m #[Value.ref b] below meth cd H locs 600000 7290000 Q (F0 m 459 ls []) := by
  have hA : ∀ q : Nat, s.heap.size ≤ q → (fun q : Nat => s.heap.size ≤ q) q := fun _ h => h
  have hbA : ¬ (fun q : Nat => s.heap.size ≤ q) b := Nat.not_le.mpr hbl
  refine lv_aload_n hx hb dL_law_459 rfl (lv_at hl 1 rfl) ?_
  refine ob_callI (As := []) (rest := []) (wr := wM bd cI cZ n c D C A O Nt) (metN_possible l dC dI ad cI cZ n c D C A O S Ln Ar Rd H.size hW) ⟨hx, hb, hml, hown, hts⟩ (cwV 0 hts (lw_V q187 q188 q189 q23 q190) rfl rfl rfl (by decide +kernel) ⟨Nat.le_of_ble_eq_true rfl, Nat.le_of_ble_eq_true rfl⟩) hK hP hD hS hA [0, 1, 2, 3, 4, 5, 6, 7, 8] [9, 10, 11, 12, 13, 14] [0, 1] rfl rfl rfl (by decide) (by decide) (by decide) rfl (ci := 0) rfl rfl rfl rfl hl.1 rfl (Nat.le_of_ble_eq_true rfl) dL_law_460 ⟨Nat.le_refl _, Nat.le_refl _⟩ (fun rN uN H locs hwN hP hD hS => ?_)
  obtain ⟨c1, D1, C1, A1, O1, S1, Ln1, Ar1, Rd1⟩ := uN
  have hP : va_P (dC, dI) vwCl (wN ad cI cZ n c1 D1 C1 A1 O1 S1 Ln1 Ar1 Rd1 ++ wM bd cI cZ n c D C A O Nt) H := hP.sub [6, 7, 8, 9, 10, 11, 12, 13, 14, 0, 1, 2, 3, 4, 5] rfl
  have hD : va_D (fun q : Nat => s.heap.size ≤ q) (wN ad cI cZ n c1 D1 C1 A1 O1 S1 Ln1 Ar1 Rd1 ++ wM bd cI cZ n c D C A O Nt) := hD.sub [6, 7, 8, 9, 10, 11, 12, 13, 14, 0, 1, 2, 3, 4, 5] (by decide) rfl
  refine lv_aload_n hx hb dL_law_463 rfl (lv_at hl 2 rfl) ?_
  refine ob_callI (As := []) (rest := [.int rN]) (wr := wN ad cI cZ n c1 D1 C1 A1 O1 S1 Ln1 Ar1 Rd1) (metM_possible l dC dI bd cI cZ n c D C A O Nt H.size hW) ⟨hx, hb, hml, hown, hts⟩ (cwV 0 hts (lw_V q318 q319 q320 q24 q321) rfl rfl rfl (by decide +kernel) ⟨Nat.le_of_ble_eq_true rfl, Nat.le_of_ble_eq_true rfl⟩) hK hP hD hS hA [9, 10, 11, 12, 13, 14] [0, 1, 2, 3, 4, 5, 6, 7, 8] [0, 1] rfl rfl rfl (by decide) (by decide) (by decide) rfl (ci := 1) rfl rfl rfl rfl hl.1 rfl (Nat.le_of_ble_eq_true rfl) dL_law_464 ⟨Nat.le_refl _, Nat.le_refl _⟩ (fun rM uM H locs hwM hP hD hS => ?_)
  obtain ⟨c2, D2, C2, A2, O2, Nt2⟩ := uM
  have hP : va_P (dC, dI) vwCl (wN ad cI cZ n c1 D1 C1 A1 O1 S1 Ln1 Ar1 Rd1 ++ wM bd cI cZ n c2 D2 C2 A2 O2 Nt2) H := hP
  have hD : va_D (fun q : Nat => s.heap.size ≤ q) (wN ad cI cZ n c1 D1 C1 A1 O1 S1 Ln1 Ar1 Rd1 ++ wM bd cI cZ n c2 D2 C2 A2 O2 Nt2) := hD
  have hsame := same_possible (S := S) (Ln := Ln) (Ar := Ar) (Rd := Rd) (Nt := Nt) hW hwN hwM
  refine lv_icmp_eq (tgt := 485) hx hb dL_law_467 (by decide) (fun _ => ?_) (fun hne => absurd hsame.1 hne)
  obtain ⟨-, e1, e2, e3, e4, e5, hW2⟩ := hsame
  have e1 : c1 = c2 := e1
  have e2 : D1 = D2 := e2
  have e3 : C1 = C2 := e3
  have e4 : A1 = A2 := e4
  have e5 : O1 = O2 := e5
  rw [← e1, ← e2, ← e3, ← e4, ← e5] at hP hD
  exact K c1 D1 C1 A1 O1 S1 Ln1 Ar1 Rd1 Nt2 _ _ hW2 hP hD hS ls hl
set_option maxHeartbeats 4000000 in
set_option maxRecDepth 100000 in
theorem law_least {p : Program} {l : Launch} {e : Env} {s : State} {m : MethodId} {below : List Frame} {meth : Method} {cd : Code} {dC : Nat → ClassId} {dI : Nat → Nat → Nat} {ad bd : Nat → Nat} {cI cZ : ClassId} {n b L : Nat} {xs : Nat → Int32} {Q : State → Prop} (hL : L ≤ 257) (hx : p.tables.exec = Jvm.exec) (hb : cd.code = code) (hml : cd.maxLocals = 4) (hown : s.vm.findClass R_law = some m.cls) (hts : ∀ w ∈ lw_all, w.before #[Value.ref b] s = true) (hX : va_X b L xs s s.heap) (hbl : b < s.heap.size) (hK : va_K (dC, dI) vwCl [(cI, .int), (cZ, .boolean)] s) (i : Nat) (hi : i + 4 ≤ L) (K : ∀ (c : Nat) (D C : Nat → Nat) (A O S Ln Ar Rd Nt : Nat → Int) (H : Heap) (locs : List Loc), WF n c D C A O → va_P (dC, dI) vwCl (wN ad cI cZ n c D C A O S Ln Ar Rd ++ wM bd cI cZ n c D C A O Nt) H → va_D (fun q : Nat => s.heap.size ≤ q) (wN ad cI cZ n c D C A O S Ln Ar Rd ++ wM bd cI cZ n c D C A O Nt) → va_S (fun q : Nat => s.heap.size ≤ q) s.heap H locs → ∀ (ls : Array Slot), lv_has ls 4 [(0, .ref b), (1, .ref (ad 0)), (2, .ref (bd 0)), (3, .int (iI i))] → W p l e room_1 s m #[Value.ref b] below meth cd H locs 600000 7290000 Q (F0 m 485 ls [])) (c : Nat) (D C : Nat → Nat) (A O S Ln Ar Rd Nt : Nat → Int) (H : Heap) (locs : List Loc) (hW : WF n c D C A O) (hP : va_P (dC, dI) vwCl (wN ad cI cZ n c D C A O S Ln Ar Rd ++ wM bd cI cZ n c D C A O Nt) H) (hD : va_D (fun q : Nat => s.heap.size ≤ q) (wN ad cI cZ n c D C A O S Ln Ar Rd ++ wM bd cI cZ n c D C A O Nt)) (hS : va_S (fun q : Nat => s.heap.size ≤ q) s.heap H locs) (ls : Array Slot) (hl : lv_has ls 4 [(0, .ref b), (1, .ref (ad 0)), (2, .ref (bd 0)), (3, .int (iI i))]) : W p l e room_1 s m #[Value.ref b] below meth cd H locs 600000 7290000 Q (F0 m 472 ls []) := by
  have hA : ∀ q : Nat, s.heap.size ≤ q → (fun q : Nat => s.heap.size ≤ q) q := fun _ h => h
  have hbA : ¬ (fun q : Nat => s.heap.size ≤ q) b := Nat.not_le.mpr hbl
  refine lv_aload_n hx hb dL_law_472 rfl (lv_at hl 1 rfl) ?_
  refine ob_callR (As := []) (rest := []) (metN_least l dC dI ad cI cZ n c D C A O S Ln Ar Rd hW.2.1 hW.2.2.1 hW.DC5 (fun d hd => (hW.2.2.2.1 d hd).2.2.2)) ⟨hx, hb, hml, hown, hts⟩ (cwV 0 hts (lw_V q191 q192 q193 q23 q194) rfl rfl rfl (by decide +kernel) ⟨Nat.le_of_ble_eq_true rfl, Nat.le_of_ble_eq_true rfl⟩) hK hP [0, 1, 2, 3, 4, 5, 6, 7, 8] [0, 1] rfl rfl (ci := 0) rfl rfl rfl rfl hl.1 rfl (Nat.le_of_ble_eq_true rfl) dL_law_473 ⟨Nat.le_refl _, Nat.le_refl _⟩ (fun rN eN => ?_)
  refine lv_aload_n hx hb dL_law_476 rfl (lv_at hl 2 rfl) ?_
  refine ob_callR (As := []) (rest := [.int rN]) (metM_least l dC dI bd cI cZ n c D C A O Nt hW.2.1 hW.2.2.1 hW.DC5 (fun d hd => (hW.2.2.2.1 d hd).2.2.2)) ⟨hx, hb, hml, hown, hts⟩ (cwV 0 hts (lw_V q322 q323 q324 q24 q325) rfl rfl rfl (by decide +kernel) ⟨Nat.le_of_ble_eq_true rfl, Nat.le_of_ble_eq_true rfl⟩) hK hP [9, 10, 11, 12, 13, 14] [0, 1] rfl rfl (ci := 1) rfl rfl rfl rfl hl.1 rfl (Nat.le_of_ble_eq_true rfl) dL_law_477 ⟨Nat.le_refl _, Nat.le_refl _⟩ (fun rM eM => ?_)
  refine lv_icmp_eq (tgt := 485) hx hb dL_law_480 (by decide) (fun _ => ?_) (fun hne => absurd (eN.trans eM.symm) hne)
  exact K _ _ _ _ _ _ _ _ _ _ _ _ hW hP hD hS ls hl
end
section
/-! THE LAW: its loop -/
set_option maxHeartbeats 4000000 in
set_option maxRecDepth 100000 in
theorem law_loop {p : Program} {l : Launch} {e : Env} {s : State} {m : MethodId} {below : List Frame} {meth : Method} {cd : Code} {dC : Nat → ClassId} {dI : Nat → Nat → Nat} {ad bd : Nat → Nat} {cI cZ : ClassId} {n b L : Nat} {xs : Nat → Int32} (hL : L ≤ 257) (hx : p.tables.exec = Jvm.exec) (hb : cd.code = code) (hml : cd.maxLocals = 4) (hown : s.vm.findClass R_law = some m.cls) (hts : ∀ w ∈ lw_all, w.before #[Value.ref b] s = true) (hX : va_X b L xs s s.heap) (hbl : b < s.heap.size) (hK : va_K (dC, dI) vwCl [(cI, .int), (cZ, .boolean)] s) (hr : meth.sig.returnType = ret) (hlocks : meth.locks = false) : ∀ (nn i : Nat), L + 1 < i + nn → 1 ≤ i ∧ i ≤ L + 1 → ∀ (c : Nat) (D C : Nat → Nat) (A O S Ln Ar Rd Nt : Nat → Int) (H : Heap) (locs : List Loc), WF n c D C A O → va_P (dC, dI) vwCl (wN ad cI cZ n c D C A O S Ln Ar Rd ++ wM bd cI cZ n c D C A O Nt) H → va_D (fun q : Nat => s.heap.size ≤ q) (wN ad cI cZ n c D C A O S Ln Ar Rd ++ wM bd cI cZ n c D C A O Nt) → va_S (fun q : Nat => s.heap.size ≤ q) s.heap H locs → ∀ (ls : Array Slot), lv_has ls 4 [(0, .ref b), (1, .ref (ad 0)), (2, .ref (bd 0)), (3, .int (iI i))] → W p l e room_1 s m #[Value.ref b] below meth cd H locs 600000 7290000 (lw_Z below #[Value.ref b] s) (F0 m 28 ls []) := by
  have hA : ∀ q : Nat, s.heap.size ≤ q → (fun q : Nat => s.heap.size ≤ q) q := fun _ h => h
  have hbA : ¬ (fun q : Nat => s.heap.size ≤ q) b := Nat.not_le.mpr hbl
  intro nn
  induction nn with
  | zero => intro i h1 h2; exfalso; omega
  | succ nn ih =>
    intro i hm hi0 c D C A O S Ln Ar Rd Nt H locs hW hP hD hS ls hl
    refine lv_iload_n hx hb dL_law_28 rfl (lv_at hl 3 rfl) ?_
    refine lv_aload_n hx hb dL_law_29 rfl (lv_at hl 0 rfl) ?_
    refine ob_slen hx hb hX hbl hbA hS dL_law_30 ?_
    refine ob_ic hx hb dL_law_31 ?_
    refine ob_isub hx hb dL_law_32 ?_
    refine ob_icmp_gt (tgt := 491) hx hb dL_law_33 (by decide) (by omega) (by omega) (fun h33 => ?_) (fun h33 => ?_)
    · refine lv_iconst (v := 1) hx hb dL_law_491 (by decide) ?_
      refine va_forget (fun q hq => hS.2.2 q hq) ?_
      exact lw_ret hx hb hr hlocks dL_law_492
    · have hi : i + 4 ≤ L := by omega
      have K : ∀ (c : Nat) (D C : Nat → Nat) (A O S Ln Ar Rd Nt : Nat → Int) (H : Heap) (locs : List Loc), WF n c D C A O → va_P (dC, dI) vwCl (wN ad cI cZ n c D C A O S Ln Ar Rd ++ wM bd cI cZ n c D C A O Nt) H → va_D (fun q : Nat => s.heap.size ≤ q) (wN ad cI cZ n c D C A O S Ln Ar Rd ++ wM bd cI cZ n c D C A O Nt) → va_S (fun q : Nat => s.heap.size ≤ q) s.heap H locs → ∀ (ls : Array Slot), lv_has ls 4 [(0, .ref b), (1, .ref (ad 0)), (2, .ref (bd 0)), (3, .int (iI i))] → W p l e room_1 s m #[Value.ref b] below meth cd H locs 600000 7290000 (lw_Z below #[Value.ref b] s) (F0 m 485 ls []) := by
        intro c D C A O S Ln Ar Rd Nt H locs hW hP hD hS ls hl
        refine ob_iinc (k := 3) hx hb ((i + 4 : Nat) : Int) (lv' := [(3, .int (iI ((i + 4 : Nat) : Int))), (0, .ref b), (1, .ref (ad 0)), (2, .ref (bd 0))]) dL_law_485 hl rfl (by omega) (by decide) rfl (fun ls hl => ?_)
        refine lv_goto (tgt := 28) hx hb dL_law_488 (by decide) ?_
        exact ih (i + 4) (by omega) (by omega) c D C A O S Ln Ar Rd Nt H locs hW hP hD hS ls (lv_sub hl [1, 2, 3, 0] rfl)
      refine lv_aload_n hx hb dL_law_36 rfl (lv_at hl 0 rfl) ?_
      refine lv_iload_n hx hb dL_law_37 rfl (lv_at hl 3 rfl) ?_
      refine ob_sld hx hb hX hbl hbA hS i (by omega) (by omega) (by omega) dL_law_38 ?_
      refine ob_bi hx hb dL_law_39 (by decide) ?_
      refine lv_iand hx hb dL_law_41 ?_
      obtain ⟨j, hj, ej⟩ := pk_andE (iI (xs i).toInt) (m := iI 31) 5 (by decide)
      rw [ej]
      have hjj : j = 0 ∨ j = 1 ∨ j = 2 ∨ j = 3 ∨ j = 4 ∨ j = 5 ∨ j = 6 ∨ j = 7 ∨ j = 8 ∨ j = 9 ∨ j = 10 ∨ j = 11 ∨ j = 12 ∨ j = 13 ∨ j = 14 ∨ j = 15 ∨ j = 16 ∨ 17 ≤ j := by omega
      rcases hjj with rfl | rfl | rfl | rfl | rfl | rfl | rfl | rfl | rfl | rfl | rfl | rfl | rfl | rfl | rfl | rfl | rfl | h17
      · refine lv_tableIn (off := 82) (tgt := 124) hx hb dL_law_42 (by decide) (by decide) (by decide) (by decide) ?_
        exact law_owe hL hx hb hml hown hts hX hbl hK i hi K c D C A O S Ln Ar Rd Nt H locs hW hP hD hS ls hl
      · refine lv_tableIn (off := 125) (tgt := 167) hx hb dL_law_42 (by decide) (by decide) (by decide) (by decide) ?_
        exact law_change hL hx hb hml hown hts hX hbl hK i hi K c D C A O S Ln Ar Rd Nt H locs hW hP hD hS ls hl
      · refine lv_tableIn (off := 158) (tgt := 200) hx hb dL_law_42 (by decide) (by decide) (by decide) (by decide) ?_
        exact law_pay hL hx hb hml hown hts hX hbl hK i hi K c D C A O S Ln Ar Rd Nt H locs hW hP hD hS ls hl
      · refine lv_tableIn (off := 181) (tgt := 223) hx hb dL_law_42 (by decide) (by decide) (by decide) (by decide) ?_
        exact law_exclude hL hx hb hml hown hts hX hbl hK i hi K c D C A O S Ln Ar Rd Nt H locs hW hP hD hS ls hl
      · refine lv_tableIn (off := 214) (tgt := 256) hx hb dL_law_42 (by decide) (by decide) (by decide) (by decide) ?_
        exact law_clear hL hx hb hml hown hts hX hbl hK i hi K c D C A O S Ln Ar Rd Nt H locs hW hP hD hS ls hl
      · refine lv_tableIn (off := 227) (tgt := 269) hx hb dL_law_42 (by decide) (by decide) (by decide) (by decide) ?_
        exact law_carryOut hL hx hb hml hown hts hX hbl hK i hi K c D C A O S Ln Ar Rd Nt H locs hW hP hD hS ls hl
      · refine lv_tableIn (off := 250) (tgt := 292) hx hb dL_law_42 (by decide) (by decide) (by decide) (by decide) ?_
        exact law_debts hL hx hb hml hown hts hX hbl hK i hi K c D C A O S Ln Ar Rd Nt H locs hW hP hD hS ls hl
      · refine lv_tableIn (off := 263) (tgt := 305) hx hb dL_law_42 (by decide) (by decide) (by decide) (by decide) ?_
        exact law_amount hL hx hb hml hown hts hX hbl hK i hi K c D C A O S Ln Ar Rd Nt H locs hW hP hD hS ls hl
      · refine lv_tableIn (off := 286) (tgt := 328) hx hb dL_law_42 (by decide) (by decide) (by decide) (by decide) ?_
        exact law_balance hL hx hb hml hown hts hX hbl hK i hi K c D C A O S Ln Ar Rd Nt H locs hW hP hD hS ls hl
      · refine lv_tableIn (off := 309) (tgt := 351) hx hb dL_law_42 (by decide) (by decide) (by decide) (by decide) ?_
        exact law_outstanding hL hx hb hml hown hts hX hbl hK i hi K c D C A O S Ln Ar Rd Nt H locs hW hP hD hS ls hl
      · refine lv_tableIn (off := 322) (tgt := 364) hx hb dL_law_42 (by decide) (by decide) (by decide) (by decide) ?_
        exact law_best hL hx hb hml hown hts hX hbl hK i hi K c D C A O S Ln Ar Rd Nt H locs hW hP hD hS ls hl
      · refine lv_tableIn (off := 335) (tgt := 377) hx hb dL_law_42 (by decide) (by decide) (by decide) (by decide) ?_
        exact law_bestCode hL hx hb hml hown hts hX hbl hK i hi K c D C A O S Ln Ar Rd Nt H locs hW hP hD hS ls hl
      · refine lv_tableIn (off := 348) (tgt := 390) hx hb dL_law_42 (by decide) (by decide) (by decide) (by decide) ?_
        exact law_isClearing hL hx hb hml hown hts hX hbl hK i hi K c D C A O S Ln Ar Rd Nt H locs hW hP hD hS ls hl
      · refine lv_tableIn (off := 371) (tgt := 413) hx hb dL_law_42 (by decide) (by decide) (by decide) (by decide) ?_
        exact law_weight hL hx hb hml hown hts hX hbl hK i hi K c D C A O S Ln Ar Rd Nt H locs hW hP hD hS ls hl
      · refine lv_tableIn (off := 394) (tgt := 436) hx hb dL_law_42 (by decide) (by decide) (by decide) (by decide) ?_
        exact law_most hL hx hb hml hown hts hX hbl hK i hi K c D C A O S Ln Ar Rd Nt H locs hW hP hD hS ls hl
      · refine lv_tableIn (off := 417) (tgt := 459) hx hb dL_law_42 (by decide) (by decide) (by decide) (by decide) ?_
        exact law_possible hL hx hb hml hown hts hX hbl hK i hi K c D C A O S Ln Ar Rd Nt H locs hW hP hD hS ls hl
      · refine lv_tableIn (off := 430) (tgt := 472) hx hb dL_law_42 (by decide) (by decide) (by decide) (by decide) ?_
        exact law_least hL hx hb hml hown hts hX hbl hK i hi K c D C A O S Ln Ar Rd Nt H locs hW hP hD hS ls hl
      · refine lv_tableOut (tgt := 485) hx hb dL_law_42 (Or.inr (by rw [nI_toInt (by omega)]; omega)) (by decide) ?_
        exact K c D C A O S Ln Ar Rd Nt H locs hW hP hD hS ls hl
end
section
set_option maxHeartbeats 8000000 in
set_option maxRecDepth 100000 in
theorem whole_start {p : Program} {e : Env} {s : State} {m : MethodId} {below : List Frame} {meth : Method} {cd : Code} (l : Launch) {b L : Nat} {xs : Nat → Int32} (hL : L ≤ 257) (C0 : lw_At p s m meth cd b L xs) : W p l e room_1 s m #[Value.ref b] below meth cd s.heap [] 0 0 (lw_Z below #[Value.ref b] s) (entryFrame m ([Value.ref b] : List Value).toArray 4) := by
  obtain ⟨hx, hb, hr, hml, hown, hts0, hX, hbl, hlocks, hgv⟩ := id C0
  have hts : ∀ w ∈ lw_all, w.before #[Value.ref b] s = true := fun w h => hts0 w (lw_all_tbl h)
  have hA : ∀ q : Nat, s.heap.size ≤ q → (fun q : Nat => s.heap.size ≤ q) q := fun _ h => h
  have hbA : ¬ (fun q : Nat => s.heap.size ≤ q) b := Nat.not_le.mpr hbl
  obtain ⟨c0, iS0, hKn0⟩ := u_known (C := RX1) (T := TX1) (N := 11) (n := 11) hts in_X1 (hts _ q26)
  obtain ⟨c1, iS1, hKn1⟩ := u_known (C := RX2) (T := TX2) (N := 7) (n := 7) hts in_X2 (hts _ q199)
  obtain ⟨dC, dI, hKc⟩ : ∃ (dC : Nat → ClassId) (dI : Nat → Nat → Nat), ∀ (k : Nat) (q : vw_C), vwCl[k]? = some q → u_Kn s q.1 q.2.1 q.2.2 (dC k) (dI k) := by
    refine ⟨fun k => if k = 0 then c0 else c1, fun k => if k = 0 then iS0 else iS1, ?_⟩
    intro k q hq
    match k, hq with
    | 0, hq => cases hq; exact hKn0
    | 1, hq => cases hq; exact hKn1
    | k + 2, hq => simp [vwCl] at hq
  have hS : va_S (fun q : Nat => s.heap.size ≤ q) s.heap s.heap [] := va_S.rf
  have hK : va_K (dC, dI) vwCl [] s := ⟨hKc, fun k q h => by simp at h⟩
  have hP : va_P (dC, dI) vwCl [] s.heap := fun k q h => by simp at h
  have hD : va_D (fun q : Nat => s.heap.size ≤ q) [] := ⟨fun i j p q h => by simp at h, fun k q h => by simp at h⟩
  have hl := lv_entry ([.ref b]) (n := 4) (Nat.le_of_ble_eq_true rfl)
  rw [lg_entry_eq]
  generalize (lg_sl ([.ref b]) ++ List.replicate (4 - (lg_sl ([.ref b])).length) Slot.unset).toArray = ls at hl ⊢
  have hl : lv_has ls 4 [(0, .ref b)] := hl
  refine va_new (ci := 0) (fs := [.null, .null, .null, .null, .null, .null, .null, .null, .null, .int (iI 0), .int (iI 0)]) (C := RX1) (T := TX1) (N := 11) hx hb hts in_X1 tyX1 tyX1_ok hown (hts _ q25) (hts _ q26) (hts _ q23) hK hP hD hS hA rfl (fun j hj => by rcases (show j = 0 ∨ j = 1 ∨ j = 2 ∨ j = 3 ∨ j = 4 ∨ j = 5 ∨ j = 6 ∨ j = 7 ∨ j = 8 ∨ j = 9 ∨ j = 10 by omega) with rfl | rfl | rfl | rfl | rfl | rfl | rfl | rfl | rfl | rfl | rfl <;> rfl) (Nat.le_of_ble_eq_true rfl) (Nat.le_of_ble_eq_true rfl) dL_law_0 (fun qa H hP hD hS => ?_)
  have hP : va_P (dC, dI) vwCl ([(qa, .inr (0, [.null, .null, .null, .null, .null, .null, .null, .null, .null, .int (iI 0), .int (iI 0)]))]) H := hP
  have hD : va_D (fun q : Nat => s.heap.size ≤ q) ([(qa, .inr (0, [.null, .null, .null, .null, .null, .null, .null, .null, .null, .int (iI 0), .int (iI 0)]))]) := hD
  refine W.widen (k := 1) (n := 11) (Nat.le_of_ble_eq_true rfl) (Nat.le_of_ble_eq_true rfl) ?_
  refine lv_dup hx hb dL_law_3 rfl ?_
  refine lv_aload_n hx hb dL_law_4 rfl (lv_at hl 0 rfl) ?_
  refine ob_ic hx hb dL_law_5 ?_
  refine vp_callSi (W.runS (As := [.ref b, .int (iI 0)]) (rest := [.ref qa, .ref qa]) ⟨hx, hb, hml, hown, hts⟩ (metL_cell l b L xs hL) (va_cwS 2 hts (lw_S q195 q196 q22 q197) rfl rfl rfl (by decide +kernel) ⟨Nat.le_of_ble_eq_true rfl, Nat.le_of_ble_eq_true rfl⟩) ⟨cellP_blind, fun U hU hWm => ⟨rfl, by show va_X b L xs U U.heap; rw [hU]; exact va_X.moved hWm.alike (hX.kept (hS.2.1 b hbl hbA))⟩⟩ rfl rfl hl.1 rfl (lv_room (Nat.le_of_ble_eq_true rfl)) dL_law_6 ⟨Nat.le_of_ble_eq_true rfl, Nat.le_of_ble_eq_true rfl⟩) (fun rc erc => ?_)
  subst erc
  have hPc := hP.sub (ws' := [(qa, .inr (0, [.null, .null, .null, .null, .null, .null, .null, .null, .null, .int (iI 0), .int (iI 0)]))]) [0] rfl
  have hDc := hD.sub (ws' := [(qa, .inr (0, [.null, .null, .null, .null, .null, .null, .null, .null, .null, .int (iI 0), .int (iI 0)]))]) [0] (by decide) rfl
  have hKc2 := hK.sub (tys' := []) [] rfl
  have hFc := va_free (wc := [(qa, .inr (0, [.null, .null, .null, .null, .null, .null, .null, .null, .null, .int (iI 0), .int (iI 0)]))]) hD hS hA [0] rfl
  refine va_callv (va_runI (As := [.int (iI (cvZ L xs))]) (rest := [.ref qa]) ⟨hx, hb, hml, hown, hts⟩ (metN_init l dC dI qa H.size (cvZ L xs) (cvZ_bnd L xs)) (cwI 1 hts (lw_meth q29) rfl rfl rfl (hts _ q23) (hts _ q27) (hts _ q28) rfl (by decide +kernel) ⟨Nat.le_of_ble_eq_true rfl, Nat.le_of_ble_eq_true rfl⟩) ⟨obW_blind, fun U hU hWm => ⟨rfl, by rw [hU], by rw [hU]; exact hPc, va_K.moved hWm.alike hKc2, hDc.weaken (fun _ _ _ _ => trivial)⟩⟩ rfl rfl hl.1 rfl (lv_room (Nat.le_of_ble_eq_true rfl)) dL_law_9 ⟨Nat.le_of_ble_eq_true rfl, Nat.le_of_ble_eq_true rfl⟩) hS (fun q _ h => hFc q h) hFc (fun u t H1 locs ht hvm hw hB hz1 hk1 hS => ?_)
  obtain ⟨ad, cI, cZ⟩ := u
  have hw : ad 0 = qa := hw
  obtain ⟨hP1, hK1, hD1⟩ := hB
  rw [ht] at hP1
  have hK1 : va_K (dC, dI) vwCl [(cI, .int), (cZ, .boolean)] s := va_K.moved hvm.symm hK1
  obtain ⟨hP, hD⟩ := va_join (wr := []) (w1 := wN ad cI cZ (nCl (cvZ L xs)) 0 (fun _ => 0) (fun _ => 0) (fun _ => 0) (fun _ => 0) (fun _ => 0) (fun _ => 0) (fun _ => 0) (fun _ => 0)) hP hD [0] [] rfl rfl (by decide) (by decide) hk1 hFc hP1 hD1
  generalize H1 = H at hP hS ⊢
  refine W.widen (k := 10) (n := 68) (Nat.le_of_ble_eq_true rfl) (Nat.le_of_ble_eq_true rfl) ?_
  have hP : va_P (dC, dI) vwCl (wN ad cI cZ (nCl (cvZ L xs)) 0 (fun _ => 0) (fun _ => 0) (fun _ => 0) (fun _ => 0) (fun _ => 0) (fun _ => 0) (fun _ => 0) (fun _ => 0)) H := hP
  have hD : va_D (fun q : Nat => s.heap.size ≤ q) (wN ad cI cZ (nCl (cvZ L xs)) 0 (fun _ => 0) (fun _ => 0) (fun _ => 0) (fun _ => 0) (fun _ => 0) (fun _ => 0) (fun _ => 0) (fun _ => 0)) := hD
  have hK : va_K (dC, dI) vwCl [(cI, .int), (cZ, .boolean)] s := hK1
  rw [← hw]
  refine lv_astore_n (lv' := [(1, .ref (ad 0)), (0, .ref b)]) hx hb dL_law_12 rfl hl (by decide) rfl (fun ls hl => ?_)
  refine va_new (ci := 1) (fs := [.int (iI 0), .int (iI 0), .null, .null, .null, .null, .null]) (C := RX2) (T := TX2) (N := 7) hx hb hts in_X2 tyX2 tyX2_ok hown (hts _ q198) (hts _ q199) (hts _ q24) hK hP hD hS hA rfl (fun j hj => by rcases (show j = 0 ∨ j = 1 ∨ j = 2 ∨ j = 3 ∨ j = 4 ∨ j = 5 ∨ j = 6 by omega) with rfl | rfl | rfl | rfl | rfl | rfl | rfl <;> rfl) (Nat.le_of_ble_eq_true rfl) (Nat.le_of_ble_eq_true rfl) dL_law_13 (fun qb H hP hD hS => ?_)
  have hP : va_P (dC, dI) vwCl (wN ad cI cZ (nCl (cvZ L xs)) 0 (fun _ => 0) (fun _ => 0) (fun _ => 0) (fun _ => 0) (fun _ => 0) (fun _ => 0) (fun _ => 0) (fun _ => 0) ++ [(qb, .inr (1, [.int (iI 0), .int (iI 0), .null, .null, .null, .null, .null]))]) H := hP
  have hD : va_D (fun q : Nat => s.heap.size ≤ q) (wN ad cI cZ (nCl (cvZ L xs)) 0 (fun _ => 0) (fun _ => 0) (fun _ => 0) (fun _ => 0) (fun _ => 0) (fun _ => 0) (fun _ => 0) (fun _ => 0) ++ [(qb, .inr (1, [.int (iI 0), .int (iI 0), .null, .null, .null, .null, .null]))]) := hD
  refine W.widen (k := 11) (n := 75) (Nat.le_of_ble_eq_true rfl) (Nat.le_of_ble_eq_true rfl) ?_
  refine lv_dup hx hb dL_law_16 rfl ?_
  refine lv_aload_n hx hb dL_law_17 rfl (lv_at hl 1 rfl) ?_
  refine ob_ic hx hb dL_law_18 ?_
  refine vp_callSi (W.runS (As := [.ref b, .int (iI 0)]) (rest := [.ref qb, .ref qb]) ⟨hx, hb, hml, hown, hts⟩ (metL_cell l b L xs hL) (va_cwS 2 hts (lw_S q195 q196 q22 q197) rfl rfl rfl (by decide +kernel) ⟨Nat.le_of_ble_eq_true rfl, Nat.le_of_ble_eq_true rfl⟩) ⟨cellP_blind, fun U hU hWm => ⟨rfl, by show va_X b L xs U U.heap; rw [hU]; exact va_X.moved hWm.alike (hX.kept (hS.2.1 b hbl hbA))⟩⟩ rfl rfl hl.1 rfl (lv_room (Nat.le_of_ble_eq_true rfl)) dL_law_19 ⟨Nat.le_of_ble_eq_true rfl, Nat.le_of_ble_eq_true rfl⟩) (fun rc erc => ?_)
  subst erc
  have hPc := hP.sub (ws' := [(qb, .inr (1, [.int (iI 0), .int (iI 0), .null, .null, .null, .null, .null]))]) [9] rfl
  have hDc := hD.sub (ws' := [(qb, .inr (1, [.int (iI 0), .int (iI 0), .null, .null, .null, .null, .null]))]) [9] (by decide) rfl
  have hKc2 := hK.sub (tys' := []) [] rfl
  have hFc := va_free (wc := [(qb, .inr (1, [.int (iI 0), .int (iI 0), .null, .null, .null, .null, .null]))]) hD hS hA [9] rfl
  refine va_callv (va_runI (As := [.int (iI (cvZ L xs))]) (rest := [.ref qb]) ⟨hx, hb, hml, hown, hts⟩ (metM_init l dC dI qb H.size (cvZ L xs) (cvZ_bnd L xs)) (cwI 1 hts (lw_meth q202) rfl rfl rfl (hts _ q24) (hts _ q200) (hts _ q201) rfl (by decide +kernel) ⟨Nat.le_of_ble_eq_true rfl, Nat.le_of_ble_eq_true rfl⟩) ⟨obW_blind, fun U hU hWm => ⟨rfl, by rw [hU], by rw [hU]; exact hPc, va_K.moved hWm.alike hKc2, hDc.weaken (fun _ _ _ _ => trivial)⟩⟩ rfl rfl hl.1 rfl (lv_room (Nat.le_of_ble_eq_true rfl)) dL_law_22 ⟨Nat.le_of_ble_eq_true rfl, Nat.le_of_ble_eq_true rfl⟩) hS (fun q _ h => hFc q h) hFc (fun u t H1 locs ht hvm hw hB hz1 hk1 hS => ?_)
  obtain ⟨bd, cI2, cZ2⟩ := u
  have hw : bd 0 = qb := hw
  obtain ⟨hP1, hK1, hD1⟩ := hB
  rw [ht] at hP1
  have hK1 : va_K (dC, dI) vwCl [(cI2, .int), (cZ2, .boolean)] s := va_K.moved hvm.symm hK1
  obtain ⟨hP, hD⟩ := va_join (wr := wN ad cI cZ (nCl (cvZ L xs)) 0 (fun _ => 0) (fun _ => 0) (fun _ => 0) (fun _ => 0) (fun _ => 0) (fun _ => 0) (fun _ => 0) (fun _ => 0)) (w1 := wM bd cI2 cZ2 (nCl (cvZ L xs)) 0 (fun _ => 0) (fun _ => 0) (fun _ => 0) (fun _ => 0) (fun _ => 0)) hP hD [9] [0, 1, 2, 3, 4, 5, 6, 7, 8] rfl rfl (by decide) (by decide) hk1 hFc hP1 hD1
  generalize H1 = H at hP hS ⊢
  refine W.widen (k := 16) (n := 106) (Nat.le_of_ble_eq_true rfl) (Nat.le_of_ble_eq_true rfl) ?_
  have f1 : s.vm.findClass ("[" ++ FieldType.int.toString) = some cI := (hK.2 0 _ rfl).2
  have f2 : s.vm.findClass ("[" ++ FieldType.int.toString) = some cI2 := (hK1.2 0 _ rfl).2
  have g1 : s.vm.findClass ("[" ++ FieldType.boolean.toString) = some cZ := (hK.2 1 _ rfl).2
  have g2 : s.vm.findClass ("[" ++ FieldType.boolean.toString) = some cZ2 := (hK1.2 1 _ rfl).2
  have f3 : cI2 = cI := Option.some.inj (f2.symm.trans f1)
  have g3 : cZ2 = cZ := Option.some.inj (g2.symm.trans g1)
  rw [f3, g3] at hP hD
  have hP : va_P (dC, dI) vwCl (wN ad cI cZ (nCl (cvZ L xs)) 0 (fun _ => 0) (fun _ => 0) (fun _ => 0) (fun _ => 0) (fun _ => 0) (fun _ => 0) (fun _ => 0) (fun _ => 0) ++ wM bd cI cZ (nCl (cvZ L xs)) 0 (fun _ => 0) (fun _ => 0) (fun _ => 0) (fun _ => 0) (fun _ => 0)) H := hP
  have hD : va_D (fun q : Nat => s.heap.size ≤ q) (wN ad cI cZ (nCl (cvZ L xs)) 0 (fun _ => 0) (fun _ => 0) (fun _ => 0) (fun _ => 0) (fun _ => 0) (fun _ => 0) (fun _ => 0) (fun _ => 0) ++ wM bd cI cZ (nCl (cvZ L xs)) 0 (fun _ => 0) (fun _ => 0) (fun _ => 0) (fun _ => 0) (fun _ => 0)) := hD
  rw [← hw]
  refine lv_astore_n (lv' := [(2, .ref (bd 0)), (1, .ref (ad 0)), (0, .ref b)]) hx hb dL_law_25 rfl hl (by decide) rfl (fun ls hl => ?_)
  refine ob_ic hx hb dL_law_26 ?_
  refine lv_istore_n (lv' := [(3, .int (iI 1)), (2, .ref (bd 0)), (1, .ref (ad 0)), (0, .ref b)]) hx hb dL_law_27 rfl hl (by decide) rfl (fun ls hl => ?_)
  refine W.widen (k := 600000) (n := 7290000) (Nat.le_of_ble_eq_true rfl) (Nat.le_of_ble_eq_true rfl) ?_
  have hW : WF (nCl (cvZ L xs)) 0 (fun _ => 0) (fun _ => 0) (fun _ => 0) (fun _ => 0) := by
    refine ⟨?_, ?_, by omega, fun d hd => absurd hd (by omega), fun f => Or.inl rfl⟩
    · unfold nCl; (repeat' split) <;> omega
    · unfold nCl; (repeat' split) <;> omega
  exact law_loop hL hx hb hml hown hts hX hbl hK hr hlocks (L + 1) 1 (by omega) (by omega) 0 (fun _ => 0) (fun _ => 0) (fun _ => 0) (fun _ => 0) (fun _ => 0) (fun _ => 0) (fun _ => 0) (fun _ => 0) (fun _ => 0) _ _ hW hP hD hS ls (lv_sub hl [3, 2, 1, 0] rfl)
set_option maxHeartbeats 4000000 in
theorem lw_walk (l : Launch) (b : Addr) (xs : List Int32) : MetFree l x (headSpec (Jvm.Cond.code x code maxLocals ret :: tables_1) room_1) (lw_P b xs) (fun _ _ _ _ _ => True) lw_Q := by
  refine MetFree.of_bodyS (code := code) (maxLocals := maxLocals) (ret := ret) (by decide) ?_ ?_
  · intro args s m h hn
    obtain ⟨meth, c, h1, h2, h3, h4, h5, h6, -, -⟩ := Cond.code_spec hn (atoms_spec (ws := Jvm.Cond.code x code maxLocals ret :: tables_1) h _ List.mem_cons_self)
    exact ⟨meth, c, h1, h2, h3, h4, h5, h6⟩
  · intro p e s m args below meth c s₁ B hml0 hP _
    obtain ⟨rfl, hx, hbd, hgv⟩ := hP
    obtain ⟨scr, harrAt, hlist, hof, hsmall⟩ := hx
    obtain ⟨hcb, hkn, -, -⟩ := State.arrayAt?_spec harrAt
    have hown : s.vm.findClass R_law = some m.cls := findClass_of_methodNamed B.named
    have hts0 : ∀ c ∈ (Jvm.Cond.code x code maxLocals ret :: tables_1), c.before #[Value.ref b] s = true := atoms_spec (ws := Jvm.Cond.code x code maxLocals ret :: tables_1) B.pre
    have hts : ∀ w ∈ lw_tbl, w.before #[Value.ref b] s = true := k2_hts_sels lw_privs (fun w hw => hts0 w (List.mem_cons_of_mem _ hw)) lw_privs_ok
    have hml : c.maxLocals = 4 := B.maxLocals_eq (hts0 _ List.mem_cons_self)
    have X₀ : Stand p l e room_1 s m #[Value.ref b] below meth c s₁ [] 0 0 := Stand.of_body B
    have hh0 : s₁.heap = s.heap := by rw [B.state]; rfl
    have hsz : scr.slots.size = xs.length := by rw [← Array.length_toList, hlist, List.length_map]
    have hval : ∀ j : Nat, j < xs.length → scr.slots[j]? = some (.int (xs.getD j 0)) := fun j hj => by
      rw [← Array.getElem?_toList, hlist]
      simp [hj]
    have hbl : b < s.heap.size := (Array.getElem?_eq_some_iff.mp hcb).1
    have hX : va_X b xs.length (fun j => xs.getD j 0) s s.heap := ⟨scr, hcb, hof, hkn, hsz, hval⟩
    have K : W p l e room_1 s m #[Value.ref b] below meth c s₁.heap [] 0 0 (lw_Z below #[Value.ref b] s) (entryFrame m ([Value.ref b] : List Value).toArray 4) := by
      rw [hh0]
      exact whole_start l hbd ⟨B.exec, B.bytes, B.returns, hml, hown, hts, hX, hbl, B.notSynchronized, hgv⟩
    obtain ⟨t, a1, o, b1, b2, b3⟩ := K s₁ rfl X₀
    exact ⟨t, o, a1, b1, b2, b3⟩
theorem lw_pre_spec {args : Array Value} {s : State} (h : (Jvm.Cond.and given_1 narrow_1).before args s = true) (hr : rest_1_c.before args s = true) : ∃ (b : Addr) (xs : List Int32), lw_P b xs args s := by
  have hs := flat_of_before _ h
  have hq := flat_of_before _ hr
  have hc : (Cond.count 1).before args s = true := hs _ (by decide +kernel)
  have harr : (Cond.arrayOf (.arg 0) .int).before args s = true := hs _ (by decide +kernel)
  have hle : (Cond.le (.length (.arg 0)) (.int 257)).before args s = true := hs _ (by decide +kernel)
  have hlen : (Cond.isInt (.length (.arg 0))).before args s = true := hq _ (by decide +kernel)
  have hall : (Cond.all (.arg 0) (.isInt (.elem (.arg 0) (.index 0)))).before args s = true := hq _ (by decide +kernel)
  obtain ⟨b, xs, hb, hx⟩ := State.ints_of_pre rfl harr hlen hall
  have hsm : xs.length < 2 ^ 31 := hx.choose_spec.2.2.2
  have hev : (Term.length (.arg 0)).eval args s none [] s = some (.int xs.length.toInt32) := hx.length_eval hb
  have hv := Cond.le_ints hev (show (Term.int 257).eval args s none [] s = some (.int 257) from rfl)
  have hd : xs.length.toInt32 ≤ 257 := by
    simpa [Cond.before, Cond.holds, hv] using hle
  have hN : xs.length ≤ 257 := (Int32.ofNat_le_ofNat hsm (by decide)).mp (show Int32.ofNat xs.length ≤ Int32.ofNat 257 from hd)
  exact ⟨b, xs, Cond.one_arg hc (show args[0]? = some (.ref b) from hb), hx, hN, h⟩
theorem lw_comes (l : Launch) : Comes l x (Jvm.Cond.code x code maxLocals ret :: tables_1) room_1 (fun tb e args s => Calls_1 tb e args s ∧ rest_1 tb e args s ∧ Pre_1 tb e args s)
    (fun _ _ args s o t => lw_Q args s o t) := by
  intro p e ha hc hk s m args below hf hfit hheap happ hpre
  obtain ⟨b, xs, hP⟩ := lw_pre_spec hpre.2.2 hpre.2.1
  obtain ⟨k, o, h1, h2, h3, hQ⟩ := lw_walk l b xs p e ha hc hk s m args below hf ((Spec.applies_iff_loose hf).mp happ).1 hP trivial
  exact ⟨k, o, h1, h2, h3, hQ⟩
theorem lw_frame {s t : State} {o : Outcome} {args : Array Value} (h : Framed s o t [] 600000 7290000) :
    Framed s o t (fieldLocs frame_1_writes args s ++ arrayLocs frame_1_arrays args s ++ staticLocs frame_1_statics s) 600000 7290000 := h
theorem lw_limb (L : Cond) (hL : ∀ (args : Array Value) (s t : State), L.after args s (.returned (some (.int 1))) t = true) :
    ArmFor flags0 classFile x code maxLocals ret World_1 tables_1 room_1 Calls_1 rest_1 Pre_1
      (fun tb e a s o t => postC L tb e a s o t ∧ Framed s o t (fieldLocs frame_1_writes a s ++ arrayLocs frame_1_arrays a s ++ staticLocs frame_1_statics s) 600000 7290000) := by
  intro l _ _ _ p e ha hc hk s m args below hf hfit hheap happ hpre
  obtain ⟨k, o, h1, h2, h3, rfl, hF⟩ := lw_comes l p e ha hc hk s m args below hf hfit hheap happ hpre
  exact ⟨k, _, h1, h2, h3, hL args s _, lw_frame hF⟩
theorem i_vc : Claimed_1_1 ∧ Claimed_1_2 := ⟨lw_limb limb_1_1 (fun args s t => by simp [limb_1_1, Cond.after, Cond.holds, Cond.value]), lw_limb limb_1_2 (fun args s t => Cond.after_iff.mpr (by
  first | (rw [show limb_1_2 = Cond.eq .result (.int 1) from rfl, Cond.eq_ints (x := 1) (y := 1) rfl rfl]; simp; done) | (simp [limb_1_2, Cond.value, Term.eval]; done)))⟩
end
