section
/-- a cell's content: how many, their sum, the least, the most -/
abbrev oc_Q : Type := Int32 × Int32 × Int32 × Int32
def oc_lo (a b : Int32) : Int32 := if a ≤ b then a else b
def oc_hi (a b : Int32) : Int32 := if b ≤ a then a else b
def oc_op (p q : oc_Q) : oc_Q := (p.1 + q.1, p.2.1 + q.2.1, oc_lo p.2.2.1 q.2.2.1, oc_hi p.2.2.2 q.2.2.2)
def oc_z : oc_Q := (0, 0, 10000, -10000)
def oc_f (m : Int32) : oc_Q := (1, m, m, m)
/-- the facts below n that p picks, joined -/
def oc_agg (p : Nat → Bool) (M : Nat → Int32) : Nat → oc_Q
  | 0 => oc_z
  | n + 1 => if p n = true then oc_op (oc_agg p M n) (oc_f (M n)) else oc_agg p M n
theorem oc_lo_I (a b : Int32) : (oc_lo a b).toInt = if a.toInt ≤ b.toInt then a.toInt else b.toInt := by
  unfold oc_lo
  by_cases h : a ≤ b
  · rw [if_pos h, if_pos (Int32.le_iff_toInt_le.mp h)]
  · rw [if_neg h, if_neg (fun z => h (Int32.le_iff_toInt_le.mpr z))]
theorem oc_hi_I (a b : Int32) : (oc_hi a b).toInt = if b.toInt ≤ a.toInt then a.toInt else b.toInt := by
  unfold oc_hi
  by_cases h : b ≤ a
  · rw [if_pos h, if_pos (Int32.le_iff_toInt_le.mp h)]
  · rw [if_neg h, if_neg (fun z => h (Int32.le_iff_toInt_le.mpr z))]
theorem oc_lo_rc (a m b : Int32) : oc_lo (oc_lo a m) b = oc_lo (oc_lo a b) m := by
  apply Int32.toInt_inj.mp
  simp only [oc_lo_I]
  generalize a.toInt = x
  generalize b.toInt = y
  generalize m.toInt = z
  (repeat' split) <;> omega
theorem oc_lo_as (a m b : Int32) : oc_lo a (oc_lo b m) = oc_lo (oc_lo a b) m := by
  apply Int32.toInt_inj.mp
  simp only [oc_lo_I]
  generalize a.toInt = x
  generalize b.toInt = y
  generalize m.toInt = z
  (repeat' split) <;> omega
theorem oc_hi_rc (a m b : Int32) : oc_hi (oc_hi a m) b = oc_hi (oc_hi a b) m := by
  apply Int32.toInt_inj.mp
  simp only [oc_hi_I]
  generalize a.toInt = x
  generalize b.toInt = y
  generalize m.toInt = z
  (repeat' split) <;> omega
theorem oc_hi_as (a m b : Int32) : oc_hi a (oc_hi b m) = oc_hi (oc_hi a b) m := by
  apply Int32.toInt_inj.mp
  simp only [oc_hi_I]
  generalize a.toInt = x
  generalize b.toInt = y
  generalize m.toInt = z
  (repeat' split) <;> omega
theorem oc_op_rc (a m b : oc_Q) : oc_op (oc_op a m) b = oc_op (oc_op a b) m := by
  unfold oc_op
  dsimp only
  rw [oc_lo_rc, oc_hi_rc, show a.1 + m.1 + b.1 = a.1 + b.1 + m.1 by grind, show a.2.1 + m.2.1 + b.2.1 = a.2.1 + b.2.1 + m.2.1 by grind]
theorem oc_op_as (a m b : oc_Q) : oc_op a (oc_op b m) = oc_op (oc_op a b) m := by
  unfold oc_op
  dsimp only
  rw [oc_lo_as, oc_hi_as, show a.1 + (b.1 + m.1) = a.1 + b.1 + m.1 by grind, show a.2.1 + (b.2.1 + m.2.1) = a.2.1 + b.2.1 + m.2.1 by grind]
theorem oc_op_zz : oc_op oc_z oc_z = oc_z := by decide
theorem oc_agg_t {p : Nat → Bool} {M : Nat → Int32} {n : Nat} (h : p n = true) : oc_agg p M (n + 1) = oc_op (oc_agg p M n) (oc_f (M n)) := by
  show (if p n = true then _ else _) = _
  rw [if_pos h]
theorem oc_agg_f {p : Nat → Bool} {M : Nat → Int32} {n : Nat} (h : ¬ p n = true) : oc_agg p M (n + 1) = oc_agg p M n := by
  show (if p n = true then _ else _) = _
  rw [if_neg h]
theorem oc_agg_or {p q r : Nat → Bool} {M : Nat → Int32} {n : Nat} (hr : ∀ f, f < n → (r f = true ↔ p f = true ∨ q f = true)) (hd : ∀ f, f < n → p f = true → ¬ q f = true) :
    oc_agg r M n = oc_op (oc_agg p M n) (oc_agg q M n) := by
  induction n with
  | zero => exact oc_op_zz.symm
  | succ n ih =>
    have ih' := ih (fun f hf => hr f (by omega)) (fun f hf => hd f (by omega))
    have hn := hr n (by omega)
    by_cases hp : p n = true
    · rw [oc_agg_t (hn.mpr (Or.inl hp)), oc_agg_t hp, oc_agg_f (hd n (by omega) hp), ih']
      exact (oc_op_rc _ _ _).symm
    · by_cases hq : q n = true
      · rw [oc_agg_t (hn.mpr (Or.inr hq)), oc_agg_f hp, oc_agg_t hq, ih']
        exact (oc_op_as _ _ _).symm
      · rw [oc_agg_f (fun z => (hn.mp z).elim hp hq), oc_agg_f hp, oc_agg_f hq, ih']
theorem oc_agg_c {p q : Nat → Bool} {M N : Nat → Int32} {n : Nat} (hr : ∀ f, f < n → (p f = true ↔ q f = true)) (hM : ∀ f, f < n → M f = N f) :
    oc_agg p M n = oc_agg q N n := by
  induction n with
  | zero => rfl
  | succ n ih =>
    have ih' := ih (fun f hf => hr f (by omega)) (fun f hf => hM f (by omega))
    have hn := hr n (by omega)
    by_cases hp : p n = true
    · rw [oc_agg_t hp, oc_agg_t (hn.mp hp), ih', hM n (by omega)]
    · rw [oc_agg_f hp, oc_agg_f (fun z => hp (hn.mpr z)), ih']
theorem oc_agg_0 {p : Nat → Bool} {M : Nat → Int32} {n : Nat} (h : ∀ f, f < n → ¬ p f = true) : oc_agg p M n = oc_z := by
  induction n with
  | zero => rfl
  | succ n ih => rw [oc_agg_f (h n (by omega))]; exact ih (fun f hf => h f (by omega))
theorem oc_agg_n (p : Nat → Bool) (M : Nat → Int32) (n : Nat) : ∃ k : Nat, k ≤ n ∧ (oc_agg p M n).1 = nI k ∧ (k = 0 → ∀ f, f < n → ¬ p f = true) ∧ (0 < k → ∃ f, f < n ∧ p f = true) := by
  induction n with
  | zero => exact ⟨0, Nat.le_refl 0, rfl, fun _ f hf => absurd hf (by omega), fun h => absurd h (by omega)⟩
  | succ n ih =>
    obtain ⟨k, h1, h2, h3, h4⟩ := ih
    by_cases hp : p n = true
    · refine ⟨k + 1, by omega, ?_, fun z => absurd z (by omega), fun _ => ⟨n, by omega, hp⟩⟩
      rw [oc_agg_t hp]
      show (oc_agg p M n).1 + 1 = _
      rw [h2, nI_1]
    · rw [oc_agg_f hp]
      refine ⟨k, by omega, h2, fun z f hf => ?_, fun z => ?_⟩
      · by_cases e : f = n
        · rw [e]; exact hp
        · exact h3 z f (by omega)
      · obtain ⟨f, hf, hpf⟩ := h4 z
        exact ⟨f, by omega, hpf⟩
/-- no fact is picked, or some is, by the count's sign -/
theorem oc_agg_le {p : Nat → Bool} {M : Nat → Int32} {n : Nat} (hn : n ≤ 40) (h : (oc_agg p M n).1 ≤ 0) : ∀ f, f < n → ¬ p f = true := by
  obtain ⟨k, h1, h2, h3, _⟩ := oc_agg_n p M n
  rcases Nat.eq_zero_or_pos k with z | z
  · exact h3 z
  · rw [h2] at h
    exact absurd h (nI_nle z (by omega))
theorem oc_agg_gt {p : Nat → Bool} {M : Nat → Int32} {n : Nat} (h : ¬ (oc_agg p M n).1 ≤ 0) : ∃ f, f < n ∧ p f = true := by
  obtain ⟨k, h1, h2, _, h4⟩ := oc_agg_n p M n
  rcases Nat.eq_zero_or_pos k with z | z
  · rw [h2, z] at h
    exact absurd (show nI 0 ≤ 0 by decide) h
  · exact h4 z
theorem oc_agg_s {p : Nat → Bool} {M : Nat → Int32} {n : Nat} (hn : n ≤ 40) (hM : ∀ f, f < n → -1000 ≤ (M f).toInt ∧ (M f).toInt ≤ 1000) :
    -1000 * (n : Int) ≤ (oc_agg p M n).2.1.toInt ∧ (oc_agg p M n).2.1.toInt ≤ 1000 * (n : Int) := by
  induction n with
  | zero =>
    have e : (oc_agg p M 0).2.1.toInt = 0 := by
      show (0 : Int32).toInt = 0
      decide
    rw [e]
    omega
  | succ n ih =>
    have ih' := ih (by omega) (fun f hf => hM f (by omega))
    have hm := hM n (by omega)
    by_cases hp : p n = true
    · rw [oc_agg_t hp]
      have e : (oc_op (oc_agg p M n) (oc_f (M n))).2.1 = (oc_agg p M n).2.1 + M n := rfl
      rw [e, Jvm.Kit.i32_add (by omega) (by omega)]
      omega
    · rw [oc_agg_f hp]
      omega
/-! the views -/
def oc_gA (l : Nat) : Nat := if l = 2 then 0 else l + 1
def oc_gB (l : Nat) : Nat := if l = 3 then 0 else l + 1
def oc_gC (l : Nat) : Nat := if l = 3 then 0 else 2 ^ l
/-- the cell that the view v sees a place as -/
def oc_sa (v p : Nat) : Nat := 48 * (p / 48 / oc_gA (v / 16)) + 8 * (p / 8 % 6 / oc_gB (v / 4 % 4)) + p % 8 / oc_gC (v % 4)
/-- a place of the cell c of the view v -/
def oc_bk (v c : Nat) : Nat := 48 * (oc_gA (v / 16) * (c / 48)) + 8 * (oc_gB (v / 4 % 4) * (c / 8 % 6)) + oc_gC (v % 4) * (c % 8)
def oc_fi (v w : Nat) : Prop := v / 16 ≤ w / 16 ∧ v % 4 ≤ w % 4 ∧ v / 4 % 4 ≤ w / 4 % 4 ∧ ¬ (v / 4 % 4 = 1 ∧ w / 4 % 4 = 2)
theorem oc_dA : ∀ l, l < 3 → ∀ m, m < 3 → l ≤ m → ∀ a, a < 4 → oc_gA l * (a / oc_gA l) / oc_gA m = a / oc_gA m := by decide
theorem oc_dB : ∀ l, l < 4 → ∀ m, m < 4 → l ≤ m → ¬ (l = 1 ∧ m = 2) → ∀ a, a < 6 → oc_gB l * (a / oc_gB l) / oc_gB m = a / oc_gB m := by decide
theorem oc_dC : ∀ l, l < 4 → ∀ m, m < 4 → l ≤ m → ∀ a, a < 8 → oc_gC l * (a / oc_gC l) / oc_gC m = a / oc_gC m := by decide
theorem oc_gA_lt {l : Nat} (h : l < 3) : oc_gA l < 3 := by
  unfold oc_gA; split <;> omega
theorem oc_gB_lt {l : Nat} (h : l < 4) : oc_gB l < 4 := by
  unfold oc_gB; split <;> omega
theorem oc_gC_lt : ∀ l, l < 4 → oc_gC l < 5 := by decide
/-- three coordinates and their place -/
theorem oc_dec {a b c : Nat} (hb : b < 6) (hc : c < 8) : (48 * a + 8 * b + c) / 48 = a ∧ (48 * a + 8 * b + c) / 8 % 6 = b ∧ (48 * a + 8 * b + c) % 8 = c := by
  refine ⟨by omega, by omega, by omega⟩
theorem oc_sa_lt {v p : Nat} (hp : p < 192) : oc_sa v p < 192 := by
  have h1 := Nat.div_le_self (p / 48) (oc_gA (v / 16))
  have h2 := Nat.div_le_self (p / 8 % 6) (oc_gB (v / 4 % 4))
  have h3 := Nat.div_le_self (p % 8) (oc_gC (v % 4))
  unfold oc_sa
  generalize p / 48 / oc_gA (v / 16) = x at *
  generalize p / 8 % 6 / oc_gB (v / 4 % 4) = y at *
  generalize p % 8 / oc_gC (v % 4) = z at *
  omega
theorem oc_sa_0 (p : Nat) : oc_sa 0 p = p := by
  have e : oc_sa 0 p = 48 * (p / 48 / 1) + 8 * (p / 8 % 6 / 1) + p % 8 / 1 := rfl
  rw [e, Nat.div_one, Nat.div_one, Nat.div_one]
  omega
theorem oc_back {v w p : Nat} (hv : v < 48) (hw : w < 48) (hp : p < 192) (h : oc_fi v w) : oc_bk v (oc_sa v p) < 192 ∧ oc_sa w (oc_bk v (oc_sa v p)) = oc_sa w p := by
  obtain ⟨f1, f2, f3, f4⟩ := h
  have h1 := Nat.div_le_self (p / 48) (oc_gA (v / 16))
  have h2 := Nat.div_le_self (p / 8 % 6) (oc_gB (v / 4 % 4))
  have h3 := Nat.div_le_self (p % 8) (oc_gC (v % 4))
  have m1 := Nat.mul_div_le (p / 48) (oc_gA (v / 16))
  have m2 := Nat.mul_div_le (p / 8 % 6) (oc_gB (v / 4 % 4))
  have m3 := Nat.mul_div_le (p % 8) (oc_gC (v % 4))
  have d1 := oc_dA (v / 16) (by omega) (w / 16) (by omega) f1 (p / 48) (by omega)
  have d2 := oc_dB (v / 4 % 4) (by omega) (w / 4 % 4) (by omega) f3 f4 (p / 8 % 6) (by omega)
  have d3 := oc_dC (v % 4) (by omega) (w % 4) (by omega) f2 (p % 8) (by omega)
  have e : oc_bk v (oc_sa v p) = 48 * (oc_gA (v / 16) * (p / 48 / oc_gA (v / 16))) + 8 * (oc_gB (v / 4 % 4) * (p / 8 % 6 / oc_gB (v / 4 % 4))) + oc_gC (v % 4) * (p % 8 / oc_gC (v % 4)) := by
    have c := oc_dec (a := p / 48 / oc_gA (v / 16)) (b := p / 8 % 6 / oc_gB (v / 4 % 4)) (c := p % 8 / oc_gC (v % 4)) (by omega) (by omega)
    unfold oc_bk oc_sa
    rw [c.1, c.2.1, c.2.2]
  rw [e]
  refine ⟨by omega, ?_⟩
  have c := oc_dec (a := oc_gA (v / 16) * (p / 48 / oc_gA (v / 16))) (b := oc_gB (v / 4 % 4) * (p / 8 % 6 / oc_gB (v / 4 % 4))) (c := oc_gC (v % 4) * (p % 8 / oc_gC (v % 4))) (by omega) (by omega)
  unfold oc_sa
  rw [c.1, c.2.1, c.2.2, d1, d2, d3]
end
section
theorem oc_byA {post : Int32 → Prop} {v : Nat} (hv : v < 48) (h : post (nI (oc_gA (v / 16)))) : wpX_byA post () (nI v) := by
  unfold wpX_byA
  refine nm_r (pk_shrN (n := v) (by omega) ((4 : Int32) &&& 31) 4 (by decide)) ?_
  refine pk_eq (v / 2 ^ 4) 2 (fun z => ?_) (fun z => ?_)
  · have e : oc_gA (v / 16) = 0 := if_pos z
    rw [e] at h
    exact h
  · have e : oc_gA (v / 16) = v / 16 + 1 := if_neg z
    rw [e] at h
    rw [nI_1]
    exact h
theorem oc_byB {post : Int32 → Prop} {v : Nat} (hv : v < 48) (h : post (nI (oc_gB (v / 4 % 4)))) : wpX_byB post () (nI v) := by
  unfold wpX_byB
  refine nm_r (e' := nI (v / 2 ^ 2 % 2 ^ 2)) (by rw [pk_shrN (n := v) (by omega) ((2 : Int32) &&& 31) 2 (by decide)]; exact pk_andN (by omega) 2 (by decide)) ?_
  refine pk_eq (v / 2 ^ 2 % 2 ^ 2) 3 (fun z => ?_) (fun z => ?_)
  · have e : oc_gB (v / 4 % 4) = 0 := if_pos z
    rw [e] at h
    exact h
  · have e : oc_gB (v / 4 % 4) = v / 4 % 4 + 1 := if_neg z
    rw [e] at h
    rw [nI_1]
    exact h
theorem oc_shl1 : ∀ l, l < 3 → (1 : Int32) <<< (nI l &&& 31) = nI (2 ^ l) := by decide
theorem oc_byC {post : Int32 → Prop} {v : Nat} (hv : v < 48) (h : post (nI (oc_gC (v % 4)))) : wpX_byC post () (nI v) := by
  unfold wpX_byC
  refine nm_r (e' := nI (v % 2 ^ 2)) (pk_andN (by omega) 2 (by decide)) ?_
  refine pk_eq (v % 2 ^ 2) 3 (fun z => ?_) (fun z => ?_)
  · have e : oc_gC (v % 4) = 0 := if_pos z
    rw [e] at h
    exact h
  · have e : oc_gC (v % 4) = 2 ^ (v % 4) := if_neg z
    rw [e] at h
    rw [oc_shl1 (v % 2 ^ 2) (by omega)]
    exact h
theorem oc_coarse {post : Int32 → Prop} {y z : Int32} (x b : Nat) (hx : x < 2 ^ 31) (hb : b < 2 ^ 31) (ey : y = nI x) (ez : z = nI b) (h : post (nI (x / b))) : wpX_coarser post () y z := by
  subst ey ez
  unfold wpX_coarser
  refine pk_le b 0 (fun z => ?_) (fun z => ⟨nI_ne0 z hb, ?_⟩)
  · have e : b = 0 := by omega
    rw [e, Nat.div_zero] at h
    exact h
  · rw [pk_div hx z hb]
    exact h
theorem oc_seen {post : Int32 → Prop} {v p : Nat} (hv : v < 48) (hp : p < 192) (h : post (nI (oc_sa v p))) : wpX_seenAs post () (nI v) (nI p) := by
  have gA := oc_gA_lt (l := v / 16) (by omega)
  have gB := oc_gB_lt (l := v / 4 % 4) (by omega)
  have gC := oc_gC_lt (v % 4) (by omega)
  have e48 : nI p / 48 = nI (p / 48) := pk_div (d := 48) (by omega) (by omega) (by omega)
  have e8 : nI p / 8 = nI (p / 8) := pk_div (d := 8) (by omega) (by omega) (by omega)
  have e6 : (nI p / 8) - (nI p / 8) / 6 * 6 = nI (p / 8 % 6) := by
    rw [e8]
    exact pk_rem (d := 6) (by omega) (by omega) (by omega)
  have r8 : nI p - nI p / 8 * 8 = nI (p % 8) := pk_rem (d := 8) (by omega) (by omega) (by omega)
  unfold wpX_seenAs
  refine ⟨by decide, oc_byA hv ?_⟩
  refine oc_coarse (p / 48) (oc_gA (v / 16)) (by omega) (by omega) e48 rfl ?_
  refine ⟨by decide, by decide, oc_byB hv ?_⟩
  refine oc_coarse (p / 8 % 6) (oc_gB (v / 4 % 4)) (by omega) (by omega) e6 rfl ?_
  refine ⟨by decide, oc_byC hv ?_⟩
  refine oc_coarse (p % 8) (oc_gC (v % 4)) (by omega) (by omega) r8 rfl ?_
  show post (nI 48 * nI (p / 48 / oc_gA (v / 16)) + nI 8 * nI (p / 8 % 6 / oc_gB (v / 4 % 4)) + nI (p % 8 / oc_gC (v % 4)))
  rw [pk_mul, pk_mul, nI_add, nI_add]
  exact h
theorem oc_cellFrom {post : Int32 → Prop} {v c w : Nat} (hv : v < 48) (hc : c < 192) (hw : w < 48) (hb : oc_bk v c < 192) (h : post (nI (oc_sa w (oc_bk v c)))) : wpX_cellFrom post () (nI v) (nI c) (nI w) := by
  have e48 : nI c / 48 = nI (c / 48) := pk_div (d := 48) (by omega) (by omega) (by omega)
  have e8 : nI c / 8 = nI (c / 8) := pk_div (d := 8) (by omega) (by omega) (by omega)
  have e6 : (nI c / 8) - (nI c / 8) / 6 * 6 = nI (c / 8 % 6) := by
    rw [e8]
    exact pk_rem (d := 6) (by omega) (by omega) (by omega)
  have r8 : nI c - nI c / 8 * 8 = nI (c % 8) := pk_rem (d := 8) (by omega) (by omega) (by omega)
  unfold wpX_cellFrom
  refine oc_byA hv ⟨by decide, nm_r (e' := nI (oc_gA (v / 16) * (c / 48))) (by rw [e48, pk_mul]) ?_⟩
  refine oc_byB hv ⟨by decide, by decide, nm_r (e' := nI (oc_gB (v / 4 % 4) * (c / 8 % 6))) (by rw [e6, pk_mul]) ?_⟩
  refine oc_byC hv ⟨by decide, nm_r (e' := nI (oc_gC (v % 4) * (c % 8))) (by rw [r8, pk_mul]) ?_⟩
  have e : ((48 * nI (oc_gA (v / 16) * (c / 48))) + (8 * nI (oc_gB (v / 4 % 4) * (c / 8 % 6)))) + nI (oc_gC (v % 4) * (c % 8)) = nI (oc_bk v c) := by
    show nI 48 * nI (oc_gA (v / 16) * (c / 48)) + nI 8 * nI (oc_gB (v / 4 % 4) * (c / 8 % 6)) + nI (oc_gC (v % 4) * (c % 8)) = _
    rw [pk_mul, pk_mul, nI_add, nI_add]
    rfl
  rw [e]
  exact oc_seen hw hb h
theorem oc_fin32 {post : Int32 → Prop} {v w : Nat} (hv : v < 48) (hw : w < 48) (h0 : post 0) (h1 : v / 16 ≤ w / 16 → v % 4 ≤ w % 4 → post 1) : wX_isFiner_32 post (nI v) (nI w) 1 := by
  have e1 : nI v >>> ((4 : Int32) &&& 31) = nI (v / 16) := pk_shrN (n := v) (by omega) ((4 : Int32) &&& 31) 4 (by decide)
  have e2 : nI w >>> ((4 : Int32) &&& 31) = nI (w / 16) := pk_shrN (n := w) (by omega) ((4 : Int32) &&& 31) 4 (by decide)
  have e3 : nI v &&& 3 = nI (v % 4) := pk_andN (by omega) 2 (by decide)
  have e4 : nI w &&& 3 = nI (w % 4) := pk_andN (by omega) 2 (by decide)
  unfold wX_isFiner_32
  rw [e1, e2, e3, e4]
  exact pk_lt (w / 16) (v / 16) (fun _ => h0) (fun z => pk_lt (w % 4) (v % 4) (fun _ => h0) (fun z2 => br_f (by decide) (h1 z z2)))
theorem oc_fin320 {post : Int32 → Prop} {x y : Int32} (h0 : post 0) : wX_isFiner_32 post x y 0 := by
  unfold wX_isFiner_32
  exact br_c (fun _ => h0) (fun _ => br_c (fun _ => h0) (fun _ => br_t rfl h0))
theorem oc_finer {post : Int32 → Prop} {v w : Nat} (hv : v < 48) (hw : w < 48) (h0 : post 0) (h1 : oc_fi v w → post 1) : wpX_isFiner post () (nI v) (nI w) := by
  unfold wpX_isFiner
  refine nm_r (e' := nI (v / 4 % 4)) (by rw [pk_shrN (n := v) (by omega) ((2 : Int32) &&& 31) 2 (by decide)]; exact pk_andN (by omega) 2 (by decide)) ?_
  refine nm_r (e' := nI (w / 4 % 4)) (by rw [pk_shrN (n := w) (by omega) ((2 : Int32) &&& 31) 2 (by decide)]; exact pk_andN (by omega) 2 (by decide)) ?_
  refine pk_lt (w / 4 % 4) (v / 4 % 4) (fun _ => oc_fin320 h0) (fun z => ?_)
  refine pk_eq (v / 4 % 4) 1 (fun z1 => ?_) (fun z1 => ?_)
  · refine pk_eq (w / 4 % 4) 2 (fun _ => oc_fin320 h0) (fun z2 => ?_)
    exact oc_fin32 hv hw h0 (fun a b => h1 ⟨a, b, z, fun t => z2 t.2⟩)
  · exact oc_fin32 hv hw h0 (fun a b => h1 ⟨a, b, z, fun t => z1 t.1⟩)
/-! guards -/
theorem oc_isView {post : Int32 → Prop} {v : Nat} (hv : v < 48) (h : post 1) : wpX_isView post () (nI v) :=
  pk_lt v 0 (fun z => absurd z (by omega)) (fun _ => pk_le 48 v (fun z => absurd z (by omega)) (fun _ => h))
theorem oc_isCell {post : Int32 → Prop} {c : Nat} (hc : c < 192) (h : post 1) : wpX_isCell post () (nI c) :=
  pk_lt c 0 (fun z => absurd z (by omega)) (fun _ => pk_le 192 c (fun z => absurd z (by omega)) (fun _ => h))
theorem oc_isView' {post : Int32 → Prop} {v : Nat} (hv : v < 2 ^ 31) (h0 : post 0) (h : v < 48 → post 1) : wpX_isView post () (nI v) :=
  pk_lt v 0 (fun z => absurd z (by omega)) (fun _ => pk_le 48 v (fun z => h0) (fun z => h z))
theorem oc_isCell' {post : Int32 → Prop} {c : Nat} (hc : c < 2 ^ 31) (h0 : post 0) (h : c < 192 → post 1) : wpX_isCell post () (nI c) :=
  pk_lt c 0 (fun z => absurd z (by omega)) (fun _ => pk_le 192 c (fun z => h0) (fun z => h z))
theorem oc_isMeasure {post : Int32 → Prop} {x : Int32} (h0 : ¬ (-1000 ≤ x.toInt ∧ x.toInt ≤ 1000) → post 0) (h : -1000 ≤ x.toInt → x.toInt ≤ 1000 → post 1) : wpX_isMeasure post () x := by
  have e1 : (-1000 : Int32).toInt = -1000 := by decide
  have e2 : (1000 : Int32).toInt = 1000 := by decide
  unfold wpX_isMeasure
  refine br_c (fun z => ?_) (fun z => br_c (fun z2 => ?_) (fun z2 => ?_))
  · rw [Int32.lt_iff_toInt_lt, e1] at z
    exact h0 (by omega)
  · rw [Int32.lt_iff_toInt_lt, e2] at z2
    exact h0 (by omega)
  · rw [Int32.lt_iff_toInt_lt, e1] at z
    rw [Int32.lt_iff_toInt_lt, e2] at z2
    exact h (by omega) (by omega)
theorem oc_isFact {post : Int32 → Prop} {n j : Nat} {ck : Int32} {a1 a2 a3 a4 a5 a6 a7 a8 a9 : Nat → Int32} (hn : n ≤ 40) (hj : j < 2 ^ 31) (h0 : n ≤ j → post 0) (h : j < n → post 1) :
    wpX_isFact post (nI n, ck, a1, a2, a3, a4, a5, a6, a7, a8, a9) (nI j) :=
  pk_lt j 0 (fun z => absurd z (by omega)) (fun _ => pk_le n j (fun z => h0 z) (fun z => h z))
end
section
/-- what the four arrays hold at a place -/
def oc_cl (a6 a7 a8 a9 : Nat → Int32) (k : Nat) : oc_Q := (a6 k, a7 k, a8 k, a9 k)
theorem oc_ix {s c : Nat} : 192 * nI s + nI c = nI (192 * s + c) := by
  show nI 192 * nI s + nI c = _
  rw [pk_mul, nI_add]
theorem oc_ix0 {s : Nat} : 192 * nI s = nI (192 * s) := by
  show nI 192 * nI s = _
  rw [pk_mul]
theorem oc_ixE {s : Nat} : 192 * nI s + 192 = nI (192 * s + 192) := oc_ix (c := 192)
/-- one place of the four arrays written -/
theorem oc_cl_u {a6 a7 a8 a9 : Nat → Int32} {k : Nat} {x6 x7 x8 x9 : Int32} (j : Nat) :
    oc_cl (upd a6 k x6) (upd a7 k x7) (upd a8 k x8) (upd a9 k x9) j = if j = k then (x6, x7, x8, x9) else oc_cl a6 a7 a8 a9 j := by
  by_cases h : j = k
  · rw [if_pos h, h]
    unfold oc_cl
    rw [pk_us, pk_us, pk_us, pk_us]
  · rw [if_neg h]
    unfold oc_cl
    rw [pk_un h, pk_un h, pk_un h, pk_un h]
theorem oc_ent86 {post : St1 → Prop} {x6 z0 sz ck : Int32} {k : Nat} {a1 a2 a3 a4 a5 a6 a7 a8 a9 : Nat → Int32} (hk : k < 960)
    (H : post (sz, ck, a1, a2, a3, a4, a5, a6, a7, upd a8 k z0, upd a9 k (oc_hi (a9 k) x6))) :
    wX_enter_86 post x6 (nI k) z0 (nI k) sz ck a1 a2 a3 a4 a5 a6 a7 a8 a9 := by
  have ek : (nI k).toNatClampNeg = k := nI_clamp (by omega)
  have ik : vp_in (nI k) 960 := pk_in k 960 hk
  unfold wX_enter_86
  rw [ek]
  refine ⟨ik, nm_e ⟨ik, br_c (fun z => ⟨ik, ik, nm_e ?_⟩) (fun z => ⟨ik, nm_e ?_⟩)⟩⟩
  · have e : oc_hi (a9 k) x6 = a9 k := if_pos z
    rw [e] at H
    exact H
  · have e : oc_hi (a9 k) x6 = x6 := if_neg z
    rw [e] at H
    exact H
theorem oc_ent31 {post : St1 → Prop} {x3 x4 x5 x6 z0 z1 sz ck : Int32} {k s : Nat} {a1 a2 a3 a4 a5 a6 a7 a8 a9 : Nat → Int32} (hk : k < 960) (hs : s < 5)
    (H : ∀ b4, post (sz, ck, a1, a2, a3, b4, a5, upd a6 k (a6 k + x3), upd a7 k (a7 k + x4), upd a8 k (oc_lo (a8 k) x5), upd a9 k (oc_hi (a9 k) x6))) :
    wX_enter_31 post x3 x4 x5 x6 (nI k) z0 z1 (nI s) sz ck a1 a2 a3 a4 a5 a6 a7 a8 a9 := by
  have ek : (nI k).toNatClampNeg = k := nI_clamp (by omega)
  have ik : vp_in (nI k) 960 := pk_in k 960 hk
  unfold wX_enter_31
  rw [ek]
  refine ⟨pk_in s 5 hs, nm_e ⟨ik, ik, nm_e ⟨ik, ik, nm_e ⟨ik, br_c (fun z => ⟨ik, oc_ent86 hk ?_⟩) (fun z => oc_ent86 hk ?_)⟩⟩⟩⟩
  · have e : oc_lo (a8 k) x5 = a8 k := if_pos z
    rw [e] at H
    exact H _
  · have e : oc_lo (a8 k) x5 = x5 := if_neg z
    rw [e] at H
    exact H _
theorem oc_enter {post : St1 → Prop} {sz ck x3 x4 x5 x6 : Int32} {s c : Nat} {a1 a2 a3 a4 a5 a6 a7 a8 a9 : Nat → Int32} (hs : s < 5) (hc : c < 192)
    (H : ∀ b4 b6 b7 b8 b9, (∀ j, oc_cl b6 b7 b8 b9 j = if j = 192 * s + c then oc_op (oc_cl a6 a7 a8 a9 (192 * s + c)) (x3, x4, x5, x6) else oc_cl a6 a7 a8 a9 j) → post (sz, ck, a1, a2, a3, b4, a5, b6, b7, b8, b9)) :
    wpX_enter post (sz, ck, a1, a2, a3, a4, a5, a6, a7, a8, a9) (nI s) (nI c) x3 x4 x5 x6 := by
  have hk : 192 * s + c < 960 := by omega
  have H' : ∀ b4, post (sz, ck, a1, a2, a3, b4, a5, upd a6 (192 * s + c) (a6 (192 * s + c) + x3), upd a7 (192 * s + c) (a7 (192 * s + c) + x4), upd a8 (192 * s + c) (oc_lo (a8 (192 * s + c)) x5), upd a9 (192 * s + c) (oc_hi (a9 (192 * s + c)) x6)) :=
    fun b4 => H b4 _ _ _ _ (fun j => oc_cl_u j)
  unfold wpX_enter
  refine nm_r oc_ix ?_
  refine ⟨pk_in s 5 hs, pk_in _ 960 hk, br_c (fun z => ?_) (fun z => ?_)⟩
  · exact oc_ent31 hk hs H'
  · exact oc_ent31 hk hs H'
theorem oc_wipeL {post : St1 → Prop} {sz ck : Int32} {s : Nat} {a1 a2 a3 a4 a5 a6 a7 a8 a9 : Nat → Int32} (hs : s < 5)
    (H : ∀ b6 b7 b8 b9, (∀ j, oc_cl b6 b7 b8 b9 j = if 192 * s ≤ j ∧ j < 192 * s + 192 then oc_z else oc_cl a6 a7 a8 a9 j) → post (sz, ck, a1, a2, a3, a4, a5, b6, b7, b8, b9)) :
    ∀ (k i : Nat) (b6 b7 b8 b9 : Nat → Int32), i + k = 192 * s + 192 → 192 * s ≤ i → (∀ j, oc_cl b6 b7 b8 b9 j = if 192 * s ≤ j ∧ j < i then oc_z else oc_cl a6 a7 a8 a9 j) →
      wX_wipe_13 post (nI s) sz ck (k + 1) (nI i) a1 a2 a3 a4 a5 b6 b7 b8 b9 := by
  intro k
  induction k with
  | zero =>
    intro i b6 b7 b8 b9 hi hl hb
    have e : i = 192 * s + 192 := by omega
    rw [e] at hb
    unfold wX_wipe_13
    rw [oc_ixE]
    exact pk_le (192 * s + 192) i (fun _ => H b6 b7 b8 b9 hb) (fun z => absurd z (by omega))
  | succ k ih =>
    intro i b6 b7 b8 b9 hi hl hb
    have ei : (nI i).toNatClampNeg = i := nI_clamp (by omega)
    have ii : vp_in (nI i) 960 := pk_in i 960 (by omega)
    unfold wX_wipe_13
    rw [oc_ixE, ei]
    refine pk_le (192 * s + 192) i (fun z => absurd z (by omega)) (fun z => ⟨ii, nm_e ⟨ii, nm_e ⟨ii, nm_e ⟨ii, nm_e (nm_r (nI_1 i) ?_)⟩⟩⟩⟩)
    refine ih (i + 1) _ _ _ _ (by omega) (by omega) (fun j => ?_)
    rw [oc_cl_u]
    by_cases h : j = i
    · rw [if_pos h, if_pos (by omega)]
      rfl
    · rw [if_neg h, hb j]
      by_cases h2 : 192 * s ≤ j ∧ j < i
      · rw [if_pos h2, if_pos (by omega)]
      · rw [if_neg h2, if_neg (by omega)]
theorem oc_wipe {post : St1 → Prop} {sz ck : Int32} {s : Nat} {a1 a2 a3 a4 a5 a6 a7 a8 a9 : Nat → Int32} (hs : s < 5)
    (H : ∀ b4 b6 b7 b8 b9, (∀ j, oc_cl b6 b7 b8 b9 j = if 192 * s ≤ j ∧ j < 192 * s + 192 then oc_z else oc_cl a6 a7 a8 a9 j) → post (sz, ck, a1, a2, a3, b4, a5, b6, b7, b8, b9)) :
    wpX_wipe post (sz, ck, a1, a2, a3, a4, a5, a6, a7, a8, a9) (nI s) := by
  unfold wpX_wipe
  refine ⟨pk_in s 5 hs, nm_e (nm_r oc_ix0 ⟨192 + 1, ?_⟩)⟩
  exact oc_wipeL (a6 := a6) (a7 := a7) (a8 := a8) (a9 := a9) hs (H _) 192 (192 * s) a6 a7 a8 a9 (by omega) (by omega) (fun j => by rw [if_neg (by omega)])
end
section
/-- the place of a fact -/
def oc_pl (a1 : Nat → Int32) (f : Nat) : Nat := (a1 f).toNatClampNeg
/-- what the view v must hold in its cell c -/
def oc_A (n : Nat) (a1 a2 : Nat → Int32) (v c : Nat) : oc_Q := oc_agg (fun f => decide (oc_sa v (oc_pl a1 f) = c)) a2 n
/-- the slot s holds the view v -/
def oc_sl (n : Nat) (a1 a2 a6 a7 a8 a9 : Nat → Int32) (s v : Nat) : Prop := ∀ c, c < 192 → oc_cl a6 a7 a8 a9 (192 * s + c) = oc_A n a1 a2 v c
/-- the facts are in bounds -/
def oc_ok (n : Nat) (a1 a2 : Nat → Int32) : Prop := n ≤ 40 ∧ (∀ f, f < n → ∃ p, p < 192 ∧ a1 f = nI p) ∧ (∀ f, f < n → -1000 ≤ (a2 f).toInt ∧ (a2 f).toInt ≤ 1000)
/-- each slot is given up, or holds its view; slot 0 holds the finest -/
def oc_st (n : Nat) (a1 a2 a3 a6 a7 a8 a9 : Nat → Int32) : Prop := a3 0 = nI 0 ∧ ∀ s, s < 5 → a3 s = -1 ∨ ∃ v, v < 48 ∧ a3 s = nI v ∧ oc_sl n a1 a2 a6 a7 a8 a9 s v
theorem oc_pl_e {a1 : Nat → Int32} {f p : Nat} (hp : p < 192) (h : a1 f = nI p) : oc_pl a1 f = p := by
  unfold oc_pl
  rw [h]
  exact nI_clamp (by omega)
theorem oc_ok_p {n f : Nat} {a1 a2 : Nat → Int32} (h : oc_ok n a1 a2) (hf : f < n) : oc_pl a1 f < 192 ∧ a1 f = nI (oc_pl a1 f) := by
  obtain ⟨p, hp, e⟩ := h.2.1 f hf
  rw [oc_pl_e hp e]
  exact ⟨hp, e⟩
theorem oc_m1 : ∀ v, v < 48 → ¬ nI v = -1 := by decide
theorem oc_A_c {n : Nat} {a1 a2 b1 b2 : Nat → Int32} (h1 : ∀ f, f < n → b1 f = a1 f) (h2 : ∀ f, f < n → b2 f = a2 f) (v c : Nat) : oc_A n b1 b2 v c = oc_A n a1 a2 v c := by
  unfold oc_A
  refine oc_agg_c (fun f hf => ?_) h2
  unfold oc_pl
  rw [h1 f hf]
/-- one more fact -/
theorem oc_A_s {n p c v : Nat} {a1 a2 : Nat → Int32} {m : Int32} (hp : p < 192) (h1 : a1 n = nI p) (h2 : a2 n = m) :
    oc_A (n + 1) a1 a2 v c = if c = oc_sa v p then oc_op (oc_A n a1 a2 v c) (oc_f m) else oc_A n a1 a2 v c := by
  unfold oc_A
  by_cases h : c = oc_sa v p
  · rw [if_pos h, oc_agg_t (by rw [oc_pl_e hp h1]; exact decide_eq_true h.symm), h2]
  · rw [if_neg h, oc_agg_f (by rw [oc_pl_e hp h1]; exact fun z => h (of_decide_eq_true z).symm)]
/-- the slots below i know the new fact -/
def oc_sd (i n : Nat) (a1 a2 a3 a6 a7 a8 a9 : Nat → Int32) : Prop := ∀ s, s < 5 → a3 s = -1 ∨ ∃ v, v < 48 ∧ a3 s = nI v ∧ oc_sl (if s < i then n + 1 else n) a1 a2 a6 a7 a8 a9 s v
theorem oc_addL {post : St1 → Prop} {ck m : Int32} {n p : Nat} {a1 a2 a3 a5 : Nat → Int32} (hp : p < 192) (h1 : a1 n = nI p) (h2 : a2 n = m) (h3 : a3 0 = nI 0)
    (H : ∀ b4 b6 b7 b8 b9, oc_st (n + 1) a1 a2 a3 b6 b7 b8 b9 → post (nI (n + 1), ck, a1, a2, a3, b4, a5, b6, b7, b8, b9)) :
    ∀ (k i : Nat) (b4 b6 b7 b8 b9 : Nat → Int32), i + k = 5 → oc_sd i n a1 a2 a3 b6 b7 b8 b9 →
      wX_add_32 post (nI p) m (k + 1) (nI i) (nI (n + 1)) ck a1 a2 a3 b4 a5 b6 b7 b8 b9 := by
  intro k
  induction k with
  | zero =>
    intro i b4 b6 b7 b8 b9 hi hb
    refine pk_le 5 i (fun _ => H b4 b6 b7 b8 b9 ⟨h3, fun s hs => ?_⟩) (fun z => absurd z (by omega))
    rcases hb s hs with h | ⟨v, hv, e, h⟩
    · exact Or.inl h
    · rw [if_pos (by omega)] at h
      exact Or.inr ⟨v, hv, e, h⟩
  | succ k ih =>
    intro i b4 b6 b7 b8 b9 hi hb
    have ei : (nI i).toNatClampNeg = i := nI_clamp (by omega)
    have ii : vp_in (nI i) 5 := pk_in i 5 (by omega)
    refine pk_le 5 i (fun z => absurd z (by omega)) (fun z => ⟨ii, ?_⟩)
    rw [ei]
    rcases hb i (by omega) with h | ⟨v, hv, e, h⟩
    · refine br_t h (nm_r (nI_1 i) (ih (i + 1) b4 b6 b7 b8 b9 (by omega) (fun s hs => ?_)))
      by_cases es : s = i
      · rw [es]
        exact Or.inl h
      · rcases hb s hs with g | ⟨w, hw, e, g⟩
        · exact Or.inl g
        · refine Or.inr ⟨w, hw, e, ?_⟩
          by_cases hsi : s < i
          · rw [if_pos hsi] at g
            rw [if_pos (by omega)]
            exact g
          · rw [if_neg hsi] at g
            rw [if_neg (by omega)]
            exact g
    · rw [e]
      refine br_f (oc_m1 v hv) ⟨ii, oc_seen hv hp ?_⟩
      refine oc_enter (by omega) (oc_sa_lt hp) (fun c4 c6 c7 c8 c9 hc => nm_r (nI_1 i) ?_)
      refine ih (i + 1) c4 c6 c7 c8 c9 (by omega) (fun s hs => ?_)
      have hr := oc_sa_lt (v := v) hp
      by_cases es : s = i
      · subst es
        refine Or.inr ⟨v, hv, e, ?_⟩
        rw [if_neg (by omega)] at h
        rw [if_pos (by omega)]
        intro c hcc
        rw [hc, oc_A_s hp h1 h2]
        by_cases ec : c = oc_sa v p
        · rw [if_pos (by rw [ec]), if_pos ec, ← ec, h c hcc]
          rfl
        · rw [if_neg (by omega), if_neg ec]
          exact h c hcc
      · rcases hb s hs with g | ⟨w, hw, e', g⟩
        · exact Or.inl g
        · refine Or.inr ⟨w, hw, e', ?_⟩
          intro c hcc
          rw [hc, if_neg (by omega), g c hcc]
          by_cases hsi : s < i
          · rw [if_pos hsi, if_pos (by omega)]
          · rw [if_neg hsi, if_neg (by omega)]
theorem oc_add {post : St1 → Prop} {ck m : Int32} {n p : Nat} {a1 a2 a3 a4 a5 a6 a7 a8 a9 : Nat → Int32} (ho : oc_ok n a1 a2) (hn : n < 40) (hs : oc_st n a1 a2 a3 a6 a7 a8 a9) (hp : p < 192) (hm : -1000 ≤ m.toInt ∧ m.toInt ≤ 1000)
    (H : ∀ b1 b2 b4 b6 b7 b8 b9, oc_ok (n + 1) b1 b2 → oc_st (n + 1) b1 b2 a3 b6 b7 b8 b9 → post (nI (n + 1), ck, b1, b2, a3, b4, a5, b6, b7, b8, b9)) :
    wpX_add post (nI n, ck, a1, a2, a3, a4, a5, a6, a7, a8, a9) (nI p) m := by
  have en : (nI n).toNatClampNeg = n := nI_clamp (by omega)
  have o1 : ∀ f, f < n → upd a1 n (nI p) f = a1 f := fun f hf => pk_un (by omega)
  have o2 : ∀ f, f < n → upd a2 n m f = a2 f := fun f hf => pk_un (by omega)
  have hk : oc_ok (n + 1) (upd a1 n (nI p)) (upd a2 n m) := by
    refine ⟨by omega, fun f hf => ?_, fun f hf => ?_⟩
    · by_cases e : f = n
      · rw [e, pk_us]
        exact ⟨p, hp, rfl⟩
      · rw [o1 f (by omega)]
        exact ho.2.1 f (by omega)
    · by_cases e : f = n
      · rw [e, pk_us]
        exact hm
      · rw [o2 f (by omega)]
        exact ho.2.2 f (by omega)
  unfold wpX_add
  dsimp only
  rw [en]
  refine ⟨pk_in n 40 hn, nm_e ⟨pk_in n 40 hn, nm_e (nm_r (nI_1 n) ⟨5 + 1, ?_⟩)⟩⟩
  refine oc_addL hp pk_us pk_us hs.1 (fun b4 b6 b7 b8 b9 h => H _ _ b4 b6 b7 b8 b9 hk h) 5 0 a4 a6 a7 a8 a9 (by omega) (fun s h5 => ?_)
  rcases hs.2 s h5 with g | ⟨w, hw, e', g⟩
  · exact Or.inl g
  · refine Or.inr ⟨w, hw, e', fun c hc => ?_⟩
    rw [if_neg (by omega), g c hc]
    exact (oc_A_c o1 o2 w c).symm
end
section
/-- slot 0 filled from the facts, the others given up -/
theorem oc_anewL {post : St1 → Prop} {ck : Int32} {n : Nat} {a1 a2 a3 a5 : Nat → Int32} (ho : oc_ok n a1 a2) (h3 : a3 0 = nI 0) (h4 : ∀ s, 0 < s → s < 5 → a3 s = -1)
    (H : ∀ b4 b6 b7 b8 b9, oc_st n a1 a2 a3 b6 b7 b8 b9 → post (nI n, ck, a1, a2, a3, b4, a5, b6, b7, b8, b9)) :
    ∀ (k i : Nat) (b4 b6 b7 b8 b9 : Nat → Int32), i + k = n → oc_sl i a1 a2 b6 b7 b8 b9 0 0 →
      wX_startAnew_27 post (k + 1) (nI i) (nI n) ck a1 a2 a3 b4 a5 b6 b7 b8 b9 := by
  have hn := ho.1
  intro k
  induction k with
  | zero =>
    intro i b4 b6 b7 b8 b9 hi hb
    refine pk_le n i (fun _ => H b4 b6 b7 b8 b9 ⟨h3, fun s hs => ?_⟩) (fun z => absurd z (by omega))
    by_cases e : s = 0
    · rw [e]
      have ei : i = n := by omega
      rw [ei] at hb
      exact Or.inr ⟨0, by omega, h3, hb⟩
    · exact Or.inl (h4 s (by omega) hs)
  | succ k ih =>
    intro i b4 b6 b7 b8 b9 hi hb
    have ei : (nI i).toNatClampNeg = i := nI_clamp (by omega)
    have ii : vp_in (nI i) 40 := pk_in i 40 (by omega)
    refine pk_le n i (fun z => absurd z (by omega)) (fun z => ⟨ii, ii, ii, ii, ?_⟩)
    rw [ei]
    obtain ⟨hp, e⟩ := oc_ok_p ho (show i < n by omega)
    rw [e]
    refine oc_enter (s := 0) (by omega) hp (fun c4 c6 c7 c8 c9 hc => nm_r (nI_1 i) ?_)
    refine ih (i + 1) c4 c6 c7 c8 c9 (by omega) (fun c hcc => ?_)
    rw [hc, oc_A_s hp e rfl, oc_sa_0]
    by_cases ec : c = oc_pl a1 i
    · rw [if_pos (by rw [ec]), if_pos ec, ← ec, hb c hcc]
      rfl
    · rw [if_neg (by omega), if_neg ec]
      exact hb c hcc
theorem oc_anew2 {post : St1 → Prop} {ck : Int32} {n : Nat} {a1 a2 a4 a5 a6 a7 a8 a9 : Nat → Int32} (ho : oc_ok n a1 a2)
    (H : ∀ b3 b4 b6 b7 b8 b9, oc_st n a1 a2 b3 b6 b7 b8 b9 → post (nI n, ck, a1, a2, b3, b4, a5, b6, b7, b8, b9)) :
    ∀ (k i : Nat) (b3 : Nat → Int32), i + k = 5 → 1 ≤ i → b3 0 = nI 0 → (∀ s, 0 < s → s < i → b3 s = -1) →
      wX_startAnew_2 post (nI n) ck (k + 1) (nI i) a1 a2 b3 a4 a5 a6 a7 a8 a9 := by
  have hn := ho.1
  intro k
  induction k with
  | zero =>
    intro i b3 hi h1 h3 h4
    refine pk_le 5 i (fun _ => ?_) (fun z => absurd z (by omega))
    refine oc_wipe (s := 0) (by omega) (fun c4 c6 c7 c8 c9 hc => ⟨n + 1, ?_⟩)
    refine oc_anewL ho h3 (fun s h hs => h4 s h (by omega)) (fun b4 b6 b7 b8 b9 h => H b3 b4 b6 b7 b8 b9 h) n 0 c4 c6 c7 c8 c9 (by omega) (fun c hcc => ?_)
    rw [hc, if_pos (by omega)]
    rfl
  | succ k ih =>
    intro i b3 hi h1 h3 h4
    have ei : (nI i).toNatClampNeg = i := nI_clamp (by omega)
    have ii : vp_in (nI i) 5 := pk_in i 5 (by omega)
    refine pk_le 5 i (fun z => absurd z (by omega)) (fun z => ⟨ii, nm_r (e' := upd b3 i (-1)) (by rw [ei]) (nm_r (nI_1 i) ?_)⟩)
    refine ih (i + 1) _ (by omega) (by omega) ?_ (fun s h hs => ?_)
    · rw [pk_un (by omega)]
      exact h3
    · by_cases es : s = i
      · rw [es, pk_us]
      · rw [pk_un es]
        exact h4 s h (by omega)
theorem oc_anew {post : St1 → Prop} {ck : Int32} {n : Nat} {a1 a2 a3 a4 a5 a6 a7 a8 a9 : Nat → Int32} (ho : oc_ok n a1 a2) (h3 : a3 0 = nI 0)
    (H : ∀ b3 b4 b6 b7 b8 b9, oc_st n a1 a2 b3 b6 b7 b8 b9 → post (nI n, ck, a1, a2, b3, b4, a5, b6, b7, b8, b9)) :
    wpX_startAnew post (nI n, ck, a1, a2, a3, a4, a5, a6, a7, a8, a9) :=
  ⟨4 + 1, oc_anew2 ho H 4 1 a3 (by omega) (by omega) h3 (fun s h hs => absurd hs (by omega))⟩
theorem oc_initL {post : St1 → Prop} {mc ms kc ks : Nat} {ck : Int32} {a1 a2 a4 a5 a6 a7 a8 a9 : Nat → Int32}
    (H : ∀ b3 b4 b6 b7 b8 b9, oc_st 0 a1 a2 b3 b6 b7 b8 b9 → post (nI 0, ck, a1, a2, b3, b4, a5, b6, b7, b8, b9)) :
    ∀ (k i : Nat) (b3 : Nat → Int32), i + k = 5 → 1 ≤ i → b3 0 = nI 0 → (∀ s, 0 < s → s < i → b3 s = -1) →
      wX_init_79 post mc ms kc ks (nI 0) ck (k + 1) (nI i) a1 a2 b3 a4 a5 a6 a7 a8 a9 := by
  intro k
  induction k with
  | zero =>
    intro i b3 hi h1 h3 h4
    refine pk_le 5 i (fun _ => ?_) (fun z => absurd z (by omega))
    refine oc_wipe (s := 0) (by omega) (fun c4 c6 c7 c8 c9 hc => H b3 c4 c6 c7 c8 c9 ⟨h3, fun s hs => ?_⟩)
    by_cases e : s = 0
    · rw [e]
      refine Or.inr ⟨0, by omega, h3, fun c hcc => ?_⟩
      rw [hc, if_pos (by omega)]
      rfl
    · exact Or.inl (h4 s (by omega) (by omega))
  | succ k ih =>
    intro i b3 hi h1 h3 h4
    have ei : (nI i).toNatClampNeg = i := nI_clamp (by omega)
    have ii : vp_in (nI i) 5 := pk_in i 5 (by omega)
    refine pk_le 5 i (fun z => absurd z (by omega)) (fun z => ⟨ii, nm_r (e' := upd b3 i (-1)) (by rw [ei]) (nm_r (nI_1 i) ?_)⟩)
    refine ih (i + 1) _ (by omega) (by omega) ?_ (fun s h hs => ?_)
    · rw [pk_un (by omega)]
      exact h3
    · by_cases es : s = i
      · rw [es, pk_us]
      · rw [pk_un es]
        exact h4 s h (by omega)
theorem oc_init {post : St1 → Prop} (H : ∀ a1 a2 b3 b4 a5 b6 b7 b8 b9, oc_ok 0 a1 a2 → oc_st 0 a1 a2 b3 b6 b7 b8 b9 → post (nI 0, 0, a1, a2, b3, b4, a5, b6, b7, b8, b9)) :
    wpX_init post 9 3935 (0, 0) := by
  unfold wpX_init
  refine ⟨by omega, by omega, by omega, by omega, by omega, by omega, by omega, by omega, by omega, by omega, by omega, by omega, by omega, by omega, by omega, by omega, by omega, by omega, 4 + 1, ?_⟩
  exact oc_initL (fun b3 b4 b6 b7 b8 b9 h => H _ _ b3 b4 _ b6 b7 b8 b9 ⟨by omega, fun f hf => absurd hf (by omega), fun f hf => absurd hf (by omega)⟩ h) 4 1 _ (by omega) (by omega) rfl (fun s h hs => absurd hs (by omega))
/-- the measure of a fact is changed, or nothing is -/
theorem oc_measure {post : Int32 → St1 → Prop} {ck y : Int32} {n j : Nat} {a1 a2 a3 a4 a5 a6 a7 a8 a9 : Nat → Int32} (ho : oc_ok n a1 a2) (h3 : a3 0 = nI 0) (hj : j < 2 ^ 31)
    (H0 : ¬ (j < n ∧ -1000 ≤ y.toInt ∧ y.toInt ≤ 1000) → ∀ r, post r (nI n, ck, a1, a2, a3, a4, a5, a6, a7, a8, a9))
    (H : j < n → oc_ok n a1 (upd a2 j y) → ∀ b3 b4 b6 b7 b8 b9, oc_st n a1 (upd a2 j y) b3 b6 b7 b8 b9 → post (a2 j) (nI n, ck, a1, upd a2 j y, b3, b4, a5, b6, b7, b8, b9)) :
    wpX_measure post (nI n, ck, a1, a2, a3, a4, a5, a6, a7, a8, a9) (nI j) y := by
  have hn := ho.1
  have ej : (nI j).toNatClampNeg = j := nI_clamp hj
  unfold wpX_measure
  refine oc_isFact hn hj (fun z => br_t rfl (H0 (fun t => absurd t.1 (by omega)) _)) (fun z => br_f (by decide) ?_)
  refine oc_isMeasure (fun z2 => br_t rfl (H0 (fun t => z2 t.2) _)) (fun z2 z3 => br_f (by decide) ?_)
  have ij : vp_in (nI j) 40 := pk_in j 40 (by omega)
  rw [ej]
  have ho' : oc_ok n a1 (upd a2 j y) := by
    refine ⟨hn, ho.2.1, fun f hf => ?_⟩
    by_cases e : f = j
    · rw [e, pk_us]
      exact ⟨z2, z3⟩
    · rw [pk_un e]
      exact ho.2.2 f hf
  exact ⟨ij, nm_e ⟨ij, nm_e (oc_anew ho' h3 (fun b3 b4 b6 b7 b8 b9 h => H z ho' b3 b4 b6 b7 b8 b9 h))⟩⟩
theorem oc_dropL {post : Int32 → St1 → Prop} {ck : Int32} {n : Nat} {a3 a4 a5 a6 a7 a8 a9 : Nat → Int32} (h0 : 0 < n) (h3 : a3 0 = nI 0)
    (H : ∀ b1 b2 b3 b4 b6 b7 b8 b9, oc_ok (n - 1) b1 b2 → oc_st (n - 1) b1 b2 b3 b6 b7 b8 b9 → post (nI (n - 1)) (nI (n - 1), ck, b1, b2, b3, b4, a5, b6, b7, b8, b9)) :
    ∀ (k i : Nat) (b1 b2 : Nat → Int32), i + k = n → 1 ≤ i → oc_ok n b1 b2 →
      wX_drop_14 post (nI n) ck (k + 1) (nI i) b1 b2 a3 a4 a5 a6 a7 a8 a9 := by
  intro k
  induction k with
  | zero =>
    intro i b1 b2 hi h1 hb
    have hn := hb.1
    have ho : oc_ok (n - 1) b1 b2 := ⟨by omega, fun f hf => hb.2.1 f (by omega), fun f hf => hb.2.2 f (by omega)⟩
    refine pk_le n i (fun _ => nm_r (e' := nI (n - 1)) (pk_sub (b := 1) (by omega)) ?_) (fun z => absurd z (by omega))
    exact oc_anew ho h3 (fun b3 b4 b6 b7 b8 b9 h => H b1 b2 b3 b4 b6 b7 b8 b9 ho h)
  | succ k ih =>
    intro i b1 b2 hi h1 hb
    have hn := hb.1
    have ei : (nI i).toNatClampNeg = i := nI_clamp (by omega)
    have ii : vp_in (nI i) 40 := pk_in i 40 (by omega)
    have e1 : nI i - 1 = nI (i - 1) := pk_sub (b := 1) (by omega)
    have ei1 : (nI i - 1).toNatClampNeg = i - 1 := by
      rw [e1]
      exact nI_clamp (by omega)
    have ii1 : vp_in (nI i - 1) 40 := by
      rw [e1]
      exact pk_in (i - 1) 40 (by omega)
    refine pk_le n i (fun z => absurd z (by omega)) (fun z => ⟨ii, ii1, nm_r (e' := upd b1 (i - 1) (b1 i)) (by rw [ei, ei1]) ⟨ii, ii1, nm_r (e' := upd b2 (i - 1) (b2 i)) (by rw [ei, ei1]) (nm_r (nI_1 i) ?_)⟩⟩)
    refine ih (i + 1) _ _ (by omega) (by omega) ⟨hn, fun f hf => ?_, fun f hf => ?_⟩
    · by_cases e : f = i - 1
      · rw [e, pk_us]
        exact hb.2.1 i (by omega)
      · rw [pk_un e]
        exact hb.2.1 f hf
    · by_cases e : f = i - 1
      · rw [e, pk_us]
        exact hb.2.2 i (by omega)
      · rw [pk_un e]
        exact hb.2.2 f hf
/-- any answer, any state that matches -/
def oc_any (post : Int32 → St1 → Prop) : Prop := ∀ r n ck a1 a2 a3 a4 a5 a6 a7 a8 a9, oc_ok n a1 a2 → oc_st n a1 a2 a3 a6 a7 a8 a9 → post r (nI n, ck, a1, a2, a3, a4, a5, a6, a7, a8, a9)
theorem oc_drop {post : Int32 → St1 → Prop} {ck : Int32} {n j : Nat} {a1 a2 a3 a4 a5 a6 a7 a8 a9 : Nat → Int32} (ho : oc_ok n a1 a2) (hs : oc_st n a1 a2 a3 a6 a7 a8 a9) (hj : j < 2 ^ 30) (H : oc_any post) :
    wpX_drop post (nI n, ck, a1, a2, a3, a4, a5, a6, a7, a8, a9) (nI j) := by
  have hn := ho.1
  unfold wpX_drop
  refine oc_isFact hn (by omega) (fun z => br_t rfl (H _ _ _ _ _ _ _ _ _ _ _ _ ho hs)) (fun z => br_f (by decide) (nm_r (nI_1 j) ⟨n - (j + 1) + 1, ?_⟩))
  exact oc_dropL (by omega) hs.1 (fun b1 b2 b3 b4 b6 b7 b8 b9 h h' => H _ _ _ _ _ _ _ _ _ _ _ _ h h') (n - (j + 1)) (j + 1) a1 a2 (by omega) (by omega) ho
theorem oc_put {post : Int32 → St1 → Prop} {ck y : Int32} {n j : Nat} {a1 a2 a3 a4 a5 a6 a7 a8 a9 : Nat → Int32} (ho : oc_ok n a1 a2) (hs : oc_st n a1 a2 a3 a6 a7 a8 a9) (hj : j < 2 ^ 31) (H : oc_any post) :
    wpX_put post (nI n, ck, a1, a2, a3, a4, a5, a6, a7, a8, a9) (nI j) y := by
  have hn := ho.1
  unfold wpX_put
  refine oc_isCell' hj (br_t rfl (H _ _ _ _ _ _ _ _ _ _ _ _ ho hs)) (fun z => br_f (by decide) ?_)
  refine oc_isMeasure (fun z2 => br_t rfl (H _ _ _ _ _ _ _ _ _ _ _ _ ho hs)) (fun z2 z3 => br_f (by decide) ?_)
  refine pk_eq n 40 (fun _ => H _ _ _ _ _ _ _ _ _ _ _ _ ho hs) (fun z4 => ?_)
  exact oc_add ho (by omega) hs z ⟨z2, z3⟩ (fun b1 b2 b4 b6 b7 b8 b9 h h' => H _ _ _ _ _ _ _ _ _ _ _ _ h h')
theorem oc_sowL {post : Int32 → St1 → Prop} {x y c : Nat} (hx : x < 192) (hy : y < 192) (hc : c ≤ 40) (H : oc_any post) :
    ∀ (k i n : Nat) (ck : Int32) (a1 a2 a3 a4 a5 a6 a7 a8 a9 : Nat → Int32), i + k = c → oc_ok n a1 a2 → oc_st n a1 a2 a3 a6 a7 a8 a9 →
      wX_sow_36 post (nI x) (nI y) (nI c) (k + 1) (nI i) (nI n) ck a1 a2 a3 a4 a5 a6 a7 a8 a9 := by
  intro k
  induction k with
  | zero =>
    intro i n ck a1 a2 a3 a4 a5 a6 a7 a8 a9 hi ho hs
    exact pk_le c i (fun _ => H _ _ _ _ _ _ _ _ _ _ _ _ ho hs) (fun z => absurd z (by omega))
  | succ k ih =>
    intro i n ck a1 a2 a3 a4 a5 a6 a7 a8 a9 hi ho hs
    have hn := ho.1
    refine pk_le c i (fun z => absurd z (by omega)) (fun z => ?_)
    refine pk_le 40 n (fun _ => H _ _ _ _ _ _ _ _ _ _ _ _ ho hs) (fun z2 => ⟨by decide, by decide, ?_⟩)
    have b1 : i * y ≤ 40 * 192 := Nat.mul_le_mul (by omega) (by omega)
    have b2 : i * i ≤ 40 * 40 := Nat.mul_le_mul (by omega) (by omega)
    have e1 : (nI x + (nI i * nI y)) - (nI x + (nI i * nI y)) / 192 * 192 = nI ((x + i * y) % 192) := by
      rw [pk_mul, nI_add]
      exact pk_rem (d := 192) (by omega) (by omega) (by omega)
    have e2 : ((nI x * 7) + ((nI i * nI i) * 11)) - ((nI x * 7) + ((nI i * nI i) * 11)) / 300 * 300 = nI ((x * 7 + i * i * 11) % 300) := by
      have e : (nI x * 7) + ((nI i * nI i) * 11) = nI (x * 7 + i * i * 11) := by
        show nI x * nI 7 + nI i * nI i * nI 11 = _
        rw [pk_mul, pk_mul, pk_mul, nI_add]
      rw [e]
      exact pk_rem (d := 300) (by omega) (by omega) (by omega)
    have hr : (x * 7 + i * i * 11) % 300 < 300 := Nat.mod_lt _ (by omega)
    have e3 : (nI ((x * 7 + i * i * 11) % 300) - 100).toInt = ((x * 7 + i * i * 11) % 300 : Nat) - (100 : Nat) := pk_sub_toInt (b := 100) (by omega) (by omega)
    rw [e1, e2]
    refine oc_add ho (by omega) hs (Nat.mod_lt _ (by omega)) (by rw [e3]; omega) (fun b1 b2 b4 b6 b7 b8 b9 h h' => nm_r (nI_1 i) ?_)
    exact ih (i + 1) (n + 1) _ _ _ _ _ _ _ _ _ _ (by omega) h h'
theorem oc_sow {post : Int32 → St1 → Prop} {ck : Int32} {n x y c : Nat} {a1 a2 a3 a4 a5 a6 a7 a8 a9 : Nat → Int32} (ho : oc_ok n a1 a2) (hs : oc_st n a1 a2 a3 a6 a7 a8 a9) (hx : x < 2 ^ 31) (hy : y < 2 ^ 31) (hc : c < 2 ^ 31) (H : oc_any post) :
    wpX_sow post (nI n, ck, a1, a2, a3, a4, a5, a6, a7, a8, a9) (nI x) (nI y) (nI c) := by
  unfold wpX_sow
  refine oc_isCell' hx (br_t rfl (H _ _ _ _ _ _ _ _ _ _ _ _ ho hs)) (fun z => br_f (by decide) ?_)
  refine oc_isCell' hy (br_t rfl (H _ _ _ _ _ _ _ _ _ _ _ _ ho hs)) (fun z1 => br_f (by decide) ?_)
  refine pk_lt c 1 (fun _ => H _ _ _ _ _ _ _ _ _ _ _ _ ho hs) (fun z2 => ?_)
  refine pk_le c 40 (fun z3 => ⟨c + 1, ?_⟩) (fun _ => H _ _ _ _ _ _ _ _ _ _ _ _ ho hs)
  exact oc_sowL z z1 z3 H c 0 n ck a1 a2 a3 a4 a5 a6 a7 a8 a9 (by omega) ho hs
end
section
/-- what stands in the target's cell c when the source's cells below i have been entered -/
def oc_B (n : Nat) (a1 a2 : Nat → Int32) (v w i c : Nat) : oc_Q := oc_agg (fun f => decide (oc_sa v (oc_pl a1 f) < i ∧ oc_sa w (oc_pl a1 f) = c)) a2 n
theorem oc_B_0 (n : Nat) (a1 a2 : Nat → Int32) (v w c : Nat) : oc_B n a1 a2 v w 0 c = oc_z :=
  oc_agg_0 (fun f _ z => absurd (of_decide_eq_true z).1 (by omega))
theorem oc_B_e {n : Nat} {a1 a2 : Nat → Int32} (ho : oc_ok n a1 a2) (v w c : Nat) : oc_B n a1 a2 v w 192 c = oc_A n a1 a2 w c := by
  unfold oc_B oc_A
  refine oc_agg_c (fun f hf => ?_) (fun _ _ => rfl)
  rw [decide_eq_true_iff, decide_eq_true_iff]
  exact ⟨fun h => h.2, fun h => ⟨oc_sa_lt (oc_ok_p ho hf).1, h⟩⟩
theorem oc_B_n {n : Nat} {a1 a2 : Nat → Int32} {v w i c : Nat} (h : ∀ f, f < n → oc_sa v (oc_pl a1 f) = i → ¬ oc_sa w (oc_pl a1 f) = c) : oc_B n a1 a2 v w (i + 1) c = oc_B n a1 a2 v w i c := by
  unfold oc_B
  refine oc_agg_c (fun f hf => ?_) (fun _ _ => rfl)
  rw [decide_eq_true_iff, decide_eq_true_iff]
  constructor
  · intro ⟨g1, g2⟩
    by_cases e : oc_sa v (oc_pl a1 f) = i
    · exact absurd g2 (h f hf e)
    · exact ⟨by omega, g2⟩
  · intro ⟨g1, g2⟩
    exact ⟨by omega, g2⟩
theorem oc_B_y {n : Nat} {a1 a2 : Nat → Int32} {v w i c : Nat} (h : ∀ f, f < n → oc_sa v (oc_pl a1 f) = i → oc_sa w (oc_pl a1 f) = c) : oc_B n a1 a2 v w (i + 1) c = oc_op (oc_B n a1 a2 v w i c) (oc_A n a1 a2 v i) := by
  unfold oc_B oc_A
  refine oc_agg_or (fun f hf => ?_) (fun f hf g => ?_)
  · rw [decide_eq_true_iff, decide_eq_true_iff, decide_eq_true_iff]
    constructor
    · intro ⟨g1, g2⟩
      by_cases e : oc_sa v (oc_pl a1 f) = i
      · exact Or.inr e
      · exact Or.inl ⟨by omega, g2⟩
    · intro g
      rcases g with ⟨g1, g2⟩ | g
      · exact ⟨by omega, g2⟩
      · exact ⟨by omega, h f hf g⟩
  · rw [decide_eq_true_iff] at g ⊢
    omega
theorem oc_workL {post : St1 → Prop} {ck : Int32} {n v w so ta : Nat} {a1 a2 a3 a5 a6 a7 a8 a9 : Nat → Int32} (ho : oc_ok n a1 a2) (hv : v < 48) (hw : w < 48) (hso : so < 5) (hta : ta < 5) (hne : so ≠ ta) (hfi : oc_fi v w)
    (h3 : a3 so = nI v) (hsl : oc_sl n a1 a2 a6 a7 a8 a9 so v)
    (H : ∀ b4 b6 b7 b8 b9, (∀ j, ¬ (192 * ta ≤ j ∧ j < 192 * ta + 192) → oc_cl b6 b7 b8 b9 j = oc_cl a6 a7 a8 a9 j) → oc_sl n a1 a2 b6 b7 b8 b9 ta w → post (nI n, ck, a1, a2, a3, b4, a5, b6, b7, b8, b9)) :
    ∀ (k i : Nat) (b4 b6 b7 b8 b9 : Nat → Int32), i + k = 192 → (∀ j, ¬ (192 * ta ≤ j ∧ j < 192 * ta + 192) → oc_cl b6 b7 b8 b9 j = oc_cl a6 a7 a8 a9 j) → (∀ c, c < 192 → oc_cl b6 b7 b8 b9 (192 * ta + c) = oc_B n a1 a2 v w i c) →
      wX_workOut_25 post (nI w) (nI so) (nI ta) (k + 1) (nI i) (nI n) ck a1 a2 a3 b4 a5 b6 b7 b8 b9 := by
  intro k
  induction k with
  | zero =>
    intro i b4 b6 b7 b8 b9 hi hb hc
    refine pk_le 192 i (fun _ => H b4 b6 b7 b8 b9 hb (fun c hcc => ?_)) (fun z => absurd z (by omega))
    rw [hc c hcc, show i = 192 by omega]
    exact oc_B_e ho v w c
  | succ k ih =>
    intro i b4 b6 b7 b8 b9 hi hb hc
    have hk : 192 * so + i < 960 := by omega
    have ek : (nI (192 * so + i)).toNatClampNeg = 192 * so + i := nI_clamp (by omega)
    have ik : vp_in (nI (192 * so + i)) 960 := pk_in _ 960 hk
    have eso : (nI so).toNatClampNeg = so := nI_clamp (by omega)
    have hat : oc_cl b6 b7 b8 b9 (192 * so + i) = oc_A n a1 a2 v i := by
      rw [hb _ (by omega)]
      exact hsl i (by omega)
    have h6 : b6 (192 * so + i) = (oc_A n a1 a2 v i).1 := by
      rw [← hat]
      rfl
    refine pk_le 192 i (fun z => absurd z (by omega)) (fun z => nm_r oc_ix ⟨ik, ?_⟩)
    rw [ek]
    refine br_c (fun g => nm_r (nI_1 i) ?_) (fun g => ⟨pk_in so 5 hso, ?_⟩)
    · rw [h6] at g
      have g' := oc_agg_le ho.1 g
      refine ih (i + 1) b4 b6 b7 b8 b9 (by omega) hb (fun c hcc => ?_)
      rw [hc c hcc]
      exact (oc_B_n (fun f hf e => absurd (decide_eq_true e) (g' f hf))).symm
    · rw [h6] at g
      obtain ⟨f0, hf0, g0⟩ := oc_agg_gt g
      have g1 := of_decide_eq_true g0
      have q0 := oc_back hv hw (oc_ok_p ho hf0).1 hfi
      rw [g1] at q0
      have q1 : ∀ f, f < n → oc_sa v (oc_pl a1 f) = i → oc_sa w (oc_pl a1 f) = oc_sa w (oc_bk v i) := by
        intro f hf e
        have q := oc_back hv hw (oc_ok_p ho hf).1 hfi
        rw [e] at q
        exact q.2.symm
      have hr : oc_sa w (oc_bk v i) < 192 := oc_sa_lt q0.1
      rw [eso, h3]
      refine oc_cellFrom hv (by omega) hw q0.1 ⟨ik, ik, ik, ik, ?_⟩
      refine oc_enter hta hr (fun c4 c6 c7 c8 c9 hcc => nm_r (nI_1 i) ?_)
      refine ih (i + 1) c4 c6 c7 c8 c9 (by omega) (fun j hj => ?_) (fun c hc2 => ?_)
      · rw [hcc, if_neg (by omega)]
        exact hb j hj
      · rw [hcc]
        by_cases ec : c = oc_sa w (oc_bk v i)
        · rw [if_pos (by rw [ec]), oc_B_y (fun f hf e => (q1 f hf e).trans ec.symm), ← ec, hc c hc2, ← hat]
          rfl
        · rw [if_neg (by omega), oc_B_n (fun f hf e e2 => ec (e2.symm.trans (q1 f hf e)))]
          exact hc c hc2
theorem oc_work {post : St1 → Prop} {ck : Int32} {n v w so ta : Nat} {a1 a2 a3 a4 a5 a6 a7 a8 a9 : Nat → Int32} (ho : oc_ok n a1 a2) (hs : oc_st n a1 a2 a3 a6 a7 a8 a9) (hv : v < 48) (hw : w < 48) (hso : so < 5) (hta : ta < 5) (ht0 : 0 < ta) (hne : so ≠ ta) (hfi : oc_fi v w)
    (h3 : a3 so = nI v)
    (H : ∀ b3 b4 b5 b6 b7 b8 b9, oc_st n a1 a2 b3 b6 b7 b8 b9 → oc_sl n a1 a2 b6 b7 b8 b9 ta w → post (nI n, ck, a1, a2, b3, b4, b5, b6, b7, b8, b9)) :
    wpX_workOut post (nI n, ck, a1, a2, a3, a4, a5, a6, a7, a8, a9) (nI w) (nI so) (nI ta) := by
  have eta : (nI ta).toNatClampNeg = ta := nI_clamp (by omega)
  have ita : vp_in (nI ta) 5 := pk_in ta 5 hta
  have hsl : oc_sl n a1 a2 a6 a7 a8 a9 so v := by
    rcases hs.2 so hso with g | ⟨v', hv', e, g⟩
    · rw [h3] at g
      exact absurd g (oc_m1 v hv)
    · rw [h3] at e
      have ev : v = v' := (nI_eq (by omega) (by omega)).mp e
      rw [ev]
      exact g
  unfold wpX_workOut
  refine oc_wipe hta (fun c4 c6 c7 c8 c9 hc => ⟨ita, nm_r (e' := upd a3 ta (nI w)) (by rw [eta]) ⟨ita, nm_e ⟨192 + 1, ?_⟩⟩⟩)
  have hk : ∀ j, ¬ (192 * ta ≤ j ∧ j < 192 * ta + 192) → oc_cl c6 c7 c8 c9 j = oc_cl a6 a7 a8 a9 j := fun j hj => by rw [hc, if_neg hj]
  refine oc_workL (a6 := c6) (a7 := c7) (a8 := c8) (a9 := c9) ho hv hw hso hta hne hfi (by rw [pk_un hne]; exact h3) (fun c hcc => by rw [hk _ (by omega)]; exact hsl c hcc)
    (fun b4 b6 b7 b8 b9 hb hb2 => H _ b4 _ b6 b7 b8 b9 ⟨?_, fun s h5 => ?_⟩ hb2) 192 0 c4 c6 c7 c8 c9 (by omega) (fun _ _ => rfl) (fun c hcc => ?_)
  · rw [pk_un (by omega)]
    exact hs.1
  · by_cases es : s = ta
    · rw [es, pk_us]
      exact Or.inr ⟨w, hw, rfl, hb2⟩
    · rw [pk_un es]
      rcases hs.2 s h5 with g | ⟨v', hv', e, g⟩
      · exact Or.inl g
      · refine Or.inr ⟨v', hv', e, fun c hcc => ?_⟩
        rw [hb _ (by omega), hk _ (by omega)]
        exact g c hcc
  · rw [hc, if_pos (by omega), oc_B_0]
/-- a slot that holds the view w, and any state that matches -/
def oc_got (post : Int32 → St1 → Prop) (n : Nat) (a1 a2 : Nat → Int32) (w : Nat) : Prop :=
  ∀ s ck b3 b4 b5 b6 b7 b8 b9, s < 5 → oc_st n a1 a2 b3 b6 b7 b8 b9 → oc_sl n a1 a2 b6 b7 b8 b9 s w → post (nI s) (nI n, ck, a1, a2, b3, b4, b5, b6, b7, b8, b9)
theorem oc_slot130 {post : Int32 → St1 → Prop} {ck : Int32} {n v w so : Nat} {a1 a2 a3 a4 a5 a6 a7 a8 a9 : Nat → Int32} (ho : oc_ok n a1 a2) (hs : oc_st n a1 a2 a3 a6 a7 a8 a9) (hv : v < 48) (hw : w < 48) (hso : so < 5) (hfi : oc_fi v w)
    (h3 : a3 so = nI v) (H : oc_got post n a1 a2 w) :
    ∀ (k i ta : Nat), i + k = 5 → 0 < i → ta < 5 → 0 < ta → so ≠ ta →
      wX_slotFor_130 post (nI w) (nI so) (nI n) ck a1 a2 a3 a4 a5 a6 a7 a8 a9 (k + 1) (nI ta) (nI i) := by
  intro k
  induction k with
  | zero =>
    intro i ta hi h0 hta ht0 hne
    refine pk_le 5 i (fun _ => ?_) (fun z => absurd z (by omega))
    exact oc_work ho hs hv hw hso hta ht0 hne hfi h3 (fun b3 b4 b5 b6 b7 b8 b9 h h' => H ta _ _ _ _ _ _ _ _ hta h h')
  | succ k ih =>
    intro i ta hi h0 hta ht0 hne
    have ii : vp_in (nI i) 5 := pk_in i 5 (by omega)
    have it : vp_in (nI ta) 5 := pk_in ta 5 hta
    refine pk_le 5 i (fun z => absurd z (by omega)) (fun _ => ?_)
    refine pk_eq i so (fun _ => nm_r (nI_1 i) (ih (i + 1) ta (by omega) (by omega) hta ht0 hne)) (fun z => ⟨ii, ?_⟩)
    have h169 : wX_slotFor_169 post (wX_slotFor_130 post (nI w) (nI so) (nI n) ck a1 a2 a3 a4 a5 a6 a7 a8 a9 (k + 1)) (nI w) (nI so) (nI ta) (nI i) (nI n) ck a1 a2 a3 a4 a5 a6 a7 a8 a9 := by
      unfold wX_slotFor_169
      exact ⟨it, br_c (fun _ => nm_r (nI_1 i) (ih (i + 1) ta (by omega) (by omega) hta ht0 hne)) (fun _ => nm_r (nI_1 i) (ih (i + 1) i (by omega) (by omega) (by omega) (by omega) (fun t => z t.symm)))⟩
    refine br_c (fun _ => h169) (fun _ => ⟨ii, it, br_c (fun _ => nm_r (nI_1 i) (ih (i + 1) ta (by omega) (by omega) hta ht0 hne)) (fun _ => h169)⟩)
theorem oc_slot49 {post : Int32 → St1 → Prop} {ck : Int32} {n w : Nat} {a1 a2 a3 a4 a5 a6 a7 a8 a9 : Nat → Int32} (ho : oc_ok n a1 a2) (hs : oc_st n a1 a2 a3 a6 a7 a8 a9) (hw : w < 48) (H : oc_got post n a1 a2 w) :
    ∀ (k i so v : Nat), i + k = 5 → so < 5 → v < 48 → a3 so = nI v → oc_fi v w →
      wX_slotFor_49 post (nI w) (nI n) ck a1 a2 a3 a4 a5 a6 a7 a8 a9 (k + 1) (nI so) (nI i) := by
  intro k
  induction k with
  | zero =>
    intro i so v hi hso hv h3 hfi
    refine pk_le 5 i (fun _ => ?_) (fun z => absurd z (by omega))
    refine pk_eq so 1 (fun z => ⟨4 + 1, ?_⟩) (fun z => ⟨4 + 1, ?_⟩)
    · exact oc_slot130 ho hs hv hw hso hfi h3 H 4 1 2 (by omega) (by omega) (by omega) (by omega) (by omega)
    · exact oc_slot130 ho hs hv hw hso hfi h3 H 4 1 1 (by omega) (by omega) (by omega) (by omega) (by omega)
  | succ k ih =>
    intro i so v hi hso hv h3 hfi
    have ei : (nI i).toNatClampNeg = i := nI_clamp (by omega)
    have ii : vp_in (nI i) 5 := pk_in i 5 (by omega)
    have is : vp_in (nI so) 5 := pk_in so 5 hso
    have keep : wX_slotFor_49 post (nI w) (nI n) ck a1 a2 a3 a4 a5 a6 a7 a8 a9 (k + 1) (nI so) (nI (i + 1)) := ih (i + 1) so v (by omega) hso hv h3 hfi
    have h81 : wX_slotFor_81 post (wX_slotFor_49 post (nI w) (nI n) ck a1 a2 a3 a4 a5 a6 a7 a8 a9 (k + 1)) (nI w) (nI so) (nI i) (nI n) ck a1 a2 a3 a4 a5 a6 a7 a8 a9 := by
      unfold wX_slotFor_81 wX_slotFor_82
      exact br_t rfl (nm_r (nI_1 i) keep)
    refine pk_le 5 i (fun z => absurd z (by omega)) (fun _ => ⟨ii, ?_⟩)
    rw [ei]
    rcases hs.2 i (by omega) with g | ⟨v', hv', e, g⟩
    · exact br_t g h81
    · rw [e]
      refine br_f (oc_m1 v' hv') ⟨ii, oc_finer hv' hw (br_t rfl h81) (fun hf => br_f (by decide) ?_)⟩
      unfold wX_slotFor_82
      exact br_f (by decide) ⟨ii, is, br_c (fun _ => nm_r (nI_1 i) keep) (fun _ => nm_r (nI_1 i) (ih (i + 1) i v' (by omega) (by omega) hv' e hf))⟩
theorem oc_slot12 {post : Int32 → St1 → Prop} {ck : Int32} {n w : Nat} {a1 a2 a3 a4 a5 a6 a7 a8 a9 : Nat → Int32} (ho : oc_ok n a1 a2) (hs : oc_st n a1 a2 a3 a6 a7 a8 a9) (hw : w < 48) (H : oc_got post n a1 a2 w) :
    ∀ (k i : Nat), i + k = 5 → wX_slotFor_12 post (nI w) (nI n) ck a1 a2 a3 a4 a5 a6 a7 a8 a9 (k + 1) (nI i) := by
  intro k
  induction k with
  | zero =>
    intro i hi
    refine pk_le 5 i (fun _ => ⟨4 + 1, ?_⟩) (fun z => absurd z (by omega))
    exact oc_slot49 ho hs hw H 4 1 0 0 (by omega) (by omega) (by omega) hs.1 ⟨Nat.zero_le _, Nat.zero_le _, Nat.zero_le _, fun t => absurd t.1 (by decide)⟩
  | succ k ih =>
    intro i hi
    have ei : (nI i).toNatClampNeg = i := nI_clamp (by omega)
    have ii : vp_in (nI i) 5 := pk_in i 5 (by omega)
    refine pk_le 5 i (fun z => absurd z (by omega)) (fun _ => ⟨ii, ?_⟩)
    rw [ei]
    refine br_c (fun e => ⟨ii, nm_e (H i _ _ _ _ _ _ _ _ (by omega) hs ?_)⟩) (fun _ => nm_r (nI_1 i) (ih (i + 1) (by omega)))
    rcases hs.2 i (by omega) with g | ⟨v', hv', e', g⟩
    · rw [e] at g
      exact absurd g (oc_m1 w hw)
    · rw [e] at e'
      have ev : w = v' := (nI_eq (by omega) (by omega)).mp e'
      rw [ev]
      exact g
theorem oc_slotFor {post : Int32 → St1 → Prop} {ck : Int32} {n w : Nat} {a1 a2 a3 a4 a5 a6 a7 a8 a9 : Nat → Int32} (ho : oc_ok n a1 a2) (hs : oc_st n a1 a2 a3 a6 a7 a8 a9) (hw : w < 48) (H : oc_got post n a1 a2 w) :
    wpX_slotFor post (nI n, ck, a1, a2, a3, a4, a5, a6, a7, a8, a9) (nI w) :=
  nm_e ⟨5 + 1, oc_slot12 ho hs hw H 5 0 (by omega)⟩
end
section
/-- the answer r, the same facts, any state that matches -/
def oc_ret (post : Int32 → St1 → Prop) (n : Nat) (a1 a2 : Nat → Int32) (r : Int32) : Prop :=
  ∀ ck b3 b4 b5 b6 b7 b8 b9, oc_st n a1 a2 b3 b6 b7 b8 b9 → post r (nI n, ck, a1, a2, b3, b4, b5, b6, b7, b8, b9)
theorem oc_cnt {post : Int32 → St1 → Prop} {ck : Int32} {n v c : Nat} {a1 a2 a3 a4 a5 a6 a7 a8 a9 : Nat → Int32} (ho : oc_ok n a1 a2) (hs : oc_st n a1 a2 a3 a6 a7 a8 a9) (hv : v < 48) (hc : c < 192) (H : oc_ret post n a1 a2 (oc_A n a1 a2 v c).1) :
    wpX_count post (nI n, ck, a1, a2, a3, a4, a5, a6, a7, a8, a9) (nI v) (nI c) := by
  unfold wpX_count
  refine oc_isView hv (br_f (by decide) (oc_isCell hc (br_f (by decide) (oc_slotFor ho hs hv (fun s ck' b3 b4 b5 b6 b7 b8 b9 h5 h h' => ?_)))))
  dsimp only
  rw [oc_ix, nI_clamp (by omega)]
  refine ⟨pk_in (192 * s + c) 960 (by omega), ?_⟩
  have e : b6 (192 * s + c) = (oc_A n a1 a2 v c).1 := by
    rw [← h' c hc]
    rfl
  rw [e]
  exact H _ _ _ _ _ _ _ _ h
theorem oc_sum {post : Int32 → St1 → Prop} {ck : Int32} {n v c : Nat} {a1 a2 a3 a4 a5 a6 a7 a8 a9 : Nat → Int32} (ho : oc_ok n a1 a2) (hs : oc_st n a1 a2 a3 a6 a7 a8 a9) (hv : v < 48) (hc : c < 192) (H : oc_ret post n a1 a2 (oc_A n a1 a2 v c).2.1) :
    wpX_sum post (nI n, ck, a1, a2, a3, a4, a5, a6, a7, a8, a9) (nI v) (nI c) := by
  unfold wpX_sum
  refine oc_isView hv (br_f (by decide) (oc_isCell hc (br_f (by decide) (oc_slotFor ho hs hv (fun s ck' b3 b4 b5 b6 b7 b8 b9 h5 h h' => ?_)))))
  dsimp only
  rw [oc_ix, nI_clamp (by omega)]
  refine ⟨pk_in (192 * s + c) 960 (by omega), ?_⟩
  have e : b7 (192 * s + c) = (oc_A n a1 a2 v c).2.1 := by
    rw [← h' c hc]
    rfl
  rw [e]
  exact H _ _ _ _ _ _ _ _ h
theorem oc_least {post : Int32 → St1 → Prop} {ck : Int32} {n v c : Nat} {a1 a2 a3 a4 a5 a6 a7 a8 a9 : Nat → Int32} (ho : oc_ok n a1 a2) (hs : oc_st n a1 a2 a3 a6 a7 a8 a9) (hv : v < 48) (hc : c < 192) (H : oc_ret post n a1 a2 (oc_A n a1 a2 v c).2.2.1) :
    wpX_least post (nI n, ck, a1, a2, a3, a4, a5, a6, a7, a8, a9) (nI v) (nI c) := by
  unfold wpX_least
  refine oc_isView hv (br_f (by decide) (oc_isCell hc (br_f (by decide) (oc_slotFor ho hs hv (fun s ck' b3 b4 b5 b6 b7 b8 b9 h5 h h' => ?_)))))
  dsimp only
  rw [oc_ix, nI_clamp (by omega)]
  refine ⟨pk_in (192 * s + c) 960 (by omega), ?_⟩
  have e : b8 (192 * s + c) = (oc_A n a1 a2 v c).2.2.1 := by
    rw [← h' c hc]
    rfl
  rw [e]
  exact H _ _ _ _ _ _ _ _ h
theorem oc_most {post : Int32 → St1 → Prop} {ck : Int32} {n v c : Nat} {a1 a2 a3 a4 a5 a6 a7 a8 a9 : Nat → Int32} (ho : oc_ok n a1 a2) (hs : oc_st n a1 a2 a3 a6 a7 a8 a9) (hv : v < 48) (hc : c < 192) (H : oc_ret post n a1 a2 (oc_A n a1 a2 v c).2.2.2) :
    wpX_most post (nI n, ck, a1, a2, a3, a4, a5, a6, a7, a8, a9) (nI v) (nI c) := by
  unfold wpX_most
  refine oc_isView hv (br_f (by decide) (oc_isCell hc (br_f (by decide) (oc_slotFor ho hs hv (fun s ck' b3 b4 b5 b6 b7 b8 b9 h5 h h' => ?_)))))
  dsimp only
  rw [oc_ix, nI_clamp (by omega)]
  refine ⟨pk_in (192 * s + c) 960 (by omega), ?_⟩
  have e : b9 (192 * s + c) = (oc_A n a1 a2 v c).2.2.2 := by
    rw [← h' c hc]
    rfl
  rw [e]
  exact H _ _ _ _ _ _ _ _ h
/-- the sum of the cell -2: none -/
theorem oc_sumN {post : Int32 → St1 → Prop} {ck : Int32} {n v : Nat} {a1 a2 a3 a4 a5 a6 a7 a8 a9 : Nat → Int32} (hs : oc_st n a1 a2 a3 a6 a7 a8 a9) (hv : v < 48) (H : oc_ret post n a1 a2 0) :
    wpX_sum post (nI n, ck, a1, a2, a3, a4, a5, a6, a7, a8, a9) (nI v) (-2) := by
  unfold wpX_sum
  refine oc_isView hv (br_f (by decide) ?_)
  unfold wpX_isCell
  exact br_t (by decide) (br_t rfl (H _ _ _ _ _ _ _ _ hs))
theorem oc_full {post : Int32 → St1 → Prop} {ck : Int32} {n j : Nat} {a1 a2 a3 a4 a5 a6 a7 a8 a9 : Nat → Int32} (ho : oc_ok n a1 a2) (hs : oc_st n a1 a2 a3 a6 a7 a8 a9) (hj : j < 2 ^ 31) (H : oc_any post) :
    wpX_full post (nI n, ck, a1, a2, a3, a4, a5, a6, a7, a8, a9) (nI j) := by
  unfold wpX_full
  refine oc_isView' hj (br_t rfl (H _ _ _ _ _ _ _ _ _ _ _ _ ho hs)) (fun hv => br_f (by decide) (oc_slotFor ho hs hv (fun s ck' b3 b4 b5 b6 b7 b8 b9 h5 h h' => ⟨pk_in s 5 h5, H _ _ _ _ _ _ _ _ _ _ _ _ ho h⟩)))
theorem oc_prepare {post : Int32 → St1 → Prop} {ck : Int32} {n j : Nat} {a1 a2 a3 a4 a5 a6 a7 a8 a9 : Nat → Int32} (ho : oc_ok n a1 a2) (hs : oc_st n a1 a2 a3 a6 a7 a8 a9) (hj : j < 2 ^ 31) (H : oc_any post) :
    wpX_prepare post (nI n, ck, a1, a2, a3, a4, a5, a6, a7, a8, a9) (nI j) := by
  unfold wpX_prepare
  exact oc_full ho hs hj (fun r n ck a1 a2 a3 a4 a5 a6 a7 a8 a9 h h' => H r n ck a1 a2 a3 a4 a5 a6 a7 a8 a9 h h')
theorem oc_cellOf {post : Int32 → Prop} {ck : Int32} {n v f : Nat} {a1 a2 a3 a4 a5 a6 a7 a8 a9 : Nat → Int32} (ho : oc_ok n a1 a2) (hv : v < 48) (hf : f < n) (H : post (nI (oc_sa v (oc_pl a1 f)))) :
    wpX_cellOf post (nI n, ck, a1, a2, a3, a4, a5, a6, a7, a8, a9) (nI v) (nI f) := by
  have hn := ho.1
  obtain ⟨hp, e⟩ := oc_ok_p ho hf
  unfold wpX_cellOf
  refine oc_isView hv (br_f (by decide) (oc_isFact hn (by omega) (fun z => absurd hf (by omega)) (fun z => br_f (by decide) ⟨pk_in f 40 (by omega), ?_⟩)))
  rw [nI_clamp (show f < 2 ^ 31 by omega), e]
  exact oc_seen hv hp H
/-- the best cell among those below i, or -2 -/
def oc_bs (A : Nat → oc_Q) (i : Nat) (x : Int32) : Prop :=
  (x = -2 ∧ ∀ c, c < i → (A c).1 ≤ 0) ∨ ∃ b, b < i ∧ x = nI b ∧ ¬ (A b).1 ≤ 0 ∧ ∀ c, c < i → ¬ (A c).1 ≤ 0 → (A c).2.1 ≤ (A b).2.1 ∧ ((A c).2.1 = (A b).2.1 → b ≤ c)
theorem oc_bestL {post : Int32 → St1 → Prop} {ck : Int32} {n v s : Nat} {a1 a2 a3 a4 a5 a6 a7 a8 a9 : Nat → Int32} (h5 : s < 5) (hl : oc_sl n a1 a2 a6 a7 a8 a9 s v)
    (H : ∀ x, oc_bs (oc_A n a1 a2 v) 192 x → post x (nI n, ck, a1, a2, a3, a4, a5, a6, a7, a8, a9)) :
    ∀ (k i : Nat) (x : Int32), i + k = 192 → oc_bs (oc_A n a1 a2 v) i x → wX_best_21 post (nI s) (nI n) ck a1 a2 a3 a4 a5 a6 a7 a8 a9 (k + 1) x (nI i) := by
  intro k
  induction k with
  | zero =>
    intro i x hi hb
    refine pk_le 192 i (fun _ => H x ?_) (fun z => absurd z (by omega))
    rw [show 192 = i by omega]
    exact hb
  | succ k ih =>
    intro i x hi hb
    have hk : 192 * s + i < 960 := by omega
    have ek : (nI (192 * s + i)).toNatClampNeg = 192 * s + i := nI_clamp (by omega)
    have ik : vp_in (nI (192 * s + i)) 960 := pk_in _ 960 hk
    have h6 : a6 (192 * s + i) = (oc_A n a1 a2 v i).1 := by
      rw [← hl i (by omega)]
      rfl
    have h7 : ∀ c, c < 192 → a7 (192 * s + c) = (oc_A n a1 a2 v c).2.1 := by
      intro c hc
      rw [← hl c hc]
      rfl
    refine pk_le 192 i (fun z => absurd z (by omega)) (fun z => nm_r oc_ix ⟨ik, ?_⟩)
    rw [ek, h6]
    refine br_c (fun g => nm_r (nI_1 i) (ih (i + 1) x (by omega) ?_)) (fun g => ?_)
    · rcases hb with ⟨e, hb⟩ | ⟨b, hbi, e, hb1, hb2⟩
      · refine Or.inl ⟨e, fun c hc => ?_⟩
        by_cases ec : c = i
        · rw [ec]
          exact g
        · exact hb c (by omega)
      · refine Or.inr ⟨b, by omega, e, hb1, fun c hc hg => ?_⟩
        by_cases ec : c = i
        · rw [ec] at hg
          exact absurd g hg
        · exact hb2 c (by omega) hg
    · rcases hb with ⟨e, hb⟩ | ⟨b, hbi, e, hb1, hb2⟩
      · refine br_t (by rw [e]; decide) (nm_r (nI_1 i) (ih (i + 1) _ (by omega) (Or.inr ⟨i, by omega, rfl, g, fun c hc hg => ?_⟩)))
        by_cases ec : c = i
        · rw [ec]
          exact ⟨Int32.le_refl _, fun _ => Nat.le_refl _⟩
        · exact absurd (hb c (by omega)) hg
      · subst e
        refine pk_lt b 0 (fun z => absurd z (by omega)) (fun _ => ?_)
        rw [oc_ix, nI_clamp (show 192 * s + b < 2 ^ 31 by omega), h7 i (by omega), h7 b (by omega)]
        refine ⟨ik, pk_in (192 * s + b) 960 (by omega), br_c (fun q => nm_r (nI_1 i) (ih (i + 1) _ (by omega) (Or.inr ⟨b, by omega, rfl, hb1, fun c hc hg => ?_⟩))) (fun q => nm_r (nI_1 i) (ih (i + 1) _ (by omega) (Or.inr ⟨i, by omega, rfl, g, fun c hc hg => ?_⟩)))⟩
        · by_cases ec : c = i
          · rw [ec]
            exact ⟨q, fun _ => by omega⟩
          · exact hb2 c (by omega) hg
        · by_cases ec : c = i
          · rw [ec]
            exact ⟨Int32.le_refl _, fun _ => Nat.le_refl _⟩
          · have hq := hb2 c (by omega) hg
            rw [Int32.le_iff_toInt_le] at hq q ⊢
            refine ⟨by omega, fun t => ?_⟩
            rw [t] at hq
            omega
theorem oc_best {post : Int32 → St1 → Prop} {ck : Int32} {n v : Nat} {a1 a2 a3 a4 a5 a6 a7 a8 a9 : Nat → Int32} (ho : oc_ok n a1 a2) (hs : oc_st n a1 a2 a3 a6 a7 a8 a9) (hv : v < 48)
    (H : ∀ x, oc_bs (oc_A n a1 a2 v) 192 x → oc_ret post n a1 a2 x) :
    wpX_best post (nI n, ck, a1, a2, a3, a4, a5, a6, a7, a8, a9) (nI v) := by
  unfold wpX_best
  refine oc_isView hv (br_f (by decide) (oc_slotFor ho hs hv (fun s ck' b3 b4 b5 b6 b7 b8 b9 h5 h h' => ⟨192 + 1, ?_⟩)))
  exact oc_bestL h5 h' (fun x hx => H x hx _ _ _ _ _ _ _ _ h) 192 0 (-2) (by omega) (Or.inl ⟨rfl, fun c hc => absurd hc (by omega)⟩)
/-- a cell that counts for a bound -/
def oc_good (A : Nat → oc_Q) (y : Int32) (c : Nat) : Prop := ¬ (A c).1 ≤ 0 ∧ ¬ (A c).2.1 < y
def oc_hv (A : Nat → oc_Q) (y : Int32) (i t : Nat) : Prop := t ≤ i ∧ ((∃ c, c < i ∧ oc_good A y c) → 1 ≤ t) ∧ ((∀ c, c < i → ¬ oc_good A y c) → t = 0)
theorem oc_hv_n {A : Nat → oc_Q} {y : Int32} {i t : Nat} (h : oc_hv A y i t) (hg : ¬ oc_good A y i) : oc_hv A y (i + 1) t := by
  obtain ⟨h1, h2, h3⟩ := h
  refine ⟨by omega, fun ⟨c, hc, hgc⟩ => ?_, fun ha => h3 (fun c hc => ha c (by omega))⟩
  by_cases ec : c = i
  · rw [ec] at hgc
    exact absurd hgc hg
  · exact h2 ⟨c, by omega, hgc⟩
theorem oc_hv_y {A : Nat → oc_Q} {y : Int32} {i t : Nat} (h : oc_hv A y i t) (hg : oc_good A y i) : oc_hv A y (i + 1) (t + 1) :=
  ⟨by have := h.1; omega, fun _ => by omega, fun ha => absurd hg (ha i (by omega))⟩
theorem oc_p0 (t : Nat) : nI t + 0 = nI t := nI_add t 0
theorem oc_havL {post : Int32 → St1 → Prop} {ck y : Int32} {n v s : Nat} {a1 a2 a3 a4 a5 a6 a7 a8 a9 : Nat → Int32} (h5 : s < 5) (hl : oc_sl n a1 a2 a6 a7 a8 a9 s v)
    (H : ∀ t, oc_hv (oc_A n a1 a2 v) y 192 t → post (nI t) (nI n, ck, a1, a2, a3, a4, a5, a6, a7, a8, a9)) :
    ∀ (k i t : Nat), i + k = 192 → oc_hv (oc_A n a1 a2 v) y i t → wX_having_25 post y (nI s) (nI n) ck a1 a2 a3 a4 a5 a6 a7 a8 a9 (k + 1) (nI t) (nI (192 * s + i)) := by
  intro k
  induction k with
  | zero =>
    intro i t hi hb
    refine pk_le (192 * s + 192) (192 * s + i) (fun _ => H t ?_) (fun z => absurd z (by omega)) (hx := oc_ixE)
    rw [show 192 = i by omega]
    exact hb
  | succ k ih =>
    intro i t hi hb
    have hk : 192 * s + i < 960 := by omega
    have ek : (nI (192 * s + i)).toNatClampNeg = 192 * s + i := nI_clamp (by omega)
    have ik : vp_in (nI (192 * s + i)) 960 := pk_in _ 960 hk
    have h6 : a6 (192 * s + i) = (oc_A n a1 a2 v i).1 := by
      rw [← hl i (by omega)]
      rfl
    have h7 : a7 (192 * s + i) = (oc_A n a1 a2 v i).2.1 := by
      rw [← hl i (by omega)]
      rfl
    refine pk_le (192 * s + 192) (192 * s + i) (fun z => absurd z (by omega)) (fun z => ⟨ik, ?_⟩) (hx := oc_ixE)
    rw [ek, h6, h7]
    refine br_c (fun g => nm_r (oc_p0 t) (nm_r (nI_1 _) (ih (i + 1) t (by omega) (oc_hv_n hb (fun q => q.1 g))))) (fun g => ⟨ik, ?_⟩)
    refine br_c (fun g2 => nm_r (oc_p0 t) (nm_r (nI_1 _) (ih (i + 1) t (by omega) (oc_hv_n hb (fun q => q.2 g2))))) (fun g2 => ?_)
    exact nm_r (nI_1 t) (nm_r (nI_1 _) (ih (i + 1) (t + 1) (by omega) (oc_hv_y hb ⟨g, g2⟩)))
theorem oc_having {post : Int32 → St1 → Prop} {ck y : Int32} {n v : Nat} {a1 a2 a3 a4 a5 a6 a7 a8 a9 : Nat → Int32} (ho : oc_ok n a1 a2) (hs : oc_st n a1 a2 a3 a6 a7 a8 a9) (hv : v < 48)
    (H : ∀ t, oc_hv (oc_A n a1 a2 v) y 192 t → oc_ret post n a1 a2 (nI t)) :
    wpX_having post (nI n, ck, a1, a2, a3, a4, a5, a6, a7, a8, a9) (nI v) y := by
  unfold wpX_having
  refine oc_isView hv (br_f (by decide) (oc_slotFor ho hs hv (fun s ck' b3 b4 b5 b6 b7 b8 b9 h5 h h' => nm_r oc_ix0 ⟨192 + 1, ?_⟩)))
  exact oc_havL h5 h' (fun x hx => H x hx _ _ _ _ _ _ _ _ h) 192 0 0 (by omega) ⟨by omega, fun ⟨c, hc, _⟩ => absurd hc (by omega), fun _ => rfl⟩
end
section
theorem oc_uu {a : Nat → Int32} {i : Nat} {x : Int32} : upd (upd a i x) i (a i) = a := by
  funext j
  by_cases e : j = i
  · rw [e, pk_us]
  · rw [pk_un e, pk_un e]
theorem oc_c108 {post : Int32 → St1 → Prop} {ck x4 x5 x6 x7 : Int32} {n v c : Nat} {a1 a2 a3 a4 a5 a6 a7 a8 a9 : Nat → Int32} (ho : oc_ok n a1 a2) (hs : oc_st n a1 a2 a3 a6 a7 a8 a9) (hv : v < 48) (hc : c < 192)
    (e : (x4, x5, x6, x7) = oc_A n a1 a2 v c) (H : oc_ret post n a1 a2 1) :
    wL_counts_108 post (nI v) (nI c) (nI n) x4 x5 x6 x7 (nI n) ck a1 a2 a3 a4 a5 a6 a7 a8 a9 := by
  have hn := ho.1
  have e4 : (oc_A n a1 a2 v c).1 = x4 := by rw [← e]
  have e5 : (oc_A n a1 a2 v c).2.1 = x5 := by rw [← e]
  have e6 : (oc_A n a1 a2 v c).2.2.1 = x6 := by rw [← e]
  have e7 : (oc_A n a1 a2 v c).2.2.2 = x7 := by rw [← e]
  unfold wL_counts_108
  refine oc_cnt ho hs hv hc (fun _ _ _ _ _ _ _ _ h1 => ?_)
  refine oc_sum ho h1 hv hc (fun _ _ _ _ _ _ _ _ h2 => ?_)
  refine oc_least ho h2 hv hc (fun _ _ _ _ _ _ _ _ h3 => ?_)
  refine oc_most ho h3 hv hc (fun _ _ _ _ _ _ _ _ h4 => ?_)
  exact pk_lt 40 n (fun z => absurd z (by omega)) (fun _ => br_t e4 (br_t e5 (br_t e6 (br_t e7 (H _ _ _ _ _ _ _ _ h4)))))
theorem oc_c91 {post : Int32 → St1 → Prop} {J : Int32 → Int32 → Int32 → Int32 → Int32 → Int32 → Int32 → (Nat → Int32) → (Nat → Int32) → (Nat → Int32) → (Nat → Int32) → (Nat → Int32) → (Nat → Int32) → (Nat → Int32) → (Nat → Int32) → (Nat → Int32) → Prop}
    {x1 x2 x3 x4 x5 x6 x7 x10 sz ck : Int32} {i : Nat} {a1 a2 a3 a4 a5 a6 a7 a8 a9 : Nat → Int32} (H : J x4 x5 x6 (oc_hi x7 x10) (nI (i + 1)) sz ck a1 a2 a3 a4 a5 a6 a7 a8 a9) :
    wL_counts_91 post J x1 x2 x3 x4 x5 x6 x7 (nI i) x10 sz ck a1 a2 a3 a4 a5 a6 a7 a8 a9 := by
  unfold wL_counts_91
  refine br_c (fun z => nm_r (nI_1 i) ?_) (fun z => nm_r (nI_1 i) ?_)
  · have e : oc_hi x7 x10 = x7 := if_pos z
    rw [e] at H
    exact H
  · have e : oc_hi x7 x10 = x10 := if_neg z
    rw [e] at H
    exact H
theorem oc_countsL {post : Int32 → St1 → Prop} {n v c : Nat} {a1 a2 : Nat → Int32} (ho : oc_ok n a1 a2) (hv : v < 48) (hc : c < 192) (H : oc_ret post n a1 a2 1) :
    ∀ (k i : Nat) (x4 x5 x6 x7 ck : Int32) (a3 a4 a5 a6 a7 a8 a9 : Nat → Int32), i + k = n → oc_st n a1 a2 a3 a6 a7 a8 a9 → (x4, x5, x6, x7) = oc_A i a1 a2 v c →
      wL_counts_24 post (nI v) (nI c) (nI n) (k + 1) x4 x5 x6 x7 (nI i) (nI n) ck a1 a2 a3 a4 a5 a6 a7 a8 a9 := by
  have hn := ho.1
  intro k
  induction k with
  | zero =>
    intro i x4 x5 x6 x7 ck a3 a4 a5 a6 a7 a8 a9 hi hs e
    have ei : i = n := by omega
    rw [ei] at e
    exact pk_le n i (fun _ => oc_c108 ho hs hv hc e H) (fun z => absurd z (by omega))
  | succ k ih =>
    intro i x4 x5 x6 x7 ck a3 a4 a5 a6 a7 a8 a9 hi hs e
    have hin : i < n := by omega
    obtain ⟨hp, ep⟩ := oc_ok_p ho hin
    have hm := ho.2.2 i hin
    refine pk_le n i (fun z => absurd z (by omega)) (fun _ => pk_le 40 i (fun z => absurd z (by omega)) (fun _ => ?_))
    refine oc_cellOf ho hv hin ?_
    refine oc_measure ho hs.1 (by omega) (fun t => absurd ⟨hin, by decide, by decide⟩ t) (fun _ ho2 b3 b4 b6 b7 b8 b9 hs2 => ?_)
    refine oc_measure ho2 hs2.1 (by omega) (fun t => absurd ⟨hin, hm.1, hm.2⟩ t) (fun _ ho3 d3 d4 d6 d7 d8 d9 hs3 => ?_)
    rw [oc_uu] at hs3 ⊢
    have es := oc_A_s (c := c) (v := v) (a2 := a2) hp ep rfl
    refine pk_eq (oc_sa v (oc_pl a1 i)) c (fun z => ?_) (fun z => nm_r (nI_1 i) ?_) (ha := by have := oc_sa_lt (v := v) hp; omega)
    · rw [if_pos z.symm, ← e] at es
      refine nm_e (nm_e (br_c (fun g => oc_c91 ?_) (fun g => oc_c91 ?_)))
      · refine ih (i + 1) _ _ _ _ _ _ _ _ _ _ _ _ (by omega) hs3 ?_
        rw [es]
        have q : oc_lo x6 (a2 i) = x6 := if_pos g
        show _ = (x4 + 1, x5 + a2 i, oc_lo x6 (a2 i), oc_hi x7 (a2 i))
        rw [q]
      · refine ih (i + 1) _ _ _ _ _ _ _ _ _ _ _ _ (by omega) hs3 ?_
        rw [es]
        have q : oc_lo x6 (a2 i) = a2 i := if_neg g
        show _ = (x4 + 1, x5 + a2 i, oc_lo x6 (a2 i), oc_hi x7 (a2 i))
        rw [q]
    · rw [if_neg (fun t => z t.symm), ← e] at es
      exact ih (i + 1) _ _ _ _ _ _ _ _ _ _ _ _ (by omega) hs3 es.symm
theorem oc_counts {post : Int32 → St1 → Prop} {ck : Int32} {n v c : Nat} {a1 a2 a3 a4 a5 a6 a7 a8 a9 : Nat → Int32} (ho : oc_ok n a1 a2) (hs : oc_st n a1 a2 a3 a6 a7 a8 a9) (hv : v < 48) (hc : c < 192) (H : oc_ret post n a1 a2 1) :
    wpL_counts post (nI n, ck, a1, a2, a3, a4, a5, a6, a7, a8, a9) (nI v) (nI c) := by
  unfold wpL_counts
  exact ⟨n + 1, oc_countsL ho hv hc H n 0 0 0 10000 (-10000) ck a3 a4 a5 a6 a7 a8 a9 (by omega) hs rfl⟩
theorem oc_mod (x : Int32) {d : Nat} (h0 : 0 < d) (hd : d < 2 ^ 31) : ∃ j, j < d ∧ (x &&& 255) - (x &&& 255) / nI d * nI d = nI j := by
  obtain ⟨j, hj, e⟩ := pk_andE x (m := 255) 8 (by decide)
  rw [e, pk_rem (by omega) h0 hd]
  exact ⟨j % d, Nat.mod_lt _ h0, rfl⟩
theorem oc_act {post : Int32 → St1 → Prop} {ck p1 p2 p3 p4 : Int32} {n : Nat} {a1 a2 a3 a4 a5 a6 a7 a8 a9 : Nat → Int32} (ho : oc_ok n a1 a2) (hs : oc_st n a1 a2 a3 a6 a7 a8 a9) (H : oc_any post) :
    wpL_act post (nI n, ck, a1, a2, a3, a4, a5, a6, a7, a8, a9) p1 p2 p3 p4 := by
  obtain ⟨j1, hj1, e1⟩ := oc_mod p2 (d := 193) (by omega) (by omega)
  obtain ⟨j2, hj2, e2⟩ := oc_mod p3 (d := 193) (by omega) (by omega)
  obtain ⟨j3, hj3, e3⟩ := oc_mod p4 (d := 42) (by omega) (by omega)
  obtain ⟨j4, hj4, e4⟩ := oc_mod p2 (d := 41) (by omega) (by omega)
  obtain ⟨j5, hj5, e5⟩ := oc_mod p2 (d := 49) (by omega) (by omega)
  have H' : oc_any (fun r u => match u with | (f0, f1, b1, b2, b3, b4, b5, b6, b7, b8, b9) => post r (f0, f1, b1, b2, b3, b4, b5, b6, b7, b8, b9)) :=
    fun r n ck a1 a2 a3 a4 a5 a6 a7 a8 a9 h h' => H r n ck a1 a2 a3 a4 a5 a6 a7 a8 a9 h h'
  have h22 : wL_act_22 post p4 (nI j1) (nI n) ck a1 a2 a3 a4 a5 a6 a7 a8 a9 := by
    unfold wL_act_22
    exact oc_put ho hs (by omega) H'
  unfold wpL_act
  refine ⟨by decide, nm_r e1 ?_⟩
  refine br_c (fun _ => h22) (fun _ => br_c (fun _ => h22) (fun _ => br_c (fun _ => ⟨by decide, by decide, ?_⟩) (fun _ => br_c (fun _ => ⟨by decide, ?_⟩) (fun _ => br_c (fun _ => ⟨by decide, ?_⟩) (fun _ => ⟨by decide, ?_⟩)))))
  · have q : wpX_sow (fun r u => match u with | (f0, f1, b1, b2, b3, b4, b5, b6, b7, b8, b9) => post r (f0, f1, b1, b2, b3, b4, b5, b6, b7, b8, b9)) (nI n, ck, a1, a2, a3, a4, a5, a6, a7, a8, a9) (nI j1) (nI j2) (nI j3) := oc_sow ho hs (by omega) (by omega) (by omega) H'
    rw [← e2, ← e3] at q
    exact q
  · have q : wpX_measure (fun r u => match u with | (f0, f1, b1, b2, b3, b4, b5, b6, b7, b8, b9) => post r (f0, f1, b1, b2, b3, b4, b5, b6, b7, b8, b9)) (nI n, ck, a1, a2, a3, a4, a5, a6, a7, a8, a9) (nI j4) ((p4 &&& 2047) - 1010) :=
      oc_measure ho hs.1 (by omega) (fun _ r => H _ _ _ _ _ _ _ _ _ _ _ _ ho hs) (fun _ ho2 b3 b4 b6 b7 b8 b9 hs2 => H _ _ _ _ _ _ _ _ _ _ _ _ ho2 hs2)
    rw [← e4] at q
    exact q
  · have q : wpX_drop (fun r u => match u with | (f0, f1, b1, b2, b3, b4, b5, b6, b7, b8, b9) => post r (f0, f1, b1, b2, b3, b4, b5, b6, b7, b8, b9)) (nI n, ck, a1, a2, a3, a4, a5, a6, a7, a8, a9) (nI j4) := oc_drop ho hs (by omega) H'
    rw [← e4] at q
    exact q
  · have q : wpX_prepare (fun r u => match u with | (f0, f1, b1, b2, b3, b4, b5, b6, b7, b8, b9) => post r (f0, f1, b1, b2, b3, b4, b5, b6, b7, b8, b9)) (nI n, ck, a1, a2, a3, a4, a5, a6, a7, a8, a9) (nI j5) := oc_prepare ho hs (by omega) H'
    rw [← e5] at q
    exact q
end
section
/-- the loop goes on from any state that matches -/
def oc_next (J : Int32 → Int32 → Int32 → (Nat → Int32) → (Nat → Int32) → (Nat → Int32) → (Nat → Int32) → (Nat → Int32) → (Nat → Int32) → (Nat → Int32) → (Nat → Int32) → (Nat → Int32) → Prop) (t : Nat) : Prop :=
  ∀ n ck a1 a2 a3 a4 a5 a6 a7 a8 a9, oc_ok n a1 a2 → oc_st n a1 a2 a3 a6 a7 a8 a9 → J (nI (t + 4)) (nI n) ck a1 a2 a3 a4 a5 a6 a7 a8 a9
theorem oc_x4 (t : Nat) : nI t + 4 = nI (t + 4) := nI_add t 4
theorem oc_above {n v : Nat} {a1 a2 : Nat → Int32} (ho : oc_ok n a1 a2) {b : Nat} (h : ∀ c, c < 192 → ¬ (oc_A n a1 a2 v c).1 ≤ 0 → (oc_A n a1 a2 v c).2.1 ≤ (oc_A n a1 a2 v b).2.1) :
    ∀ c, c < 192 → ¬ oc_good (oc_A n a1 a2 v) ((oc_A n a1 a2 v b).2.1 + 1) c := by
  intro c hc ⟨g1, g2⟩
  have hn := ho.1
  have q := h c hc g1
  have bb : -1000 * (n : Int) ≤ (oc_A n a1 a2 v b).2.1.toInt ∧ (oc_A n a1 a2 v b).2.1.toInt ≤ 1000 * (n : Int) := oc_agg_s hn ho.2.2
  have e1 : (1 : Int32).toInt = 1 := by decide
  rw [Int32.lt_iff_toInt_lt, Jvm.Kit.i32_add (by rw [e1]; omega) (by rw [e1]; omega), e1] at g2
  rw [Int32.le_iff_toInt_le] at q
  omega
theorem oc_l206 {post : Int32 → Prop} {L : Nat} {xs : Nat → Int32} {J : Int32 → Int32 → Int32 → (Nat → Int32) → (Nat → Int32) → (Nat → Int32) → (Nat → Int32) → (Nat → Int32) → (Nat → Int32) → (Nat → Int32) → (Nat → Int32) → (Nat → Int32) → Prop}
    {ck x7 x8 : Int32} {t n v kc ks : Nat} {a1 a2 a3 a4 a5 a6 a7 a8 a9 : Nat → Int32} (ho : oc_ok n a1 a2) (hs : oc_st n a1 a2 a3 a6 a7 a8 a9) (hv : v < 48) (HJ : oc_next J t)
    (h1 : 0 < n → ∃ c, c < 192 ∧ oc_good (oc_A n a1 a2 v) x8 c) (h2 : 0 < n → ∀ c, c < 192 → ¬ oc_good (oc_A n a1 a2 v) (x7 + 1) c) :
    wL_law_206 post L xs J (nI t) (nI v) (nI n) x7 x8 kc ks (nI n) ck a1 a2 a3 a4 a5 a6 a7 a8 a9 := by
  have hn := ho.1
  unfold wL_law_206
  refine oc_having ho hs hv (fun p hp _ _ _ _ _ _ _ _ hs1 => ?_)
  refine oc_having ho hs1 hv (fun q hq _ _ _ _ _ _ _ _ hs2 => ?_)
  have hp1 := hp.1
  have hq1 := hq.1
  refine pk_le n 0 (fun _ => nm_r (oc_x4 t) (HJ _ _ _ _ _ _ _ _ _ _ _ ho hs2)) (fun z => ?_)
  have k1 := hp.2.1 (h1 z)
  have k2 := hq.2.2 (h2 z)
  exact pk_lt p 1 (fun y => absurd y (by omega)) (fun _ => pk_eq q 0 (fun _ => nm_r (oc_x4 t) (HJ _ _ _ _ _ _ _ _ _ _ _ ho hs2)) (fun y => absurd k2 y))
theorem oc_l173 {post : Int32 → Prop} {L : Nat} {xs : Nat → Int32} {J : Int32 → Int32 → Int32 → (Nat → Int32) → (Nat → Int32) → (Nat → Int32) → (Nat → Int32) → (Nat → Int32) → (Nat → Int32) → (Nat → Int32) → (Nat → Int32) → (Nat → Int32) → Prop}
    {ck x6 x7 x8 z0 : Int32} {t n v c kc ks : Nat} {a1 a2 a3 a4 a5 a6 a7 a8 a9 : Nat → Int32} (ho : oc_ok n a1 a2) (hs : oc_st n a1 a2 a3 a6 a7 a8 a9) (hv : v < 48) (HJ : oc_next J t)
    (hc : c < 192) (hg : 0 < n → ¬ (oc_A n a1 a2 v c).1 ≤ 0) (e8 : x8 = (oc_A n a1 a2 v c).2.1)
    (hb : 0 < n → ∃ b, b < 192 ∧ x6 = nI b ∧ x7 = (oc_A n a1 a2 v b).2.1 ∧ ∀ c, c < 192 → ¬ (oc_A n a1 a2 v c).1 ≤ 0 → (oc_A n a1 a2 v c).2.1 ≤ (oc_A n a1 a2 v b).2.1 ∧ ((oc_A n a1 a2 v c).2.1 = (oc_A n a1 a2 v b).2.1 → b ≤ c)) :
    wL_law_173 post L xs J (nI t) (nI v) (nI n) (nI c) x6 x7 x8 z0 z0 kc ks (nI n) ck a1 a2 a3 a4 a5 a6 a7 a8 a9 := by
  have hn := ho.1
  have h206 : wL_law_206 post L xs J (nI t) (nI v) (nI n) x7 x8 kc ks (nI n) ck a1 a2 a3 a4 a5 a6 a7 a8 a9 := by
    refine oc_l206 ho hs hv HJ (fun z => ⟨c, hc, hg z, ?_⟩) (fun z => ?_)
    · rw [e8]
      exact fun z => Int32.lt_irrefl z
    · obtain ⟨b, hb1, _, e7, hb2⟩ := hb z
      rw [e7]
      exact oc_above ho (fun c hc g => (hb2 c hc g).1)
  unfold wL_law_173
  refine br_t rfl (pk_le n 0 (fun _ => h206) (fun z => ?_))
  obtain ⟨b, hb1, e6, e7, hb2⟩ := hb z
  have q := hb2 c hc (hg z)
  rw [← e8, ← e7] at q
  have nlt : ¬ x7 < x8 := by
    intro w
    have q1 := q.1
    rw [Int32.le_iff_toInt_le] at q1
    rw [Int32.lt_iff_toInt_lt] at w
    omega
  refine br_f nlt (br_c (fun y => ?_) (fun _ => h206))
  exact pk_le b c (fun _ => h206) (fun w => absurd (q.2 y) (by omega)) (hx := e6)
theorem oc_l89 {post : Int32 → Prop} {L : Nat} {xs : Nat → Int32} {J : Int32 → Int32 → Int32 → (Nat → Int32) → (Nat → Int32) → (Nat → Int32) → (Nat → Int32) → (Nat → Int32) → (Nat → Int32) → (Nat → Int32) → (Nat → Int32) → (Nat → Int32) → Prop}
    {ck : Int32} {t n v c kc ks : Nat} {a1 a2 a3 a4 a5 a6 a7 a8 a9 : Nat → Int32} (hL : L ≤ 260) (ht : t + 3 < L) (ho : oc_ok n a1 a2) (hs : oc_st n a1 a2 a3 a6 a7 a8 a9) (hv : v < 48) (HJ : oc_next J t)
    (hc : c < 192) (hg : 0 < n → ¬ (oc_A n a1 a2 v c).1 ≤ 0) :
    wL_law_89 post L xs J (nI t) (nI v) (nI n) (nI c) kc ks (nI n) ck a1 a2 a3 a4 a5 a6 a7 a8 a9 := by
  have hn := ho.1
  have e3 : nI t + 3 = nI (t + 3) := nI_add t 3
  unfold wL_law_89
  refine oc_counts ho hs hv hc (fun _ _ _ _ _ _ _ _ hs1 => br_f (by decide) ?_)
  obtain ⟨c2, hc2, ec2⟩ := oc_mod (xs (nI t + 3).toNatClampNeg) (d := 192) (by omega) (by omega)
  refine ⟨pk_in (t + 3) L ht (hx := e3), by decide, ?_⟩
  have ec2' : ((xs (nI t + 3).toNatClampNeg) &&& 255) - ((xs (nI t + 3).toNatClampNeg) &&& 255) / 192 * 192 = nI c2 := ec2
  rw [ec2']
  refine oc_counts ho hs1 hv hc2 (fun _ _ _ _ _ _ _ _ hs2 => br_f (by decide) ?_)
  refine oc_best ho hs2 hv (fun x hx _ _ _ _ _ _ _ _ hs3 => ?_)
  rcases hx with ⟨ex, hx⟩ | ⟨b, hb, ex, hb1, hb2⟩
  · subst ex
    have n0 : n = 0 := by
      rcases Nat.eq_zero_or_pos n with z | z
      · exact z
      · exact absurd (hx c hc) (hg z)
    refine oc_sumN hs3 hv (fun _ _ _ _ _ _ _ _ hs4 => ?_)
    refine oc_sum ho hs4 hv hc (fun _ _ _ _ _ _ _ _ hs5 => ?_)
    refine br_t rfl ?_
    unfold wL_law_163
    refine pk_eq n 0 (fun _ => ?_) (fun z => absurd n0 z)
    exact oc_l173 ho hs5 hv HJ hc hg rfl (fun z => absurd z (by omega))
  · subst ex
    have npos : 0 < n := by
      rcases Nat.eq_zero_or_pos n with z | z
      · subst z
        exact absurd (show (oc_A 0 _ _ v b).1 ≤ 0 from Int32.le_refl 0) hb1
      · exact z
    refine oc_sum ho hs3 hv hb (fun _ _ _ _ _ _ _ _ hs4 => ?_)
    refine oc_sum ho hs4 hv hc (fun _ _ _ _ _ _ _ _ hs5 => ?_)
    have nb : ¬ nI b = -2 := by
      intro z
      have z2 : (nI b).toInt = (-2 : Int32).toInt := by rw [z]
      rw [nI_toInt (by omega), show (-2 : Int32).toInt = -2 by decide] at z2
      omega
    refine br_f nb ?_
    unfold wL_law_163
    refine pk_eq n 0 (fun z => absurd npos (by omega)) (fun _ => ?_)
    exact oc_l173 ho hs5 hv HJ hc hg rfl (fun _ => ⟨b, hb, rfl, rfl, hb2⟩)
theorem oc_l10 {L : Nat} {xs : Nat → Int32} {kc ks : Nat} (hL : L ≤ 260) :
    ∀ (k t n : Nat) (ck : Int32) (a1 a2 a3 a4 a5 a6 a7 a8 a9 : Nat → Int32), L ≤ t + 3 + 4 * k → t ≤ L → oc_ok n a1 a2 → oc_st n a1 a2 a3 a6 a7 a8 a9 →
      wL_law_10 (fun r => r = 1) L xs kc ks (k + 1) (nI t) (nI n) ck a1 a2 a3 a4 a5 a6 a7 a8 a9 := by
  intro k
  induction k with
  | zero =>
    intro t n ck a1 a2 a3 a4 a5 a6 a7 a8 a9 hk ht ho hs
    exact pk_le L (t + 3) (fun _ => rfl) (fun z => absurd z (by omega)) (hy := nI_add t 3)
  | succ k ih =>
    intro t n ck a1 a2 a3 a4 a5 a6 a7 a8 a9 hk ht ho hs
    have e3 : nI t + 3 = nI (t + 3) := nI_add t 3
    have i0 : t + 3 < L → vp_in (nI t) L := fun z => pk_in t L (by omega)
    have i1 : t + 3 < L → vp_in (nI t + 1) L := fun z => pk_in (t + 1) L (by omega) (hx := nI_add t 1)
    have i2 : t + 3 < L → vp_in (nI t + 2) L := fun z => pk_in (t + 2) L (by omega) (hx := nI_add t 2)
    have i3 : t + 3 < L → vp_in (nI t + 3) L := fun z => pk_in (t + 3) L (by omega) (hx := nI_add t 3)
    refine pk_le L (t + 3) (fun _ => rfl) (fun z => ⟨i0 z, i1 z, i2 z, i3 z, ?_⟩) (hy := e3)
    have HJ : oc_next (wL_law_10 (fun r => r = 1) L xs kc ks (k + 1)) t := fun n ck a1 a2 a3 a4 a5 a6 a7 a8 a9 h h' => ih (t + 4) n ck a1 a2 a3 a4 a5 a6 a7 a8 a9 (by omega) (by omega) h h'
    refine oc_act ho hs (fun r n ck a1 a2 a3 a4 a5 a6 a7 a8 a9 ho hs => ?_)
    have hn := ho.1
    obtain ⟨v, hv, ev⟩ := oc_mod (xs (nI t + 2).toNatClampNeg) (d := 48) (by omega) (by omega)
    refine ⟨i2 z, by decide, nm_r (e' := nI v) ev ?_⟩
    refine pk_le n 0 (fun w => ?_) (fun w => ⟨i3 z, nI_ne0 w (by omega), ?_⟩)
    · exact oc_l89 (c := 0) hL z ho hs hv HJ (by omega) (fun y => absurd y (by omega))
    · obtain ⟨j, hj, ej⟩ := oc_mod (xs (nI t + 3).toNatClampNeg) (d := n) w (by omega)
      rw [ej]
      refine oc_cellOf ho hv hj ?_
      refine oc_l89 hL z ho hs hv HJ (oc_sa_lt (oc_ok_p ho hj).1) (fun _ y => ?_)
      exact absurd (decide_eq_true rfl) (oc_agg_le hn y j hj)
theorem i_vc (xs : Nat → Int32) (L : Nat) (hL : L ≤ 260) : wpL_law (fun r => r = 1) L xs := by
  refine ⟨9, 3935, by omega, by omega, oc_init (fun a1 a2 b3 b4 a5 b6 b7 b8 b9 ho hs => ⟨65 + 1, ?_⟩)⟩
  exact oc_l10 hL 65 0 0 0 a1 a2 b3 b4 a5 b6 b7 b8 b9 (by omega) (by omega) ho hs
end
