section
/-! bits of an Int32 (the family bt of BITS.to-paste, its names turned to ib_), and a mask of one bit -/
def ib_t (x : Int32) (i : Nat) : Bool := x.toBitVec.getLsbD i
theorem ib_ext {x y : Int32} (h : ∀ i, i < 32 → ib_t x i = ib_t y i) : x = y := Int32.toBitVec_inj.mp (BitVec.eq_of_getLsbD_eq (fun i hi => h i hi))
theorem ib_or (x y : Int32) (i : Nat) : ib_t (x ||| y) i = (ib_t x i || ib_t y i) := by unfold ib_t; rw [Int32.toBitVec_or, BitVec.getLsbD_or]
theorem ib_and (x y : Int32) (i : Nat) : ib_t (x &&& y) i = (ib_t x i && ib_t y i) := by unfold ib_t; rw [Int32.toBitVec_and, BitVec.getLsbD_and]
theorem ib_xor (x y : Int32) (i : Nat) : ib_t (x ^^^ y) i = (ib_t x i ^^ ib_t y i) := by unfold ib_t; rw [Int32.toBitVec_xor, BitVec.getLsbD_xor]
theorem ib_big {x : Int32} {i : Nat} (h : 32 ≤ i) : ib_t x i = false := BitVec.getLsbD_of_ge _ _ h
theorem ib_m1 : ∀ i, i < 32 → ib_t (-1) i = true := by decide +kernel
theorem ib_0 (i : Nat) : ib_t 0 i = false := BitVec.getLsbD_zero
theorem ib_1 : ∀ i, i < 32 → ib_t 1 i = decide (i = 0) := by decide +kernel
theorem ib_15 : ∀ i, i < 32 → ib_t 15 i = decide (i < 4) := by decide +kernel
theorem ib_sl : ∀ n, n < 32 → ((nI n &&& 31).toBitVec.smod 32).toNat = n := by decide +kernel
theorem ib_shl (n : Nat) (hn : n < 32) (x : Int32) {i : Nat} (hi : i < 32) : ib_t (x <<< (nI n &&& 31)) i = (decide (n ≤ i) && ib_t x (i - n)) := by
  unfold ib_t
  rw [Int32.toBitVec_shiftLeft]
  show (x.toBitVec <<< ((nI n &&& 31).toBitVec.smod 32).toNat).getLsbD i = _
  rw [ib_sl n hn, BitVec.getLsbD_shiftLeft]
  rcases Nat.lt_or_ge i n with h | h
  · simp [h, Nat.not_le.mpr h]
  · simp [hi, h, Nat.not_lt.mpr h]
theorem ib_sshr (n : Nat) (hn : n < 32) (x : Int32) {i : Nat} (hi : i < 32) : ib_t (x >>> (nI n &&& 31)) i = if n + i < 32 then ib_t x (n + i) else ib_t x 31 := by
  unfold ib_t
  rw [Int32.toBitVec_shiftRight]
  show (x.toBitVec.sshiftRight ((nI n &&& 31).toBitVec.smod 32).toNat).getLsbD i = _
  rw [ib_sl n hn, BitVec.getLsbD_sshiftRight, BitVec.msb_eq_getLsbD_last]
  simp [hi]
theorem ib_not (x : Int32) {i : Nat} (hi : i < 32) : ib_t (x ^^^ (-1)) i = !ib_t x i := by
  rw [ib_xor, ib_m1 i hi]
  cases ib_t x i <;> rfl
theorem ib_bit (x : Int32) {k : Nat} (hk : k < 32) : (x >>> (nI k &&& 31)) &&& 1 = if ib_t x k = true then 1 else 0 := by
  apply ib_ext
  intro i hi
  rw [ib_and, ib_sshr k hk x hi, ib_1 i hi]
  by_cases h : i = 0
  · subst h
    rw [if_pos (show k + 0 < 32 from hk)]
    show (ib_t x k && decide (0 = 0)) = _
    cases ib_t x k
    · rw [if_neg (by decide), ib_0]; rfl
    · rw [if_pos rfl, ib_1 0 (by decide)]; rfl
  · rw [decide_eq_false h, Bool.and_false]
    cases ib_t x k
    · rw [if_neg (by decide), ib_0]
    · rw [if_pos rfl, ib_1 i hi, decide_eq_false h]
theorem ib_bit1 (x : Int32) {k : Nat} (hk : k < 32) : (x >>> (nI k &&& 31)) &&& 1 = 1 ↔ ib_t x k = true := by
  rw [ib_bit x hk]
  cases ib_t x k
  · rw [if_neg (by decide)]; exact ⟨fun z => absurd z (by decide), fun z => absurd z (by decide)⟩
  · rw [if_pos rfl]; exact ⟨fun _ => rfl, fun _ => rfl⟩
theorem ib_bit0 (x : Int32) {k : Nat} (hk : k < 32) : (x >>> (nI k &&& 31)) &&& 1 = 0 ↔ ib_t x k = false := by
  rw [ib_bit x hk]
  cases ib_t x k
  · rw [if_neg (by decide)]; exact ⟨fun _ => rfl, fun _ => rfl⟩
  · rw [if_pos rfl]; exact ⟨fun z => absurd z (by decide), fun z => absurd z (by decide)⟩
theorem ib_one {k : Nat} (hk : k < 32) {i : Nat} (hi : i < 32) : ib_t ((1 : Int32) <<< (nI k &&& 31)) i = decide (i = k) := by
  rw [ib_shl k hk 1 hi, ib_1 (i - k) (by omega)]
  by_cases h : i = k
  · subst h
    rw [Nat.sub_self, decide_eq_true (Nat.le_refl i)]
    simp
  · rw [decide_eq_false h]
    by_cases g : k ≤ i
    · rw [decide_eq_false (show ¬ i - k = 0 by omega), Bool.and_false]
    · rw [decide_eq_false g, Bool.false_and]
/-- the set of the one variable p, or the empty set -/
def ib_P (p : Nat) (b : Bool) : Int32 := if b = true then (1 : Int32) <<< (nI p &&& 31) else 0
theorem ib_Pt {p : Nat} (hp : p < 32) (b : Bool) {i : Nat} (hi : i < 32) : ib_t (ib_P p b) i = (b && decide (i = p)) := by
  unfold ib_P
  cases b
  · rw [if_neg (by decide), ib_0, Bool.false_and]
  · rw [if_pos rfl, ib_one hp hi, Bool.true_and]
theorem ib_Por {p : Nat} (hp : p < 32) (a b : Bool) : ib_P p a ||| ib_P p b = ib_P p (a || b) := by
  apply ib_ext
  intro i hi
  rw [ib_or, ib_Pt hp a hi, ib_Pt hp b hi, ib_Pt hp (a || b) hi]
  cases a <;> cases b <;> cases decide (i = p) <;> rfl
theorem ib_Pand {p : Nat} (hp : p < 32) (a b : Bool) : ib_P p a &&& ib_P p b = ib_P p (a && b) := by
  apply ib_ext
  intro i hi
  rw [ib_and, ib_Pt hp a hi, ib_Pt hp b hi, ib_Pt hp (a && b) hi]
  cases a <;> cases b <;> cases decide (i = p) <;> rfl
theorem ib_Pandn {p : Nat} (hp : p < 32) (a b : Bool) : ib_P p a &&& (ib_P p b ^^^ (-1)) = ib_P p (a && !b) := by
  apply ib_ext
  intro i hi
  rw [ib_and, ib_not _ hi, ib_Pt hp a hi, ib_Pt hp b hi, ib_Pt hp (a && !b) hi]
  cases a <;> cases b <;> cases decide (i = p) <;> rfl
theorem ib_P0 {p : Nat} (hp : p < 32) (b : Bool) : ib_P p b = 0 ↔ b = false := by
  constructor
  · intro h
    have e := ib_Pt hp b hp
    rw [h, ib_0] at e
    cases b
    · rfl
    · simp at e
  · intro h
    subst h
    rfl
theorem ib_Pf (p : Nat) : ib_P p false = 0 := rfl
theorem ib_Pbit {p : Nat} (hp : p < 32) (b : Bool) {i : Nat} (hi : i < 32) : (ib_P p b >>> (nI i &&& 31)) &&& 1 = 1 ↔ (b = true ∧ i = p) := by
  rw [ib_bit1 _ hi, ib_Pt hp b hi, Bool.and_eq_true, decide_eq_true_iff]
theorem ib_nf {b : Bool} (h : ¬ b = false) : b = true := by
  cases b
  · exact absurd rfl h
  · rfl
theorem ib_nt {b : Bool} (h : ¬ b = true) : b = false := by
  cases b
  · rfl
  · exact absurd rfl h
/-- no bit, no number -/
theorem ib_none {x : Int32} (h : ∀ i, i < 32 → ib_t x i = false) : x = 0 := ib_ext (fun i hi => by rw [h i hi, ib_0])
theorem ib_some {x : Int32} (h : ¬ x = 0) : ∃ i, i < 32 ∧ ib_t x i = true := by
  apply Classical.byContradiction
  intro g
  apply h
  apply ib_none
  intro i hi
  cases e : ib_t x i
  · rfl
  · exact absurd ⟨i, hi, e⟩ g
end
section
/-! counting, 'some', the least closed set -/
def ic_n (f : Nat → Bool) : Nat → Nat
  | 0 => 0
  | k + 1 => ic_n f k + (if f k = true then 1 else 0)
theorem ic_le (f : Nat → Bool) : ∀ k, ic_n f k ≤ k := by
  intro k
  induction k with
  | zero => exact Nat.le_refl 0
  | succ k ih =>
    show ic_n f k + (if f k = true then 1 else 0) ≤ k + 1
    split <;> omega
theorem ic_mono {f g : Nat → Bool} : ∀ k, (∀ x, x < k → f x = true → g x = true) → ic_n f k ≤ ic_n g k := by
  intro k
  induction k with
  | zero => exact fun _ => Nat.le_refl 0
  | succ k ih =>
    intro h
    have h1 := ih (fun x hx => h x (by omega))
    have h2 := h k (by omega)
    show ic_n f k + (if f k = true then 1 else 0) ≤ ic_n g k + (if g k = true then 1 else 0)
    by_cases e : f k = true
    · rw [if_pos e, if_pos (h2 e)]; omega
    · rw [if_neg e]; omega
theorem ic_lt {f g : Nat → Bool} : ∀ k, (∀ x, x < k → f x = true → g x = true) → (∃ x, x < k ∧ f x = false ∧ g x = true) → ic_n f k < ic_n g k := by
  intro k
  induction k with
  | zero => exact fun _ ⟨x, hx, _⟩ => absurd hx (by omega)
  | succ k ih =>
    intro h ⟨x, hx, e1, e2⟩
    show ic_n f k + (if f k = true then 1 else 0) < ic_n g k + (if g k = true then 1 else 0)
    by_cases ex : x = k
    · subst ex
      have h1 := ic_mono x (fun y hy => h y (by omega))
      rw [if_pos e2, if_neg (by rw [e1]; decide)]
      omega
    · have h1 := ih (fun y hy => h y (by omega)) ⟨x, by omega, e1, e2⟩
      have h2 := h k (by omega)
      by_cases e : f k = true
      · rw [if_pos e, if_pos (h2 e)]; omega
      · rw [if_neg e]; omega
theorem ic_full {f : Nat → Bool} : ∀ k, k ≤ ic_n f k → ∀ x, x < k → f x = true := by
  intro k
  induction k with
  | zero => exact fun _ x hx => absurd hx (by omega)
  | succ k ih =>
    intro h x hx
    have h1 : k + 1 ≤ ic_n f k + (if f k = true then 1 else 0) := h
    have h2 := ic_le f k
    by_cases e : f k = true
    · rw [if_pos e] at h1
      by_cases ex : x = k
      · rw [ex]; exact e
      · exact ih (by omega) x (by omega)
    · rw [if_neg e] at h1
      omega
theorem ic_cut {f : Nat → Bool} {m : Nat} : ∀ k, m ≤ k → (∀ x, m ≤ x → x < k → f x = false) → ic_n f k = ic_n f m := by
  intro k
  induction k with
  | zero => intro h _; rw [show m = 0 by omega]
  | succ k ih =>
    intro h hf
    by_cases e : m = k + 1
    · rw [e]
    · show ic_n f k + (if f k = true then 1 else 0) = _
      rw [hf k (by omega) (by omega), if_neg (by decide), ih (by omega) (fun x h1 h2 => hf x h1 (by omega))]
      rfl
theorem ic_1 {f : Nat → Bool} {i k : Nat} (h : i < k) (e : f i = true) : 1 ≤ ic_n f k := by
  have := ic_lt (f := fun _ => false) (g := f) k (fun x _ z => absurd z (by decide)) ⟨i, h, rfl, e⟩
  omega
def ic_a (f : Nat → Bool) : Nat → Bool
  | 0 => false
  | k + 1 => ic_a f k || f k
theorem ic_aI {f : Nat → Bool} : ∀ {k x : Nat}, x < k → f x = true → ic_a f k = true := by
  intro k
  induction k with
  | zero => exact fun h => absurd h (by omega)
  | succ k ih =>
    intro x hx e
    show (ic_a f k || f k) = true
    by_cases ex : x = k
    · rw [← ex, e, Bool.or_true]
    · rw [ih (show x < k by omega) e, Bool.true_or]
theorem ic_aE {f : Nat → Bool} : ∀ {k : Nat}, ic_a f k = true → ∃ x, x < k ∧ f x = true := by
  intro k
  induction k with
  | zero => exact fun h => absurd (show false = true from h) (by decide)
  | succ k ih =>
    intro h
    have h' : (ic_a f k || f k) = true := h
    rw [Bool.or_eq_true] at h'
    rcases h' with g | g
    · obtain ⟨x, hx, e⟩ := ih g
      exact ⟨x, by omega, e⟩
    · exact ⟨k, by omega, g⟩
theorem ic_aF {f : Nat → Bool} {k : Nat} (h : ∀ x, x < k → f x = false) : ic_a f k = false := by
  cases e : ic_a f k
  · rfl
  · obtain ⟨x, hx, g⟩ := ic_aE e
    rw [h x hx] at g
    exact absurd g (by decide)
/-! liveness of one variable -/
/-- live at the end of x -/
def iv_E (T : Nat → Nat → Bool) (V : Nat → Bool) (x : Nat) : Bool := ic_a (fun z => T x z && V z) 12
/-- due at the begin of x -/
def iv_D (T : Nat → Nat → Bool) (U S V : Nat → Bool) (x : Nat) : Bool := U x || (iv_E T V x && !S x)
/-- V holds what is due -/
def iv_C (T : Nat → Nat → Bool) (U S V : Nat → Bool) : Prop := ∀ x, x < 12 → iv_D T U S V x = true → V x = true
/-- V is in every closed set -/
def iv_B (T : Nat → Nat → Bool) (U S V : Nat → Bool) : Prop := ∀ F : Nat → Bool, iv_C T U S F → ∀ x, x < 12 → V x = true → F x = true
def iv_L (T : Nat → Nat → Bool) (U S V : Nat → Bool) : Prop := iv_C T U S V ∧ iv_B T U S V
theorem iv_E_iff {T : Nat → Nat → Bool} {V : Nat → Bool} {x : Nat} : iv_E T V x = true ↔ ∃ z, z < 12 ∧ T x z = true ∧ V z = true := by
  constructor
  · intro h
    obtain ⟨z, hz, e⟩ := ic_aE h
    rw [Bool.and_eq_true] at e
    exact ⟨z, hz, e.1, e.2⟩
  · intro ⟨z, hz, e1, e2⟩
    exact ic_aI (f := fun z => T x z && V z) hz (by show (T x z && V z) = true; rw [e1, e2]; rfl)
theorem iv_D_iff {T : Nat → Nat → Bool} {U S V : Nat → Bool} {x : Nat} : iv_D T U S V x = true ↔ (U x = true ∨ (S x = false ∧ ∃ z, z < 12 ∧ T x z = true ∧ V z = true)) := by
  unfold iv_D
  rw [Bool.or_eq_true, Bool.and_eq_true, iv_E_iff, Bool.not_eq_true']
  constructor
  · intro h
    rcases h with h | h
    · exact Or.inl h
    · exact Or.inr ⟨h.2, h.1⟩
  · intro h
    rcases h with h | h
    · exact Or.inl h
    · exact Or.inr ⟨h.2, h.1⟩
/-- more sets, more due -/
theorem iv_D_mono {T : Nat → Nat → Bool} {U S V F : Nat → Bool} (h : ∀ z, z < 12 → V z = true → F z = true) {x : Nat} (e : iv_D T U S V x = true) : iv_D T U S F x = true := by
  rw [iv_D_iff] at e ⊢
  rcases e with e | ⟨e, z, hz, e1, e2⟩
  · exact Or.inl e
  · exact Or.inr ⟨e, z, hz, e1, h z hz e2⟩
theorem iv_L_eq {T : Nat → Nat → Bool} {U S V W : Nat → Bool} (h : iv_L T U S V) (g : iv_L T U S W) : ∀ x, x < 12 → V x = W x := by
  intro x hx
  have h1 := h.2 W g.1 x hx
  have h2 := g.2 V h.1 x hx
  cases e1 : V x
  · cases e2 : W x
    · rfl
    · rw [h2 e2] at e1; exact absurd e1 (by decide)
  · rw [h1 e1]
/-- a closed set's things put in: still in every closed set -/
theorem iv_B_add {T : Nat → Nat → Bool} {U S V V' : Nat → Bool} {y : Nat} (h : iv_B T U S V) (e : iv_D T U S V y = true) (hV : ∀ x, x < 12 → V' x = true → V x = true ∨ x = y) : iv_B T U S V' := by
  intro F hF x hx g
  rcases hV x hx g with g | g
  · exact h F hF x hx g
  · subst g
    exact hF x hx (iv_D_mono (fun z hz => h F hF z hz) e)
/-- what the four changes of the law do -/
theorem iv_arc {T T' : Nat → Nat → Bool} {U S V : Nat → Bool} {b : Nat} (hL : iv_L T U S V) (h1 : ∀ x y, T x y = true → T' x y = true) (h2 : ∀ x y, x ≠ b → T' x y = T x y) : (∀ y, y < 12 → y ≠ b → iv_D T' U S V y = true → V y = true) ∧ iv_B T' U S V := by
  constructor
  · intro y hy hb e
    apply hL.1 y hy
    rw [iv_D_iff] at e ⊢
    rcases e with e | ⟨e, z, hz, e1, e2⟩
    · exact Or.inl e
    · rw [h2 y z hb] at e1
      exact Or.inr ⟨e, z, hz, e1, e2⟩
  · intro F hF
    apply hL.2 F
    intro x hx e
    apply hF x hx
    rw [iv_D_iff] at e ⊢
    rcases e with e | ⟨e, z, hz, e1, e2⟩
    · exact Or.inl e
    · exact Or.inr ⟨e, z, hz, h1 x z e1, e2⟩
theorem iv_use {T : Nat → Nat → Bool} {U U' S V : Nat → Bool} {b : Nat} (hL : iv_L T U S V) (h1 : ∀ x, U x = true → U' x = true) (h2 : ∀ x, x ≠ b → U' x = U x) : (∀ y, y < 12 → y ≠ b → iv_D T U' S V y = true → V y = true) ∧ iv_B T U' S V := by
  constructor
  · intro y hy hb e
    apply hL.1 y hy
    rw [iv_D_iff] at e ⊢
    rcases e with e | e
    · rw [h2 y hb] at e; exact Or.inl e
    · exact Or.inr e
  · intro F hF
    apply hL.2 F
    intro x hx e
    apply hF x hx
    rw [iv_D_iff] at e ⊢
    rcases e with e | e
    · exact Or.inl (h1 x e)
    · exact Or.inr e
/-- b sets now, and wasn't live -/
theorem iv_set0 {T : Nat → Nat → Bool} {U S S' V : Nat → Bool} {b : Nat} (hL : iv_L T U S V) (h1 : ∀ x, S x = true → S' x = true) (h2 : ∀ x, x ≠ b → S' x = S x) (hb : V b = false) : iv_L T U S' V := by
  have mono : ∀ F x, iv_D T U S' F x = true → iv_D T U S F x = true := by
    intro F x e
    rw [iv_D_iff] at e ⊢
    rcases e with e | ⟨e, g⟩
    · exact Or.inl e
    · refine Or.inr ⟨?_, g⟩
      cases es : S x
      · rfl
      · rw [h1 x es] at e; exact absurd e (by decide)
  refine ⟨fun x hx e => hL.1 x hx (mono V x e), fun F hF x hx e => ?_⟩
  have key : iv_C T U S (fun z => F z && V z) := by
    intro y hy e
    have eV : V y = true := hL.1 y hy (iv_D_mono (fun z _ g => by rw [Bool.and_eq_true] at g; exact g.2) e)
    have nb : y ≠ b := by
      intro g
      rw [g, hb] at eV
      exact absurd eV (by decide)
    have eF : F y = true := by
      apply hF y hy
      have e' : iv_D T U S F y = true := iv_D_mono (fun z _ g => by rw [Bool.and_eq_true] at g; exact g.1) e
      rw [iv_D_iff] at e' ⊢
      rw [h2 y nb]
      exact e'
    show (F y && V y) = true
    rw [eF, eV]; rfl
  have := hL.2 _ key x hx e
  rw [Bool.and_eq_true] at this
  exact this.1
/-- b sets now: the region R (b in it, with all from which it can be come to) is emptied and filled again -/
theorem iv_set1 {T : Nat → Nat → Bool} {U S S' V V' R : Nat → Bool} {b : Nat} (hL : iv_L T U S V) (h2 : ∀ x, x ≠ b → S' x = S x)
    (hb : R b = true) (hR : ∀ x y, x < 12 → y < 12 → T x y = true → R y = true → R x = true)
    (hc : ∀ y, y < 12 → R y = true → iv_D T U S' V' y = true → V' y = true) (ho : ∀ y, y < 12 → R y = false → V' y = V y)
    (hB : ∀ F, iv_C T U S' F → (∀ x, x < 12 → R x = false → V x = true → F x = true) → ∀ x, x < 12 → V' x = true → F x = true) : iv_L T U S' V' := by
  constructor
  · intro y hy e
    cases eR : R y
    · rw [ho y hy eR]
      apply hL.1 y hy
      have nb : y ≠ b := by
        intro g
        rw [g, hb] at eR
        exact absurd eR (by decide)
      rw [iv_D_iff] at e ⊢
      rcases e with e | ⟨e, z, hz, e1, e2⟩
      · exact Or.inl e
      · rw [h2 y nb] at e
        refine Or.inr ⟨e, z, hz, e1, ?_⟩
        cases eZ : R z
        · rw [ho z hz eZ] at e2; exact e2
        · rw [hR y z hy hz e1 eZ] at eR; exact absurd eR (by decide)
    · exact hc y hy eR e
  · intro F hF
    apply hB F hF
    intro x hx eR eV
    have key : iv_C T U S (fun z => F z || R z) := by
      intro y hy e
      show (F y || R y) = true
      cases eR : R y
      · have nb : y ≠ b := by
          intro g
          rw [g, hb] at eR
          exact absurd eR (by decide)
        rw [Bool.or_false]
        apply hF y hy
        rw [iv_D_iff] at e ⊢
        rcases e with e | ⟨e, z, hz, e1, e2⟩
        · exact Or.inl e
        · rw [h2 y nb]
          refine Or.inr ⟨e, z, hz, e1, ?_⟩
          have e3 : (F z || R z) = true := e2
          cases eZ : R z
          · rw [eZ, Bool.or_false] at e3; exact e3
          · rw [hR y z hy hz e1 eZ] at eR; exact absurd eR (by decide)
      · rw [Bool.or_true]
    have g : (F x || R x) = true := hL.2 _ key x hx eV
    rw [eR, Bool.or_false] at g
    exact g
/-! reaching: the way there and the way back -/
/-- Z holds all from which b is come to, through blocks that don't set -/
def ir_Z (T : Nat → Nat → Bool) (S : Nat → Bool) (b : Nat) (Z : Nat → Bool) : Prop := (∀ x, x < 12 → T x b = true → Z x = true) ∧ (∀ x y, x < 12 → y < 12 → T x y = true → Z y = true → S y = false → Z x = true)
/-- F holds all to which a comes, through blocks that don't set -/
def ir_F (T : Nat → Nat → Bool) (S : Nat → Bool) (a : Nat) (F : Nat → Bool) : Prop := (∀ y, y < 12 → T a y = true → F y = true) ∧ (∀ x y, x < 12 → y < 12 → T x y = true → F x = true → S x = false → F y = true)
def ir_z (T : Nat → Nat → Bool) (S : Nat → Bool) (b x : Nat) : Prop := ∀ G : Nat → Bool, ir_Z T S b G → G x = true
def ir_f (T : Nat → Nat → Bool) (S : Nat → Bool) (a x : Nat) : Prop := ∀ G : Nat → Bool, ir_F T S a G → G x = true
noncomputable def ir_d (P : Prop) : Bool := @decide P (Classical.propDecidable P)
theorem ir_dI {P : Prop} (h : P) : ir_d P = true := @decide_eq_true P (Classical.propDecidable P) h
theorem ir_dE {P : Prop} (h : ir_d P = true) : P := @of_decide_eq_true P (Classical.propDecidable P) h
theorem ir_eq {T : Nat → Nat → Bool} {S : Nat → Bool} {a b : Nat} (ha : a < 12) (hb : b < 12) : ir_z T S b a ↔ ir_f T S a b := by
  constructor
  · intro h
    refine ir_dE (h (fun x => ir_d (ir_f T S x b)) ⟨fun x hx g => ir_dI (fun G hG => hG.1 b hb g), fun x y hx hy g1 g2 g3 => ir_dI (fun G hG => ?_)⟩)
    exact ir_dE g2 G ⟨fun w hw g => hG.2 y w hy hw g (hG.1 y hy g1) g3, hG.2⟩
  · intro h
    refine ir_dE (h (fun y => ir_d (ir_z T S y a)) ⟨fun y hy g => ir_dI (fun G hG => hG.1 a ha g), fun x y hx hy g1 g2 g3 => ir_dI (fun G hG => ?_)⟩)
    exact ir_dE g2 G ⟨fun w hw g => hG.2 w x hw hx g (hG.1 x hx g1) g3, hG.2⟩
end
section
/-! the state matches the picture: arcs T, uses U, sets S, live V, all of the one variable p -/
def iv_M (p : Nat) (T : Nat → Nat → Bool) (U S V : Nat → Bool) (a1 a2 a3 a4 a5 : Nat → Int32) : Prop :=
  (∀ x, x < 12 → ∀ i, i < 32 → ib_t (a1 x) i = T x i) ∧ (∀ x, x < 12 → ∀ i, i < 32 → ib_t (a2 x) i = T i x) ∧ (∀ x, x < 12 → a3 x = ib_P p (U x)) ∧ (∀ x, x < 12 → a4 x = ib_P p (S x)) ∧ (∀ x, x < 12 → a5 x = ib_P p (V x))
theorem iw_atEnd {post : Int32 → Prop} {p b : Nat} {T : Nat → Nat → Bool} {U S V : Nat → Bool} {a1 a2 a3 a4 a5 : Nat → Int32} (hp : p < 32) (hM : iv_M p T U S V a1 a2 a3 a4 a5) (hb : b < 12) (H : post (ib_P p (iv_E T V b))) : wpX_atEnd post (a1, a2, a3, a4, a5) (nI b) := by
  obtain ⟨m1, m2, m3, m4, m5⟩ := hM
  refine pk_loop (fun n i s => wX_atEnd_4 post (nI b) a1 a2 a3 a4 a5 n s (nI i)) (fun i s => s = ib_P p (ic_a (fun z => T b z && V z) i)) 12 0 0 (by omega) rfl ?_ ?_
  · intro n s h
    refine pk_le 12 12 (fun _ => ?_) (fun z => absurd z (by omega))
    rw [h]
    exact H
  · intro n i s hi h hw
    refine pk_le 12 i (fun z => absurd z (by omega)) (fun _ => ⟨pk_in b 12 hb, ?_⟩)
    rw [nI_clamp (show b < 2 ^ 31 by omega), nI_clamp (show i < 2 ^ 31 by omega), ib_bit1 (a1 b) (show i < 32 by omega), m1 b hb i (by omega)]
    refine br_c (fun e => ⟨pk_in i 12 hi, nm_r (e' := ib_P p (ic_a (fun z => T b z && V z) (i + 1))) ?_ (nm_r (nI_1 i) (hw _ rfl))⟩) (fun e => nm_r (nI_1 i) (hw _ ?_))
    · rw [h, m5 i hi, ib_Por hp]
      show _ = ib_P p (ic_a (fun z => T b z && V z) i || (T b i && V i))
      rw [e, Bool.true_and]
    · rw [h]
      show _ = ib_P p (ic_a (fun z => T b z && V z) i || (T b i && V i))
      rw [ib_nt e, Bool.false_and, Bool.or_false]
theorem iw_due {post : Int32 → Prop} {p b : Nat} {T : Nat → Nat → Bool} {U S V : Nat → Bool} {a1 a2 a3 a4 a5 : Nat → Int32} (hp : p < 32) (hM : iv_M p T U S V a1 a2 a3 a4 a5) (hb : b < 12) (H : post (ib_P p (iv_D T U S V b))) : wpX_due post (a1, a2, a3, a4, a5) (nI b) := by
  refine ⟨pk_in b 12 hb, iw_atEnd hp hM hb ⟨pk_in b 12 hb, ?_⟩⟩
  obtain ⟨m1, m2, m3, m4, m5⟩ := hM
  rw [nI_clamp (show b < 2 ^ 31 by omega), m3 b hb, m4 b hb, ib_Pandn hp, ib_Por hp]
  exact H
/-- one more block is live -/
def iv_up (V : Nat → Bool) (y : Nat) : Nat → Bool := fun x => V x || decide (x = y)
theorem iv_up_y (V : Nat → Bool) (y : Nat) : iv_up V y y = true := by
  show (V y || decide (y = y)) = true
  rw [decide_eq_true rfl, Bool.or_true]
theorem iv_up_n (V : Nat → Bool) {x y : Nat} (h : x ≠ y) : iv_up V y x = V x := by
  show (V x || decide (x = y)) = V x
  rw [decide_eq_false h, Bool.or_false]
theorem iv_up_le (V : Nat → Bool) (x y : Nat) (h : V x = true) : iv_up V y x = true := by
  show (V x || decide (x = y)) = true
  rw [h, Bool.true_or]
theorem iv_up_E (V : Nat → Bool) (x y : Nat) (h : iv_up V y x = true) : V x = true ∨ x = y := by
  by_cases e : x = y
  · exact Or.inr e
  · rw [iv_up_n V e] at h; exact Or.inl h
theorem iv_M_up {p y : Nat} {T : Nat → Nat → Bool} {U S V : Nat → Bool} {a1 a2 a3 a4 a5 : Nat → Int32} {v : Int32} (hM : iv_M p T U S V a1 a2 a3 a4 a5) (hv : v = ib_P p true) : iv_M p T U S (iv_up V y) a1 a2 a3 a4 (upd a5 y v) := by
  obtain ⟨m1, m2, m3, m4, m5⟩ := hM
  refine ⟨m1, m2, m3, m4, fun x hx => ?_⟩
  by_cases e : x = y
  · rw [e, pk_us, hv, iv_up_y]
  · rw [pk_un e, iv_up_n V e]; exact m5 x hx
/-- due where it wasn't: by the arc to the new one -/
theorem iv_D_up {T : Nat → Nat → Bool} {U S V : Nat → Bool} {x y : Nat} (h : iv_D T U S (iv_up V y) x = true) : iv_D T U S V x = true ∨ T x y = true := by
  rw [iv_D_iff] at h
  rcases h with e | ⟨e, z, hz, e1, e2⟩
  · exact Or.inl (iv_D_iff.mpr (Or.inl e))
  · rcases iv_up_E V z y e2 with g | g
    · exact Or.inl (iv_D_iff.mpr (Or.inr ⟨e, z, hz, e1, g⟩))
    · rw [g] at e1; exact Or.inr e1
/-- the inner loop of spread: state i, next block set s.1, live s.2, from the round's V0 and its waiting blocks o -/
def iw_I23 (p : Nat) (T : Nat → Nat → Bool) (U S V0 : Nat → Bool) (o : Int32) (a1 a2 a3 a4 : Nat → Int32) (i : Nat) (s : Int32 × (Nat → Int32)) : Prop :=
  ∃ V, iv_M p T U S V a1 a2 a3 a4 s.2 ∧ (∀ y, y < 12 → iv_D T U S V y = true → V y = false → (ib_t o y = true ∧ i ≤ y) ∨ ib_t s.1 y = true) ∧
    (s.1 = 0 ∨ ic_n V0 12 < ic_n V 12) ∧ ic_n V0 12 ≤ ic_n V 12 ∧ iv_B T U S V
theorem iw_sp23 {post : St2 → Prop} {J : Int32 → Int32 → (Nat → Int32) → (Nat → Int32) → (Nat → Int32) → (Nat → Int32) → (Nat → Int32) → Prop} {p r : Nat} {T : Nat → Nat → Bool} {U S V0 : Nat → Bool} {o : Int32} {a1 a2 a3 a4 a5 : Nat → Int32} (hp : p < 32)
    (h0 : iw_I23 p T U S V0 o a1 a2 a3 a4 0 (0, a5))
    (H : ∀ s, iw_I23 p T U S V0 o a1 a2 a3 a4 12 s → J s.1 (nI (r + 1)) a1 a2 a3 a4 s.2) : ∃ n, wX_spread_23 post J o (nI r) n 0 0 a1 a2 a3 a4 a5 := by
  refine pk_loop (fun n i (s : Int32 × (Nat → Int32)) => wX_spread_23 post J o (nI r) n s.1 (nI i) a1 a2 a3 a4 s.2) (iw_I23 p T U S V0 o a1 a2 a3 a4) 12 0 (0, a5) (by omega) h0 ?_ ?_
  · intro n s h
    exact pk_le 12 12 (fun _ => nm_r (nI_1 r) (H s h)) (fun z => absurd z (by omega))
  · intro n i s hi ⟨V, hM, hA, hC, hN, hB⟩ hw
    refine pk_le 12 i (fun z => absurd z (by omega)) (fun _ => ?_)
    rw [ib_bit1 o (show i < 32 by omega)]
    refine br_c (fun e => iw_due hp hM hi ⟨pk_in i 12 hi, ?_⟩) (fun e => nm_r (nI_1 i) (hw s ⟨V, hM, fun y hy d v => ?_, hC, hN, hB⟩))
    · have m5 := hM.2.2.2.2 i hi
      rw [nI_clamp (show i < 2 ^ 31 by omega), m5, ib_Pandn hp, ib_P0 hp]
      refine br_c (fun g => nm_r (nI_1 i) (hw s ⟨V, hM, fun y hy d v => ?_, hC, hN, hB⟩)) (fun g => ⟨pk_in i 12 hi, pk_in i 12 hi, nm_e ⟨pk_in i 12 hi, nm_e (nm_r (nI_1 i) (hw (s.1 ||| a2 i, upd s.2 i (ib_P p (V i) ||| ib_P p (iv_D T U S V i))) ?_))⟩⟩)
      · rcases hA y hy d v with ⟨k1, k2⟩ | k
        · by_cases ey : y = i
          · rw [ey] at d v
            rw [d, v] at g
            exact absurd g (by decide)
          · exact Or.inl ⟨k1, by omega⟩
        · exact Or.inr k
      · have g' : (iv_D T U S V i && !V i) = true := ib_nf g
        rw [Bool.and_eq_true, Bool.not_eq_true'] at g'
        have hlt : ic_n V 12 < ic_n (iv_up V i) 12 := ic_lt 12 (fun x _ => iv_up_le V x i) ⟨i, hi, g'.2, iv_up_y V i⟩
        refine ⟨iv_up V i, iv_M_up hM ?_, fun y hy d v => ?_, Or.inr (by omega), by omega, iv_B_add hB g'.1 (fun x _ => iv_up_E V x i)⟩
        · rw [g'.1, ib_Por hp, Bool.or_true]
        · show _ ∨ ib_t (s.1 ||| a2 i) y = true
          rw [ib_or, Bool.or_eq_true, hM.2.1 i hi y (by omega)]
          have ey : y ≠ i := by
            intro k
            rw [k, iv_up_y] at v
            exact absurd v (by decide)
          rw [iv_up_n V ey] at v
          rcases iv_D_up d with d | d
          · rcases hA y hy d v with ⟨k1, k2⟩ | k
            · exact Or.inl ⟨k1, by omega⟩
            · exact Or.inr (Or.inl k)
          · exact Or.inr (Or.inr d)
    · rcases hA y hy d v with ⟨k1, k2⟩ | k
      · refine Or.inl ⟨k1, ?_⟩
        by_cases ey : y = i
        · rw [ey] at k1; exact absurd k1 e
        · omega
      · exact Or.inr k
/-- spread's rounds: waiting blocks s.1, live s.2 -/
def iw_I6 (p : Nat) (T : Nat → Nat → Bool) (U S : Nat → Bool) (a1 a2 a3 a4 : Nat → Int32) (r : Nat) (s : Int32 × (Nat → Int32)) : Prop :=
  ∃ V, iv_M p T U S V a1 a2 a3 a4 s.2 ∧ (∀ y, y < 12 → iv_D T U S V y = true → V y = false → ib_t s.1 y = true) ∧ (s.1 = 0 ∨ r ≤ ic_n V 12) ∧ iv_B T U S V
theorem iw_spread {post : St2 → Prop} {p b : Nat} {T : Nat → Nat → Bool} {U S V : Nat → Bool} {a1 a2 a3 a4 a5 : Nat → Int32} (hp : p < 32) (hb : b < 12) (hM : iv_M p T U S V a1 a2 a3 a4 a5)
    (hA : ∀ y, y < 12 → y ≠ b → iv_D T U S V y = true → V y = true) (hB : iv_B T U S V)
    (H : ∀ V' a5', iv_M p T U S V' a1 a2 a3 a4 a5' → iv_L T U S V' → post (a1, a2, a3, a4, a5')) : wpX_spread post (a1, a2, a3, a4, a5) (nI b) := by
  have hx : ∀ s : Int32 × (Nat → Int32), s.1 = 0 → ∀ r, iw_I6 p T U S a1 a2 a3 a4 r s → post (a1, a2, a3, a4, s.2) := by
    intro s e r ⟨V', hM', hA', hC', hB'⟩
    refine H V' s.2 hM' ⟨fun x hx d => ?_, hB'⟩
    cases ev : V' x
    · have := hA' x hx d ev
      rw [e, ib_0] at this
      exact absurd this (by decide)
    · rfl
  refine nm_e (pk_loop (fun n i (s : Int32 × (Nat → Int32)) => wX_spread_6 post n s.1 (nI i) a1 a2 a3 a4 s.2) (iw_I6 p T U S a1 a2 a3 a4) 241 0 ((1 : Int32) <<< (nI b &&& 31), a5) (by omega) ⟨V, hM, fun y hy d v => ?_, Or.inr (Nat.zero_le _), hB⟩ ?_ ?_)
  · show ib_t ((1 : Int32) <<< (nI b &&& 31)) y = true
    rw [ib_one (by omega) (by omega)]
    by_cases e : y = b
    · exact decide_eq_true e
    · rw [hA y hy e d] at v; exact absurd v (by decide)
  · intro n s h
    have e : s.1 = 0 := by
      obtain ⟨V', _, _, hC', _⟩ := h
      rcases hC' with k | k
      · exact k
      · have := ic_le V' 12
        omega
    exact pk_le 241 241 (fun _ => hx s e _ h) (fun z => absurd z (by omega))
  · intro n r s hr h hw
    refine pk_le 241 r (fun z => absurd z (by omega)) (fun _ => br_c (fun e => hx s e _ h) (fun e => ?_))
    obtain ⟨V', hM', hA', hC', hB'⟩ := h
    refine iw_sp23 (V0 := V') hp ⟨V', hM', fun y hy d v => Or.inl ⟨hA' y hy d v, Nat.zero_le _⟩, Or.inl rfl, Nat.le_refl _, hB'⟩ (fun s' ⟨V2, hM2, hA2, hC2, hN2, hB2⟩ => hw s' ⟨V2, hM2, fun y hy d v => ?_, ?_, hB2⟩)
    · rcases hA2 y hy d v with ⟨_, k⟩ | k
      · exact absurd k (by omega)
      · exact k
    · rcases hC2 with k | k
      · exact Or.inl k
      · rcases hC' with k' | k'
        · exact absurd k' e
        · exact Or.inr (by omega)
end
section
/-! rounds of steps that only add: after N rounds over masks of N bits nothing is added any more -/
def ig_ok (N : Nat) (q : Int32) : Prop := ∀ i, i < 32 → ib_t q i = true → i < N
def ig_c (N : Nat) (q : Int32) : Nat := ic_n (ib_t q) N
def ig_S (F : Nat → Int32 → Int32) (k N : Nat) : Prop := ∀ j, j < k → ∀ q, ig_ok N q → ig_ok N (F j q) ∧ ∀ x, ib_t q x = true → ib_t (F j q) x = true
def ig_C (F : Nat → Int32 → Int32) (k : Nat) (q : Int32) : Prop := ∀ j, j < k → F j q = q
def ig_I (F : Nat → Int32 → Int32) (k N : Nat) (q0 : Int32) (x : Nat) (q : Int32) : Prop := ig_ok N q ∧ ((¬ ig_C F k q0 ∧ ig_c N q0 < ig_c N q) ∨ (q = q0 ∧ ∀ j, j < x → F j q0 = q0))
def ig_J (F : Nat → Int32 → Int32) (k N r x : Nat) (q : Int32) : Prop := ∃ q0, ig_ok N q0 ∧ (r ≤ ig_c N q0 ∨ ig_C F k q0) ∧ ig_I F k N q0 x q
theorem ig_start {F : Nat → Int32 → Int32} {k N : Nat} {q : Int32} (h : ig_ok N q) : ig_J F k N 0 0 q := ⟨q, h, Or.inl (Nat.zero_le _), h, Or.inr ⟨rfl, fun j hj => absurd hj (by omega)⟩⟩
theorem ig_step {F : Nat → Int32 → Int32} {k N r x : Nat} {q : Int32} (hS : ig_S F k N) (hx : x < k) (h : ig_J F k N r x q) : ig_J F k N r (x + 1) (F x q) := by
  obtain ⟨q0, h1, h2, h3, h4⟩ := h
  have s := hS x hx q h3
  refine ⟨q0, h1, h2, s.1, ?_⟩
  rcases h4 with ⟨g1, g2⟩ | ⟨g1, g2⟩
  · refine Or.inl ⟨g1, ?_⟩
    have := ic_mono (f := ib_t q) (g := ib_t (F x q)) N (fun y _ => s.2 y)
    unfold ig_c at g2 ⊢
    omega
  · rw [g1] at s ⊢
    by_cases e : F x q0 = q0
    · refine Or.inr ⟨e, fun j hj => ?_⟩
      by_cases ej : j = x
      · rw [ej]; exact e
      · exact g2 j (by omega)
    · refine Or.inl ⟨fun c => e (c x hx), ?_⟩
      apply ic_lt N (fun y _ => s.2 y)
      apply Classical.byContradiction
      intro ng
      apply e
      apply ib_ext
      intro i hi
      cases e1 : ib_t q0 i
      · cases e2 : ib_t (F x q0) i
        · rfl
        · exact absurd ⟨i, s.1 i hi e2, e1, e2⟩ ng
      · exact s.2 i e1
theorem ig_wrap {F : Nat → Int32 → Int32} {k N r : Nat} {q : Int32} (h : ig_J F k N r k q) : ig_J F k N (r + 1) 0 q := by
  obtain ⟨q0, h1, h2, h3, h4⟩ := h
  refine ⟨q, h3, ?_, h3, Or.inr ⟨rfl, fun j hj => absurd hj (by omega)⟩⟩
  rcases h4 with ⟨g1, g2⟩ | ⟨g1, g2⟩
  · rcases h2 with h2 | h2
    · exact Or.inl (by omega)
    · exact absurd h2 g1
  · rw [g1]
    exact Or.inr g2
theorem ig_end {F : Nat → Int32 → Int32} {k N : Nat} {q : Int32} (hS : ig_S F k N) (h : ig_J F k N N 0 q) : ig_C F k q := by
  obtain ⟨q0, h1, h2, h3, h4⟩ := h
  have key : ig_C F k q0 := by
    rcases h2 with h2 | h2
    · intro j hj
      have s := hS j hj q0 h1
      have full := ic_full (f := ib_t q0) N h2
      apply ib_ext
      intro i hi
      cases e1 : ib_t q0 i
      · cases e2 : ib_t (F j q0) i
        · rfl
        · rw [full i (s.1 i hi e2)] at e1; exact absurd e1 (by decide)
      · exact s.2 i e1
    · exact h2
  rcases h4 with ⟨g1, g2⟩ | ⟨g1, g2⟩
  · exact absurd key g1
  · rw [g1]; exact key
theorem ig_okJ {F : Nat → Int32 → Int32} {k N r x : Nat} {q : Int32} (h : ig_J F k N r x q) : ig_ok N q := by
  obtain ⟨q0, h1, h2, h3, h4⟩ := h
  exact h3
/-! behind -/
def iw_F (a2 : Nat → Int32) (j : Nat) (q : Int32) : Int32 := if ib_t q j = true then q ||| a2 j else q
theorem iw_FS {T : Nat → Nat → Bool} {a2 : Nat → Int32} (m2 : ∀ x, x < 12 → ∀ i, i < 32 → ib_t (a2 x) i = T i x) (hT : ∀ x y, T x y = true → x < 12) : ig_S (iw_F a2) 12 12 := by
  intro j hj q hq
  unfold iw_F
  by_cases e : ib_t q j = true
  · rw [if_pos e]
    refine ⟨fun i hi g => ?_, fun x g => ?_⟩
    · rw [ib_or, Bool.or_eq_true] at g
      rcases g with g | g
      · exact hq i hi g
      · rw [m2 j hj i hi] at g; exact hT i j g
    · rw [ib_or, g, Bool.true_or]
  · rw [if_neg e]
    exact ⟨hq, fun _ g => g⟩
theorem iw_behind {post : Int32 → Prop} {b : Nat} {T : Nat → Nat → Bool} {a1 a2 a3 a4 a5 : Nat → Int32} (hb : b < 12) (m2 : ∀ x, x < 12 → ∀ i, i < 32 → ib_t (a2 x) i = T i x) (hT : ∀ x y, T x y = true → x < 12)
    (H : ∀ q, ib_t q b = true → (∀ x y, x < 12 → y < 12 → T x y = true → ib_t q y = true → ib_t q x = true) → post q) : wpX_behind post (a1, a2, a3, a4, a5) (nI b) := by
  have hS := iw_FS m2 hT
  refine nm_e (pk_loop (fun n i s => wX_behind_6 post a1 a2 a3 a4 a5 n s (nI i)) (fun r s => ib_t s b = true ∧ ig_J (iw_F a2) 12 12 r 0 s) 12 0 ((1 : Int32) <<< (nI b &&& 31)) (by omega) ⟨?_, ig_start ?_⟩ ?_ ?_)
  · rw [ib_one (by omega) (by omega)]; exact decide_eq_true rfl
  · intro i hi e
    rw [ib_one (by omega) hi] at e
    rw [of_decide_eq_true e]; exact hb
  · intro n s ⟨h1, h2⟩
    refine pk_le 12 12 (fun _ => H s h1 (fun x y hx hy t e => ?_)) (fun z => absurd z (by omega))
    have c := ig_end hS h2 y hy
    unfold iw_F at c
    rw [if_pos e] at c
    rw [← c, ib_or, m2 y hy x (by omega), t, Bool.or_true]
  · intro n r s hr ⟨h1, h2⟩ hw
    refine pk_le 12 r (fun z => absurd z (by omega)) (fun _ => ?_)
    refine pk_loop (fun n' i s' => wX_behind_15 post (wX_behind_6 post a1 a2 a3 a4 a5 n) (nI r) a1 a2 a3 a4 a5 n' s' (nI i)) (fun i s' => ib_t s' b = true ∧ ig_J (iw_F a2) 12 12 r i s') 12 0 s (by omega) ⟨h1, h2⟩ ?_ ?_
    · intro n' s' ⟨k1, k2⟩
      exact pk_le 12 12 (fun _ => nm_r (nI_1 r) (hw s' ⟨k1, ig_wrap k2⟩)) (fun z => absurd z (by omega))
    · intro n' i s' hi ⟨k1, k2⟩ hw'
      refine pk_le 12 i (fun z => absurd z (by omega)) (fun _ => ?_)
      have st := ig_step hS hi k2
      have su := (hS i hi s' (ig_okJ k2)).2 b k1
      unfold iw_F at st su
      rw [ib_bit1 s' (show i < 32 by omega), nI_clamp (show i < 2 ^ 31 by omega)]
      refine br_c (fun e => ⟨pk_in i 12 hi, nm_e (nm_r (nI_1 i) (hw' _ ?_))⟩) (fun e => nm_r (nI_1 i) (hw' _ ?_))
      · rw [if_pos e] at st su
        exact ⟨su, st⟩
      · rw [if_neg e] at st su
        exact ⟨su, st⟩
/-! shrink -/
/-- V is in every closed set that Q takes -/
def iv_Q (T : Nat → Nat → Bool) (U S : Nat → Bool) (Q : (Nat → Bool) → Prop) (V : Nat → Bool) : Prop := ∀ F : Nat → Bool, iv_C T U S F → Q F → ∀ x, x < 12 → V x = true → F x = true
theorem iv_Q_add {T : Nat → Nat → Bool} {U S V V' : Nat → Bool} {Q : (Nat → Bool) → Prop} {y : Nat} (h : iv_Q T U S Q V) (e : iv_D T U S V y = true) (hV : ∀ x, x < 12 → V' x = true → V x = true ∨ x = y) : iv_Q T U S Q V' := by
  intro F hF hQ x hx g
  rcases hV x hx g with g | g
  · exact h F hF hQ x hx g
  · subst g
    exact hF x hx (iv_D_mono (fun z hz => h F hF hQ z hz) e)
/-- one round of the filling, from x = k - 1 down -/
def iw_I92 (p : Nat) (T : Nat → Nat → Bool) (U S Vr V0 R : Nat → Bool) (Q : (Nat → Bool) → Prop) (a1 a2 a3 a4 : Nat → Int32) (k : Nat) (s : Int32 × (Nat → Int32)) : Prop :=
  ∃ V, iv_M p T U S V a1 a2 a3 a4 s.2 ∧ (s.1 = 0 → ∀ y, y < 12 → k ≤ y → R y = true → iv_D T U S V y = true → V y = true) ∧
    (s.1 = 0 ∨ ic_n Vr 12 < ic_n V 12) ∧ ic_n Vr 12 ≤ ic_n V 12 ∧ (∀ y, y < 12 → R y = false → V y = V0 y) ∧ iv_Q T U S Q V
theorem iw_sh92 {post : St2 → Prop} {J : Int32 → Int32 → (Nat → Int32) → (Nat → Int32) → (Nat → Int32) → (Nat → Int32) → (Nat → Int32) → Prop} {p r : Nat} {T : Nat → Nat → Bool} {U S Vr V0 : Nat → Bool} {Q : (Nat → Bool) → Prop} {q : Int32} {a1 a2 a3 a4 a5 : Nat → Int32} (hp : p < 32)
    (h0 : iw_I92 p T U S Vr V0 (ib_t q) Q a1 a2 a3 a4 12 (0, a5))
    (H : ∀ s, iw_I92 p T U S Vr V0 (ib_t q) Q a1 a2 a3 a4 0 s → J s.1 (nI (r + 1)) a1 a2 a3 a4 s.2) : ∃ n, wX_shrink_92 post J (ib_P p true) q (nI r) n 0 11 a1 a2 a3 a4 a5 := by
  have e11 : (11 : Int32) = nI 12 + (-1) := by decide
  rw [e11]
  refine ⟨13, pk_loopD (fun n k (s : Int32 × (Nat → Int32)) => k ≤ 12 → wX_shrink_92 post J (ib_P p true) q (nI r) n s.1 (nI k + (-1)) a1 a2 a3 a4 s.2) (iw_I92 p T U S Vr V0 (ib_t q) Q a1 a2 a3 a4) ?_ ?_ 12 (0, a5) h0 (by omega)⟩
  · intro n s h _
    exact br_t (by decide) (nm_r (nI_1 r) (H s h))
  · intro n i s ⟨V, hM, hA, hC, hN, hO, hB⟩ hw hi
    show wX_shrink_92 post J (ib_P p true) q (nI r) (n + 1) s.1 (nI (i + 1) + (-1)) a1 a2 a3 a4 s.2
    rw [pk_m1]
    refine br_f (nI_pos (by omega)) ?_
    rw [ib_bit1 q (show i < 32 by omega)]
    refine br_c (fun e => iw_due hp hM (show i < 12 by omega) (nm_r (ib_Pand hp _ _) ⟨pk_in i 12 (by omega), ?_⟩)) (fun e => nm_e (hw s ⟨V, hM, fun z y hy ky rY d => ?_, hC, hN, hO, hB⟩ (by omega)))
    · have m5 := hM.2.2.2.2 i (by omega)
      rw [Bool.and_true, nI_clamp (show i < 2 ^ 31 by omega), m5, ib_Pandn hp, ib_P0 hp]
      refine br_c (fun g => nm_e (hw s ⟨V, hM, fun z y hy ky rY d => ?_, hC, hN, hO, hB⟩ (by omega))) (fun g => ⟨pk_in i 12 (by omega), pk_in i 12 (by omega), nm_e (nm_e (hw (1, upd s.2 i (ib_P p (V i) ||| ib_P p (iv_D T U S V i))) ?_ (by omega)))⟩)
      · by_cases ey : y = i
        · rw [ey] at d ⊢
          rw [d] at g
          cases ev : V i
          · rw [ev] at g; exact absurd g (by decide)
          · rfl
        · exact hA z y hy (by omega) rY d
      · have g' : (iv_D T U S V i && !V i) = true := ib_nf g
        rw [Bool.and_eq_true, Bool.not_eq_true'] at g'
        have hlt : ic_n V 12 < ic_n (iv_up V i) 12 := ic_lt 12 (fun x _ => iv_up_le V x i) ⟨i, by omega, g'.2, iv_up_y V i⟩
        refine ⟨iv_up V i, iv_M_up hM ?_, fun z => absurd (show (1 : Int32) = 0 from z) (by decide), Or.inr (by omega), by omega, fun y hy rY => ?_, iv_Q_add hB g'.1 (fun x _ => iv_up_E V x i)⟩
        · rw [g'.1, ib_Por hp, Bool.or_true]
        · have ey : y ≠ i := by
            intro k
            rw [k, e] at rY
            exact absurd rY (by decide)
          rw [iv_up_n V ey]
          exact hO y hy rY
    · by_cases ey : y = i
      · rw [ey] at rY; exact absurd rY e
      · exact hA z y hy (by omega) rY d
/-- the rounds of the filling -/
def iw_I72 (p : Nat) (T : Nat → Nat → Bool) (U S V0 R : Nat → Bool) (Q : (Nat → Bool) → Prop) (a1 a2 a3 a4 : Nat → Int32) (r : Nat) (s : Int32 × (Nat → Int32)) : Prop :=
  ∃ V, iv_M p T U S V a1 a2 a3 a4 s.2 ∧ (s.1 = 0 → ∀ y, y < 12 → R y = true → iv_D T U S V y = true → V y = true) ∧ (s.1 = 0 ∨ r ≤ ic_n V 12) ∧ (∀ y, y < 12 → R y = false → V y = V0 y) ∧ iv_Q T U S Q V
theorem iw_sh72 {post : St2 → Prop} {p : Nat} {T : Nat → Nat → Bool} {U S V0 : Nat → Bool} {Q : (Nat → Bool) → Prop} {q : Int32} {a1 a2 a3 a4 a5 : Nat → Int32} (hp : p < 32)
    (h0 : iw_I72 p T U S V0 (ib_t q) Q a1 a2 a3 a4 0 (1, a5))
    (H : ∀ V' a5', iv_M p T U S V' a1 a2 a3 a4 a5' → (∀ y, y < 12 → ib_t q y = true → iv_D T U S V' y = true → V' y = true) → (∀ y, y < 12 → ib_t q y = false → V' y = V0 y) → iv_Q T U S Q V' → post (a1, a2, a3, a4, a5')) : ∃ n, wX_shrink_72 post (ib_P p true) q n 1 0 a1 a2 a3 a4 a5 := by
  have hx : ∀ s : Int32 × (Nat → Int32), s.1 = 0 → ∀ r, iw_I72 p T U S V0 (ib_t q) Q a1 a2 a3 a4 r s → post (a1, a2, a3, a4, s.2) := by
    intro s e r ⟨V', hM', hA', hC', hO', hB'⟩
    exact H V' s.2 hM' (hA' e) hO' hB'
  refine pk_loop (fun n i (s : Int32 × (Nat → Int32)) => wX_shrink_72 post (ib_P p true) q n s.1 (nI i) a1 a2 a3 a4 s.2) (iw_I72 p T U S V0 (ib_t q) Q a1 a2 a3 a4) 241 0 (1, a5) (by omega) h0 ?_ ?_
  · intro n s h
    have e : s.1 = 0 := by
      obtain ⟨V', _, _, hC', _⟩ := h
      rcases hC' with k | k
      · exact k
      · have := ic_le V' 12
        omega
    exact pk_le 241 241 (fun _ => hx s e _ h) (fun z => absurd z (by omega))
  · intro n r s hr h hw
    refine pk_le 241 r (fun z => absurd z (by omega)) (fun _ => br_c (fun e => hx s e _ h) (fun e => ?_))
    obtain ⟨V', hM', hA', hC', hO', hB'⟩ := h
    refine iw_sh92 (Vr := V') (V0 := V0) (Q := Q) hp ⟨V', hM', fun _ y hy ky => absurd ky (by omega), Or.inl rfl, Nat.le_refl _, hO', hB'⟩ (fun s' ⟨V2, hM2, hA2, hC2, hN2, hO2, hB2⟩ => hw s' ⟨V2, hM2, fun z y hy => hA2 z y hy (Nat.zero_le _), ?_, hO2, hB2⟩)
    rcases hC2 with k | k
    · exact Or.inl k
    · rcases hC' with k' | k'
      · exact absurd k' e
      · exact Or.inr (by omega)
/-- the emptying -/
theorem iw_sh24 {post : St2 → Prop} {p : Nat} {T : Nat → Nat → Bool} {U S V : Nat → Bool} {q : Int32} {a1 a2 a3 a4 a5 : Nat → Int32} (hp : p < 32) (hM : iv_M p T U S V a1 a2 a3 a4 a5)
    (H : ∀ a5', iv_M p T U S (fun x => V x && !ib_t q x) a1 a2 a3 a4 a5' → ∃ n, wX_shrink_72 post (ib_P p true) q n 1 0 a1 a2 a3 a4 a5') : ∃ n, wX_shrink_24 post (ib_P p true) q n 0 a1 a2 a3 a4 a5 := by
  refine pk_loop (fun n i s => wX_shrink_24 post (ib_P p true) q n (nI i) a1 a2 a3 a4 s) (fun i s => iv_M p T U S (fun x => V x && !(ib_t q x && decide (x < i))) a1 a2 a3 a4 s) 12 0 a5 (by omega) ?_ ?_ ?_
  · obtain ⟨m1, m2, m3, m4, m5⟩ := hM
    refine ⟨m1, m2, m3, m4, fun x hx => ?_⟩
    show a5 x = ib_P p (V x && !(ib_t q x && decide (x < 0)))
    rw [decide_eq_false (by omega), Bool.and_false, m5 x hx]
    cases V x <;> rfl
  · intro n s ⟨m1, m2, m3, m4, m5⟩
    refine pk_le 12 12 (fun _ => H s ⟨m1, m2, m3, m4, fun x hx => ?_⟩) (fun z => absurd z (by omega))
    show s x = ib_P p (V x && !ib_t q x)
    have m := m5 x hx
    dsimp only at m
    rw [decide_eq_true hx, Bool.and_true] at m
    exact m
  · intro n i s hi ⟨m1, m2, m3, m4, m5⟩ hw
    refine pk_le 12 i (fun z => absurd z (by omega)) (fun _ => ?_)
    rw [ib_bit1 q (show i < 32 by omega), nI_clamp (show i < 2 ^ 31 by omega)]
    refine br_c (fun e => ⟨pk_in i 12 hi, pk_in i 12 hi, nm_e (nm_r (nI_1 i) (hw _ ⟨m1, m2, m3, m4, fun x hx => ?_⟩))⟩) (fun e => nm_r (nI_1 i) (hw _ ⟨m1, m2, m3, m4, fun x hx => ?_⟩))
    · show _ = ib_P p (V x && !(ib_t q x && decide (x < i + 1)))
      have m := m5 x hx
      dsimp only at m
      by_cases ex : x = i
      · subst ex
        rw [pk_us, m, ib_Pandn hp, e, decide_eq_true (Nat.lt_succ_self x)]
        cases V x <;> cases decide (x < x) <;> rfl
      · rw [pk_un ex, m]
        by_cases lx : x < i
        · rw [decide_eq_true lx, decide_eq_true (show x < i + 1 by omega)]
        · rw [decide_eq_false lx, decide_eq_false (show ¬ x < i + 1 by omega)]
    · show _ = ib_P p (V x && !(ib_t q x && decide (x < i + 1)))
      have m := m5 x hx
      dsimp only at m
      rw [m]
      by_cases ex : x = i
      · subst ex
        rw [ib_nt e, Bool.false_and, Bool.false_and]
      · by_cases lx : x < i
        · rw [decide_eq_true lx, decide_eq_true (show x < i + 1 by omega)]
        · rw [decide_eq_false lx, decide_eq_false (show ¬ x < i + 1 by omega)]
/-- shrink: either nothing is lost, or a region round b is emptied and filled again -/
theorem iw_shrink {post : St2 → Prop} {p b : Nat} {f : Bool} {T : Nat → Nat → Bool} {U S V : Nat → Bool} {a1 a2 a3 a4 a5 : Nat → Int32} (hp : p < 32) (hb : b < 12) (hM : iv_M p T U S V a1 a2 a3 a4 a5) (hT : ∀ x y, T x y = true → x < 12)
    (H0 : (f && V b) = false → post (a1, a2, a3, a4, a5))
    (H1 : f = true → V b = true → ∀ (R V' : Nat → Bool) a5', iv_M p T U S V' a1 a2 a3 a4 a5' → R b = true → (∀ x y, x < 12 → y < 12 → T x y = true → R y = true → R x = true) →
      (∀ y, y < 12 → R y = true → iv_D T U S V' y = true → V' y = true) → (∀ y, y < 12 → R y = false → V' y = V y) →
      (∀ F, iv_C T U S F → (∀ x, x < 12 → R x = false → V x = true → F x = true) → ∀ x, x < 12 → V' x = true → F x = true) → post (a1, a2, a3, a4, a5')) :
    wpX_shrink post (a1, a2, a3, a4, a5) (nI b) (ib_P p f) := by
  refine ⟨pk_in b 12 hb, ?_⟩
  rw [nI_clamp (show b < 2 ^ 31 by omega), hM.2.2.2.2 b hb, ib_Pand hp]
  refine nm_e ?_
  rw [ib_P0 hp]
  refine br_c (fun e => H0 e) (fun e => ?_)
  have e' : (f && V b) = true := ib_nf e
  rw [e']
  rw [Bool.and_eq_true] at e'
  refine iw_behind hb hM.2.1 hT (fun q qb qc => iw_sh24 hp hM (fun a5' hM' => ?_))
  refine iw_sh72 (V0 := V) (Q := fun F => ∀ x, x < 12 → ib_t q x = false → V x = true → F x = true) hp ⟨_, hM', fun z => absurd (show (1 : Int32) = 0 from z) (by decide), Or.inr (Nat.zero_le _), fun y hy rY => ?_, fun F hF hQ x hx g => ?_⟩ (fun V' a5'' hM'' c1 c2 c3 => H1 e'.1 e'.2 (ib_t q) V' a5'' hM'' qb qc c1 c2 c3)
  · show (V y && !ib_t q y) = V y
    rw [rY]; cases V y <;> rfl
  · have g' : (V x && !ib_t q x) = true := g
    rw [Bool.and_eq_true, Bool.not_eq_true'] at g'
    exact hQ x hx g'.2 g'.1
end
section
/-! arc, use, set -/
theorem iw_bad {post : Int32 → Prop} {b : Nat} {a1 a2 a3 a4 a5 : Nat → Int32} (hb : b < 12) (H : post 0) : wpX_bad post (a1, a2, a3, a4, a5) (nI b) :=
  br_f (nI_pos (by omega)) (pk_lt b 12 (fun _ => H) (fun z => absurd z (by omega)))
theorem iw_badV {post : Int32 → Prop} {b : Nat} {a1 a2 a3 a4 a5 : Nat → Int32} (hb : b < 20) (H : post 0) : wpX_badVariable post (a1, a2, a3, a4, a5) (nI b) :=
  br_f (nI_pos (by omega)) (pk_lt b 20 (fun _ => H) (fun z => absurd z (by omega)))
theorem iv_M_arc {p b c : Nat} {T T' : Nat → Nat → Bool} {U S V : Nat → Bool} {a1 a2 a3 a4 a5 : Nat → Int32} (hM : iv_M p T U S V a1 a2 a3 a4 a5) (hb : b < 12) (hc : c < 12)
    (hT' : ∀ x y, T' x y = (T x y || (decide (x = b) && decide (y = c)))) : iv_M p T' U S V (upd a1 b (a1 b ||| ((1 : Int32) <<< (nI c &&& 31)))) (upd a2 c (a2 c ||| ((1 : Int32) <<< (nI b &&& 31)))) a3 a4 a5 := by
  obtain ⟨m1, m2, m3, m4, m5⟩ := hM
  refine ⟨fun x hx i hi => ?_, fun x hx i hi => ?_, m3, m4, m5⟩
  · rw [hT']
    by_cases e : x = b
    · subst e
      rw [pk_us, ib_or, m1 x hx i hi, ib_one (by omega) hi, decide_eq_true (rfl : x = x), Bool.true_and]
    · rw [pk_un e, m1 x hx i hi, decide_eq_false e, Bool.false_and, Bool.or_false]
  · rw [hT']
    by_cases e : x = c
    · subst e
      rw [pk_us, ib_or, m2 x hx i hi, ib_one (by omega) hi, decide_eq_true (rfl : x = x), Bool.and_true]
    · rw [pk_un e, m2 x hx i hi, decide_eq_false e, Bool.and_false, Bool.or_false]
theorem iw_arc {post : Int32 → St2 → Prop} {p b c : Nat} {on : Bool} {w : Int32} {T T' : Nat → Nat → Bool} {U S V : Nat → Bool} {a1 a2 a3 a4 a5 : Nat → Int32} (hp : p < 32) (hb : b < 12) (hc : c < 12) (hw : w = 0 ↔ on = false)
    (hM : iv_M p T U S V a1 a2 a3 a4 a5) (hL : iv_L T U S V) (hn : T b c = false) (hT' : ∀ x y, T' x y = (T x y || (on && (decide (x = b) && decide (y = c)))))
    (H : ∀ r V' a1' a2' a5', iv_M p T' U S V' a1' a2' a3 a4 a5' → iv_L T' U S V' → post r (a1', a2', a3, a4, a5')) : wpX_arc post (a1, a2, a3, a4, a5) (nI b) (nI c) w := by
  unfold wpX_arc
  dsimp only
  refine iw_bad hb (br_t rfl ?_)
  refine iw_bad hc (br_t rfl ⟨pk_in b 12 hb, nm_e ?_⟩)
  rw [hw]
  have hbit : ib_t (a1 b) c = false := by rw [hM.1 b hb c (by omega)]; exact hn
  cases on with
  | false =>
    have e : T' = T := by
      funext x y
      rw [hT' x y, Bool.false_and, Bool.or_false]
    refine br_t rfl ⟨pk_in b 12 hb, br_f ?_ ?_⟩
    · rw [nI_clamp (show b < 2 ^ 31 by omega), ib_bit1 (a1 b) (show c < 32 by omega), hbit]; decide
    · rw [e] at H
      exact H _ V a1 a2 a5 hM hL
  | true =>
    have hT2 : ∀ x y, T' x y = (T x y || (decide (x = b) && decide (y = c))) := by
      intro x y
      rw [hT' x y, Bool.true_and]
    refine br_f (by decide) ⟨pk_in b 12 hb, br_t ?_ ⟨pk_in b 12 hb, pk_in b 12 hb, nm_e ⟨pk_in c 12 hc, pk_in c 12 hc, nm_e ?_⟩⟩⟩
    · rw [nI_clamp (show b < 2 ^ 31 by omega), ib_bit0 (a1 b) (show c < 32 by omega), hbit]
    · rw [nI_clamp (show b < 2 ^ 31 by omega), nI_clamp (show c < 2 ^ 31 by omega)]
      have hA := iv_arc (T' := T') (b := b) hL (fun x y e => by rw [hT2 x y, e, Bool.true_or]) (fun x y e => by rw [hT2 x y, decide_eq_false e, Bool.false_and, Bool.or_false])
      exact iw_spread hp hb (iv_M_arc hM hb hc hT2) hA.1 hA.2 (fun V' a5' hM' hL' => H _ V' _ _ a5' hM' hL')
theorem iv_M_change {p b : Nat} {T : Nat → Nat → Bool} {U U' S S' V : Nat → Bool} {a1 a2 a3 a4 a5 : Nat → Int32} (hM : iv_M p T U S V a1 a2 a3 a4 a5) (u2 : ∀ x, x ≠ b → U' x = U x) (s2 : ∀ x, x ≠ b → S' x = S x) : iv_M p T U' S' V a1 a2 (upd a3 b (ib_P p (U' b))) (upd a4 b (ib_P p (S' b))) a5 := by
  obtain ⟨m1, m2, m3, m4, m5⟩ := hM
  refine ⟨m1, m2, fun x hx => ?_, fun x hx => ?_, m5⟩
  · by_cases e : x = b
    · rw [e, pk_us]
    · rw [pk_un e, u2 x e]; exact m3 x hx
  · by_cases e : x = b
    · rw [e, pk_us]
    · rw [pk_un e, s2 x e]; exact m4 x hx
theorem iw_change {post : St2 → Prop} {p b : Nat} {T : Nat → Nat → Bool} {U U' S S' V : Nat → Bool} {a1 a2 a3 a4 a5 : Nat → Int32} (hp : p < 32) (hb : b < 12)
    (hM : iv_M p T U S V a1 a2 a3 a4 a5) (hL : iv_L T U S V) (hT : ∀ x y, T x y = true → x < 12) (u1 : ∀ x, U x = true → U' x = true) (u2 : ∀ x, x ≠ b → U' x = U x) (s1 : ∀ x, S x = true → S' x = true) (s2 : ∀ x, x ≠ b → S' x = S x) (hc : S' = S ∨ U' = U)
    (H : ∀ V' a3' a4' a5', iv_M p T U' S' V' a1 a2 a3' a4' a5' → iv_L T U' S' V' → post (a1, a2, a3', a4', a5')) : wpX_change post (a1, a2, a3, a4, a5) (nI b) (ib_P p (U' b)) (ib_P p (S' b)) := by
  refine ⟨pk_in b 12 hb, pk_in b 12 hb, ?_⟩
  have ef : ((a3 (nI b).toNatClampNeg) &&& (ib_P p (U' b) ^^^ (-1))) ||| (ib_P p (S' b) &&& ((a4 (nI b).toNatClampNeg) ^^^ (-1))) = ib_P p (S' b && !S b) := by
    rw [nI_clamp (show b < 2 ^ 31 by omega), hM.2.2.1 b hb, hM.2.2.2.1 b hb, ib_Pandn hp, ib_Pandn hp, ib_Por hp]
    have h := u1 b
    cases e1 : U b
    · rfl
    · rw [h e1]; rfl
  refine nm_r ef ⟨pk_in b 12 hb, nm_e ⟨pk_in b 12 hb, nm_e ?_⟩⟩
  rw [nI_clamp (show b < 2 ^ 31 by omega)]
  have hM' := iv_M_change hM u2 s2
  have go : ∀ (P : St2 → Prop), (∀ V' a3' a4' a5', iv_M p T U' S' V' a1 a2 a3' a4' a5' → iv_L T U' S' V' → P (a1, a2, a3', a4', a5')) → ∀ V' a5', iv_M p T U' S' V' a1 a2 (upd a3 b (ib_P p (U' b))) (upd a4 b (ib_P p (S' b))) a5' → (∀ y, y < 12 → y ≠ b → iv_D T U' S' V' y = true → V' y = true) → iv_B T U' S' V' → wpX_spread P (a1, a2, upd a3 b (ib_P p (U' b)), upd a4 b (ib_P p (S' b)), a5') (nI b) :=
    fun P hP V' a5' k1 k2 k3 => iw_spread hp hb k1 k2 k3 (fun V2 a52 l1 l2 => hP V2 _ _ a52 l1 l2)
  rcases hc with hc | hc
  · subst hc
    have hA := iv_use hL u1 u2
    refine iw_shrink hp hb hM' hT (fun _ => go _ (fun V2 b3 b4 b5 l1 l2 => H V2 b3 b4 b5 l1 l2) V a5 hM' hA.1 hA.2) (fun f => ?_)
    cases e : S' b <;> rw [e] at f <;> exact absurd f (by decide)
  · subst hc
    refine iw_shrink hp hb hM' hT (fun f => ?_) (fun f vb R V' a5' k1 k2 k3 k4 k5 k6 => ?_)
    · have hL' : iv_L T U' S' V := by
        cases vb : V b
        · exact iv_set0 hL s1 s2 vb
        · have eS : S' = S := by
            funext x
            by_cases e : x = b
            · subst e
              rw [vb, Bool.and_true] at f
              cases e1 : S x
              · rw [e1] at f
                cases e2 : S' x
                · rfl
                · rw [e2] at f; exact absurd f (by decide)
              · exact s1 x e1
            · exact s2 x e
          rw [eS]; exact hL
      exact go _ (fun V2 b3 b4 b5 l1 l2 => H V2 b3 b4 b5 l1 l2) V a5 hM' (fun y hy _ d => hL'.1 y hy d) hL'.2
    · have hL' : iv_L T U' S' V' := iv_set1 hL s2 k2 k3 k4 k5 k6
      exact go _ (fun V2 b3 b4 b5 l1 l2 => H V2 b3 b4 b5 l1 l2) V' a5' k1 (fun y hy _ d => hL'.1 y hy d) hL'.2
theorem iw_use {post : Int32 → St2 → Prop} {p b : Nat} {on : Bool} {w : Int32} {T : Nat → Nat → Bool} {U U' S V : Nat → Bool} {a1 a2 a3 a4 a5 : Nat → Int32} (hp : p < 20) (hb : b < 12) (hw : w = 0 ↔ on = false)
    (hM : iv_M p T U S V a1 a2 a3 a4 a5) (hL : iv_L T U S V) (hT : ∀ x y, T x y = true → x < 12) (hn : U b = false) (hU' : ∀ x, U' x = (U x || (on && decide (x = b))))
    (H : ∀ r V' a3' a4' a5', iv_M p T U' S V' a1 a2 a3' a4' a5' → iv_L T U' S V' → post r (a1, a2, a3', a4', a5')) : wpX_use post (a1, a2, a3, a4, a5) (nI b) (nI p) w := by
  have eU : U' b = on := by rw [hU' b, hn, decide_eq_true rfl, Bool.and_true, Bool.false_or]
  have go : ∀ P : St2 → Prop, (∀ V' a3' a4' a5', iv_M p T U' S V' a1 a2 a3' a4' a5' → iv_L T U' S V' → P (a1, a2, a3', a4', a5')) → wpX_change P (a1, a2, a3, a4, a5) (nI b) (ib_P p on) (ib_P p (S b)) := by
    intro P hP
    rw [← eU]
    exact iw_change (by omega) hb hM hL hT (fun x e => by rw [hU' x, e, Bool.true_or]) (fun x e => by rw [hU' x, decide_eq_false e, Bool.and_false, Bool.or_false]) (fun _ e => e) (fun _ _ => rfl) (Or.inl rfl) hP
  have e3 : (a3 (nI b).toNatClampNeg) &&& (((1 : Int32) <<< (nI p &&& 31)) ^^^ (-1)) = ib_P p false := by
    rw [nI_clamp (show b < 2 ^ 31 by omega), hM.2.2.1 b hb, hn]
    exact ib_Pandn (show p < 32 by omega) false true
  have e4 : a4 (nI b).toNatClampNeg = ib_P p (S b) := by
    rw [nI_clamp (show b < 2 ^ 31 by omega)]; exact hM.2.2.2.1 b hb
  unfold wpX_use
  dsimp only
  refine iw_bad hb (br_t rfl ?_)
  refine iw_badV hp (br_t rfl ⟨pk_in b 12 hb, nm_e ⟨pk_in b 12 hb, nm_r e3 ?_⟩⟩)
  rw [hw]
  cases on with
  | false =>
    refine br_t rfl ⟨pk_in b 12 hb, ?_⟩
    rw [e4]
    exact go _ (fun V' b3 b4 b5 k1 k2 => H _ V' b3 b4 b5 k1 k2)
  | true =>
    refine br_f (by decide) ⟨pk_in b 12 hb, ?_⟩
    rw [e4, show ib_P p false ||| ((1 : Int32) <<< (nI p &&& 31)) = ib_P p true from ib_Por (show p < 32 by omega) false true]
    exact go _ (fun V' b3 b4 b5 k1 k2 => H _ V' b3 b4 b5 k1 k2)
theorem iw_set {post : Int32 → St2 → Prop} {p b : Nat} {on : Bool} {w : Int32} {T : Nat → Nat → Bool} {U S S' V : Nat → Bool} {a1 a2 a3 a4 a5 : Nat → Int32} (hp : p < 20) (hb : b < 12) (hw : w = 0 ↔ on = false)
    (hM : iv_M p T U S V a1 a2 a3 a4 a5) (hL : iv_L T U S V) (hT : ∀ x y, T x y = true → x < 12) (hn : S b = false) (hS' : ∀ x, S' x = (S x || (on && decide (x = b))))
    (H : ∀ r V' a3' a4' a5', iv_M p T U S' V' a1 a2 a3' a4' a5' → iv_L T U S' V' → post r (a1, a2, a3', a4', a5')) : wpX_set post (a1, a2, a3, a4, a5) (nI b) (nI p) w := by
  have eS : S' b = on := by rw [hS' b, hn, decide_eq_true rfl, Bool.and_true, Bool.false_or]
  have go : ∀ P : St2 → Prop, (∀ V' a3' a4' a5', iv_M p T U S' V' a1 a2 a3' a4' a5' → iv_L T U S' V' → P (a1, a2, a3', a4', a5')) → wpX_change P (a1, a2, a3, a4, a5) (nI b) (ib_P p (U b)) (ib_P p on) := by
    intro P hP
    rw [← eS]
    exact iw_change (by omega) hb hM hL hT (fun _ e => e) (fun _ _ => rfl) (fun x e => by rw [hS' x, e, Bool.true_or]) (fun x e => by rw [hS' x, decide_eq_false e, Bool.and_false, Bool.or_false]) (Or.inr rfl) hP
  have e4 : (a4 (nI b).toNatClampNeg) &&& (((1 : Int32) <<< (nI p &&& 31)) ^^^ (-1)) = ib_P p false := by
    rw [nI_clamp (show b < 2 ^ 31 by omega), hM.2.2.2.1 b hb, hn]
    exact ib_Pandn (show p < 32 by omega) false true
  have e3 : a3 (nI b).toNatClampNeg = ib_P p (U b) := by
    rw [nI_clamp (show b < 2 ^ 31 by omega)]; exact hM.2.2.1 b hb
  unfold wpX_set
  dsimp only
  refine iw_bad hb (br_t rfl ?_)
  refine iw_badV hp (br_t rfl ⟨pk_in b 12 hb, nm_e ⟨pk_in b 12 hb, nm_r e4 ⟨pk_in b 12 hb, ?_⟩⟩⟩)
  rw [hw, e3]
  cases on with
  | false => exact br_t rfl (go _ (fun V' b3 b4 b5 k1 k2 => H _ V' b3 b4 b5 k1 k2))
  | true =>
    rw [show ib_P p false ||| ((1 : Int32) <<< (nI p &&& 31)) = ib_P p true from ib_Por (show p < 32 by omega) false true]
    exact br_f (by decide) (go _ (fun V' b3 b4 b5 k1 k2 => H _ V' b3 b4 b5 k1 k2))
end
section
/-! the questions -/
theorem iw_liveBlocks {post : Int32 → Prop} {p : Nat} {T : Nat → Nat → Bool} {U S V : Nat → Bool} {a1 a2 a3 a4 a5 : Nat → Int32} (hp : p < 20) (hM : iv_M p T U S V a1 a2 a3 a4 a5)
    (H : ∀ q, (∀ i, i < 32 → ib_t q i = (decide (i < 12) && V i)) → post q) : wpX_liveBlocks post (a1, a2, a3, a4, a5) (nI p) := by
  unfold wpX_liveBlocks
  dsimp only
  refine iw_badV hp (br_t rfl (pk_loop (fun n i s => wX_liveBlocks_14 post (nI p) a1 a2 a3 a4 a5 n s (nI i)) (fun i s => ∀ j, j < 32 → ib_t s j = (decide (j < i) && V j)) 12 0 0 (by omega) ?_ ?_ ?_))
  · intro j hj
    rw [ib_0, decide_eq_false (by omega), Bool.false_and]
  · intro n s h
    exact pk_le 12 12 (fun _ => H s h) (fun z => absurd z (by omega))
  · intro n i s hi h hw
    refine pk_le 12 i (fun z => absurd z (by omega)) (fun _ => ⟨pk_in i 12 hi, ?_⟩)
    rw [nI_clamp (show i < 2 ^ 31 by omega), hM.2.2.2.2 i hi, ib_Pbit (by omega) _ (show p < 32 by omega)]
    refine br_c (fun e => nm_e (nm_r (nI_1 i) (hw _ (fun j hj => ?_)))) (fun e => nm_r (nI_1 i) (hw _ (fun j hj => ?_)))
    · rw [ib_or, h j hj, ib_one (by omega) hj]
      by_cases ej : j = i
      · rw [ej, e.1, decide_eq_true rfl, decide_eq_true (Nat.lt_succ_self i), Bool.or_true]; rfl
      · rw [decide_eq_false ej, Bool.or_false]
        by_cases lx : j < i
        · rw [decide_eq_true lx, decide_eq_true (show j < i + 1 by omega)]
        · rw [decide_eq_false lx, decide_eq_false (show ¬ j < i + 1 by omega)]
    · rw [h j hj]
      by_cases ej : j = i
      · have ev : V i = false := by
          cases k : V i
          · rfl
          · exact absurd ⟨k, rfl⟩ e
        rw [ej, ev, Bool.and_false, Bool.and_false]
      · by_cases lx : j < i
        · rw [decide_eq_true lx, decide_eq_true (show j < i + 1 by omega)]
        · rw [decide_eq_false lx, decide_eq_false (show ¬ j < i + 1 by omega)]
theorem iw_liveOut {post : Int32 → Prop} {p b : Nat} {T : Nat → Nat → Bool} {U S V : Nat → Bool} {a1 a2 a3 a4 a5 : Nat → Int32} (hp : p < 32) (hM : iv_M p T U S V a1 a2 a3 a4 a5) (hb : b < 12) (H : post (ib_P p (iv_E T V b))) : wpX_liveOut post (a1, a2, a3, a4, a5) (nI b) := by
  unfold wpX_liveOut
  dsimp only
  exact iw_bad hb (br_t rfl (iw_atEnd hp hM hb H))
theorem iw_sizeOf {post : Int32 → Prop} {p : Nat} {b : Bool} {a1 a2 a3 a4 a5 : Nat → Int32} (hp : p < 20) (H : post (nI (if b = true then 1 else 0))) : wpX_sizeOf post (a1, a2, a3, a4, a5) (ib_P p b) := by
  refine pk_loop (fun n i s => wX_sizeOf_4 post (ib_P p b) a1 a2 a3 a4 a5 n s (nI i)) (fun i s => s = nI (if (b = true ∧ p < i) then 1 else 0)) 20 0 0 (by omega) ?_ ?_ ?_
  · rw [if_neg (by omega)]; rfl
  · intro n s h
    refine pk_le 20 20 (fun _ => ?_) (fun z => absurd z (by omega))
    rw [h]
    have e : (if (b = true ∧ p < 20) then 1 else 0) = (if b = true then 1 else 0) := by
      cases b
      · rfl
      · rw [if_pos ⟨rfl, hp⟩, if_pos rfl]
    rw [e]
    exact H
  · intro n i s hi h hw
    refine pk_le 20 i (fun z => absurd z (by omega)) (fun _ => nm_r (e' := nI (if (b = true ∧ p < i + 1) then 1 else 0)) ?_ (nm_r (nI_1 i) (hw _ rfl)))
    rw [ib_bit _ (show i < 32 by omega), ib_Pt (by omega) b (show i < 32 by omega), h]
    cases b
    · rw [if_neg (by simp), if_neg (by simp), if_neg (by simp)]; rfl
    · by_cases e : i = p
      · rw [if_neg (by omega), if_pos (by rw [decide_eq_true e]; rfl), if_pos ⟨rfl, by omega⟩]; rfl
      · rw [decide_eq_false e, Bool.and_false, if_neg (show ¬ false = true by decide)]
        by_cases lx : p < i
        · rw [if_pos ⟨rfl, lx⟩, if_pos ⟨rfl, by omega⟩]; rfl
        · rw [if_neg (fun z => lx z.2), if_neg (fun z => by have := z.2; omega)]; rfl
theorem iw_idleSets {post : Int32 → Prop} {p : Nat} {T : Nat → Nat → Bool} {U S V : Nat → Bool} {a1 a2 a3 a4 a5 : Nat → Int32} (hp : p < 20) (hM : iv_M p T U S V a1 a2 a3 a4 a5) (H : post (nI (ic_n (fun x => S x && !iv_E T V x) 12))) : wpX_idleSets post (a1, a2, a3, a4, a5) := by
  refine pk_loop (fun n i s => wX_idleSets_4 post a1 a2 a3 a4 a5 n s (nI i)) (fun i s => s = nI (ic_n (fun x => S x && !iv_E T V x) i)) 12 0 0 (by omega) rfl ?_ ?_
  · intro n s h
    refine pk_le 12 12 (fun _ => ?_) (fun z => absurd z (by omega))
    rw [h]; exact H
  · intro n i s hi h hw
    refine pk_le 12 i (fun z => absurd z (by omega)) (fun _ => iw_atEnd (by omega) hM hi ⟨pk_in i 12 hi, ?_⟩)
    rw [nI_clamp (show i < 2 ^ 31 by omega), hM.2.2.2.1 i hi, ib_Pandn (by omega)]
    refine iw_sizeOf hp (nm_r (e' := nI (ic_n (fun x => S x && !iv_E T V x) (i + 1))) ?_ (nm_r (nI_1 i) (hw _ rfl)))
    rw [h, nI_add]
    rfl
theorem iw_pressure {post : Int32 → Prop} {p : Nat} {T : Nat → Nat → Bool} {U S V : Nat → Bool} {a1 a2 a3 a4 a5 : Nat → Int32} (hp : p < 20) (hM : iv_M p T U S V a1 a2 a3 a4 a5) (H : post (nI (if ic_a V 12 = true then 1 else 0))) : wpX_pressure post (a1, a2, a3, a4, a5) := by
  refine pk_loop (fun n i s => wX_pressure_4 post a1 a2 a3 a4 a5 n s (nI i)) (fun i s => s = nI (if ic_a V i = true then 1 else 0)) 12 0 0 (by omega) rfl ?_ ?_
  · intro n s h
    refine pk_le 12 12 (fun _ => ?_) (fun z => absurd z (by omega))
    rw [h]; exact H
  · intro n i s hi h hw
    refine pk_le 12 i (fun z => absurd z (by omega)) (fun _ => ⟨pk_in i 12 hi, ?_⟩)
    rw [nI_clamp (show i < 2 ^ 31 by omega), hM.2.2.2.2 i hi]
    refine iw_sizeOf hp ?_
    subst h
    have st : ic_a V (i + 1) = (ic_a V i || V i) := rfl
    cases e1 : V i
    · refine br_t ?_ (nm_r (nI_1 i) (hw _ ?_))
      · rw [if_neg (by decide)]
        exact nI_le (Nat.zero_le _) (by split <;> decide)
      · rw [st, e1, Bool.or_false]
    · cases e2 : ic_a V i
      · refine br_f (by decide) (nm_r (nI_1 i) (hw _ ?_))
        rw [st, e1, Bool.or_true]
      · refine br_t (by decide) (nm_r (nI_1 i) (hw _ ?_))
        rw [st, e2, Bool.true_or]
theorem ib_shr0 {p v : Nat} {c : Bool} (hp : p < 20) (hv : v < 20) (h : c = true → v = p) : ib_P p c >>> (nI (v + 1) &&& 31) = ib_P p false := by
  cases c
  · apply ib_ext
    intro i hi
    rw [ib_sshr (v + 1) (by omega) _ hi, ib_Pf, ib_0, ib_0, ib_0]
    split <;> rfl
  · have e := h rfl
    subst e
    apply ib_ext
    intro i hi
    rw [ib_sshr (v + 1) (by omega) _ hi, ib_Pf, ib_0]
    split
    · rw [ib_Pt (by omega) true (by omega), decide_eq_false (by omega)]; rfl
    · rw [ib_Pt (by omega) true (by omega), decide_eq_false (by omega)]; rfl
theorem iw_crowded {post : Int32 → Prop} {p : Nat} {T : Nat → Nat → Bool} {U S V : Nat → Bool} {a1 a2 a3 a4 a5 : Nat → Int32} (hp : p < 20) (hM : iv_M p T U S V a1 a2 a3 a4 a5) (H : post 0) : wpX_crowded post (a1, a2, a3, a4, a5) := by
  refine pk_loop (fun n i s => wX_crowded_4 post a1 a2 a3 a4 a5 n s (nI i)) (fun i s => s = 0) 20 0 0 (by omega) rfl ?_ ?_
  · intro n s h
    refine pk_le 20 20 (fun _ => ?_) (fun z => absurd z (by omega))
    rw [h]; exact H
  · intro n v s hv h hw
    refine pk_le 20 v (fun z => absurd z (by omega)) (fun _ => ?_)
    refine pk_loop (fun n' i s' => wX_crowded_15 post (wX_crowded_4 post a1 a2 a3 a4 a5 n) s (nI v) a1 a2 a3 a4 a5 n' s' (nI i)) (fun i s' => ∃ c : Bool, s' = ib_P p c ∧ (c = true → v = p)) 12 0 0 (by omega) ⟨false, rfl, fun z => absurd z (by decide)⟩ ?_ ?_
    · intro n' s' ⟨c, h1, h2⟩
      refine pk_le 12 12 (fun _ => ?_) (fun z => absurd z (by omega))
      rw [nI_1, h1, ib_shr0 hp hv h2]
      refine iw_sizeOf hp (nm_r (e' := 0) ?_ (nm_e (hw _ rfl)))
      rw [h]; rfl
    · intro n' i s' hi ⟨c, h1, h2⟩ hw'
      refine pk_le 12 i (fun z => absurd z (by omega)) (fun _ => ⟨pk_in i 12 hi, ?_⟩)
      rw [nI_clamp (show i < 2 ^ 31 by omega), hM.2.2.2.2 i hi, ib_Pbit (by omega) _ (show v < 32 by omega)]
      refine br_c (fun e => ⟨pk_in i 12 hi, nm_e (nm_r (nI_1 i) (hw' _ ⟨c || V i, ?_, fun _ => e.2⟩))⟩) (fun e => nm_r (nI_1 i) (hw' _ ⟨c, h1, h2⟩))
      rw [h1, ib_Por (by omega)]
/-! reaching -/
theorem iw_re54 {post : Int32 → Prop} {J : Int32 → Int32 → Int32 → Prop} {p r : Nat} {se o : Int32} {T : Nat → Nat → Bool} {U S V : Nat → Bool} {a1 a2 a3 a4 a5 : Nat → Int32} (hp : p < 32) (hM : iv_M p T U S V a1 a2 a3 a4 a5)
    (H : ∀ q, (∀ x, x < 32 → (ib_t q x = true ↔ ∃ y, y < 12 ∧ ib_t o y = true ∧ S y = false ∧ T x y = true)) → J se (q &&& (se ^^^ (-1))) (nI (r + 1))) : ∃ n, wX_reaching_54 post J (nI p) se o (nI r) a1 a2 a3 a4 a5 n 0 0 := by
  refine pk_loop (fun n i s => wX_reaching_54 post J (nI p) se o (nI r) a1 a2 a3 a4 a5 n s (nI i)) (fun i s => ∀ x, x < 32 → (ib_t s x = true ↔ ∃ y, y < i ∧ ib_t o y = true ∧ S y = false ∧ T x y = true)) 12 0 0 (by omega) ?_ ?_ ?_
  · intro x hx
    rw [ib_0]
    exact ⟨fun z => absurd z (by decide), fun ⟨y, hy, _⟩ => absurd hy (by omega)⟩
  · intro n s h
    exact pk_le 12 12 (fun _ => nm_e (nm_r (nI_1 r) (H s h))) (fun z => absurd z (by omega))
  · intro n i s hi h hw
    refine pk_le 12 i (fun z => absurd z (by omega)) (fun _ => ?_)
    have stay : ¬ (ib_t o i = true ∧ S i = false) → ∀ x, x < 32 → (ib_t s x = true ↔ ∃ y, y < i + 1 ∧ ib_t o y = true ∧ S y = false ∧ T x y = true) := by
      intro hn x hx
      rw [h x hx]
      constructor
      · intro ⟨y, hy, k⟩
        exact ⟨y, by omega, k⟩
      · intro ⟨y, hy, k⟩
        by_cases e : y = i
        · rw [e] at k; exact absurd ⟨k.1, k.2.1⟩ hn
        · exact ⟨y, by omega, k⟩
    rw [ib_bit1 o (show i < 32 by omega), nI_clamp (show i < 2 ^ 31 by omega), hM.2.2.2.1 i hi, ib_bit0 _ hp, ib_Pt hp _ hp, decide_eq_true rfl, Bool.and_true]
    refine br_c (fun e => ⟨pk_in i 12 hi, br_c (fun g => ⟨pk_in i 12 hi, nm_e (nm_r (nI_1 i) (hw _ (fun x hx => ?_)))⟩) (fun g => nm_r (nI_1 i) (hw _ (stay (fun z => g z.2))))⟩) (fun e => nm_r (nI_1 i) (hw _ (stay (fun z => e z.1))))
    rw [ib_or, Bool.or_eq_true, h x hx, hM.2.1 i hi x hx]
    constructor
    · intro k
      rcases k with ⟨y, hy, k⟩ | k
      · exact ⟨y, by omega, k⟩
      · exact ⟨i, by omega, e, g, k⟩
    · intro ⟨y, hy, k⟩
      by_cases ey : y = i
      · rw [ey] at k; exact Or.inr k.2.2
      · exact Or.inl ⟨y, by omega, k⟩
theorem iw_re124 {post : Int32 → Prop} {p : Nat} {se : Int32} {T : Nat → Nat → Bool} {U S V : Nat → Bool} {a1 a2 a3 a4 a5 : Nat → Int32} (hp : p < 32) (hM : iv_M p T U S V a1 a2 a3 a4 a5)
    (H : ∀ q, (∀ x, x < 32 → ib_t q x = (decide (x < 12) && (ib_t se x && S x))) → post q) : ∃ n, wX_reaching_124 post (nI p) se a1 a2 a3 a4 a5 n 0 0 := by
  refine pk_loop (fun n i s => wX_reaching_124 post (nI p) se a1 a2 a3 a4 a5 n s (nI i)) (fun i s => ∀ x, x < 32 → ib_t s x = (decide (x < i) && (ib_t se x && S x))) 12 0 0 (by omega) ?_ ?_ ?_
  · intro x hx
    rw [ib_0, decide_eq_false (by omega), Bool.false_and]
  · intro n s h
    exact pk_le 12 12 (fun _ => H s h) (fun z => absurd z (by omega))
  · intro n i s hi h hw
    refine pk_le 12 i (fun z => absurd z (by omega)) (fun _ => ?_)
    have stay : (ib_t se i && S i) = false → ∀ x, x < 32 → ib_t s x = (decide (x < i + 1) && (ib_t se x && S x)) := by
      intro hn x hx
      rw [h x hx]
      by_cases e : x = i
      · rw [e, hn, Bool.and_false, Bool.and_false]
      · by_cases lx : x < i
        · rw [decide_eq_true lx, decide_eq_true (show x < i + 1 by omega)]
        · rw [decide_eq_false lx, decide_eq_false (show ¬ x < i + 1 by omega)]
    rw [ib_bit1 se (show i < 32 by omega), nI_clamp (show i < 2 ^ 31 by omega), hM.2.2.2.1 i hi, ib_bit1 _ hp, ib_Pt hp _ hp, decide_eq_true rfl, Bool.and_true]
    refine br_c (fun e => ⟨pk_in i 12 hi, br_c (fun g => nm_e (nm_r (nI_1 i) (hw _ (fun x hx => ?_)))) (fun g => nm_r (nI_1 i) (hw _ (stay (by rw [ib_nt g, Bool.and_false]))))⟩) (fun e => nm_r (nI_1 i) (hw _ (stay (by rw [ib_nt e, Bool.false_and]))))
    rw [ib_or, h x hx, ib_one (by omega) hx]
    by_cases ex : x = i
    · rw [ex, decide_eq_true rfl, decide_eq_true (Nat.lt_succ_self i), e, g, Bool.or_true]; rfl
    · rw [decide_eq_false ex, Bool.or_false]
      by_cases lx : x < i
      · rw [decide_eq_true lx, decide_eq_true (show x < i + 1 by omega)]
      · rw [decide_eq_false lx, decide_eq_false (show ¬ x < i + 1 by omega)]
/-- the rounds of reaching: seen s.1, waiting s.2 -/
def iw_I31 (T : Nat → Nat → Bool) (S : Nat → Bool) (b : Nat) (r : Nat) (s : Int32 × Int32) : Prop :=
  (∀ x, x < 12 → T x b = true → ib_t s.1 x = true ∨ ib_t s.2 x = true) ∧ (∀ x y, x < 12 → y < 12 → T x y = true → ib_t s.1 y = true → S y = false → ib_t s.1 x = true ∨ ib_t s.2 x = true) ∧
  (∀ x, x < 32 → ib_t s.1 x = true ∨ ib_t s.2 x = true → x < 12 ∧ ir_z T S b x) ∧ (s.2 = 0 ∨ r ≤ ic_n (ib_t s.1) 12) ∧ (∀ x, x < 32 → ib_t s.2 x = true → ib_t s.1 x = false)
theorem iw_reaching {post : Int32 → Prop} {p b : Nat} {T : Nat → Nat → Bool} {U S V : Nat → Bool} {a1 a2 a3 a4 a5 : Nat → Int32} (hp : p < 20) (hb : b < 12) (hM : iv_M p T U S V a1 a2 a3 a4 a5) (hT : ∀ x y, T x y = true → x < 12)
    (H : ∀ q, (∀ x, x < 12 → (ib_t q x = true ↔ (ir_z T S b x ∧ S x = true))) → post q) : wpX_reaching post (a1, a2, a3, a4, a5) (nI b) (nI p) := by
  have fin : ∀ s : Int32 × Int32, s.2 = 0 → ∀ r, iw_I31 T S b r s → ∃ n, wX_reaching_124 post (nI p) s.1 a1 a2 a3 a4 a5 n 0 0 := by
    intro s e r ⟨c1, c2, c3, c4, c5⟩
    have no : ∀ x, ¬ ib_t s.2 x = true := by
      intro x
      rw [e, ib_0]; decide
    have cl : ir_Z T S b (ib_t s.1) := ⟨fun x hx t => (c1 x hx t).resolve_right (no x), fun x y hx hy t z1 z2 => (c2 x y hx hy t z1 z2).resolve_right (no x)⟩
    refine iw_re124 (by omega) hM (fun q hq => H q (fun x hx => ?_))
    rw [hq x (by omega), decide_eq_true hx, Bool.true_and, Bool.and_eq_true]
    exact ⟨fun k => ⟨(c3 x (by omega) (Or.inl k.1)).2, k.2⟩, fun k => ⟨k.1 _ cl, k.2⟩⟩
  unfold wpX_reaching
  dsimp only
  refine iw_bad hb (br_t rfl ?_)
  refine iw_badV hp (br_t rfl ⟨pk_in b 12 hb, nm_e ?_⟩)
  rw [nI_clamp (show b < 2 ^ 31 by omega)]
  refine pk_loop (fun n i (s : Int32 × Int32) => wX_reaching_31 post (nI p) a1 a2 a3 a4 a5 n s.1 s.2 (nI i)) (iw_I31 T S b) 13 0 (0, a2 b) (by omega) ⟨fun x hx t => Or.inr ?_, fun x y _ _ _ z => ?_, fun x hx z => ?_, Or.inr (Nat.zero_le _), fun x _ _ => ib_0 x⟩ ?_ ?_
  · show ib_t (a2 b) x = true
    rw [hM.2.1 b hb x (by omega)]; exact t
  · have z' : ib_t 0 y = true := z
    rw [ib_0] at z'; exact absurd z' (by decide)
  · have z' : ib_t 0 x = true ∨ ib_t (a2 b) x = true := z
    rw [ib_0, hM.2.1 b hb x hx] at z'
    rcases z' with z' | z'
    · exact absurd z' (by decide)
    · exact ⟨hT x b z', fun G hG => hG.1 x (hT x b z') z'⟩
  · intro n s h
    have e : s.2 = 0 := by
      obtain ⟨_, _, _, k, _⟩ := h
      rcases k with k | k
      · exact k
      · have := ic_le (ib_t s.1) 12
        omega
    exact pk_lt 12 13 (fun _ => fin s e _ h) (fun z => absurd z (by omega))
  · intro n r s hr h hw
    refine pk_lt 12 r (fun z => absurd z (by omega)) (fun _ => br_c (fun e => fin s e _ h) (fun e => nm_e ?_))
    obtain ⟨c1, c2, c3, c4, c5⟩ := h
    refine iw_re54 (by omega) hM (fun q hq => hw (s.1 ||| s.2, q &&& ((s.1 ||| s.2) ^^^ (-1))) ⟨fun x hx t => Or.inl ?_, fun x y hx hy t z1 z2 => ?_, fun x hx z => ?_, Or.inr ?_, fun x hx z => ?_⟩)
    · show ib_t (s.1 ||| s.2) x = true
      rw [ib_or, Bool.or_eq_true]; exact c1 x hx t
    · show ib_t (s.1 ||| s.2) x = true ∨ ib_t (q &&& ((s.1 ||| s.2) ^^^ (-1))) x = true
      have z1' : ib_t (s.1 ||| s.2) y = true := z1
      rw [ib_or, Bool.or_eq_true] at z1'
      by_cases k : ib_t (s.1 ||| s.2) x = true
      · exact Or.inl k
      · refine Or.inr ?_
        rw [ib_and, ib_not _ (show x < 32 by omega), Bool.and_eq_true, Bool.not_eq_true']
        refine ⟨?_, ib_nt k⟩
        rcases z1' with z1' | z1'
        · have := c2 x y hx hy t z1' z2
          rw [ib_or, Bool.or_eq_true] at k
          exact absurd this k
        · exact (hq x (by omega)).mpr ⟨y, hy, z1', z2, t⟩
    · have z' : ib_t (s.1 ||| s.2) x = true ∨ ib_t (q &&& ((s.1 ||| s.2) ^^^ (-1))) x = true := z
      rcases z' with z' | z'
      · rw [ib_or, Bool.or_eq_true] at z'
        exact c3 x hx z'
      · rw [ib_and, Bool.and_eq_true] at z'
        obtain ⟨y, hy, k1, k2, k3⟩ := (hq x hx).mp z'.1
        have ky := (c3 y (by omega) (Or.inr k1)).2
        exact ⟨hT x y k3, fun G hG => hG.2 x y (hT x y k3) hy k3 (ky G hG) k2⟩
    · show r + 1 ≤ ic_n (ib_t (s.1 ||| s.2)) 12
      obtain ⟨x, hx, ex⟩ := ib_some e
      have lt : ic_n (ib_t s.1) 12 < ic_n (ib_t (s.1 ||| s.2)) 12 := ic_lt 12 (fun y _ g => by rw [ib_or, g, Bool.true_or]) ⟨x, (c3 x hx (Or.inr ex)).1, c5 x hx ex, by rw [ib_or, ex, Bool.or_true]⟩
      rcases c4 with k | k
      · exact absurd k e
      · omega
    · show ib_t (s.1 ||| s.2) x = false
      have z' : ib_t (q &&& ((s.1 ||| s.2) ^^^ (-1))) x = true := z
      rw [ib_and, ib_not _ hx, Bool.and_eq_true, Bool.not_eq_true'] at z'
      exact z'.2
end
section
/-! the law's pictures: arcs A (16 bits), uses u and sets t (4 bits each) -/
def il_T (A : Int32) (m x y : Nat) : Bool := decide (x < 4 ∧ y < 4 ∧ 4 * x + y < m) && ib_t A (4 * x + y)
def il_U (u : Int32) (m x : Nat) : Bool := decide (x < m) && ib_t u x
def il_R (A : Int32) (b : Nat) : Int32 := (A >>> ((4 * nI b) &&& 31)) &&& 15
def il_i (b : Bool) : Int32 := if b = true then 1 else 0
theorem il_Tlt {A : Int32} {m x y : Nat} (h : il_T A m x y = true) : x < 4 ∧ y < 4 := by
  unfold il_T at h
  rw [Bool.and_eq_true] at h
  have := of_decide_eq_true h.1
  exact ⟨this.1, this.2.1⟩
theorem il_T12 {A : Int32} {m : Nat} : ∀ x y, il_T A m x y = true → x < 12 := fun x y h => by
  have := (il_Tlt h).1
  omega
theorem il_row {A : Int32} {b i : Nat} (hb : b < 4) (hi : i < 32) : ib_t (il_R A b) i = il_T A 16 b i := by
  unfold il_R il_T
  rw [show (4 : Int32) * nI b = nI (4 * b) from pk_mul 4 b, ib_and, ib_15 i hi, ib_sshr (4 * b) (by omega) A hi]
  by_cases h : i < 4
  · rw [if_pos (by omega), decide_eq_true h, decide_eq_true (show b < 4 ∧ i < 4 ∧ 4 * b + i < 16 by omega), Bool.and_true, Bool.true_and]
  · rw [decide_eq_false h, decide_eq_false (fun z => h z.2.1), Bool.and_false, Bool.false_and]
theorem il_Tstep {A : Int32} {b c : Nat} (hb : b < 4) (hc : c < 4) : ∀ x y, il_T A (4 * b + (c + 1)) x y = (il_T A (4 * b + c) x y || (ib_t A (4 * b + c) && (decide (x = b) && decide (y = c)))) := by
  intro x y
  unfold il_T
  by_cases e : x = b ∧ y = c
  · obtain ⟨e1, e2⟩ := e
    subst e1 e2
    rw [decide_eq_true (show x < 4 ∧ y < 4 ∧ 4 * x + y < 4 * x + (y + 1) by omega), decide_eq_true (rfl : x = x), decide_eq_true (rfl : y = y), Bool.true_and, Bool.and_true, Bool.and_true]
    cases ib_t A (4 * x + y)
    · rw [Bool.and_false]; rfl
    · rw [Bool.or_true]
  · have e' : (decide (x = b) && decide (y = c)) = false := by
      cases k : (decide (x = b) && decide (y = c))
      · rfl
      · rw [Bool.and_eq_true, decide_eq_true_iff, decide_eq_true_iff] at k
        exact absurd k e
    rw [e', Bool.and_false, Bool.or_false]
    by_cases g : x < 4 ∧ y < 4 ∧ 4 * x + y < 4 * b + c
    · rw [decide_eq_true g, decide_eq_true (show x < 4 ∧ y < 4 ∧ 4 * x + y < 4 * b + (c + 1) by omega)]
    · rw [decide_eq_false g, decide_eq_false (show ¬ (x < 4 ∧ y < 4 ∧ 4 * x + y < 4 * b + (c + 1)) by omega)]
theorem il_Tn {A : Int32} {b c : Nat} : il_T A (4 * b + c) b c = false := by
  unfold il_T
  rw [decide_eq_false (by omega), Bool.false_and]
theorem il_Ustep {u : Int32} {b : Nat} : ∀ x, il_U u (b + 1) x = (il_U u b x || (ib_t u b && decide (x = b))) := by
  intro x
  unfold il_U
  by_cases e : x = b
  · subst e
    rw [decide_eq_true (Nat.lt_succ_self x), decide_eq_true (rfl : x = x), decide_eq_false (Nat.lt_irrefl x), Bool.false_and, Bool.true_and, Bool.and_true, Bool.false_or]
  · rw [decide_eq_false e, Bool.and_false, Bool.or_false]
    by_cases g : x < b
    · rw [decide_eq_true g, decide_eq_true (show x < b + 1 by omega)]
    · rw [decide_eq_false g, decide_eq_false (show ¬ x < b + 1 by omega)]
theorem il_Un {u : Int32} {b : Nat} : il_U u b b = false := by
  unfold il_U
  rw [decide_eq_false (Nat.lt_irrefl b), Bool.false_and]
theorem il_U4 {u : Int32} {x : Nat} (h : x < 4) : il_U u 4 x = ib_t u x := by
  unfold il_U
  rw [decide_eq_true h, Bool.true_and]
theorem il_ok15 (x : Int32) : ig_ok 4 (x &&& 15) := by
  intro i hi h
  rw [ib_and, ib_15 i hi, Bool.and_eq_true] at h
  exact of_decide_eq_true h.2
theorem il_okR {A : Int32} {b : Nat} : ig_ok 4 (il_R A b) := il_ok15 _
/-- some block behind a is live -/
theorem il_and0 {A q : Int32} {a : Nat} {V : Nat → Bool} (ha : a < 4) (hq : ∀ x, x < 12 → ib_t q x = V x) : (il_R A a &&& q) = 0 ↔ iv_E (il_T A 16) V a = false := by
  constructor
  · intro h
    apply ic_aF
    intro z hz
    show (il_T A 16 a z && V z) = false
    rw [← il_row ha (show z < 32 by omega), ← hq z hz, ← ib_and, h, ib_0]
  · intro h
    apply ib_none
    intro i hi
    rw [ib_and, il_row ha hi]
    cases e : il_T A 16 a i
    · rfl
    · have lt := (il_Tlt e).2
      cases e2 : ib_t q i
      · rfl
      · have : iv_E (il_T A 16) V a = true := iv_E_iff.mpr ⟨i, by omega, e, by rw [← hq i (by omega)]; exact e2⟩
        rw [h] at this
        exact absurd this (by decide)
/-! the law's own liveness: four rounds -/
def il_G (A t : Int32) (j : Nat) (q : Int32) : Int32 := if (!ib_t t j && iv_E (il_T A 16) (ib_t q) j) = true then q ||| ((1 : Int32) <<< (nI j &&& 31)) else q
theorem il_GS {A t : Int32} : ig_S (il_G A t) 4 4 := by
  intro j hj q hq
  unfold il_G
  by_cases e : (!ib_t t j && iv_E (il_T A 16) (ib_t q) j) = true
  · rw [if_pos e]
    refine ⟨fun i hi g => ?_, fun x g => by rw [ib_or, g, Bool.true_or]⟩
    rw [ib_or, Bool.or_eq_true, ib_one (by omega) hi, decide_eq_true_iff] at g
    rcases g with g | g
    · exact hq i hi g
    · omega
  · rw [if_neg e]
    exact ⟨hq, fun _ g => g⟩
def il_LI (A u t : Int32) (r x : Nat) (q : Int32) : Prop := ig_J (il_G A t) 4 4 r x q ∧ iv_B (il_T A 16) (il_U u 4) (il_U t 4) (ib_t q) ∧ (∀ x, x < 4 → ib_t u x = true → ib_t q x = true)
theorem il_L0 {A u t : Int32} (hu : ig_ok 4 u) : il_LI A u t 0 0 u := by
  refine ⟨ig_start hu, fun F hF x hx e => ?_, fun _ _ e => e⟩
  apply hF x hx
  rw [iv_D_iff]
  refine Or.inl ?_
  rw [il_U4 (hu x (by omega) e)]
  exact e
theorem il_Ls {A u t : Int32} {r x : Nat} {q : Int32} (hx : x < 4) (h : il_LI A u t r x q) : il_LI A u t r (x + 1) (il_G A t x q) := by
  obtain ⟨h1, h2, h3⟩ := h
  have su := (il_GS (A := A) (t := t) x hx q (ig_okJ h1)).2
  refine ⟨ig_step il_GS hx h1, ?_, fun y hy e => su y (h3 y hy e)⟩
  unfold il_G
  by_cases e : (!ib_t t x && iv_E (il_T A 16) (ib_t q) x) = true
  · rw [if_pos e]
    rw [Bool.and_eq_true, Bool.not_eq_true'] at e
    refine iv_B_add (y := x) h2 ?_ (fun z hz g => ?_)
    · unfold iv_D
      rw [e.2, il_U4 (u := t) hx, e.1, Bool.or_eq_true]
      exact Or.inr rfl
    · rw [ib_or, Bool.or_eq_true, ib_one (by omega) (by omega), decide_eq_true_iff] at g
      exact g
  · rw [if_neg e]
    exact h2
theorem il_Lend {A u t q : Int32} (h : il_LI A u t 4 0 q) : iv_L (il_T A 16) (il_U u 4) (il_U t 4) (ib_t q) ∧ ig_ok 4 q := by
  obtain ⟨h1, h2, h3⟩ := h
  have c := ig_end il_GS h1
  refine ⟨⟨fun x hx d => ?_, h2⟩, ig_okJ h1⟩
  rw [iv_D_iff] at d
  rcases d with d | ⟨d, e⟩
  · unfold il_U at d
    rw [Bool.and_eq_true] at d
    exact h3 x (of_decide_eq_true d.1) d.2
  · have x4 : x < 4 := by
      obtain ⟨z, _, k, _⟩ := e
      exact (il_Tlt k).1
    rw [il_U4 x4] at d
    have g := c x x4
    unfold il_G at g
    rw [if_pos (by rw [d, iv_E_iff.mpr e]; rfl)] at g
    rw [← g, ib_or, ib_one (by omega) (by omega), decide_eq_true (rfl : x = x), Bool.or_true]
/-! the law's own reaching: four passes -/
def il_H (A t : Int32) (j : Nat) (q : Int32) : Int32 := if (ib_t q j && !ib_t t j) = true then q ||| il_R A j else q
theorem il_HS {A t : Int32} : ig_S (il_H A t) 4 4 := by
  intro j hj q hq
  unfold il_H
  by_cases e : (ib_t q j && !ib_t t j) = true
  · rw [if_pos e]
    refine ⟨fun i hi g => ?_, fun x g => by rw [ib_or, g, Bool.true_or]⟩
    rw [ib_or, Bool.or_eq_true] at g
    rcases g with g | g
    · exact hq i hi g
    · exact il_okR i hi g
  · rw [if_neg e]
    exact ⟨hq, fun _ g => g⟩
def il_FI (A t : Int32) (a r x : Nat) (q : Int32) : Prop := ig_J (il_H A t) 4 4 r x q ∧ (∀ x, x < 12 → ib_t q x = true → ir_f (il_T A 16) (il_U t 4) a x) ∧ (∀ y, y < 12 → il_T A 16 a y = true → ib_t q y = true)
theorem il_F0 {A t : Int32} {a : Nat} (ha : a < 4) : il_FI A t a 0 0 (il_R A a) := by
  refine ⟨ig_start il_okR, fun x hx e G hG => ?_, fun y hy e => ?_⟩
  · rw [il_row ha (by omega)] at e
    exact hG.1 x hx e
  · rw [il_row ha (by omega)]; exact e
theorem il_Fs {A t : Int32} {a r x : Nat} {q : Int32} (hx : x < 4) (h : il_FI A t a r x q) : il_FI A t a r (x + 1) (il_H A t x q) := by
  obtain ⟨h1, h2, h3⟩ := h
  have su := (il_HS (A := A) (t := t) x hx q (ig_okJ h1)).2
  refine ⟨ig_step il_HS hx h1, ?_, fun y hy e => su y (h3 y hy e)⟩
  unfold il_H
  by_cases e : (ib_t q x && !ib_t t x) = true
  · rw [if_pos e]
    rw [Bool.and_eq_true, Bool.not_eq_true'] at e
    intro z hz g
    rw [ib_or, Bool.or_eq_true] at g
    rcases g with g | g
    · exact h2 z hz g
    · rw [il_row hx (by omega)] at g
      intro G hG
      exact hG.2 x z (by omega) hz g (h2 x (by omega) e.1 G hG) (by rw [il_U4 hx]; exact e.2)
  · rw [if_neg e]
    exact h2
theorem il_Fend {A t q : Int32} {a : Nat} (h : il_FI A t a 4 0 q) : ∀ x, x < 12 → (ib_t q x = true ↔ ir_f (il_T A 16) (il_U t 4) a x) := by
  obtain ⟨h1, h2, h3⟩ := h
  have c := ig_end il_HS h1
  intro x hx
  refine ⟨h2 x hx, fun f => f _ ⟨h3, fun y z hy hz e k1 k2 => ?_⟩⟩
  have y4 := (il_Tlt e).1
  rw [il_U4 y4] at k2
  have g := c y y4
  unfold il_H at g
  rw [if_pos (by rw [k1, k2]; rfl)] at g
  rw [← g, ib_or, il_row y4 (by omega), e, Bool.or_true]
/-- by the loops' counter -/
def il_FJ (A t : Int32) (a b i : Nat) (q : Int32) : Prop := il_FI A t a (b + i / 4) (i % 4) q
theorem il_FJs {A t : Int32} {a b i : Nat} {q : Int32} (h : il_FJ A t a b i q) : il_FJ A t a b (i + 1) (il_H A t (i % 4) q) := by
  have s := il_Fs (show i % 4 < 4 by omega) h
  unfold il_FJ
  by_cases e : i % 4 = 3
  · rw [show (i + 1) % 4 = 0 by omega, show b + (i + 1) / 4 = (b + i / 4) + 1 by omega]
    have e4 : i % 4 + 1 = 4 := by omega
    rw [e4] at s
    exact ⟨ig_wrap s.1, s.2⟩
  · rw [show (i + 1) % 4 = i % 4 + 1 by omega, show b + (i + 1) / 4 = b + i / 4 by omega]
    exact s
end
section
/-! the law's walk behind the building: from the inside out -/
section
variable {post : Int32 → St0 → Prop} {mc ms kc ks : Nat} {A u t live : Int32} {p : Nat} {V : Nat → Bool} {a1 a2 a3 a4 a5 : Nat → Int32}
/-- what idles -/
def il_f (A t : Int32) (V : Nat → Bool) (x : Nat) : Bool := il_U t 4 x && !iv_E (il_T A 16) V x
theorem il_448 {J : Int32 → Int32 → Int32 → Prop} {a : Nat} {far x8 : Int32} (hp : p < 20) (ha : a < 4) (hM : iv_M p (il_T A 16) (il_U u 4) (il_U t 4) V a1 a2 a3 a4 a5) (hfar : ∀ x, x < 12 → (ib_t far x = true ↔ ir_f (il_T A 16) (il_U t 4) a x)) (H : J x8 1 (nI (a + 1))) :
    ∃ n, wL_lawOf_448 post mc ms J A t (nI p) live x8 (nI a) far (il_i (iv_E (il_T A 16) V a)) (il_i (ib_t t a)) kc ks a1 a2 a3 a4 a5 n 1 0 := by
  refine pk_loop (σ := Unit) (fun n i _ => wL_lawOf_448 post mc ms J A t (nI p) live x8 (nI a) far (il_i (iv_E (il_T A 16) V a)) (il_i (ib_t t a)) kc ks a1 a2 a3 a4 a5 n 1 (nI i)) (fun _ _ => True) 4 0 () (by omega) trivial ?_ ?_
  · intro n _ _
    refine pk_le 4 4 (fun _ => br_f (by decide) (iw_liveOut (by omega) hM (show a < 12 by omega) ?_)) (fun z => absurd z (by omega))
    cases iv_E (il_T A 16) V a
    · exact br_t rfl (br_t rfl (nm_r (nI_1 a) H))
    · exact br_f (by decide) (br_t rfl (nm_r (nI_1 a) H))
  · intro n i _ hi _ hw
    have core : ∀ d : Bool, d = (ib_t t a && ib_t far i) → wL_lawOf_475 post mc ms J (wL_lawOf_448 post mc ms J A t (nI p) live x8 (nI a) far (il_i (iv_E (il_T A 16) V a)) (il_i (ib_t t a)) kc ks a1 a2 a3 a4 a5 n) A t (nI p) live x8 1 (nI a) far (il_i (iv_E (il_T A 16) V a)) (il_i (ib_t t a)) (nI i) (il_i d) kc ks a1 a2 a3 a4 a5 := by
      intro d hd
      refine br_f (by decide) (iw_reaching hp (show i < 12 by omega) hM il_T12 (fun q hq => ?_))
      have e : (q >>> (nI a &&& 31)) &&& 1 = il_i d := by
        rw [ib_bit q (show a < 32 by omega)]
        have e1 : ib_t q a = d := by
          have k := hq a (by omega)
          rw [ir_eq (show a < 12 by omega) (show i < 12 by omega), ← hfar i (by omega), il_U4 ha] at k
          rw [hd]
          cases e2 : ib_t q a
          · cases e3 : (ib_t t a && ib_t far i)
            · rfl
            · rw [Bool.and_eq_true] at e3
              rw [k.mpr ⟨e3.2, e3.1⟩] at e2
              exact absurd e2 (by decide)
          · have k2 := k.mp e2
            rw [k2.1, k2.2]; rfl
        rw [e1]; rfl
      rw [e]
      cases d
      · exact br_t rfl (br_t rfl (nm_r (nI_1 i) (hw () trivial)))
      · exact br_f (by decide) (br_t rfl (nm_r (nI_1 i) (hw () trivial)))
    refine pk_le 4 i (fun z => absurd z (by omega)) (fun _ => ?_)
    rw [ib_bit1 far (show i < 32 by omega)]
    cases es : ib_t t a
    · rw [es] at core
      exact br_t rfl (core false rfl)
    · rw [es] at core
      refine br_f (by decide) ?_
      cases ef : ib_t far i
      · rw [ef] at core
        exact br_f (by decide) (core false rfl)
      · rw [ef] at core
        exact br_t rfl (core true rfl)
theorem il_422 {J : Int32 → Int32 → Int32 → Prop} {a : Nat} {far : Int32} (hp : p < 20) (ha : a < 4) (hM : iv_M p (il_T A 16) (il_U u 4) (il_U t 4) V a1 a2 a3 a4 a5) (hfar : ∀ x, x < 12 → (ib_t far x = true ↔ ir_f (il_T A 16) (il_U t 4) a x)) (H : J (nI (ic_n (il_f A t V) (a + 1))) 1 (nI (a + 1))) :
    wL_lawOf_422 post mc ms J A t (nI p) live (nI (ic_n (il_f A t V) a)) 1 (nI a) far (il_i (iv_E (il_T A 16) V a)) (il_i (ib_t t a)) kc ks a1 a2 a3 a4 a5 := by
  have K := il_448 (post := post) (mc := mc) (ms := ms) (kc := kc) (ks := ks) (live := live) (x8 := nI (ic_n (il_f A t V) (a + 1))) hp ha hM hfar H
  have e : ic_n (il_f A t V) (a + 1) = ic_n (il_f A t V) a + (if (ib_t t a && !iv_E (il_T A 16) V a) = true then 1 else 0) := by
    show ic_n (il_f A t V) a + (if il_f A t V a = true then 1 else 0) = _
    unfold il_f
    rw [il_U4 ha]
  rw [e] at K
  cases es : ib_t t a
  · rw [es, Bool.false_and, if_neg (by decide)] at K
    exact br_t rfl K
  · rw [es, Bool.true_and] at K
    refine br_f (by decide) ?_
    cases eE : iv_E (il_T A 16) V a
    · rw [eE, if_pos (show (!false) = true by decide)] at K
      exact br_t rfl (nm_r (nI_1 _) K)
    · rw [eE, if_neg (by decide)] at K
      exact br_f (by decide) K
theorem il_404 {J : Int32 → Int32 → Int32 → Prop} {a : Nat} {far : Int32} (hp : p < 20) (ha : a < 4) (hM : iv_M p (il_T A 16) (il_U u 4) (il_U t 4) V a1 a2 a3 a4 a5) (hfar : ∀ x, x < 12 → (ib_t far x = true ↔ ir_f (il_T A 16) (il_U t 4) a x)) (H : J (nI (ic_n (il_f A t V) (a + 1))) 1 (nI (a + 1))) :
    wL_lawOf_404 post mc ms J A t (nI p) live (nI (ic_n (il_f A t V) a)) 1 (nI a) far (il_i (iv_E (il_T A 16) V a)) kc ks a1 a2 a3 a4 a5 := by
  have K := il_422 (post := post) (mc := mc) (ms := ms) (kc := kc) (ks := ks) (live := live) hp ha hM hfar H
  unfold wL_lawOf_404
  rw [ib_bit1 t (show a < 32 by omega)]
  cases es : ib_t t a
  · rw [es] at K
    exact br_f (by decide) K
  · rw [es] at K
    exact br_t rfl K
theorem il_315 {J : Int32 → Int32 → Int32 → Prop} {a : Nat} {far : Int32} (hp : p < 20) (ha : a < 4) (hM : iv_M p (il_T A 16) (il_U u 4) (il_U t 4) V a1 a2 a3 a4 a5) (hl : ∀ x, x < 12 → ib_t live x = V x) (h0 : il_FJ A t a 2 0 far) (H : J (nI (ic_n (il_f A t V) (a + 1))) 1 (nI (a + 1))) :
    ∃ n, wL_lawOf_315 post mc ms J A t (nI p) live (nI (ic_n (il_f A t V) a)) 1 (nI a) kc ks a1 a2 a3 a4 a5 n far 0 := by
  refine pk_loop (fun n i q => wL_lawOf_315 post mc ms J A t (nI p) live (nI (ic_n (il_f A t V) a)) 1 (nI a) kc ks a1 a2 a3 a4 a5 n q (nI i)) (fun i q => il_FJ A t a 2 i q) 8 0 far (by omega) h0 ?_ ?_
  · intro n q h
    have hfar := il_Fend (show il_FI A t a 4 0 q from h)
    have K := il_404 (post := post) (mc := mc) (ms := ms) (kc := kc) (ks := ks) (live := live) hp ha hM hfar H
    refine pk_le 8 8 (fun _ => ?_) (fun z => absurd z (by omega))
    show ((il_R A a &&& live) = 0 → _) ∧ (¬ (il_R A a &&& live) = 0 → _)
    rw [il_and0 ha hl]
    cases eE : iv_E (il_T A 16) V a
    · rw [eE] at K
      exact br_t rfl K
    · rw [eE] at K
      exact br_f (by decide) K
  · intro n i q hi h hw
    have e3 : nI i &&& 3 = nI (i % 4) := pk_andN (by omega) 2 (by decide)
    have st := il_FJs h
    have core : ∀ z : Bool, z = (ib_t q (i % 4) && !ib_t t (i % 4)) → wL_lawOf_352 post mc ms J (wL_lawOf_315 post mc ms J A t (nI p) live (nI (ic_n (il_f A t V) a)) 1 (nI a) kc ks a1 a2 a3 a4 a5 n) A t (nI p) live (nI (ic_n (il_f A t V) a)) 1 (nI a) q (nI i) (il_i z) kc ks a1 a2 a3 a4 a5 := by
      intro z hz
      unfold wL_lawOf_352 wpL_row
      rw [e3]
      unfold il_H at st
      rw [← hz] at st
      cases z
      · rw [if_neg (by decide)] at st
        exact br_t rfl (nm_r (nI_1 i) (hw _ st))
      · rw [if_pos rfl] at st
        exact br_f (by decide) (nm_e (nm_r (nI_1 i) (hw _ st)))
    refine pk_le 8 i (fun z => absurd z (by omega)) (fun _ => ?_)
    rw [e3, ib_bit1 q (show i % 4 < 32 by omega), ib_bit0 t (show i % 4 < 32 by omega)]
    cases eq : ib_t q (i % 4)
    · rw [eq] at core
      exact br_f (by decide) (core false rfl)
    · refine br_t rfl ?_
      cases et : ib_t t (i % 4)
      · rw [eq, et] at core
        exact br_t rfl (core true rfl)
      · rw [eq, et] at core
        exact br_f (by decide) (core false rfl)
theorem il_240 {J : Int32 → Int32 → Int32 → Prop} {a : Nat} (hp : p < 20) (ha : a < 4) (hM : iv_M p (il_T A 16) (il_U u 4) (il_U t 4) V a1 a2 a3 a4 a5) (hl : ∀ x, x < 12 → ib_t live x = V x) (H : J (nI (ic_n (il_f A t V) (a + 1))) 1 (nI (a + 1))) :
    ∃ n, wL_lawOf_240 post mc ms J A t (nI p) live (nI (ic_n (il_f A t V) a)) 1 (nI a) kc ks a1 a2 a3 a4 a5 n (il_R A a) 0 := by
  refine pk_loop (fun n i q => wL_lawOf_240 post mc ms J A t (nI p) live (nI (ic_n (il_f A t V) a)) 1 (nI a) kc ks a1 a2 a3 a4 a5 n q (nI i)) (fun i q => il_FJ A t a 0 i q) 8 0 (il_R A a) (by omega) (il_F0 ha) ?_ ?_
  · intro n q h
    exact pk_le 8 8 (fun _ => il_315 hp ha hM hl h H) (fun z => absurd z (by omega))
  · intro n i q hi h hw
    have e3 : nI i &&& 3 = nI (i % 4) := pk_andN (by omega) 2 (by decide)
    have st := il_FJs h
    have core : ∀ z : Bool, z = (ib_t q (i % 4) && !ib_t t (i % 4)) → wL_lawOf_277 post mc ms J (wL_lawOf_240 post mc ms J A t (nI p) live (nI (ic_n (il_f A t V) a)) 1 (nI a) kc ks a1 a2 a3 a4 a5 n) A t (nI p) live (nI (ic_n (il_f A t V) a)) 1 (nI a) q (nI i) (il_i z) kc ks a1 a2 a3 a4 a5 := by
      intro z hz
      unfold wL_lawOf_277 wpL_row
      rw [e3]
      unfold il_H at st
      rw [← hz] at st
      cases z
      · rw [if_neg (by decide)] at st
        exact br_t rfl (nm_r (nI_1 i) (hw _ st))
      · rw [if_pos rfl] at st
        exact br_f (by decide) (nm_e (nm_r (nI_1 i) (hw _ st)))
    refine pk_le 8 i (fun z => absurd z (by omega)) (fun _ => ?_)
    rw [e3, ib_bit1 q (show i % 4 < 32 by omega), ib_bit0 t (show i % 4 < 32 by omega)]
    cases eq : ib_t q (i % 4)
    · rw [eq] at core
      exact br_f (by decide) (core false rfl)
    · refine br_t rfl ?_
      cases et : ib_t t (i % 4)
      · rw [eq, et] at core
        exact br_t rfl (core true rfl)
      · rw [eq, et] at core
        exact br_f (by decide) (core false rfl)
theorem il_589 {b : Bool} (hp : p < 20) (hM : iv_M p (il_T A 16) (il_U u 4) (il_U t 4) V a1 a2 a3 a4 a5) (H : post 1 ()) {z : Int32} (hz : z = nI (if b = true then 1 else 0)) : wL_lawOf_589 post mc ms z (nI (if b = true then 1 else 0)) kc ks a1 a2 a3 a4 a5 :=
  br_t hz.symm (iw_crowded hp hM (br_t rfl H))
theorem il_223 (hp : p < 20) (hM : iv_M p (il_T A 16) (il_U u 4) (il_U t 4) V a1 a2 a3 a4 a5) (hl : ∀ x, x < 12 → ib_t live x = V x) (ho : ig_ok 4 live) (H : post 1 ()) :
    ∃ n, wL_lawOf_223 post mc ms A t (nI p) live kc ks a1 a2 a3 a4 a5 n 0 1 0 := by
  refine pk_loop (fun n i s => wL_lawOf_223 post mc ms A t (nI p) live kc ks a1 a2 a3 a4 a5 n s 1 (nI i)) (fun i s => s = nI (ic_n (il_f A t V) i)) 4 0 0 (by omega) rfl ?_ ?_
  · intro n s h
    refine pk_le 4 4 (fun _ => br_f (by decide) (iw_idleSets hp hM (br_t ?_ (iw_pressure hp hM (br_c (fun e => il_589 hp hM H ?_) (fun e => il_589 hp hM H ?_)))))) (fun z => absurd z (by omega))
    · rw [h]
      show nI (ic_n (il_f A t V) 12) = _
      rw [ic_cut (m := 4) 12 (by omega) (fun x h1 h2 => ?_)]
      unfold il_f il_U
      rw [decide_eq_false (by omega), Bool.false_and, Bool.false_and]
    · rw [ic_aF (fun x hx => ?_)]
      · rfl
      · rw [← hl x hx, e, ib_0]
    · obtain ⟨i, hi, k⟩ := ib_some e
      have i4 := ho i hi k
      rw [ic_aI (show i < 12 by omega) (by rw [← hl i (by omega)]; exact k)]
      rfl
  · intro n a s ha h hw
    subst h
    exact pk_le 4 a (fun z => absurd z (by omega)) (fun _ => il_240 hp ha hM hl (hw _ rfl))
theorem il_124 (hp : p < 20) (hM : iv_M p (il_T A 16) (il_U u 4) (il_U t 4) V a1 a2 a3 a4 a5) (hL : iv_L (il_T A 16) (il_U u 4) (il_U t 4) V) (hu : ig_ok 4 u) (H : post 1 ()) :
    ∃ n, wL_lawOf_124 post mc ms A t (nI p) kc ks a1 a2 a3 a4 a5 n u 0 := by
  refine pk_loop (fun n i q => wL_lawOf_124 post mc ms A t (nI p) kc ks a1 a2 a3 a4 a5 n q (nI i)) (fun r q => il_LI A u t r 0 q) 4 0 u (by omega) (il_L0 hu) ?_ ?_
  · intro n q h
    obtain ⟨k1, k2⟩ := il_Lend h
    have hl : ∀ x, x < 12 → ib_t q x = V x := fun x hx => iv_L_eq k1 hL x hx
    refine pk_le 4 4 (fun _ => iw_liveBlocks hp hM (fun q' hq' => br_t ?_ (il_223 hp hM hl k2 H))) (fun z => absurd z (by omega))
    apply ib_ext
    intro i hi
    rw [hq' i hi]
    by_cases e : i < 12
    · rw [decide_eq_true e, Bool.true_and, hl i e]
    · rw [decide_eq_false e, Bool.false_and]
      cases e2 : ib_t q i
      · rfl
      · have := k2 i hi e2
        omega
  · intro n r q hr h hw
    refine pk_le 4 r (fun z => absurd z (by omega)) (fun _ => ?_)
    refine pk_loop (fun n' i q' => wL_lawOf_133 post mc ms (wL_lawOf_124 post mc ms A t (nI p) kc ks a1 a2 a3 a4 a5 n) A t (nI p) (nI r) kc ks a1 a2 a3 a4 a5 n' q' (nI i)) (fun i q' => il_LI A u t r i q') 4 0 q (by omega) h ?_ ?_
    · intro n' q' h'
      exact pk_le 4 4 (fun _ => nm_r (nI_1 r) (hw q' ⟨ig_wrap h'.1, h'.2⟩)) (fun z => absurd z (by omega))
    · intro n' i q' hi h' hw'
      have st := il_Ls hi h'
      have core : ∀ z : Bool, z = (!ib_t t i && iv_E (il_T A 16) (ib_t q') i) → wL_lawOf_166 post mc ms (wL_lawOf_124 post mc ms A t (nI p) kc ks a1 a2 a3 a4 a5 n) (wL_lawOf_133 post mc ms (wL_lawOf_124 post mc ms A t (nI p) kc ks a1 a2 a3 a4 a5 n) A t (nI p) (nI r) kc ks a1 a2 a3 a4 a5 n') A t (nI p) q' (nI r) (nI i) (il_i z) kc ks a1 a2 a3 a4 a5 := by
        intro z hz
        unfold il_G at st
        rw [← hz] at st
        cases z
        · rw [if_neg (by decide)] at st
          exact br_t rfl (nm_r (nI_1 i) (hw' _ st))
        · rw [if_pos rfl] at st
          exact br_f (by decide) (nm_e (nm_r (nI_1 i) (hw' _ st)))
      refine pk_le 4 i (fun z => absurd z (by omega)) (fun _ => ?_)
      rw [ib_bit0 t (show i < 32 by omega)]
      cases et : ib_t t i
      · rw [et] at core
        refine br_t rfl ?_
        show ((il_R A i &&& q') = 0 → _) ∧ (¬ (il_R A i &&& q') = 0 → _)
        rw [il_and0 hi (V := ib_t q') (fun _ _ => rfl)]
        cases eE : iv_E (il_T A 16) (ib_t q') i
        · rw [eE] at core
          exact br_t rfl (core false rfl)
        · rw [eE] at core
          exact br_f (by decide) (core true rfl)
      · rw [et] at core
        exact br_f (by decide) (core false rfl)
end
end
section
/-! the building, and the top -/
section
variable {post : Int32 → St0 → Prop} {mc ms kc ks : Nat} {A u t : Int32} {p : Nat}
def il_B (A u t : Int32) (p b c : Nat) (s : St2) : Prop := ∃ V, iv_M p (il_T A (4 * b + c)) (il_U u b) (il_U t b) V s.1 s.2.1 s.2.2.1 s.2.2.2.1 s.2.2.2.2 ∧ iv_L (il_T A (4 * b + c)) (il_U u b) (il_U t b) V
theorem il_43 {J : Int32 → (Nat → Int32) → (Nat → Int32) → (Nat → Int32) → (Nat → Int32) → (Nat → Int32) → Prop} {b : Nat} {a1 a2 a3 a4 a5 : Nat → Int32} (hp : p < 20) (hb : b < 4) (h0 : il_B A u t p b 0 (a1, a2, a3, a4, a5))
    (H : ∀ s : St2, il_B A u t p (b + 1) 0 s → J (nI (b + 1)) s.1 s.2.1 s.2.2.1 s.2.2.2.1 s.2.2.2.2) : ∃ n, wL_lawOf_43 post mc ms J A u t (nI p) (nI b) kc ks n 0 a1 a2 a3 a4 a5 := by
  refine pk_loop (fun n i (s : St2) => wL_lawOf_43 post mc ms J A u t (nI p) (nI b) kc ks n (nI i) s.1 s.2.1 s.2.2.1 s.2.2.2.1 s.2.2.2.2) (fun i s => il_B A u t p b i s) 4 0 (a1, a2, a3, a4, a5) (by omega) h0 ?_ ?_
  · intro n s ⟨V, hM, hL⟩
    refine pk_le 4 4 (fun _ => ?_) (fun z => absurd z (by omega))
    refine iw_use (on := ib_t u b) (U' := il_U u (b + 1)) hp (by omega) (ib_bit0 u (by omega)) hM hL il_T12 il_Un il_Ustep (fun r V' a3' a4' a5' hM' hL' => ?_)
    refine iw_set (on := ib_t t b) (S' := il_U t (b + 1)) hp (by omega) (ib_bit0 t (by omega)) hM' hL' il_T12 il_Un il_Ustep (fun r2 V2 b3 b4 b5 hM2 hL2 => ?_)
    exact nm_r (nI_1 b) (H (s.1, s.2.1, b3, b4, b5) (by unfold il_B; rw [show 4 * (b + 1) + 0 = 4 * b + 4 by omega]; exact ⟨V2, hM2, hL2⟩))
  · intro n c s hc ⟨V, hM, hL⟩ hw
    refine pk_le 4 c (fun z => absurd z (by omega)) (fun _ => ?_)
    have hon : ((il_R A b >>> (nI c &&& 31)) &&& 1) = 0 ↔ ib_t A (4 * b + c) = false := by
      rw [ib_bit0 _ (show c < 32 by omega), il_row hb (by omega)]
      unfold il_T
      rw [decide_eq_true (show b < 4 ∧ c < 4 ∧ 4 * b + c < 16 by omega), Bool.true_and]
    unfold wpL_row
    dsimp only
    refine iw_arc (T' := il_T A (4 * b + (c + 1))) (show p < 32 by omega) (show b < 12 by omega) (show c < 12 by omega) hon hM hL il_Tn (il_Tstep hb hc) (fun r V' a1' a2' a5' hM' hL' => ?_)
    exact nm_r (nI_1 c) (hw (a1', a2', s.2.2.1, s.2.2.2.1, a5') ⟨V', hM', hL'⟩)
theorem il_34 {a1 a2 a3 a4 a5 : Nat → Int32} (hp : p < 20) (hu : ig_ok 4 u) (h0 : il_B A u t p 0 0 (a1, a2, a3, a4, a5)) (H : post 1 ()) : ∃ n, wL_lawOf_34 post mc ms A u t (nI p) kc ks n 0 a1 a2 a3 a4 a5 := by
  refine pk_loop (fun n i (s : St2) => wL_lawOf_34 post mc ms A u t (nI p) kc ks n (nI i) s.1 s.2.1 s.2.2.1 s.2.2.2.1 s.2.2.2.2) (fun i s => il_B A u t p i 0 s) 4 0 (a1, a2, a3, a4, a5) (by omega) h0 ?_ ?_
  · intro n s ⟨V, hM, hL⟩
    exact pk_le 4 4 (fun _ => il_124 hp hM hL hu H) (fun z => absurd z (by omega))
  · intro n b s hb h hw
    exact pk_le 4 b (fun z => absurd z (by omega)) (fun _ => il_43 hp hb h (fun s' h' => hw s' h'))
theorem il_init (hp : p < 32) : il_B A u t p 0 0 ((fun _ => 0), (fun _ => 0), (fun _ => 0), (fun _ => 0), (fun _ => 0)) := by
  have eT : ∀ x y, il_T A 0 x y = false := by
    intro x y
    unfold il_T
    rw [decide_eq_false (by omega), Bool.false_and]
  have eU : ∀ (w : Int32) x, il_U w 0 x = false := by
    intro w x
    unfold il_U
    rw [decide_eq_false (by omega), Bool.false_and]
  refine ⟨fun _ => false, ⟨fun x _ i _ => ?_, fun x _ i _ => ?_, fun x _ => ?_, fun x _ => ?_, fun x _ => rfl⟩, fun x hx d => ?_, fun F _ x _ z => absurd (show false = true from z) (by decide)⟩
  · show ib_t 0 i = il_T A 0 x i
    rw [eT, ib_0]
  · show ib_t 0 i = il_T A 0 i x
    rw [eT, ib_0]
  · show (0 : Int32) = ib_P p (il_U u 0 x)
    rw [eU]; rfl
  · show (0 : Int32) = ib_P p (il_U t 0 x)
    rw [eU]; rfl
  · rw [iv_D_iff] at d
    rcases d with d | ⟨_, z, _, _, d⟩
    · rw [eU] at d; exact absurd d (by decide)
    · exact absurd (show false = true from d) (by decide)
end
theorem il_lawOf {post : Int32 → St0 → Prop} {r1 r2 r3 : Int32} (H : post 1 ()) : wpL_lawOf post 44 704 () r1 r2 r3 := by
  refine ⟨by omega, by omega, 10, 100, by omega, by omega, by omega, by omega, by omega, by omega, by omega, by omega, by omega, by omega, by omega, by omega, ?_⟩
  obtain ⟨j, hj, e⟩ := pk_andE r3 (m := 31) 5 (by decide)
  have hp : j % 20 < 20 := Nat.mod_lt _ (by omega)
  have er : (r3 &&& 31) - (r3 &&& 31) / 20 * 20 = nI (j % 20) := by
    rw [e]
    exact pk_rem (d := 20) (by omega) (by omega) (by omega)
  exact nm_e (nm_e ⟨by decide, nm_r er (il_34 hp (il_ok15 _) (il_init (by omega)) H)⟩)
theorem il_cell {post : Int32 → Prop} {L : Nat} {xs : Nat → Int32} (hL : L ≤ 3) (k : Nat) (hk : k < 3) (H : ∀ r, post r) : wpL_cellAt post L xs () (nI k) :=
  pk_le L k (fun _ => H 0) (fun h => ⟨pk_in k L h, H _⟩)
theorem i_vc (xs : Nat → Int32) (L : Nat) (hL : L ≤ 3) : wpL_law (fun r => r = 1) L xs :=
  il_cell hL 0 (by omega) (fun r1 => il_cell hL 1 (by omega) (fun r2 => il_cell hL 2 (by omega) (fun r3 => ⟨44, 704, by omega, by omega, il_lawOf rfl⟩)))
end
