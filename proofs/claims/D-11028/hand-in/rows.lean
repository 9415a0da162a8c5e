section
/-- a boolean as an int -/
def pg_b (x : Bool) : Int32 := match x with
  | true => 1
  | false => 0
/-- the mask of four booleans -/
def pg_m4 (x0 x1 x2 x3 : Bool) : Nat := x0.toNat + 2 * x1.toNat + 4 * x2.toNat + 8 * x3.toNat
/-- the mask of a block -/
def pg_mk (M : Nat → Bool) (b : Nat) : Nat := pg_m4 (M (4 * b)) (M (4 * b + 1)) (M (4 * b + 2)) (M (4 * b + 3))
/-- the block holds a page -/
def pg_any (M : Nat → Bool) (b : Nat) : Prop := ∃ k, k < 4 ∧ M (4 * b + k) = true
/-- one place set -/
def pg_up {α : Type} (M : Nat → α) (i : Nat) (x : α) : Nat → α := fun j => if j = i then x else M j
theorem pg_us {α : Type} {M : Nat → α} {i : Nat} {x : α} : pg_up M i x i = x := if_pos rfl
theorem pg_un {α : Type} {M : Nat → α} {i j : Nat} {x : α} (h : j ≠ i) : pg_up M i x j = M j := if_neg h
theorem pg_ue {α : Type} {M : Nat → α} {i j : Nat} {x : α} (h : j = i) : pg_up M i x j = x := if_pos h
theorem pg_uid {α : Type} {M : Nat → α} {i : Nat} {x : α} (h : M i = x) : pg_up M i x = M := by
  funext j
  by_cases e : j = i
  · rw [pg_ue e, e, h]
  · rw [pg_un e]
theorem pg_k4 {k : Nat} (h : k < 4) : k = 0 ∨ k = 1 ∨ k = 2 ∨ k = 3 := by omega
theorem pg_bnar (w : Bool) : vp_nar .boolean (pg_b w) = pg_b w := by cases w <;> rfl
theorem pg_bfit (w : Bool) : narrow .boolean (.int (pg_b w)) = .int (pg_b w) := by cases w <;> rfl
theorem pg_binj {v w : Bool} (h : pg_b v = pg_b w) : v = w := by
  cases v <;> cases w
  · rfl
  · exact absurd h (by decide)
  · exact absurd h (by decide)
  · rfl
theorem pg_bit4 : ∀ (x0 x1 x2 x3 : Bool), ((((nI (pg_m4 x0 x1 x2 x3) >>> (nI 0 &&& 31)) &&& 1) = 1 ↔ x0 = true) ∧ (((nI (pg_m4 x0 x1 x2 x3) >>> (nI 1 &&& 31)) &&& 1) = 1 ↔ x1 = true) ∧ (((nI (pg_m4 x0 x1 x2 x3) >>> (nI 2 &&& 31)) &&& 1) = 1 ↔ x2 = true) ∧ (((nI (pg_m4 x0 x1 x2 x3) >>> (nI 3 &&& 31)) &&& 1) = 1 ↔ x3 = true)) := by
  decide +kernel
theorem pg_or4 : ∀ (x0 x1 x2 x3 : Bool), (nI (pg_m4 x0 x1 x2 x3) ||| ((1 : Int32) <<< (nI 0 &&& 31)) = nI (pg_m4 true x1 x2 x3)) ∧ (nI (pg_m4 x0 x1 x2 x3) ||| ((1 : Int32) <<< (nI 1 &&& 31)) = nI (pg_m4 x0 true x2 x3)) ∧ (nI (pg_m4 x0 x1 x2 x3) ||| ((1 : Int32) <<< (nI 2 &&& 31)) = nI (pg_m4 x0 x1 true x3)) ∧ (nI (pg_m4 x0 x1 x2 x3) ||| ((1 : Int32) <<< (nI 3 &&& 31)) = nI (pg_m4 x0 x1 x2 true)) := by
  decide +kernel
theorem pg_and4 : ∀ (x0 x1 x2 x3 : Bool), (nI (pg_m4 x0 x1 x2 x3) &&& (((1 : Int32) <<< (nI 0 &&& 31)) ^^^ (-1)) = nI (pg_m4 false x1 x2 x3)) ∧ (nI (pg_m4 x0 x1 x2 x3) &&& (((1 : Int32) <<< (nI 1 &&& 31)) ^^^ (-1)) = nI (pg_m4 x0 false x2 x3)) ∧ (nI (pg_m4 x0 x1 x2 x3) &&& (((1 : Int32) <<< (nI 2 &&& 31)) ^^^ (-1)) = nI (pg_m4 x0 x1 false x3)) ∧ (nI (pg_m4 x0 x1 x2 x3) &&& (((1 : Int32) <<< (nI 3 &&& 31)) ^^^ (-1)) = nI (pg_m4 x0 x1 x2 false)) := by
  decide +kernel
theorem pg_z4 : ∀ (x0 x1 x2 x3 : Bool), nI (pg_m4 x0 x1 x2 x3) = 0 ↔ x0 = false ∧ x1 = false ∧ x2 = false ∧ x3 = false := by
  decide +kernel
theorem pg_f4 : ∀ (x0 x1 x2 x3 : Bool), nI (pg_m4 x0 x1 x2 x3) = 15 ↔ x0 = true ∧ x1 = true ∧ x2 = true ∧ x3 = true := by
  decide +kernel
theorem pg_bit (M : Nat → Bool) (b : Nat) {k : Nat} (hk : k < 4) : ((nI (pg_mk M b) >>> (nI k &&& 31)) &&& 1) = 1 ↔ M (4 * b + k) = true := by
  have h := pg_bit4 (M (4 * b)) (M (4 * b + 1)) (M (4 * b + 2)) (M (4 * b + 3))
  rcases pg_k4 hk with e | e | e | e
  · subst e; exact h.1
  · subst e; exact h.2.1
  · subst e; exact h.2.2.1
  · subst e; exact h.2.2.2
theorem pg_mku (M : Nat → Bool) (b : Nat) (x : Bool) : pg_mk (pg_up M (4 * b) x) b = pg_m4 x (M (4 * b + 1)) (M (4 * b + 2)) (M (4 * b + 3)) ∧ pg_mk (pg_up M (4 * b + 1) x) b = pg_m4 (M (4 * b)) x (M (4 * b + 2)) (M (4 * b + 3)) ∧ pg_mk (pg_up M (4 * b + 2) x) b = pg_m4 (M (4 * b)) (M (4 * b + 1)) x (M (4 * b + 3)) ∧ pg_mk (pg_up M (4 * b + 3) x) b = pg_m4 (M (4 * b)) (M (4 * b + 1)) (M (4 * b + 2)) x := by
  unfold pg_mk
  refine ⟨?_, ?_, ?_, ?_⟩
  · rw [pg_us, pg_un (show 4 * b + 1 ≠ 4 * b by omega), pg_un (show 4 * b + 2 ≠ 4 * b by omega), pg_un (show 4 * b + 3 ≠ 4 * b by omega)]
  · rw [pg_us, pg_un (show 4 * b ≠ 4 * b + 1 by omega), pg_un (show 4 * b + 2 ≠ 4 * b + 1 by omega), pg_un (show 4 * b + 3 ≠ 4 * b + 1 by omega)]
  · rw [pg_us, pg_un (show 4 * b ≠ 4 * b + 2 by omega), pg_un (show 4 * b + 1 ≠ 4 * b + 2 by omega), pg_un (show 4 * b + 3 ≠ 4 * b + 2 by omega)]
  · rw [pg_us, pg_un (show 4 * b ≠ 4 * b + 3 by omega), pg_un (show 4 * b + 1 ≠ 4 * b + 3 by omega), pg_un (show 4 * b + 2 ≠ 4 * b + 3 by omega)]
theorem pg_or (M : Nat → Bool) (b : Nat) {k : Nat} (hk : k < 4) : nI (pg_mk M b) ||| ((1 : Int32) <<< (nI k &&& 31)) = nI (pg_mk (pg_up M (4 * b + k) true) b) := by
  have h := pg_or4 (M (4 * b)) (M (4 * b + 1)) (M (4 * b + 2)) (M (4 * b + 3))
  have u := pg_mku M b true
  rcases pg_k4 hk with e | e | e | e
  · subst e; rw [Nat.add_zero, u.1]; exact h.1
  · subst e; rw [u.2.1]; exact h.2.1
  · subst e; rw [u.2.2.1]; exact h.2.2.1
  · subst e; rw [u.2.2.2]; exact h.2.2.2
theorem pg_and (M : Nat → Bool) (b : Nat) {k : Nat} (hk : k < 4) : nI (pg_mk M b) &&& (((1 : Int32) <<< (nI k &&& 31)) ^^^ (-1)) = nI (pg_mk (pg_up M (4 * b + k) false) b) := by
  have h := pg_and4 (M (4 * b)) (M (4 * b + 1)) (M (4 * b + 2)) (M (4 * b + 3))
  have u := pg_mku M b false
  rcases pg_k4 hk with e | e | e | e
  · subst e; rw [Nat.add_zero, u.1]; exact h.1
  · subst e; rw [u.2.1]; exact h.2.1
  · subst e; rw [u.2.2.1]; exact h.2.2.1
  · subst e; rw [u.2.2.2]; exact h.2.2.2
theorem pg_mko {M : Nat → Bool} {b c k : Nat} {x : Bool} (hk : k < 4) (h : c ≠ b) : pg_mk (pg_up M (4 * b + k) x) c = pg_mk M c := by
  unfold pg_mk
  rw [pg_un (show 4 * c ≠ 4 * b + k by omega), pg_un (show 4 * c + 1 ≠ 4 * b + k by omega), pg_un (show 4 * c + 2 ≠ 4 * b + k by omega), pg_un (show 4 * c + 3 ≠ 4 * b + k by omega)]
theorem pg_mk0 (M : Nat → Bool) (b : Nat) : nI (pg_mk M b) = 0 ↔ ¬ pg_any M b := by
  unfold pg_mk
  rw [pg_z4]
  constructor
  · rintro ⟨h0, h1, h2, h3⟩ ⟨k, hk, e⟩
    rcases pg_k4 hk with z | z | z | z
    · subst z; rw [Nat.add_zero, h0] at e; exact absurd e (by decide)
    · subst z; rw [h1] at e; exact absurd e (by decide)
    · subst z; rw [h2] at e; exact absurd e (by decide)
    · subst z; rw [h3] at e; exact absurd e (by decide)
  · intro h
    have f : ∀ k, k < 4 → M (4 * b + k) = false := fun k hk => by
      cases e : M (4 * b + k) with
      | false => rfl
      | true => exact absurd ⟨k, hk, e⟩ h
    exact ⟨f 0 (by omega), f 1 (by omega), f 2 (by omega), f 3 (by omega)⟩
theorem pg_mk15 (M : Nat → Bool) (b : Nat) : nI (pg_mk M b) = 15 ↔ ∀ k, k < 4 → M (4 * b + k) = true := by
  unfold pg_mk
  rw [pg_f4]
  constructor
  · rintro ⟨h0, h1, h2, h3⟩ k hk
    rcases pg_k4 hk with z | z | z | z
    · subst z; exact h0
    · subst z; exact h1
    · subst z; exact h2
    · subst z; exact h3
  · intro f
    exact ⟨f 0 (by omega), f 1 (by omega), f 2 (by omega), f 3 (by omega)⟩
theorem pg_sh : ∀ b, b < 8 → ∀ k, k < 4 → nI (32 + (4 * b + k)) >>> ((2 : Int32) &&& 31) = nI (8 + b) := by decide +kernel
theorem pg_an : ∀ b, b < 8 → ∀ k, k < 4 → nI (32 + (4 * b + k)) &&& 3 = nI k := by decide +kernel
theorem pg_xr : ∀ r, r < 8 → nI (4 * r) ^^^ ((1 : Int32) <<< ((2 : Int32) &&& 31)) = nI (4 * (if r % 2 = 0 then r + 1 else r - 1)) := by decide +kernel
theorem pg_4 (b k : Nat) : 4 * nI (8 + b) + nI k = nI (32 + (4 * b + k)) := by
  rw [show (4 : Int32) = nI 4 from rfl, pk_mul, nI_add, show 4 * (8 + b) + k = 32 + (4 * b + k) by omega]
theorem pg_40 (b : Nat) : 4 * nI (8 + b) = nI (32 + (4 * b + 0)) := by
  rw [show (4 : Int32) = nI 4 from rfl, pk_mul, show 4 * (8 + b) = 32 + (4 * b + 0) by omega]
theorem pg_m1 {n : Nat} (h : n < 2 ^ 31) : ¬ nI n = -1 := by
  intro e
  have h1 := nI_pos h
  rw [e] at h1
  exact h1 (by decide)
theorem pg_bk {i : Nat} (h : i < 32) : ∃ b k, b < 8 ∧ k < 4 ∧ i = 4 * b + k := ⟨i / 4, i % 4, by omega, by omega, by omega⟩
/-- the pigeonhole -/
theorem pg_pig : ∀ (n : Nat) (f : Nat → Nat), (∀ i, i < n + 1 → f i < n) → ∃ i j, i < j ∧ j < n + 1 ∧ f i = f j := by
  intro n
  induction n with
  | zero => intro f h; exact absurd (h 0 (by omega)) (by omega)
  | succ n ih =>
    intro f h
    by_cases e : ∃ i, i < n + 1 ∧ f i = f (n + 1)
    · obtain ⟨i, hi, he⟩ := e
      exact ⟨i, n + 1, hi, by omega, he⟩
    · have hne : ∀ i, i < n + 1 → f i ≠ f (n + 1) := fun i hi z => e ⟨i, hi, z⟩
      have hl := h (n + 1) (by omega)
      have hg : ∀ i, i < n + 1 → (if f (n + 1) < f i then f i - 1 else f i) < n := by
        intro i hi
        have h1 := hne i hi
        have h2 := h i (by omega)
        split <;> omega
      obtain ⟨i, j, hij, hj, he⟩ := ih (fun i => if f (n + 1) < f i then f i - 1 else f i) hg
      refine ⟨i, j, hij, by omega, ?_⟩
      have h1 := hne i (by omega)
      have h2 := hne j (by omega)
      split at he <;> split at he <;> omega
end
section
/-- the free runs of four frames, out of the lists of order 2 and 3 -/
def pg_F (a2 : Nat → Int32) (fr : Nat → Bool) : Prop := ∀ r, r < 8 → (fr r = true ↔ (¬ a2 (96 + 4 * r) = 0 ∨ ¬ a2 (144 + 8 * (r / 2)) = 0)) ∧ (¬ a2 (144 + 8 * (r / 2)) = 0 → a2 (96 + 4 * r) = 0)
/-- reserved blocks own different runs; a run is free or owned -/
def pg_O (R : Nat → Bool) (o : Nat → Nat) (fr : Nat → Bool) : Prop := (∀ b, b < 8 → R b = true → o b < 8 ∧ fr (o b) = false) ∧ (∀ b c, b < 8 → c < 8 → R b = true → R c = true → o b = o c → b = c) ∧ (∀ r, r < 8 → fr r = true ∨ ∃ b, b < 8 ∧ R b = true ∧ o b = r)
def pg_B (R : Nat → Bool) (o : Nat → Nat) (a5 : Nat → Int32) : Prop := ∀ b, b < 8 → R b = true → a5 (8 + b) = nI (4 * o b)
def pg_H (M : Nat → Bool) (a6 : Nat → Int32) : Prop := ∀ b, b < 8 → a6 (8 + b) = nI (pg_mk M b)
/-- the small and the large mappings -/
def pg_L (M W : Nat → Bool) (o : Nat → Nat) (a3 a4 a7 a8 : Nat → Int32) : Prop := (∀ b k, b < 8 → k < 4 → M (4 * b + k) = true → a7 (8 + b) = 0 → a3 (32 + (4 * b + k)) = nI (4 * o b + k) ∧ a4 (32 + (4 * b + k)) = pg_b (W (4 * b + k))) ∧ (∀ b k, b < 8 → k < 4 → ¬ a7 (8 + b) = 0 → M (4 * b + k) = true ∧ a8 (8 + b) = pg_b (W (4 * b + k)))
def pg_V (M : Nat → Bool) (V : Nat → Int32) (o : Nat → Nat) (a1 : Nat → Int32) : Prop := ∀ b k, b < 8 → k < 4 → M (4 * b + k) = true → a1 (4 * o b + k) = V (4 * b + k)
/-- a block that holds a page is reserved -/
def pg_R (M R : Nat → Bool) : Prop := ∀ b, b < 8 → pg_any M b → R b = true
def pg_J (o : Nat → Nat) (fr R M W : Nat → Bool) (V : Nat → Int32) (n : Nat) (u : St2) : Prop := match u with
  | (fc, uc, _, a1, a2, a3, a4, a5, a6, a7, a8, _) => fc = nI 32 ∧ uc = nI n ∧ pg_R M R ∧ pg_F a2 fr ∧ pg_O R o fr ∧ pg_B R o a5 ∧ pg_H M a6 ∧ pg_L M W o a3 a4 a7 a8 ∧ pg_V M V o a1
/-- the picture of a state -/
def pg_I (M W : Nat → Bool) (V : Nat → Int32) (n : Nat) (u : St2) : Prop := ∃ o fr R, (∀ b, b < 8 → R b = true → pg_any M b) ∧ pg_J o fr R M W V n u
/-- the block has no large mapping -/
def pg_sm (b : Nat) (u : St2) : Prop := match u with
  | (_, _, _, _, _, _, _, _, _, a7, _, _) => a7 (8 + b) = 0
theorem pg_tf {x : Bool} (h : ¬ x = true) : x = false := by
  cases x
  · rfl
  · exact absurd rfl h
theorem pg_ft {x : Bool} (h : x = false) : ¬ x = true := by
  rw [h]; decide
/-- where a block holds nothing and isn't reserved, some run is free -/
theorem pg_free {R : Nat → Bool} {o : Nat → Nat} {fr : Nat → Bool} (h : pg_O R o fr) {b0 : Nat} (hb : b0 < 8) (hR : R b0 = false) : ∃ r, r < 8 ∧ fr r = true := by
  apply Classical.byContradiction
  intro hn
  have h1 : ∀ r, ∃ b, r < 8 → b < 8 ∧ R b = true ∧ o b = r := by
    intro r
    by_cases hr : r < 8
    · rcases h.2.2 r hr with z | ⟨b, z1, z2, z3⟩
      · exact absurd ⟨r, hr, z⟩ hn
      · exact ⟨b, fun _ => ⟨z1, z2, z3⟩⟩
    · exact ⟨0, fun z => absurd z hr⟩
  obtain ⟨f, hf⟩ : ∃ f : Nat → Nat, ∀ r, r < 8 → f r < 8 ∧ R (f r) = true ∧ o (f r) = r := ⟨fun r => Classical.choose (h1 r), fun r => Classical.choose_spec (h1 r)⟩
  have h2 : ∀ r, r < 8 → f r < 8 ∧ f r ≠ b0 ∧ o (f r) = r := by
    intro r hr
    obtain ⟨z1, z2, z3⟩ := hf r hr
    refine ⟨z1, fun e => ?_, z3⟩
    rw [e, hR] at z2
    exact absurd z2 (by decide)
  obtain ⟨i, j, hij, hj, he⟩ := pg_pig 7 (fun r => if b0 < f r then f r - 1 else f r) (by
    intro r hr
    obtain ⟨z1, z2, _⟩ := h2 r hr
    split <;> omega)
  obtain ⟨i1, i2, i3⟩ := h2 i (by omega)
  obtain ⟨j1, j2, j3⟩ := h2 j (by omega)
  have : f i = f j := by
    split at he <;> split at he <;> omega
  rw [this, j3] at i3
  omega
/-- a run taken off the list of order 2 -/
theorem pg_F2 {a2 : Nat → Int32} {fr : Nat → Bool} (h : pg_F a2 fr) {t : Nat} (ht : t < 8) (hn : ¬ a2 (96 + 4 * t) = 0) : fr t = true ∧ pg_F (upd a2 (96 + 4 * t) 0) (pg_up fr t false) := by
  refine ⟨(h t ht).1.mpr (Or.inl hn), fun r hr => ?_⟩
  rw [pk_un (show 144 + 8 * (r / 2) ≠ 96 + 4 * t by omega)]
  by_cases e : r = t
  · subst e
    have h3 : a2 (144 + 8 * (r / 2)) = 0 := Classical.byContradiction (fun z => hn ((h r hr).2 z))
    rw [pk_us, pg_us, h3]
    exact ⟨⟨fun z => absurd z (by decide), fun z => by rcases z with z | z <;> exact absurd rfl z⟩, fun z => absurd rfl z⟩
  · rw [pk_un (show 96 + 4 * r ≠ 96 + 4 * t by omega), pg_un e]
    exact h r hr
/-- a run split off the list of order 3 -/
theorem pg_F3 {a2 : Nat → Int32} {fr : Nat → Bool} (h : pg_F a2 fr) {j : Nat} (hj : j < 4) (hn : ¬ a2 (144 + 8 * j) = 0) : fr (2 * j) = true ∧ pg_F (upd (upd a2 (144 + 8 * j) 0) (96 + 8 * j + 4) 1) (pg_up fr (2 * j) false) := by
  have e1 : 2 * j / 2 = j := by omega
  have e2 : (2 * j + 1) / 2 = j := by omega
  refine ⟨(h (2 * j) (by omega)).1.mpr (Or.inr (by rw [e1]; exact hn)), fun r hr => ?_⟩
  rw [pk_un (show 144 + 8 * (r / 2) ≠ 96 + 8 * j + 4 by omega)]
  by_cases e : r = 2 * j
  · subst e
    have h2 := (h (2 * j) hr).2
    rw [e1] at h2
    rw [e1, pk_us, pg_us, pk_un (show 96 + 4 * (2 * j) ≠ 96 + 8 * j + 4 by omega), pk_un (show 96 + 4 * (2 * j) ≠ 144 + 8 * j by omega), h2 hn]
    exact ⟨⟨fun z => absurd z (by decide), fun z => by rcases z with z | z <;> exact absurd rfl z⟩, fun z => absurd rfl z⟩
  · rw [pg_un e]
    by_cases e' : r = 2 * j + 1
    · subst e'
      have h2 := (h (2 * j + 1) hr).1
      rw [e2] at h2
      rw [e2, pk_us, show 96 + 4 * (2 * j + 1) = 96 + 8 * j + 4 by omega, pk_us]
      exact ⟨⟨fun _ => Or.inl (by decide), fun _ => h2.mpr (Or.inr hn)⟩, fun z => absurd rfl z⟩
    · rw [pk_un (show 96 + 4 * r ≠ 96 + 8 * j + 4 by omega), pk_un (show 96 + 4 * r ≠ 144 + 8 * j by omega), pk_un (show 144 + 8 * (r / 2) ≠ 144 + 8 * j by omega)]
      exact h r hr
/-- a run given back, its neighbour not free -/
theorem pg_G2 {a2 : Nat → Int32} {fr : Nat → Bool} (h : pg_F a2 fr) {t : Nat} (ht : t < 8) (hn : fr t = false) : pg_F (upd a2 (96 + 4 * t) 1) (pg_up fr t true) := by
  intro r hr
  rw [pk_un (show 144 + 8 * (r / 2) ≠ 96 + 4 * t by omega)]
  by_cases e : r = t
  · subst e
    have h3 : a2 (144 + 8 * (r / 2)) = 0 := Classical.byContradiction (fun z => pg_ft hn ((h r hr).1.mpr (Or.inr z)))
    rw [pk_us, pg_us, h3]
    exact ⟨⟨fun _ => Or.inl (by decide), fun _ => rfl⟩, fun z => absurd rfl z⟩
  · rw [pk_un (show 96 + 4 * r ≠ 96 + 4 * t by omega), pg_un e]
    exact h r hr
/-- a run given back, its neighbour free: the two become one of order 3 -/
theorem pg_G3 {a2 : Nat → Int32} {fr : Nat → Bool} (h : pg_F a2 fr) {t t' : Nat} (ht : t < 8) (ht' : t' < 8) (hd : t' / 2 = t / 2) (hne : t' ≠ t) (hn : fr t = false) (hf : ¬ a2 (96 + 4 * t') = 0) : pg_F (upd (upd a2 (96 + 4 * t') 0) (144 + 8 * (t / 2)) 1) (pg_up fr t true) := by
  intro r hr
  by_cases e : r = t
  · subst e
    have h3 : a2 (96 + 4 * r) = 0 := Classical.byContradiction (fun z => pg_ft hn ((h r hr).1.mpr (Or.inl z)))
    rw [pk_us, pg_us, pk_un (show 96 + 4 * r ≠ 144 + 8 * (r / 2) by omega), pk_un (show 96 + 4 * r ≠ 96 + 4 * t' by omega), h3]
    exact ⟨⟨fun _ => Or.inr (by decide), fun _ => rfl⟩, fun _ => rfl⟩
  · rw [pg_un e]
    by_cases e' : r = t'
    · subst e'
      rw [hd, pk_us, pk_un (show 96 + 4 * r ≠ 144 + 8 * (t / 2) by omega), pk_us]
      exact ⟨⟨fun _ => Or.inr (by decide), fun _ => (h r hr).1.mpr (Or.inl hf)⟩, fun _ => rfl⟩
    · rw [pk_un (show 144 + 8 * (r / 2) ≠ 144 + 8 * (t / 2) by omega), pk_un (show 144 + 8 * (r / 2) ≠ 96 + 4 * t' by omega), pk_un (show 96 + 4 * r ≠ 144 + 8 * (t / 2) by omega), pk_un (show 96 + 4 * r ≠ 96 + 4 * t' by omega)]
      exact h r hr
theorem pg_anyU {M : Nat → Bool} {b k c : Nat} {x : Bool} (hk : k < 4) (h : c ≠ b) : pg_any (pg_up M (4 * b + k) x) c ↔ pg_any M c := by
  constructor
  · rintro ⟨l, hl, e⟩
    rw [pg_un (show 4 * c + l ≠ 4 * b + k by omega)] at e
    exact ⟨l, hl, e⟩
  · rintro ⟨l, hl, e⟩
    refine ⟨l, hl, ?_⟩
    rw [pg_un (show 4 * c + l ≠ 4 * b + k by omega)]
    exact e
theorem pg_anyF {M : Nat → Bool} {b k c : Nat} (h : pg_any (pg_up M (4 * b + k) false) c) : pg_any M c := by
  obtain ⟨l, hl, e⟩ := h
  by_cases z : 4 * c + l = 4 * b + k
  · rw [pg_ue z] at e
    exact absurd e (by decide)
  · rw [pg_un z] at e
    exact ⟨l, hl, e⟩
end
section
section
variable {o : Nat → Nat} {fr R M W : Nat → Bool} {V : Nat → Int32} {n : Nat} {fc uc ck : Int32} {a1 a2 a3 a4 a5 a6 a7 a8 a9 : Nat → Int32}
/-- different mapped pages have different frames -/
theorem pg_inj (hR : pg_R M R) (hO : pg_O R o fr) {b k c l : Nat} (hb : b < 8) (hk : k < 4) (hc : c < 8) (hl : l < 4) (rb : R b = true) (mc : M (4 * c + l) = true) (e : 4 * o c + l = 4 * o b + k) : 4 * c + l = 4 * b + k := by
  have h1 : o c = o b := by omega
  have h2 : c = b := hO.2.1 c b hc hb (hR c hc ⟨l, hl, mc⟩) rb h1
  omega
/-- the clock and the times of use don't matter -/
theorem pg_Jck (h : pg_J o fr R M W V n (fc, uc, ck, a1, a2, a3, a4, a5, a6, a7, a8, a9)) (ck' : Int32) (a9' : Nat → Int32) : pg_J o fr R M W V n (fc, uc, ck', a1, a2, a3, a4, a5, a6, a7, a8, a9') := h
/-- a run is reserved for a block -/
theorem pg_Jalloc {a2' : Nat → Int32} {b r : Nat} (h : pg_J o fr R M W V n (fc, uc, ck, a1, a2, a3, a4, a5, a6, a7, a8, a9)) (hb : b < 8) (rb : R b = false) (hr : r < 8) (hf : fr r = true) (hF : pg_F a2' (pg_up fr r false)) : pg_J (pg_up o b r) (pg_up fr r false) (pg_up R b true) M W V n (fc, uc, ck, a1, a2', a3, a4, upd a5 (8 + b) (nI (4 * r)), a6, a7, a8, a9) := by
  obtain ⟨h1, h2, hR, _, hO, hB, hH, hL, hV⟩ := h
  have ne : ∀ c l, c < 8 → l < 4 → M (4 * c + l) = true → c ≠ b := by
    intro c l hc hl m e
    have := hR c hc ⟨l, hl, m⟩
    rw [e, rb] at this
    exact absurd this (by decide)
  refine ⟨h1, h2, ?_, hF, ⟨?_, ?_, ?_⟩, ?_, hH, ⟨?_, hL.2⟩, ?_⟩
  · intro c hc hm
    by_cases e : c = b
    · exact pg_ue e
    · rw [pg_un e]; exact hR c hc hm
  · intro c hc rc
    by_cases e : c = b
    · rw [pg_ue e, pg_us]; exact ⟨hr, rfl⟩
    · rw [pg_un e] at rc
      rw [pg_un e]
      obtain ⟨z1, z2⟩ := hO.1 c hc rc
      refine ⟨z1, ?_⟩
      by_cases e' : o c = r
      · exact pg_ue e'
      · rw [pg_un e']; exact z2
  · have no : ∀ c, c < 8 → R c = true → o c ≠ r := by
      intro c hc rc e
      have := (hO.1 c hc rc).2
      rw [e, hf] at this
      exact absurd this (by decide)
    intro c d hc hd rc rd e
    by_cases e1 : c = b
    · by_cases e2 : d = b
      · rw [e1, e2]
      · rw [pg_un e2] at rd
        rw [pg_ue e1, pg_un e2] at e
        exact absurd e.symm (no d hd rd)
    · by_cases e2 : d = b
      · rw [pg_un e1] at rc
        rw [pg_un e1, pg_ue e2] at e
        exact absurd e (no c hc rc)
      · rw [pg_un e1] at rc
        rw [pg_un e2] at rd
        rw [pg_un e1, pg_un e2] at e
        exact hO.2.1 c d hc hd rc rd e
  · intro q hq
    by_cases e : q = r
    · exact Or.inr ⟨b, hb, pg_us, by rw [pg_us, e]⟩
    · rw [pg_un e]
      rcases hO.2.2 q hq with z | ⟨c, z1, z2, z3⟩
      · exact Or.inl z
      · have e1 : c ≠ b := by
          intro e1
          rw [e1, rb] at z2
          exact absurd z2 (by decide)
        exact Or.inr ⟨c, z1, by rw [pg_un e1]; exact z2, by rw [pg_un e1]; exact z3⟩
  · intro c hc rc
    by_cases e : c = b
    · rw [e, pk_us, pg_us]
    · rw [pg_un e] at rc
      rw [pk_un (show 8 + c ≠ 8 + b by omega), pg_un e]
      exact hB c hc rc
  · intro c l hc hl m z
    rw [pg_un (ne c l hc hl m)]
    exact hL.1 c l hc hl m z
  · intro c l hc hl m
    rw [pg_un (ne c l hc hl m)]
    exact hV c l hc hl m
/-- a page is mapped into a reserved block -/
theorem pg_Jset {b k : Nat} {w : Bool} {v : Int32} (h : pg_J o fr R M W V n (fc, uc, ck, a1, a2, a3, a4, a5, a6, a7, a8, a9)) (hb : b < 8) (hk : k < 4) (rb : R b = true) (hm : M (4 * b + k) = false) : pg_J o fr R (pg_up M (4 * b + k) true) (pg_up W (4 * b + k) w) (pg_up V (4 * b + k) v) (n + 1) (fc, uc + 1, ck, upd a1 (4 * o b + k) v, a2, upd a3 (32 + (4 * b + k)) (nI (4 * o b + k)), upd a4 (32 + (4 * b + k)) (pg_b w), a5, upd a6 (8 + b) (nI (pg_mk (pg_up M (4 * b + k) true) b)), a7, a8, a9) := by
  obtain ⟨h1, h2, hR, hF, hO, hB, hH, hL, hV⟩ := h
  have s0 : a7 (8 + b) = 0 := Classical.byContradiction (fun z => pg_ft hm (hL.2 b k hb hk z).1)
  refine ⟨h1, by rw [h2, nI_1], ?_, hF, hO, hB, ?_, ⟨?_, ?_⟩, ?_⟩
  · intro c hc ha
    by_cases e : c = b
    · rw [e]; exact rb
    · exact hR c hc ((pg_anyU hk e).mp ha)
  · intro c hc
    by_cases e : c = b
    · rw [e, pk_us]
    · rw [pk_un (show 8 + c ≠ 8 + b by omega), pg_mko hk e]
      exact hH c hc
  · intro c l hc hl m z
    by_cases e : 4 * c + l = 4 * b + k
    · have e1 : c = b := by omega
      have e2 : l = k := by omega
      rw [e1, e2, pk_us, pk_us, pg_us]
      exact ⟨rfl, rfl⟩
    · rw [pg_un e] at m
      rw [pg_un e, pk_un (show 32 + (4 * c + l) ≠ 32 + (4 * b + k) by omega), pk_un (show 32 + (4 * c + l) ≠ 32 + (4 * b + k) by omega)]
      exact hL.1 c l hc hl m z
  · intro c l hc hl z
    have e : c ≠ b := fun e => z (by rw [e]; exact s0)
    rw [pg_un (show 4 * c + l ≠ 4 * b + k by omega), pg_un (show 4 * c + l ≠ 4 * b + k by omega)]
    exact hL.2 c l hc hl z
  · intro c l hc hl m
    by_cases e : 4 * c + l = 4 * b + k
    · have e1 : c = b := by omega
      have e2 : l = k := by omega
      rw [e1, e2, pk_us, pg_us]
    · rw [pg_un e] at m
      rw [pg_un e, pk_un (fun z => e (pg_inj hR hO hb hk hc hl rb m z))]
      exact hV c l hc hl m
/-- a page is taken out; the reservation stays -/
theorem pg_Jout {b k : Nat} (h : pg_J o fr R M W V (n + 1) (fc, uc, ck, a1, a2, a3, a4, a5, a6, a7, a8, a9)) (hb : b < 8) (hk : k < 4) (hm : M (4 * b + k) = true) (s0 : a7 (8 + b) = 0) : pg_J o fr R (pg_up M (4 * b + k) false) W V n (fc, uc - 1, ck, upd a1 (4 * o b + k) 0, a2, upd a3 (32 + (4 * b + k)) (-1), a4, a5, upd a6 (8 + b) (nI (pg_mk (pg_up M (4 * b + k) false) b)), a7, a8, a9) := by
  obtain ⟨h1, h2, hR, hF, hO, hB, hH, hL, hV⟩ := h
  have rb : R b = true := hR b hb ⟨k, hk, hm⟩
  have nm : ∀ j, pg_up M (4 * b + k) false j = true → j ≠ 4 * b + k ∧ M j = true := by
    intro j m
    by_cases e : j = 4 * b + k
    · rw [pg_ue e] at m
      exact absurd m (by decide)
    · rw [pg_un e] at m
      exact ⟨e, m⟩
  refine ⟨h1, by rw [h2, nI_pred], ?_, hF, hO, hB, ?_, ⟨?_, ?_⟩, ?_⟩
  · intro c hc ha
    exact hR c hc (pg_anyF ha)
  · intro c hc
    by_cases e : c = b
    · rw [e, pk_us]
    · rw [pk_un (show 8 + c ≠ 8 + b by omega), pg_mko hk e]
      exact hH c hc
  · intro c l hc hl m z
    obtain ⟨e, m'⟩ := nm _ m
    rw [pk_un (show 32 + (4 * c + l) ≠ 32 + (4 * b + k) by omega)]
    exact hL.1 c l hc hl m' z
  · intro c l hc hl z
    have e : c ≠ b := fun e => z (by rw [e]; exact s0)
    rw [pg_un (show 4 * c + l ≠ 4 * b + k by omega)]
    exact hL.2 c l hc hl z
  · intro c l hc hl m
    obtain ⟨e, m'⟩ := nm _ m
    rw [pk_un (fun z => e (pg_inj hR hO hb hk hc hl rb m' z))]
    exact hV c l hc hl m'
/-- an empty block's run is given back -/
theorem pg_Jgive {a2' : Nat → Int32} {b : Nat} {x : Int32} (h : pg_J o fr R M W V n (fc, uc, ck, a1, a2, a3, a4, a5, a6, a7, a8, a9)) (hb : b < 8) (rb : R b = true) (ha : ¬ pg_any M b) (hF : pg_F a2' (pg_up fr (o b) true)) : pg_J o (pg_up fr (o b) true) (pg_up R b false) M W V n (fc, uc, ck, a1, a2', a3, a4, upd a5 (8 + b) x, a6, a7, a8, a9) := by
  obtain ⟨h1, h2, hR, _, hO, hB, hH, hL, hV⟩ := h
  have nr : ∀ c, pg_up R b false c = true → c ≠ b ∧ R c = true := by
    intro c rc
    by_cases e : c = b
    · rw [pg_ue e] at rc
      exact absurd rc (by decide)
    · rw [pg_un e] at rc
      exact ⟨e, rc⟩
  refine ⟨h1, h2, ?_, hF, ⟨?_, ?_, ?_⟩, ?_, hH, hL, hV⟩
  · intro c hc hm
    by_cases e : c = b
    · rw [e] at hm
      exact absurd hm ha
    · rw [pg_un e]; exact hR c hc hm
  · intro c hc rc
    obtain ⟨e, rc'⟩ := nr c rc
    obtain ⟨z1, z2⟩ := hO.1 c hc rc'
    refine ⟨z1, ?_⟩
    rw [pg_un (fun z => e (hO.2.1 c b hc hb rc' rb z))]
    exact z2
  · intro c d hc hd rc rd e
    exact hO.2.1 c d hc hd (nr c rc).2 (nr d rd).2 e
  · intro q hq
    by_cases e : q = o b
    · exact Or.inl (pg_ue e)
    · rcases hO.2.2 q hq with z | ⟨c, z1, z2, z3⟩
      · exact Or.inl (by rw [pg_un e]; exact z)
      · have e1 : c ≠ b := fun e1 => e (by rw [← z3, e1])
        exact Or.inr ⟨c, z1, by rw [pg_un e1]; exact z2, z3⟩
  · intro c hc rc
    obtain ⟨e, rc'⟩ := nr c rc
    rw [pk_un (show 8 + c ≠ 8 + b by omega)]
    exact hB c hc rc'
/-- one page's right to be written -/
theorem pg_Jwr {b k : Nat} {w : Bool} (h : pg_J o fr R M W V n (fc, uc, ck, a1, a2, a3, a4, a5, a6, a7, a8, a9)) (hk : k < 4) (s0 : a7 (8 + b) = 0) : pg_J o fr R M (pg_up W (4 * b + k) w) V n (fc, uc, ck, a1, a2, a3, upd a4 (32 + (4 * b + k)) (pg_b w), a5, a6, a7, a8, a9) := by
  obtain ⟨h1, h2, hR, hF, hO, hB, hH, hL, hV⟩ := h
  refine ⟨h1, h2, hR, hF, hO, hB, hH, ⟨?_, ?_⟩, hV⟩
  · intro c l hc hl m z
    by_cases e : 4 * c + l = 4 * b + k
    · have e1 : c = b := by omega
      have e2 : l = k := by omega
      subst e1 e2
      rw [pk_us, pg_us]
      exact ⟨(hL.1 c l hc hl m z).1, rfl⟩
    · rw [pg_un e, pk_un (show 32 + (4 * c + l) ≠ 32 + (4 * b + k) by omega)]
      exact hL.1 c l hc hl m z
  · intro c l hc hl z
    have e : c ≠ b := fun e => z (by rw [e]; exact s0)
    rw [pg_un (show 4 * c + l ≠ 4 * b + k by omega)]
    exact hL.2 c l hc hl z
/-- a block gets a large mapping -/
theorem pg_Jjoin {b : Nat} {a3' : Nat → Int32} (h : pg_J o fr R M W V n (fc, uc, ck, a1, a2, a3, a4, a5, a6, a7, a8, a9)) (hm : ∀ k, k < 4 → M (4 * b + k) = true) (hw : ∀ k, k < 4 → W (4 * b + k) = W (4 * b + 0)) (h3 : ∀ j, (j < 32 + 4 * b ∨ 32 + 4 * b + 4 ≤ j) → a3' j = a3 j) : pg_J o fr R M W V n (fc, uc, ck, a1, a2, a3', a4, a5, a6, upd a7 (8 + b) 1, upd a8 (8 + b) (pg_b (W (4 * b + 0))), a9) := by
  obtain ⟨h1, h2, hR, hF, hO, hB, hH, hL, hV⟩ := h
  refine ⟨h1, h2, hR, hF, hO, hB, hH, ⟨?_, ?_⟩, hV⟩
  · intro c l hc hl m z
    by_cases e : c = b
    · rw [e, pk_us] at z
      exact absurd z (by decide)
    · rw [pk_un (show 8 + c ≠ 8 + b by omega)] at z
      rw [h3 _ (by omega)]
      exact hL.1 c l hc hl m z
  · intro c l hc hl z
    by_cases e : c = b
    · rw [e, pk_us]
      exact ⟨hm l hl, by rw [hw l hl]⟩
    · rw [pk_un (show 8 + c ≠ 8 + b by omega)] at z
      rw [pk_un (show 8 + c ≠ 8 + b by omega)]
      exact hL.2 c l hc hl z
/-- a large mapping becomes four small ones -/
theorem pg_Jbreak {b : Nat} {a3' a4' : Nat → Int32} (h : pg_J o fr R M W V n (fc, uc, ck, a1, a2, a3, a4, a5, a6, a7, a8, a9)) (hs : ∀ k, k < 4 → a3' (32 + (4 * b + k)) = nI (4 * o b + k) ∧ a4' (32 + (4 * b + k)) = pg_b (W (4 * b + k))) (h3 : ∀ j, (j < 32 + 4 * b ∨ 32 + 4 * b + 4 ≤ j) → a3' j = a3 j ∧ a4' j = a4 j) : pg_J o fr R M W V n (fc, uc, ck, a1, a2, a3', a4', a5, a6, upd a7 (8 + b) 0, a8, a9) := by
  obtain ⟨h1, h2, hR, hF, hO, hB, hH, hL, hV⟩ := h
  refine ⟨h1, h2, hR, hF, hO, hB, hH, ⟨?_, ?_⟩, hV⟩
  · intro c l hc hl m z
    by_cases e : c = b
    · rw [e]
      exact hs l hl
    · rw [pk_un (show 8 + c ≠ 8 + b by omega)] at z
      rw [(h3 _ (by omega)).1, (h3 _ (by omega)).2]
      exact hL.1 c l hc hl m z
  · intro c l hc hl z
    by_cases e : c = b
    · rw [e, pk_us] at z
      exact absurd rfl z
    · rw [pk_un (show 8 + c ≠ 8 + b by omega)] at z
      exact hL.2 c l hc hl z
end
end
section
section
variable {o : Nat → Nat} {fr R M W : Nat → Bool} {V : Nat → Int32} {n : Nat} {fc uc ck : Int32} {a1 a2 a3 a4 a5 a6 a7 a8 a9 : Nat → Int32}
theorem pg_i2 (x : Nat) : (48 * 2 : Int32) + nI x = nI (96 + x) := by
  rw [show (48 * 2 : Int32) = nI 96 from rfl, nI_add]
theorem pg_i3 (x : Nat) : (48 * 3 : Int32) + nI x = nI (144 + x) := by
  rw [show (48 * 3 : Int32) = nI 144 from rfl, nI_add]
theorem pg_sl2 : ((1 : Int32) <<< ((2 : Int32) &&& 31)) = nI 4 := by decide
theorem pg_sl3 : ((1 : Int32) <<< ((3 : Int32) &&& 31)) = nI 8 := by decide
theorem pg_st2 (i : Nat) : nI (4 * i) + ((1 : Int32) <<< ((2 : Int32) &&& 31)) = nI (4 * (i + 1)) := by
  rw [pg_sl2, nI_add, show 4 * i + 4 = 4 * (i + 1) by omega]
theorem pg_st3 (i : Nat) : nI (8 * i) + ((1 : Int32) <<< ((3 : Int32) &&& 31)) = nI (8 * (i + 1)) := by
  rw [pg_sl3, nI_add, show 8 * i + 8 = 8 * (i + 1) by omega]
/-- order 2: nothing found -/
theorem pg_s2n {post : Int32 → St2 → Prop} {J2 : Int32 → Prop} {x1 : Int32} (h : ∀ t, t < 8 → a2 (96 + 4 * t) = 0) (H : J2 3) : ∃ n, wX_allocate_2_9 post J2 x1 2 (nI 32) uc ck a1 a2 a3 a4 a5 a6 a7 a8 a9 n 0 :=
  pk_loop (σ := Unit) (fun n i _ => wX_allocate_2_9 post J2 x1 2 (nI 32) uc ck a1 a2 a3 a4 a5 a6 a7 a8 a9 n (nI (4 * i))) (fun _ _ => True) 8 0 () (by omega) trivial
    (fun n _ _ => pk_le 32 (4 * 8) (fun _ => nm_r (show (2 : Int32) + 1 = 3 by decide) H) (fun z => absurd z (by omega)))
    (fun n i _ hi _ hw => pk_le 32 (4 * i) (fun z => absurd z (by omega)) (fun _ => ⟨pk_in (96 + 4 * i) 192 (by omega) (pg_i2 _), br_t (by rw [pg_i2, nI_clamp (by omega)]; exact h i hi) (nm_r (pg_st2 i) (hw () trivial))⟩))
theorem pg_sp2 {post : St2 → Prop} {u : St2} {p : Int32} (h : post u) : wpX_split_2 post u p 2 2 := by
  obtain ⟨f1, f2, f3, b1, b2, b3, b4, b5, b6, b7, b8, b9⟩ := u
  unfold wpX_split_2
  dsimp only
  exact nm_r (show (2 : Int32) - 1 = 1 by decide) ⟨1, br_t (by decide) h⟩
theorem pg_sp3 {post : St2 → Prop} {j : Nat} (hj : j < 4) (h : post (fc, uc, ck, a1, upd a2 (96 + 8 * j + 4) 1, a3, a4, a5, a6, a7, a8, a9)) : wpX_split_2 post (fc, uc, ck, a1, a2, a3, a4, a5, a6, a7, a8, a9) (nI (8 * j)) 3 2 := by
  unfold wpX_split_2
  dsimp only
  have e : (48 * 2 : Int32) + nI (8 * j) + ((1 : Int32) <<< ((2 : Int32) &&& 31)) = nI (96 + 8 * j + 4) := by
    rw [pg_i2, pg_sl2, nI_add]
  exact nm_r (show (3 : Int32) - 1 = 2 by decide) ⟨2, br_f (by decide) ⟨pk_in (96 + 8 * j + 4) 192 (by omega) e, nm_r (by rw [e, nI_clamp (by omega)]) (nm_r (show (2 : Int32) + (-1) = 1 by decide) (br_t (by decide) h))⟩⟩
/-- order 2: found -/
theorem pg_s2f {post : Int32 → St2 → Prop} {J2 : Int32 → Prop} {t : Nat} (ht : t < 8) (hn : ¬ a2 (96 + 4 * t) = 0) (h : ∀ j, j < t → a2 (96 + 4 * j) = 0) (H : post (nI (4 * t)) (nI 32, uc, ck, a1, upd a2 (96 + 4 * t) 0, a3, a4, a5, a6, a7, a8, a9)) : ∃ n, wX_allocate_2_9 post J2 2 2 (nI 32) uc ck a1 a2 a3 a4 a5 a6 a7 a8 a9 n 0 :=
  pk_loop (σ := Unit) (fun n i _ => wX_allocate_2_9 post J2 2 2 (nI 32) uc ck a1 a2 a3 a4 a5 a6 a7 a8 a9 n (nI (4 * i))) (fun _ _ => True) t 0 () (by omega) trivial
    (fun n _ _ => pk_le 32 (4 * t) (fun z => absurd z (by omega)) (fun _ => ⟨pk_in (96 + 4 * t) 192 (by omega) (pg_i2 _), br_f (by rw [pg_i2, nI_clamp (by omega)]; exact hn) ⟨pk_in (96 + 4 * t) 192 (by omega) (pg_i2 _), nm_r (by rw [pg_i2, nI_clamp (by omega)]) (pg_sp2 H)⟩⟩))
    (fun n i _ hi _ hw => pk_le 32 (4 * i) (fun z => absurd z (by omega)) (fun _ => ⟨pk_in (96 + 4 * i) 192 (by omega) (pg_i2 _), br_t (by rw [pg_i2, nI_clamp (by omega)]; exact h i hi) (nm_r (pg_st2 i) (hw () trivial))⟩))
/-- order 3: found -/
theorem pg_s3f {post : Int32 → St2 → Prop} {J2 : Int32 → Prop} {t : Nat} (ht : t < 4) (hn : ¬ a2 (144 + 8 * t) = 0) (h : ∀ j, j < t → a2 (144 + 8 * j) = 0) (H : post (nI (8 * t)) (nI 32, uc, ck, a1, upd (upd a2 (144 + 8 * t) 0) (96 + 8 * t + 4) 1, a3, a4, a5, a6, a7, a8, a9)) : ∃ n, wX_allocate_2_9 post J2 2 3 (nI 32) uc ck a1 a2 a3 a4 a5 a6 a7 a8 a9 n 0 :=
  pk_loop (σ := Unit) (fun n i _ => wX_allocate_2_9 post J2 2 3 (nI 32) uc ck a1 a2 a3 a4 a5 a6 a7 a8 a9 n (nI (8 * i))) (fun _ _ => True) t 0 () (by omega) trivial
    (fun n _ _ => pk_le 32 (8 * t) (fun z => absurd z (by omega)) (fun _ => ⟨pk_in (144 + 8 * t) 192 (by omega) (pg_i3 _), br_f (by rw [pg_i3, nI_clamp (by omega)]; exact hn) ⟨pk_in (144 + 8 * t) 192 (by omega) (pg_i3 _), nm_r (by rw [pg_i3, nI_clamp (by omega)]) (pg_sp3 ht H)⟩⟩))
    (fun n i _ hi _ hw => pk_le 32 (8 * i) (fun z => absurd z (by omega)) (fun _ => ⟨pk_in (144 + 8 * i) 192 (by omega) (pg_i3 _), br_t (by rw [pg_i3, nI_clamp (by omega)]; exact h i hi) (nm_r (pg_st3 i) (hw () trivial))⟩))
theorem pg_alloc {post : Int32 → St2 → Prop} (hF : pg_F a2 fr) (hex : ∃ r, r < 8 ∧ fr r = true) (H : ∀ (r : Nat) (a2' : Nat → Int32), r < 8 → fr r = true → pg_F a2' (pg_up fr r false) → post (nI (4 * r)) (nI 32, uc, ck, a1, a2', a3, a4, a5, a6, a7, a8, a9)) : wpX_allocate_2 post (nI 32, uc, ck, a1, a2, a3, a4, a5, a6, a7, a8, a9) 2 := by
  unfold wpX_allocate_2
  dsimp only
  by_cases c : ∃ t, t < 8 ∧ ¬ a2 (96 + 4 * t) = 0
  · obtain ⟨t, ⟨ht, hn⟩, hl⟩ := pk_least (fun t => t < 8 ∧ ¬ a2 (96 + 4 * t) = 0) c
    have hl' : ∀ j, j < t → a2 (96 + 4 * j) = 0 := fun j hj => Classical.byContradiction (fun z => hl j hj ⟨by omega, z⟩)
    obtain ⟨z1, z2⟩ := pg_F2 hF ht hn
    exact ⟨1, br_f (by decide) (pg_s2f ht hn hl' (H t _ ht z1 z2))⟩
  · have hz : ∀ t, t < 8 → a2 (96 + 4 * t) = 0 := fun t ht => Classical.byContradiction (fun z => c ⟨t, ht, z⟩)
    have c3 : ∃ t, t < 4 ∧ ¬ a2 (144 + 8 * t) = 0 := by
      obtain ⟨r, hr, hf⟩ := hex
      rcases (hF r hr).1.mp hf with z | z
      · exact absurd (hz r hr) z
      · exact ⟨r / 2, by omega, z⟩
    obtain ⟨t, ⟨ht, hn⟩, hl⟩ := pk_least (fun t => t < 4 ∧ ¬ a2 (144 + 8 * t) = 0) c3
    have hl' : ∀ j, j < t → a2 (144 + 8 * j) = 0 := fun j hj => Classical.byContradiction (fun z => hl j hj ⟨by omega, z⟩)
    obtain ⟨z1, z2⟩ := pg_F3 hF ht hn
    have H' := H (2 * t) _ (by omega) z1 z2
    rw [show 4 * (2 * t) = 8 * t by omega] at H'
    exact ⟨2, br_f (by decide) (pg_s2n hz (br_f (by decide) (pg_s3f ht hn hl' H')))⟩
theorem pg_gb {post : St2 → Prop} {t : Nat} (hF : pg_F a2 fr) (ht : t < 8) (hn : fr t = false) (H : ∀ a2' : Nat → Int32, pg_F a2' (pg_up fr t true) → post (fc, uc, ck, a1, a2', a3, a4, a5, a6, a7, a8, a9)) : wpX_giveBack post (fc, uc, ck, a1, a2, a3, a4, a5, a6, a7, a8, a9) (nI (4 * t)) 2 := by
  unfold wpX_giveBack
  dsimp only
  have hx := pg_xr t ht
  generalize ht' : (if t % 2 = 0 then t + 1 else t - 1) = t' at hx
  have h8 : t' < 8 ∧ t' / 2 = t / 2 ∧ t' ≠ t := by
    split at ht' <;> omega
  have e3 : (2 : Int32) + 1 = 3 := by decide
  have e1 : (0 : Int32) + 1 = 1 := by decide
  refine ⟨2, br_f (by decide) (br_f (by decide) (nm_r hx ⟨pk_in (96 + 4 * t') 192 (by omega) (pg_i2 _), br_c (fun z => ?_) (fun z => ⟨pk_in (96 + 4 * t') 192 (by omega) (pg_i2 _), nm_r (e' := upd a2 (96 + 4 * t') 0) (by rw [pg_i2, nI_clamp (by omega)]) ?_⟩)⟩))⟩
  · exact ⟨pk_in (96 + 4 * t) 192 (by omega) (pg_i2 _), nm_r (by rw [pg_i2, nI_clamp (by omega)]) (H _ (pg_G2 hF ht hn))⟩
  · rw [pg_i2, nI_clamp (by omega)] at z
    have G := H _ (pg_G3 hF ht h8.1 h8.2.1 h8.2.2 hn z)
    refine pk_le (4 * t') (4 * t) (fun y => nm_r e3 (nm_r e1 ?_)) (fun y => nm_r e3 (nm_r e1 ?_))
    · refine br_f (by decide) (br_t (by decide) ⟨pk_in (144 + 4 * t') 192 (by omega) (pg_i3 _), nm_r (e' := upd (upd a2 (96 + 4 * t') 0) (144 + 8 * (t / 2)) 1) (by rw [pg_i3, nI_clamp (by omega), show 144 + 4 * t' = 144 + 8 * (t / 2) by omega]) G⟩)
    · refine br_f (by decide) (br_t (by decide) ⟨pk_in (144 + 4 * t) 192 (by omega) (pg_i3 _), nm_r (e' := upd (upd a2 (96 + 4 * t') 0) (144 + 8 * (t / 2)) 1) (by rw [pg_i3, nI_clamp (by omega), show 144 + 4 * t = 144 + 8 * (t / 2) by omega]) G⟩)
theorem pg_join {post : St2 → Prop} {u : St2} {b : Nat} (hb : b < 8) (h : pg_J o fr R M W V n u) (H : ∀ u', pg_J o fr R M W V n u' → post u') : wpX_joinUp post u (nI (8 + b)) := by
  obtain ⟨fc, uc, ck, a1, a2, a3, a4, a5, a6, a7, a8, a9⟩ := u
  unfold wpX_joinUp
  dsimp only
  rw [nI_clamp (show 8 + b < 2 ^ 31 by omega)]
  have hP := h
  obtain ⟨_, _, _, _, _, _, hH, hL, _⟩ := hP
  refine ⟨pk_in (8 + b) 16 (by omega), br_c (fun _ => H _ h) (fun _ => ⟨pk_in (8 + b) 16 (by omega), br_c (fun e15 => ⟨pk_in (8 + b) 16 (by omega), br_c (fun e0 => ?_) (fun _ => H _ h)⟩) (fun _ => H _ h)⟩)⟩
  have hm : ∀ k, k < 4 → M (4 * b + k) = true := (pg_mk15 M b).mp (by rw [← hH b hb]; exact e15)
  have hw : ∀ k, k < 4 → a4 (32 + (4 * b + k)) = pg_b (W (4 * b + k)) := fun k hk => (hL.1 b k hb hk (hm k hk) e0).2
  refine pk_loop (σ := Unit) (fun n i _ => wX_joinUp_33 post (nI (8 + b)) fc uc ck a1 a2 a3 a4 a5 a6 a7 a8 a9 n (nI i)) (fun i _ => ∀ k, k < i → W (4 * b + k) = W (4 * b + 0)) 4 1 () (by omega) (fun k hk => by rw [show k = 0 by omega]) ?_ ?_
  · intro n _ hi
    refine pk_le 4 4 (fun _ => ⟨pk_in (8 + b) 16 (by omega), nm_r (e' := upd a7 (8 + b) 1) (by rw [nI_clamp (show 8 + b < 2 ^ 31 by omega)]) ⟨pk_in (32 + (4 * b + 0)) 64 (by omega) (pg_40 b), pk_in (8 + b) 16 (by omega), nm_r (e' := upd a8 (8 + b) (pg_b (W (4 * b + 0)))) (by rw [pg_40, nI_clamp (show 8 + b < 2 ^ 31 by omega), nI_clamp (show 32 + (4 * b + 0) < 2 ^ 31 by omega), hw 0 (by omega), pg_bnar]) ?_⟩⟩) (fun z => absurd z (by omega))
    exact pk_loop (fun n i s => wX_joinUp_89 post (nI (8 + b)) fc uc ck n (nI i) a1 a2 s a4 a5 a6 (upd a7 (8 + b) 1) (upd a8 (8 + b) (pg_b (W (4 * b + 0)))) a9) (fun i s => ∀ j, (j < 32 + 4 * b ∨ 32 + 4 * b + 4 ≤ j) → s j = a3 j) 4 0 a3 (by omega) (fun _ _ => rfl)
      (fun n s hs => pk_le 4 4 (fun _ => H _ (pg_Jjoin h hm hi hs)) (fun z => absurd z (by omega)))
      (fun n i s hi hs hv => pk_le 4 i (fun z => absurd z (by omega)) (fun _ => ⟨pk_in (32 + (4 * b + i)) 64 (by omega) (pg_4 b i), nm_r (e' := upd s (32 + (4 * b + i)) (-1)) (by rw [pg_4, nI_clamp (by omega)]) (nm_r (nI_1 i) (hv _ (fun j hj => by rw [pk_un (show j ≠ 32 + (4 * b + i) by omega)]; exact hs j hj)))⟩))
  · intro n i _ hi hI hv
    refine pk_le 4 i (fun z => absurd z (by omega)) (fun _ => ⟨pk_in (32 + (4 * b + i)) 64 (by omega) (pg_4 b i), pk_in (32 + (4 * b + 0)) 64 (by omega) (pg_40 b), br_c (fun e => nm_r (nI_1 i) (hv () ?_)) (fun _ => H _ h)⟩)
    rw [pg_4, pg_40, nI_clamp (show 32 + (4 * b + i) < 2 ^ 31 by omega), nI_clamp (show 32 + (4 * b + 0) < 2 ^ 31 by omega), hw i hi, hw 0 (by omega)] at e
    intro k hk
    by_cases y : k = i
    · rw [y]; exact pg_binj e
    · exact hI k (by omega)
theorem pg_break {post : St2 → Prop} {u : St2} {b : Nat} (hb : b < 8) (h : pg_J o fr R M W V n u) (H : ∀ u', pg_J o fr R M W V n u' → pg_sm b u' → post u') : wpX_breakUp post u (nI (8 + b)) := by
  obtain ⟨fc, uc, ck, a1, a2, a3, a4, a5, a6, a7, a8, a9⟩ := u
  unfold wpX_breakUp
  dsimp only
  rw [nI_clamp (show 8 + b < 2 ^ 31 by omega)]
  have hP := h
  obtain ⟨_, _, hR, _, _, hB, _, hL, _⟩ := hP
  refine ⟨pk_in (8 + b) 16 (by omega), br_c (fun z => H _ h z) (fun z => ?_)⟩
  have h8 : ∀ k, k < 4 → a8 (8 + b) = pg_b (W (4 * b + k)) := fun k hk => (hL.2 b k hb hk z).2
  have h5 : a5 (8 + b) = nI (4 * o b) := hB b hb (hR b hb ⟨0, by omega, (hL.2 b 0 hb (by omega) z).1⟩)
  have cl : (nI (8 + b)).toNatClampNeg = 8 + b := nI_clamp (by omega)
  exact pk_loop (fun n i (s : (Nat → Int32) × (Nat → Int32)) => wX_breakUp_12 post (nI (8 + b)) fc uc ck n (nI i) a1 a2 s.1 s.2 a5 a6 a7 a8 a9) (fun i s => (∀ k, k < i → s.1 (32 + (4 * b + k)) = nI (4 * o b + k) ∧ s.2 (32 + (4 * b + k)) = pg_b (W (4 * b + k))) ∧ (∀ j, (j < 32 + 4 * b ∨ 32 + 4 * b + 4 ≤ j) → s.1 j = a3 j ∧ s.2 j = a4 j)) 4 0 (a3, a4) (by omega) ⟨fun k hk => absurd hk (by omega), fun _ _ => ⟨rfl, rfl⟩⟩
    (fun n s hs => pk_le 4 4 (fun _ => ⟨pk_in (8 + b) 16 (by omega), nm_r (e' := upd a7 (8 + b) 0) (by rw [cl]) (H _ (pg_Jbreak h hs.1 hs.2) (show upd a7 (8 + b) 0 (8 + b) = 0 from pk_us))⟩) (fun z => absurd z (by omega)))
    (fun n i s hi hs hv => pk_le 4 i (fun z => absurd z (by omega)) (fun _ => ⟨pk_in (8 + b) 16 (by omega), pk_in (32 + (4 * b + i)) 64 (by omega) (pg_4 b i), nm_r (e' := upd s.1 (32 + (4 * b + i)) (nI (4 * o b + i))) (by rw [pg_4, nI_clamp (show 32 + (4 * b + i) < 2 ^ 31 by omega), cl, h5, nI_add]) ⟨pk_in (8 + b) 16 (by omega), pk_in (32 + (4 * b + i)) 64 (by omega) (pg_4 b i), nm_r (e' := upd s.2 (32 + (4 * b + i)) (pg_b (W (4 * b + i)))) (by rw [pg_4, nI_clamp (show 32 + (4 * b + i) < 2 ^ 31 by omega), cl, h8 i hi, pg_bnar]) (nm_r (nI_1 i) (hv (upd s.1 (32 + (4 * b + i)) (nI (4 * o b + i)), upd s.2 (32 + (4 * b + i)) (pg_b (W (4 * b + i)))) ⟨fun k hk => by
      dsimp only
      by_cases y : k = i
      · rw [y, pk_us, pk_us]; exact ⟨rfl, rfl⟩
      · rw [pk_un (show 32 + (4 * b + k) ≠ 32 + (4 * b + i) by omega), pk_un (show 32 + (4 * b + k) ≠ 32 + (4 * b + i) by omega)]; exact hs.1 k (by omega), fun j hj => by
      dsimp only
      rw [pk_un (show j ≠ 32 + (4 * b + i) by omega), pk_un (show j ≠ 32 + (4 * b + i) by omega)]; exact hs.2 j hj⟩))⟩⟩))
end
end
section
section
variable {o : Nat → Nat} {fr R M W : Nat → Bool} {V : Nat → Int32} {n : Nat} {fc uc ck : Int32} {a1 a2 a3 a4 a5 a6 a7 a8 a9 : Nat → Int32}
theorem pg_has {post : Int32 → Prop} {u : St2} {i : Nat} (h : pg_I M W V n u) (hi : i < 32) (H : post (pg_b (M i))) : wpX_has post u (nI (32 + i)) := by
  obtain ⟨b, k, hb, hk, rfl⟩ := pg_bk hi
  obtain ⟨fc, uc, ck, a1, a2, a3, a4, a5, a6, a7, a8, a9⟩ := u
  obtain ⟨o, fr, R, _, _, _, _, _, _, _, hH, _⟩ := h
  unfold wpX_has
  dsimp only
  rw [pg_sh b hb k hk, pg_an b hb k hk, nI_clamp (show 8 + b < 2 ^ 31 by omega), hH b hb]
  cases e : M (4 * b + k) with
  | true =>
    rw [e] at H
    exact ⟨pk_in (8 + b) 16 (by omega), br_t ((pg_bit M b hk).mpr e) H⟩
  | false =>
    rw [e] at H
    exact ⟨pk_in (8 + b) 16 (by omega), br_f (fun z => pg_ft e ((pg_bit M b hk).mp z)) H⟩
theorem pg_mayW {post : Int32 → Prop} {u : St2} {i : Nat} (h : pg_I M W V n u) (hi : i < 32) (m : M i = true) (H : post (pg_b (W i))) : wpX_mayWrite post u (nI (32 + i)) := by
  obtain ⟨b, k, hb, hk, rfl⟩ := pg_bk hi
  obtain ⟨fc, uc, ck, a1, a2, a3, a4, a5, a6, a7, a8, a9⟩ := u
  obtain ⟨o, fr, R, _, _, _, _, _, _, _, _, hL, _⟩ := h
  unfold wpX_mayWrite
  dsimp only
  rw [pg_sh b hb k hk, nI_clamp (show 8 + b < 2 ^ 31 by omega), nI_clamp (show 32 + (4 * b + k) < 2 ^ 31 by omega)]
  refine ⟨pk_in (8 + b) 16 (by omega), br_c (fun z => ?_) (fun z => ?_)⟩
  · rw [(hL.1 b k hb hk m z).2]
    exact ⟨pk_in (32 + (4 * b + k)) 64 (by omega), pg_bfit _, H⟩
  · rw [(hL.2 b k hb hk z).2]
    exact ⟨pk_in (8 + b) 16 (by omega), pg_bfit _, H⟩
theorem pg_trans {post : Int32 → Prop} {u : St2} {b k : Nat} (h : pg_J o fr R M W V n u) (hb : b < 8) (hk : k < 4) (m : M (4 * b + k) = true) (H : post (nI (4 * o b + k))) : wpX_translate post u (nI (32 + (4 * b + k))) := by
  obtain ⟨fc, uc, ck, a1, a2, a3, a4, a5, a6, a7, a8, a9⟩ := u
  obtain ⟨_, _, hR, _, _, hB, _, hL, _⟩ := h
  unfold wpX_translate
  dsimp only
  refine nm_r (pg_sh b hb k hk) ?_
  rw [nI_clamp (show 8 + b < 2 ^ 31 by omega), nI_clamp (show 32 + (4 * b + k) < 2 ^ 31 by omega)]
  refine ⟨pk_in (8 + b) 16 (by omega), br_c (fun z => ⟨pk_in (32 + (4 * b + k)) 64 (by omega), ?_⟩) (fun z => ⟨pk_in (8 + b) 16 (by omega), ?_⟩)⟩
  · rw [(hL.1 b k hb hk m z).1]
    exact H
  · rw [hB b hb (hR b hb ⟨k, hk, m⟩), pg_an b hb k hk, nI_add]
    exact H
theorem pg_cont {post : Int32 → Prop} {u : St2} {i : Nat} (h : pg_I M W V n u) (hi : i < 32) (m : M i = true) (H : post (V i)) : wpX_content post u (nI (32 + i)) := by
  obtain ⟨b, k, hb, hk, rfl⟩ := pg_bk hi
  obtain ⟨fc, uc, ck, a1, a2, a3, a4, a5, a6, a7, a8, a9⟩ := u
  obtain ⟨o, fr, R, _, h⟩ := h
  have hP := h
  obtain ⟨_, _, hR, _, hO, _, _, _, hV⟩ := hP
  have ho := (hO.1 b hb (hR b hb ⟨k, hk, m⟩)).1
  unfold wpX_content
  dsimp only
  refine pg_trans h hb hk m ⟨pk_in (4 * o b + k) 48 (by omega), ?_⟩
  rw [nI_clamp (show 4 * o b + k < 2 ^ 31 by omega), hV b k hb hk m]
  exact H
theorem pg_use {post : St2 → Prop} {u : St2} {b : Nat} (hb : b < 8) (h : pg_J o fr R M W V n u) (H : ∀ u', pg_J o fr R M W V n u' → post u') : wpX_use post u (nI (8 + b)) := by
  obtain ⟨fc, uc, ck, a1, a2, a3, a4, a5, a6, a7, a8, a9⟩ := u
  unfold wpX_use
  dsimp only
  exact nm_e ⟨pk_in (8 + b) 16 (by omega), nm_e (H _ (pg_Jck h _ _))⟩
theorem pg_b78 {post : St2 → Prop} {b k : Nat} {w : Bool} {v : Int32} (h : pg_J o fr R M W V n (fc, uc, ck, a1, a2, a3, a4, a5, a6, a7, a8, a9)) (hb : b < 8) (hk : k < 4) (rb : R b = true) (hm : M (4 * b + k) = false) (H : ∀ u', pg_J o fr R (pg_up M (4 * b + k) true) (pg_up W (4 * b + k) w) (pg_up V (4 * b + k) v) (n + 1) u' → post u') : wX_bringIn_78 post (nI (32 + (4 * b + k))) (pg_b w) v (nI (8 + b)) (nI (4 * o b + k)) fc uc ck a1 a2 a3 a4 a5 a6 a7 a8 a9 := by
  have hP := h
  obtain ⟨_, _, hR, _, hO, _, hH, _, _⟩ := hP
  have ho := (hO.1 b hb rb).1
  unfold wX_bringIn_78
  rw [nI_clamp (show 32 + (4 * b + k) < 2 ^ 31 by omega), nI_clamp (show 8 + b < 2 ^ 31 by omega), nI_clamp (show 4 * o b + k < 2 ^ 31 by omega), pg_an b hb k hk, pg_bnar, hH b hb, pg_or M b hk]
  refine br_f (pg_m1 (by omega)) ⟨pk_in (32 + (4 * b + k)) 64 (by omega), nm_e ⟨pk_in (32 + (4 * b + k)) 64 (by omega), nm_e ⟨pk_in (4 * o b + k) 48 (by omega), nm_e ⟨pk_in (8 + b) 16 (by omega), pk_in (8 + b) 16 (by omega), nm_e (nm_e (pg_use hb (pg_Jset h hb hk rb hm) ?_))⟩⟩⟩⟩
  rintro ⟨f1, f2, f3, b1, b2, b3, b4, b5, b6, b7, b8, b9⟩ h'
  refine pg_join hb h' ?_
  rintro ⟨f1, f2, f3, b1, b2, b3, b4, b5, b6, b7, b8, b9⟩ h''
  exact H _ h''
theorem pg_b27 {post : St2 → Prop} {b k : Nat} {w : Bool} {v : Int32} (h : pg_J o fr R M W V n (fc, uc, ck, a1, a2, a3, a4, a5, a6, a7, a8, a9)) (hb : b < 8) (hk : k < 4) (rb : R b = true) (hm : M (4 * b + k) = false) (H : ∀ u', pg_J o fr R (pg_up M (4 * b + k) true) (pg_up W (4 * b + k) w) (pg_up V (4 * b + k) v) (n + 1) u' → post u') : wX_bringIn_27 post (nI (32 + (4 * b + k))) (pg_b w) v (nI (8 + b)) fc uc ck a1 a2 a3 a4 a5 a6 a7 a8 a9 := by
  have hP := h
  obtain ⟨_, _, hR, _, hO, hB, _, _, _⟩ := hP
  have ho := (hO.1 b hb rb).1
  unfold wX_bringIn_27
  rw [nI_clamp (show 8 + b < 2 ^ 31 by omega), hB b hb rb, pg_an b hb k hk]
  exact ⟨pk_in (8 + b) 16 (by omega), br_f (pg_m1 (by omega)) ⟨pk_in (8 + b) 16 (by omega), nm_r (nI_add _ _) (pg_b78 h hb hk rb hm H)⟩⟩
theorem pg_bring {post : St2 → Prop} {u : St2} {i : Nat} {w : Bool} {v : Int32} (h : pg_I M W V n u) (hi : i < 32) (hm : M i = false) (H : ∀ u', pg_I (pg_up M i true) (pg_up W i w) (pg_up V i v) (n + 1) u' → post u') : wpX_bringIn post u (nI (32 + i)) (pg_b w) v := by
  obtain ⟨b, k, hb, hk, rfl⟩ := pg_bk hi
  obtain ⟨fc, uc, ck, a1, a2, a3, a4, a5, a6, a7, a8, a9⟩ := u
  obtain ⟨o, fr, R, hA, h⟩ := h
  have hP := h
  obtain ⟨hf, _, hR, hF, hO, hB, hH, _, _⟩ := hP
  unfold wpX_bringIn
  dsimp only
  refine nm_r (pg_sh b hb k hk) ?_
  rw [nI_clamp (show 8 + b < 2 ^ 31 by omega)]
  have an : ∀ c, c < 8 → (c ≠ b → R c = true) → pg_any (pg_up M (4 * b + k) true) c := by
    intro c hc rc
    by_cases e : c = b
    · exact ⟨k, hk, by rw [e, pg_us]⟩
    · exact (pg_anyU hk e).mpr (hA c hc (rc e))
  refine ⟨pk_in (8 + b) 16 (by omega), br_c (fun z => ?_) (fun z => ?_)⟩
  · rw [hH b hb] at z
    have na : ¬ pg_any M b := (pg_mk0 M b).mp z
    have rb : R b = false := pg_tf (fun y => na (hA b hb y))
    rw [hf] at h ⊢
    refine pg_alloc hF (pg_free hO hb rb) (fun r a2' hr hf hF' => ?_)
    have J := pg_Jalloc h hb rb hr hf hF'
    refine ⟨pk_in (8 + b) 16 (by omega), nm_e ?_⟩
    refine pg_b27 J hb hk pg_us hm (fun u' h' => H u' ⟨_, _, _, fun c hc rc => an c hc (fun e => ?_), h'⟩)
    rw [pg_un e] at rc
    exact rc
  · rw [hH b hb] at z
    have ya : pg_any M b := Classical.byContradiction (fun y => z ((pg_mk0 M b).mpr y))
    exact pg_b27 h hb hk (hR b hb ya) hm (fun u' h' => H u' ⟨_, _, _, fun c hc rc => an c hc (fun _ => rc), h'⟩)
theorem pg_take {post : St2 → Prop} {u : St2} {i : Nat} (h : pg_I M W V (n + 1) u) (hi : i < 32) (hm : M i = true) (H : ∀ u', pg_I (pg_up M i false) W V n u' → post u') : wpX_takeOut post u (nI (32 + i)) := by
  obtain ⟨b, k, hb, hk, rfl⟩ := pg_bk hi
  obtain ⟨fc, uc, ck, a1, a2, a3, a4, a5, a6, a7, a8, a9⟩ := u
  obtain ⟨o, fr, R, hA, h⟩ := h
  unfold wpX_takeOut
  dsimp only
  refine nm_r (pg_sh b hb k hk) (pg_break hb h ?_)
  rintro ⟨fc, uc, ck, a1, a2, a3, a4, a5, a6, a7, a8, a9⟩ h' s'
  dsimp only
  have hP := h'
  obtain ⟨_, _, hR, hF, hO, hB, hH, hL, _⟩ := hP
  have rb : R b = true := hR b hb ⟨k, hk, hm⟩
  have ho := hO.1 b hb rb
  have J := pg_Jout h' hb hk hm s'
  have an : ∀ c, c < 8 → c ≠ b → R c = true → pg_any (pg_up M (4 * b + k) false) c := fun c hc e rc => (pg_anyU hk e).mpr (hA c hc rc)
  rw [nI_clamp (show 32 + (4 * b + k) < 2 ^ 31 by omega), nI_clamp (show 8 + b < 2 ^ 31 by omega), pg_an b hb k hk, hH b hb, pg_and M b hk, hB b hb rb]
  refine ⟨pk_in (32 + (4 * b + k)) 64 (by omega), nm_r (hL.1 b k hb hk hm s').1 ⟨pk_in (32 + (4 * b + k)) 64 (by omega), nm_e ⟨pk_in (8 + b) 16 (by omega), pk_in (8 + b) 16 (by omega), nm_e (nm_e ⟨pk_in (4 * o b + k) 48 (by omega), nm_r (e' := upd a1 (4 * o b + k) 0) (by rw [nI_clamp (show 4 * o b + k < 2 ^ 31 by omega)]) ⟨pk_in (8 + b) 16 (by omega), br_f (pg_m1 (by omega)) ⟨pk_in (8 + b) 16 (by omega), br_c (fun z => ?_) (fun z => ?_)⟩⟩⟩)⟩⟩⟩
  · rw [pk_us] at z
    have na := (pg_mk0 _ b).mp z
    refine ⟨pk_in (8 + b) 16 (by omega), pg_gb hF ho.1 ho.2 (fun a2' hF' => ⟨pk_in (8 + b) 16 (by omega), nm_e (H _ ⟨o, pg_up fr (o b) true, pg_up R b false, fun c hc rc => ?_, pg_Jgive J hb rb na hF'⟩)⟩)⟩
    by_cases e : c = b
    · rw [pg_ue e] at rc
      exact absurd rc (by decide)
    · rw [pg_un e] at rc
      exact an c hc e rc
  · rw [pk_us] at z
    have ya : pg_any (pg_up M (4 * b + k) false) b := Classical.byContradiction (fun y => z ((pg_mk0 _ b).mpr y))
    refine H _ ⟨o, fr, R, fun c hc rc => ?_, J⟩
    by_cases e : c = b
    · rw [e]; exact ya
    · exact an c hc e rc
theorem pg_w29 {post : St2 → Prop} {b k : Nat} {w : Bool} (h : pg_J o fr R M W V n (fc, uc, ck, a1, a2, a3, a4, a5, a6, a7, a8, a9)) (hb : b < 8) (hk : k < 4) (s0 : a7 (8 + b) = 0) (H : ∀ u', pg_J o fr R M (pg_up W (4 * b + k) w) V n u' → post u') : wX_setWrite_29 post (nI (32 + (4 * b + k))) (pg_b w) (nI (8 + b)) fc uc ck a1 a2 a3 a4 a5 a6 a7 a8 a9 := by
  unfold wX_setWrite_29
  rw [nI_clamp (show 32 + (4 * b + k) < 2 ^ 31 by omega), pg_bnar]
  refine ⟨pk_in (32 + (4 * b + k)) 64 (by omega), nm_e (pg_join hb (pg_Jwr h hk s0) ?_)⟩
  rintro ⟨f1, f2, f3, b1, b2, b3, b4, b5, b6, b7, b8, b9⟩ h'
  exact H _ h'
theorem pg_setW {post : St2 → Prop} {u : St2} {i : Nat} {w : Bool} (h : pg_I M W V n u) (hi : i < 32) (H : ∀ u', pg_I M (pg_up W i w) V n u' → post u') : wpX_setWrite post u (nI (32 + i)) (pg_b w) := by
  obtain ⟨b, k, hb, hk, rfl⟩ := pg_bk hi
  obtain ⟨fc, uc, ck, a1, a2, a3, a4, a5, a6, a7, a8, a9⟩ := u
  obtain ⟨o, fr, R, hA, h⟩ := h
  have hP := h
  obtain ⟨_, _, _, _, _, _, _, hL, _⟩ := hP
  unfold wpX_setWrite
  dsimp only
  refine nm_r (pg_sh b hb k hk) ?_
  rw [nI_clamp (show 8 + b < 2 ^ 31 by omega)]
  refine ⟨pk_in (8 + b) 16 (by omega), br_c (fun z => ?_) (fun z => ⟨pk_in (8 + b) 16 (by omega), br_c (fun e => ?_) (fun e => pg_break hb h ?_)⟩)⟩
  · exact pg_w29 h hb hk z (fun u' h' => H u' ⟨o, fr, R, hA, h'⟩)
  · rw [(hL.2 b k hb hk z).2] at e
    refine H _ ⟨o, fr, R, hA, ?_⟩
    rw [pg_uid (pg_binj e)]
    exact h
  · rintro ⟨fc, uc, ck, a1, a2, a3, a4, a5, a6, a7, a8, a9⟩ h' s'
    exact pg_w29 h' hb hk s' (fun u' h' => H u' ⟨o, fr, R, hA, h'⟩)
theorem pg_carry {post : St2 → Prop} {u : St2} {i j : Nat} (h : pg_I M W V (n + 1) u) (hi : i < 32) (hj : j < 32) (hm : M i = true) (hq : M j = false) (H : ∀ u', pg_I (pg_up (pg_up M i false) j true) (pg_up W j (W i)) (pg_up V j (V i)) (n + 1) u' → post u') : wpX_carry post u (nI (32 + i)) (nI (32 + j)) := by
  have hq' : pg_up M i false j = false := by
    by_cases e : j = i
    · exact pg_ue e
    · rw [pg_un e]; exact hq
  obtain ⟨fc, uc, ck, a1, a2, a3, a4, a5, a6, a7, a8, a9⟩ := u
  unfold wpX_carry
  dsimp only
  refine pg_mayW h hi hm (pg_cont h hi hm (pg_take h hi hm ?_))
  rintro ⟨f1, f2, f3, b1, b2, b3, b4, b5, b6, b7, b8, b9⟩ h'
  refine pg_bring h' hj hq' ?_
  rintro ⟨f1, f2, f3, b1, b2, b3, b4, b5, b6, b7, b8, b9⟩ h''
  exact H _ h''
end
end
section
/-- a range of pages -/
def pg_rg (q c : Nat) : Nat → Bool := fun j => decide (q ≤ j ∧ j < q + c)
theorem pg_rgS (q t : Nat) : pg_up (pg_rg q t) (q + t) true = pg_rg q (t + 1) := by
  funext j
  by_cases e : j = q + t
  · rw [pg_ue e]
    exact (decide_eq_true ⟨by omega, by omega⟩).symm
  · rw [pg_un e]
    unfold pg_rg
    rw [decide_eq_decide]
    omega
theorem pg_rgT {q c j : Nat} (h : q ≤ j ∧ j < q + c) : pg_rg q c j = true := decide_eq_true h
theorem pg_rgF {q c j : Nat} (h : ¬ (q ≤ j ∧ j < q + c)) : pg_rg q c j = false := decide_eq_false h
/-- no page number -/
def pg_bad (x : Int32) : Prop := x < 0 ∨ 31 < x
theorem pg_31 {x : Int32} (h : 31 < x) : 32 ≤ x := by
  rw [Int32.lt_iff_toInt_lt] at h
  rw [Int32.le_iff_toInt_le]
  have h1 : (31 : Int32).toInt = 31 := by decide
  have h2 : (32 : Int32).toInt = 32 := by decide
  omega
theorem pg_nbad {x : Int32} (h : ¬ x < 0) (h' : ¬ 31 < x) : ∃ s, s < 32 ∧ x = nI s := by
  rcases pk_ix x (n := 32) (by decide) with z | z | z
  · exact absurd z h
  · exact absurd (by
      rw [Int32.lt_iff_toInt_lt]
      have z' : (32 : Int32) ≤ x := z
      rw [Int32.le_iff_toInt_le] at z'
      have h1 : (31 : Int32).toInt = 31 := by decide
      have h2 : (32 : Int32).toInt = 32 := by decide
      omega) h'
  · exact z
theorem pg_sp {post : Int32 → Prop} (h : post 1) : wpX_isSpace post () 1 := br_f (by decide) (br_t rfl h)
theorem pg_pgT {post : Int32 → Prop} {s : Nat} (hs : s < 32) (h : post 1) : wpX_isPage post () (nI s) := br_f (nI_pos (by omega)) (br_f (nI_ge (b := 32) hs (by decide)) h)
theorem pg_pgF {post : Int32 → Prop} {x : Int32} (hx : pg_bad x) (h : post 0) : wpX_isPage post () x := br_c (fun _ => h) (fun z => br_t (pg_31 (hx.resolve_left z)) h)
theorem pg_rnT {post : Int32 → Prop} {q c : Nat} (h1 : 1 ≤ c) (h2 : q + c ≤ 32) (h : post 1) : wpX_isRange post () (nI q) (nI c) :=
  br_f (nI_nlt (b := 1) h1 (by omega)) (br_f (nI_nlt (a := 32) (by omega) (by decide)) (br_f (nI_pos (by omega)) (br_f (by
    rw [show (32 : Int32) = nI 32 from rfl, pk_sub (by omega)]
    exact nI_nlt (by omega) (by omega)) h)))
theorem pg_rn1F {post : Int32 → Prop} {x : Int32} (hx : pg_bad x) (h : post 0) : wpX_isRange post () x 1 :=
  br_f (by decide) (br_f (by decide) (br_c (fun _ => h) (fun z => br_t (by
    rw [show (32 : Int32) - 1 = 31 by decide]
    exact hx.resolve_left z) h)))
theorem pg_rnF {post : Int32 → Prop} {x y : Int32} (hx : y < 1 ∨ 32 < y ∨ x < 0 ∨ 32 - y < x) (h : post 0) : wpX_isRange post () x y :=
  br_c (fun _ => h) (fun z1 => br_c (fun _ => h) (fun z2 => br_c (fun _ => h) (fun z3 => br_c (fun _ => h) (fun z4 => by
    rcases hx with z | z | z | z
    · exact absurd z z1
    · exact absurd z z2
    · exact absurd z z3
    · exact absurd z z4))))
theorem pg_321 (q : Nat) : (32 : Int32) * 1 + nI q = nI (32 + q) := by
  rw [show (32 : Int32) * 1 = nI 32 from rfl, nI_add]
section
variable {M W : Nat → Bool} {V : Nat → Int32} {n : Nat}
theorem pg_map {post : Int32 → St2 → Prop} {u : St2} {q c : Nat} (h : pg_I (pg_rg q 0) (fun _ => true) (fun _ => 0) 0 u) (h1 : 1 ≤ c) (h2 : q + c ≤ 32) (H : ∀ u', pg_I (pg_rg q c) (fun _ => true) (fun _ => 0) c u' → post (nI c) u') : wpX_map post u 1 (nI q) (nI c) := by
  obtain ⟨fc, uc, ck, a1, a2, a3, a4, a5, a6, a7, a8, a9⟩ := u
  unfold wpX_map
  dsimp only
  refine pg_sp (br_f (by decide) (pg_rnT h1 h2 (br_f (by decide) (nm_r (pg_321 q) ?_))))
  have hfu : fc = nI 32 ∧ uc = nI 0 := by
    obtain ⟨_, _, _, _, z1, z2, _⟩ := h
    exact ⟨z1, z2⟩
  refine pk_loop (σ := Unit) (fun n t _ => wX_map_35 post (nI c) (nI (32 + q)) fc uc ck a1 a2 a3 a4 a5 a6 a7 a8 a9 n (nI t) (nI (32 + (q + t)))) (fun _ _ => True) c 0 () (by omega) trivial ?_ ?_
  · intro n _ _
    refine pk_le (32 + q + c) (32 + (q + c)) (fun _ => ?_) (fun z => absurd z (by omega)) (nI_add _ _)
    refine pk_le (0 + c) 32 (fun _ => ?_) (fun z => absurd z (by omega)) (by rw [hfu.2, nI_add]) hfu.1
    refine pk_loop (fun n t (s : St2) => wX_map_83 post (nI c) (nI (32 + q)) (nI c) n (nI (32 + (q + t))) s.1 s.2.1 s.2.2.1 s.2.2.2.1 s.2.2.2.2.1 s.2.2.2.2.2.1 s.2.2.2.2.2.2.1 s.2.2.2.2.2.2.2.1 s.2.2.2.2.2.2.2.2.1 s.2.2.2.2.2.2.2.2.2.1 s.2.2.2.2.2.2.2.2.2.2.1 s.2.2.2.2.2.2.2.2.2.2.2) (fun t s => pg_I (pg_rg q t) (fun _ => true) (fun _ => 0) t s) c 0 (fc, uc, ck, a1, a2, a3, a4, a5, a6, a7, a8, a9) (by omega) h ?_ ?_
    · rintro n ⟨fc, uc, ck, a1, a2, a3, a4, a5, a6, a7, a8, a9⟩ h'
      exact pk_le (32 + q + c) (32 + (q + c)) (fun _ => H _ h') (fun z => absurd z (by omega)) (nI_add _ _)
    · rintro n t ⟨fc, uc, ck, a1, a2, a3, a4, a5, a6, a7, a8, a9⟩ ht h' hw
      have m : pg_rg q t (q + t) = false := pg_rgF (by omega)
      refine pk_le (32 + q + c) (32 + (q + t)) (fun z => absurd z (by omega)) (fun _ => pg_has h' (by omega) ?_) (nI_add _ _)
      rw [m]
      refine br_t rfl (pg_bring (w := true) h' (by omega) m ?_)
      rintro ⟨f1, f2, f3, b1, b2, b3, b4, b5, b6, b7, b8, b9⟩ h''
      rw [pg_rgS, pg_uid (M := fun _ => true) rfl, pg_uid (M := fun _ => (0 : Int32)) rfl] at h''
      exact nm_r (nI_1 _) (hw (f1, f2, f3, b1, b2, b3, b4, b5, b6, b7, b8, b9) h'')
  · intro n t _ ht _ hw
    have m : pg_rg q 0 (q + t) = false := pg_rgF (by omega)
    refine pk_le (32 + q + c) (32 + (q + t)) (fun z => absurd z (by omega)) (fun _ => pg_has h (by omega) ?_) (nI_add _ _)
    rw [m]
    exact br_t rfl (nm_r (nI_1 t) (nm_r (nI_1 _) (hw () trivial)))
theorem pg_mapX {post : Int32 → St2 → Prop} {u : St2} {x y : Int32} (hx : y < 1 ∨ 32 < y ∨ x < 0 ∨ 32 - y < x) (H : post (-2) u) : wpX_map post u 1 x y := by
  obtain ⟨fc, uc, ck, a1, a2, a3, a4, a5, a6, a7, a8, a9⟩ := u
  unfold wpX_map
  dsimp only
  exact pg_sp (br_f (by decide) (pg_rnF hx (br_t rfl H)))
theorem pg_protX {post : Int32 → St2 → Prop} {u : St2} {x : Int32} (hx : pg_bad x) (H : post (-2) u) : wpX_protect post u 1 x 1 0 := by
  obtain ⟨fc, uc, ck, a1, a2, a3, a4, a5, a6, a7, a8, a9⟩ := u
  unfold wpX_protect
  dsimp only
  exact pg_sp (br_f (by decide) (pg_rn1F hx (br_t rfl H)))
theorem pg_prot0 {post : Int32 → St2 → Prop} {u : St2} {s : Nat} (h : pg_I M W V n u) (hs : s < 32) (m : M s = false) (H : post 0 u) : wpX_protect post u 1 (nI s) 1 0 := by
  obtain ⟨fc, uc, ck, a1, a2, a3, a4, a5, a6, a7, a8, a9⟩ := u
  unfold wpX_protect
  dsimp only
  refine pg_sp (br_f (by decide) (pg_rnT (c := 1) (by omega) (by omega) (br_f (by decide) (nm_r (pg_321 s) ⟨2, ?_⟩))))
  refine pk_le (32 + s + 1) (32 + s) (fun z => absurd z (by omega)) (fun _ => pg_has h hs ?_) (nI_1 _)
  rw [m]
  exact br_t rfl (nm_r (nI_1 _) (pk_le (32 + s + 1) (32 + s + 1) (fun _ => H) (fun z => absurd z (by omega)) (nI_1 _)))
theorem pg_prot1 {post : Int32 → St2 → Prop} {u : St2} {s : Nat} (h : pg_I M W V n u) (hs : s < 32) (m : M s = true) (w : W s = true) (H : ∀ u', pg_I M (pg_up W s false) V n u' → post 1 u') : wpX_protect post u 1 (nI s) 1 0 := by
  obtain ⟨fc, uc, ck, a1, a2, a3, a4, a5, a6, a7, a8, a9⟩ := u
  unfold wpX_protect
  dsimp only
  refine pg_sp (br_f (by decide) (pg_rnT (c := 1) (by omega) (by omega) (br_f (by decide) (nm_r (pg_321 s) ⟨2, ?_⟩))))
  refine pk_le (32 + s + 1) (32 + s) (fun z => absurd z (by omega)) (fun _ => pg_has h hs ?_) (nI_1 _)
  rw [m]
  refine br_f (by decide) (pg_mayW h hs m ?_)
  rw [w]
  refine br_t rfl (br_f (by decide) (br_t rfl (pg_setW (w := false) h hs ?_)))
  rintro ⟨f1, f2, f3, b1, b2, b3, b4, b5, b6, b7, b8, b9⟩ h'
  exact nm_r (show (0 : Int32) + 1 = 1 by decide) (nm_r (nI_1 _) (pk_le (32 + s + 1) (32 + s + 1) (fun _ => H _ h') (fun z => absurd z (by omega)) (nI_1 _)))
theorem pg_wrX {post : Int32 → St2 → Prop} {u : St2} {x v : Int32} (hx : pg_bad x) (H : post (-2) u) : wpX_write post u 1 x v := by
  obtain ⟨fc, uc, ck, a1, a2, a3, a4, a5, a6, a7, a8, a9⟩ := u
  unfold wpX_write
  dsimp only
  exact pg_sp (br_f (by decide) (pg_pgF hx (br_t rfl H)))
theorem pg_wr0 {post : Int32 → St2 → Prop} {u : St2} {s : Nat} {v : Int32} (h : pg_I M W V n u) (hs : s < 32) (m : M s = false) (H : post (-3) u) : wpX_write post u 1 (nI s) v := by
  obtain ⟨fc, uc, ck, a1, a2, a3, a4, a5, a6, a7, a8, a9⟩ := u
  unfold wpX_write
  dsimp only
  refine pg_sp (br_f (by decide) (pg_pgT hs (br_f (by decide) (nm_r (pg_321 s) (pg_has h hs ?_)))))
  rw [m]
  exact br_t rfl H
theorem pg_wr1 {post : Int32 → St2 → Prop} {u : St2} {s : Nat} {v : Int32} (h : pg_I M W V n u) (hs : s < 32) (m : M s = true) (w : W s = false) (H : post (-4) u) : wpX_write post u 1 (nI s) v := by
  obtain ⟨fc, uc, ck, a1, a2, a3, a4, a5, a6, a7, a8, a9⟩ := u
  unfold wpX_write
  dsimp only
  refine pg_sp (br_f (by decide) (pg_pgT hs (br_f (by decide) (nm_r (pg_321 s) (pg_has h hs ?_)))))
  rw [m]
  refine br_f (by decide) (pg_mayW h hs m ?_)
  rw [w]
  exact br_t rfl H
theorem pg_toX {post : Int32 → St2 → Prop} {u : St2} {x v : Int32} (hx : pg_bad x) (H : post (-2) u) : wpX_touch post u 1 x v := by
  obtain ⟨fc, uc, ck, a1, a2, a3, a4, a5, a6, a7, a8, a9⟩ := u
  unfold wpX_touch
  dsimp only
  exact pg_sp (br_f (by decide) (pg_pgF hx (br_t rfl H)))
theorem pg_to0 {post : Int32 → St2 → Prop} {u : St2} {s : Nat} {v : Int32} (h : pg_I M W V n u) (hs : s < 32) (hn : n < 32) (m : M s = false) (H : ∀ u', pg_I (pg_up M s true) (pg_up W s true) (pg_up V s v) (n + 1) u' → post 1 u') : wpX_touch post u 1 (nI s) v := by
  obtain ⟨fc, uc, ck, a1, a2, a3, a4, a5, a6, a7, a8, a9⟩ := u
  have hfu : fc = nI 32 ∧ uc = nI n := by
    obtain ⟨_, _, _, _, z1, z2, _⟩ := h
    exact ⟨z1, z2⟩
  unfold wpX_touch
  dsimp only
  refine pg_sp (br_f (by decide) (pg_pgT hs (br_f (by decide) (nm_r (pg_321 s) (pg_has h hs ?_)))))
  rw [m]
  refine br_t rfl (pk_eq n 32 (fun z => absurd z (by omega)) (fun _ => pg_bring (w := true) h hs m ?_) hfu.2 hfu.1)
  rintro ⟨f1, f2, f3, b1, b2, b3, b4, b5, b6, b7, b8, b9⟩ h'
  exact H _ h'
theorem pg_to1 {post : Int32 → St2 → Prop} {u : St2} {s : Nat} {v : Int32} (h : pg_I M W V n u) (hs : s < 32) (m : M s = true) (w : W s = false) (H : post (-4) u) : wpX_touch post u 1 (nI s) v := by
  obtain ⟨fc, uc, ck, a1, a2, a3, a4, a5, a6, a7, a8, a9⟩ := u
  unfold wpX_touch
  dsimp only
  refine pg_sp (br_f (by decide) (pg_pgT hs (br_f (by decide) (nm_r (pg_321 s) (pg_has h hs ?_)))))
  rw [m]
  refine br_f (by decide) (pg_mayW h hs m ?_)
  rw [w]
  exact br_t rfl H
theorem pg_rmX {post : Int32 → St2 → Prop} {u : St2} {x y : Int32} (hx : pg_bad x ∨ pg_bad y) (H : post (-2) u) : wpX_remap post u 1 x y := by
  obtain ⟨fc, uc, ck, a1, a2, a3, a4, a5, a6, a7, a8, a9⟩ := u
  unfold wpX_remap
  dsimp only
  by_cases e : pg_bad x
  · exact pg_sp (br_f (by decide) (pg_pgF e (br_t rfl H)))
  · obtain ⟨s, hs, rfl⟩ := pg_nbad (fun z => e (Or.inl z)) (fun z => e (Or.inr z))
    exact pg_sp (br_f (by decide) (pg_pgT hs (br_f (by decide) (pg_pgF (hx.resolve_left e) (br_t rfl H)))))
theorem pg_rm4 {post : Int32 → St2 → Prop} {u : St2} {s t : Nat} (h : pg_I M W V n u) (hs : s < 32) (ht : t < 32) (ms : M s = true) (mt : M t = true) (H : post (-4) u) : wpX_remap post u 1 (nI s) (nI t) := by
  obtain ⟨fc, uc, ck, a1, a2, a3, a4, a5, a6, a7, a8, a9⟩ := u
  unfold wpX_remap
  dsimp only
  refine pg_sp (br_f (by decide) (pg_pgT hs (br_f (by decide) (pg_pgT ht (br_f (by decide) (nm_r (pg_321 s) (nm_r (pg_321 t) (pg_has h hs ?_))))))))
  rw [ms]
  refine br_f (by decide) (pg_has h ht ?_)
  rw [mt]
  exact br_f (by decide) H
theorem pg_rm0 {post : Int32 → St2 → Prop} {u : St2} {s t : Nat} (h : pg_I M W V (n + 1) u) (hs : s < 32) (ht : t < 32) (ms : M s = true) (mt : M t = false) (H : ∀ u', pg_I (pg_up (pg_up M s false) t true) (pg_up W t (W s)) (pg_up V t (V s)) (n + 1) u' → post 0 u') : wpX_remap post u 1 (nI s) (nI t) := by
  obtain ⟨fc, uc, ck, a1, a2, a3, a4, a5, a6, a7, a8, a9⟩ := u
  unfold wpX_remap
  dsimp only
  refine pg_sp (br_f (by decide) (pg_pgT hs (br_f (by decide) (pg_pgT ht (br_f (by decide) (nm_r (pg_321 s) (nm_r (pg_321 t) (pg_has h hs ?_))))))))
  rw [ms]
  refine br_f (by decide) (pg_has h ht ?_)
  rw [mt]
  refine br_t rfl (pg_carry h hs ht ms mt ?_)
  rintro ⟨f1, f2, f3, b1, b2, b3, b4, b5, b6, b7, b8, b9⟩ h'
  exact H _ h'
theorem pg_mapped {post : Int32 → Prop} {u : St2} {s : Nat} (h : pg_I M W V n u) (hs : s < 32) (m : M s = false) (H : post 0) : wpX_mapped post u 1 (nI s) := by
  obtain ⟨fc, uc, ck, a1, a2, a3, a4, a5, a6, a7, a8, a9⟩ := u
  unfold wpX_mapped
  dsimp only
  rw [pg_321]
  refine pg_sp (br_f (by decide) (pg_pgT hs (br_f (by decide) (pg_has h hs ?_))))
  rw [m]
  exact br_t rfl H
theorem pg_writable {post : Int32 → Prop} {u : St2} {s : Nat} (h : pg_I M W V n u) (hs : s < 32) (m : M s = true) (H : post (pg_b (W s))) : wpX_writable post u 1 (nI s) := by
  obtain ⟨fc, uc, ck, a1, a2, a3, a4, a5, a6, a7, a8, a9⟩ := u
  unfold wpX_writable
  dsimp only
  refine pg_sp (br_f (by decide) (pg_pgT hs (br_f (by decide) (nm_r (pg_321 s) (pg_has h hs ?_)))))
  rw [m]
  refine br_f (by decide) (pg_mayW h hs m ?_)
  cases e : W s with
  | true => rw [e] at H; exact br_f (by decide) H
  | false => rw [e] at H; exact br_t rfl H
/-- all contents are 0 but one -/
theorem pg_sum {post : Int32 → Prop} {u : St2} {s : Nat} {v : Int32} (h : pg_I M W V n u) (hs : s < 32) (hv : ∀ i, i < 32 → M i = true → V i = if i = s then v else 0) (h0 : M s = true ∨ v = 0) (H : post v) : wpX_sum post u 1 := by
  obtain ⟨fc, uc, ck, a1, a2, a3, a4, a5, a6, a7, a8, a9⟩ := u
  unfold wpX_sum
  dsimp only
  refine pg_sp (br_f (by decide) (nm_r (show (32 : Int32) * 1 = nI (32 + 0) from rfl) ?_))
  have e64 : (32 : Int32) * 1 + 32 = nI 64 := by decide
  refine pk_loop (σ := Unit) (fun n t _ => wX_sum_16 post 1 fc uc ck a1 a2 a3 a4 a5 a6 a7 a8 a9 n (if s < t then v else 0) (nI (32 + t))) (fun _ _ => True) 32 0 () (by omega) trivial ?_ ?_
  · intro n _ _
    refine pk_le 64 (32 + 32) (fun _ => ?_) (fun z => absurd z (by omega)) e64
    rw [if_pos hs]
    exact H
  · intro n t _ ht _ hw
    have hw' := hw () trivial
    refine pk_le 64 (32 + t) (fun z => absurd z (by omega)) (fun _ => pg_has h ht ?_) e64
    cases e : M t with
    | false =>
      refine br_t rfl (nm_r (nI_1 _) ?_)
      by_cases y : t = s
      · have v0 : v = 0 := by
          rcases h0 with z | z
          · rw [← y, e] at z
            exact absurd z (by decide)
          · exact z
        subst v0
        rw [ite_self] at hw' ⊢
        exact hw'
      · by_cases y' : s < t
        · rw [if_pos (show s < t + 1 by omega)] at hw'
          rw [if_pos y']
          exact hw'
        · rw [if_neg (show ¬ s < t + 1 by omega)] at hw'
          rw [if_neg y']
          exact hw'
    | true =>
      refine br_f (by decide) (pg_cont h ht e (nm_r ?_ (nm_r (nI_1 _) hw')))
      rw [hv t ht e]
      by_cases y : t = s
      · rw [if_neg (show ¬ s < t by omega), if_pos y, if_pos (show s < t + 1 by omega), Int32.zero_add]
      · rw [if_neg y, Int32.add_zero]
        by_cases y' : s < t
        · rw [if_pos y', if_pos (show s < t + 1 by omega)]
        · rw [if_neg y', if_neg (show ¬ s < t + 1 by omega)]
end
end
section
theorem pg_fresh {ck : Int32} {a1 a2 a3 a4 a5 a9 : Nat → Int32} (h3 : ∀ j, j < 4 → ¬ a2 (144 + 8 * j) = 0) (h2 : ∀ r, r < 8 → a2 (96 + 4 * r) = 0) (q : Nat) : pg_I (pg_rg q 0) (fun _ => true) (fun _ => 0) 0 (nI 32, 0, ck, a1, a2, a3, a4, a5, (fun _ => 0), (fun _ => 0), (fun _ => 0), a9) := by
  have hM : ∀ j, ¬ pg_rg q 0 j = true := fun j => pg_ft (pg_rgF (by omega))
  have hA : ∀ b, ¬ pg_any (pg_rg q 0) b := fun b z => by
    obtain ⟨k, _, e⟩ := z
    exact hM _ e
  have hN : ¬ false = true := by decide
  refine ⟨fun _ => 0, fun _ => true, fun _ => false, fun b _ e => absurd e hN, rfl, rfl, fun b _ e => absurd e (hA b), ?_, ⟨fun b _ e => absurd e hN, fun b c _ _ e => absurd e hN, fun r _ => Or.inl rfl⟩, fun b _ e => absurd e hN, fun b _ => ((pg_mk0 _ b).mpr (hA b)).symm, ⟨fun b k _ _ e => absurd e (hM _), fun b k _ _ e => absurd rfl e⟩, fun b k _ _ e => absurd e (hM _)⟩
  intro r hr
  exact ⟨⟨fun _ => Or.inr (h3 _ (by omega)), fun _ => rfl⟩, fun _ => h2 r hr⟩
theorem pg_init {post : St2 → Prop} (H : ∀ u', (∀ q, pg_I (pg_rg q 0) (fun _ => true) (fun _ => 0) 0 u') → post u') : wpX_init post 9 448 (0, 0, 0) 32 := by
  unfold wpX_init
  dsimp only
  refine ⟨by omega, by omega, by omega, by omega, by omega, by omega, by omega, by omega, by omega, by omega, by omega, by omega, by omega, by omega, by omega, by omega, by omega, by omega, br_t (by decide) (br_t (by decide) ⟨by decide, nm_r (e' := nI 32) (by decide) ?_⟩)⟩
  refine pk_loop (fun n t s => wX_init_111 post 9 448 9 448 (nI 32) 0 0 n (nI (8 * t)) (fun _ => 0) s (fun _ => 0) (fun _ => 0) (fun _ => 0) (fun _ => 0) (fun _ => 0) (fun _ => 0) (fun _ => 0)) (fun t s => (∀ j, j < t → ¬ s (144 + 8 * j) = 0) ∧ (∀ r, r < 8 → s (96 + 4 * r) = 0)) 4 0 (fun _ => 0) (by omega) ⟨fun j hj => absurd hj (by omega), fun _ _ => rfl⟩ ?_ ?_
  · intro n a2 ha
    refine pk_le 32 (8 * 4) (fun _ => ?_) (fun z => absurd z (by omega))
    refine pk_loop (fun n t s => wX_init_138 post 9 448 9 448 (nI 32) 0 0 n (nI t) (fun _ => 0) a2 s (fun _ => 0) (fun _ => 0) (fun _ => 0) (fun _ => 0) (fun _ => 0) (fun _ => 0)) (fun _ _ => True) 64 0 (fun _ => 0) (by omega) trivial ?_ ?_
    · intro n a3 _
      refine pk_le 64 64 (fun _ => ?_) (fun z => absurd z (by omega))
      refine pk_loop (fun n t s => wX_init_159 post 9 448 9 448 (nI 32) 0 0 n (nI t) (fun _ => 0) a2 a3 (fun _ => 0) s (fun _ => 0) (fun _ => 0) (fun _ => 0) (fun _ => 0)) (fun _ _ => True) 16 0 (fun _ => 0) (by omega) trivial ?_ ?_
      · intro n a5 _
        exact pk_le 16 16 (fun _ => H _ (pg_fresh ha.1 ha.2)) (fun z => absurd z (by omega))
      · intro n t s ht _ hw
        exact pk_le 16 t (fun z => absurd z (by omega)) (fun _ => ⟨pk_in t 16 ht, nm_e (nm_r (nI_1 t) (hw _ trivial))⟩)
    · intro n t s ht _ hw
      exact pk_le 64 t (fun z => absurd z (by omega)) (fun _ => ⟨pk_in t 64 ht, nm_e (nm_r (nI_1 t) (hw _ trivial))⟩)
  · intro n t s ht hs hw
    have e : (144 : Int32) + nI (8 * t) = nI (144 + 8 * t) := by
      rw [show (144 : Int32) = nI 144 from rfl, nI_add]
    have e' : nI (8 * t) + 8 = nI (8 * (t + 1)) := by
      rw [show (8 : Int32) = nI 8 from rfl, nI_add, show 8 * t + 8 = 8 * (t + 1) by omega]
    refine pk_le 32 (8 * t) (fun z => absurd z (by omega)) (fun _ => ⟨pk_in (144 + 8 * t) 192 (by omega) e, nm_r (e' := upd s (144 + 8 * t) 1) (by rw [e, nI_clamp (by omega)]) (nm_r e' (hw _ ⟨fun j hj => ?_, fun r hr => ?_⟩))⟩)
    · by_cases y : j = t
      · rw [y, pk_us]; decide
      · rw [pk_un (show 144 + 8 * j ≠ 144 + 8 * t by omega)]
        exact hs.1 j (by omega)
    · rw [pk_un (show 96 + 4 * r ≠ 144 + 8 * t by omega)]
      exact hs.2 r hr
end
section
/-- what the pages hold: nothing but v, at s -/
def pg_Sm (M : Nat → Bool) (V : Nat → Int32) (s : Nat) (v : Int32) : Prop := s < 32 ∧ (∀ i, i < 32 → M i = true → V i = if i = s then v else 0) ∧ (M s = true ∨ v = 0)
/-- the first range: none, or pages q .. q + c - 1 -/
def pg_G (x0 x1 x6 : Int32) (q c : Nat) : Prop := (x6 = 0 ∧ c = 0) ∨ (x6 = 1 ∧ x0 = nI q ∧ x1 = nI c ∧ 1 ≤ c ∧ q + c ≤ 32)
/-- what is owed at the end: the sum and the number of used frames -/
def pg_X (x3 x7 x8 tot : Int32) (n c : Nat) : Prop := ((x7 = 0 ∨ x8 = 1) ∧ tot = 0 ∧ n = c) ∨ (x7 = 1 ∧ x8 = 0 ∧ tot = x3 ∧ n = c + 1)
section
variable {post : Int32 → St0 → Prop} {mc ms kc ks : Nat} {M W : Nat → Bool} {V : Nat → Int32} {n q c s : Nat} {x0 x1 x2 x3 x4 x6 x7 x8 tot : Int32} {fc uc ck : Int32} {a1 a2 a3 a4 a5 a6 a7 a8 a9 : Nat → Int32}
theorem pg_l410 {z0 z1 : Int32} (hp : post 1 ()) (h : pg_I M W V n (fc, uc, ck, a1, a2, a3, a4, a5, a6, a7, a8, a9)) (hs : pg_Sm M V s tot) (hz : z1 + z0 = nI n) : wL_lawOf_410 post mc ms tot z0 z1 kc ks fc uc ck a1 a2 a3 a4 a5 a6 a7 a8 a9 := by
  have hu : uc = nI n := by
    obtain ⟨_, _, _, _, _, z2, _⟩ := h
    exact z2
  unfold wL_lawOf_410
  exact nm_r hz (pg_sum h hs.1 hs.2.1 hs.2.2 (br_t rfl (br_t hu hp)))
theorem pg_l395 {z0 : Int32} (hp : post 1 ()) (h : pg_I M W V n (fc, uc, ck, a1, a2, a3, a4, a5, a6, a7, a8, a9)) (hs : pg_Sm M V s tot) (hz : z0 = nI c) (hx : pg_X x3 x7 x8 tot n c) : wL_lawOf_395 post mc ms x7 x8 tot z0 kc ks fc uc ck a1 a2 a3 a4 a5 a6 a7 a8 a9 := by
  unfold wL_lawOf_395
  rcases hx with ⟨e, _, en⟩ | ⟨e7, e8, _, en⟩
  · have g : wL_lawOf_409 post mc ms tot z0 kc ks fc uc ck a1 a2 a3 a4 a5 a6 a7 a8 a9 := by
      unfold wL_lawOf_409
      exact pg_l410 hp h hs (by rw [hz, Int32.add_zero, en])
    refine br_c (fun _ => g) (fun z => br_f ?_ g)
    rw [e.resolve_left z]
    decide
  · refine br_f (by rw [e7]; decide) (br_t e8 (pg_l410 hp h hs ?_))
    rw [hz, nI_1, en]
theorem pg_l383 (hp : post 1 ()) (h : pg_I M W V n (fc, uc, ck, a1, a2, a3, a4, a5, a6, a7, a8, a9)) (hs : pg_Sm M V s tot) (hG : pg_G x0 x1 x6 q c) (hx : pg_X x3 x7 x8 tot n c) : wL_lawOf_383 post mc ms x1 x6 x7 x8 tot kc ks fc uc ck a1 a2 a3 a4 a5 a6 a7 a8 a9 := by
  unfold wL_lawOf_383
  rcases hG with ⟨e6, ec⟩ | ⟨e6, _, e1, _⟩
  · exact br_t e6 (pg_l395 hp h hs (by rw [ec]; rfl) hx)
  · exact br_f (by rw [e6]; decide) (pg_l395 hp h hs e1 hx)
theorem pg_l368 (hp : post 1 ()) (h : pg_I M W V n (fc, uc, ck, a1, a2, a3, a4, a5, a6, a7, a8, a9)) (hs : pg_Sm M V s tot) (hG : pg_G x0 x1 x6 q c) (hx : pg_X x3 x7 x8 tot n c) : wL_lawOf_368 post mc ms x1 x3 x6 x7 x8 kc ks fc uc ck a1 a2 a3 a4 a5 a6 a7 a8 a9 := by
  have g := pg_l383 (mc := mc) (ms := ms) (kc := kc) (ks := ks) hp h hs hG hx
  unfold wL_lawOf_368
  rcases hx with ⟨e, et, _⟩ | ⟨e7, e8, et, _⟩
  · rw [et] at g
    have g' : wL_lawOf_382 post mc ms x1 x6 x7 x8 kc ks fc uc ck a1 a2 a3 a4 a5 a6 a7 a8 a9 := by
      unfold wL_lawOf_382
      exact g
    refine br_c (fun _ => g') (fun z => br_f ?_ g')
    rw [e.resolve_left z]
    decide
  · rw [et] at g
    exact br_f (by rw [e7]; decide) (br_t e8 g)
/-- the third call fails: no such page -/
theorem pg_l312X (hp : post 1 ()) (h : pg_I M W V n (fc, uc, ck, a1, a2, a3, a4, a5, a6, a7, a8, a9)) (hs : pg_Sm M V s tot) (hG : pg_G x0 x1 x6 q c) (hx : pg_X x3 x7 x8 tot n c) (hb : pg_bad x2 ∨ pg_bad x4) : wL_lawOf_312 post mc ms x1 x2 x3 x4 x6 x7 x8 (-2) kc ks fc uc ck a1 a2 a3 a4 a5 a6 a7 a8 a9 := by
  unfold wL_lawOf_312
  exact pg_rmX hb (br_t rfl (br_f (by decide) (pg_l368 hp h hs hG hx)))
theorem pg_l312T {y t : Nat} (hp : post 1 ()) (h : pg_I M W V n (fc, uc, ck, a1, a2, a3, a4, a5, a6, a7, a8, a9)) (hs : pg_Sm M V s tot) (hG : pg_G x0 x1 x6 q c) (hx : pg_X x3 x7 x8 tot n c) (hy : y < 32) (ht : t < 32) (my : M y = true) (mt : M t = true) : wL_lawOf_312 post mc ms x1 (nI y) x3 (nI t) x6 x7 x8 (-4) kc ks fc uc ck a1 a2 a3 a4 a5 a6 a7 a8 a9 := by
  unfold wL_lawOf_312
  exact pg_rm4 h hy ht my mt (br_t rfl (br_f (by decide) (pg_l368 hp h hs hG hx)))
theorem pg_l312C {t : Nat} (hp : post 1 ()) (h : pg_I M W V (n + 1) (fc, uc, ck, a1, a2, a3, a4, a5, a6, a7, a8, a9)) (hs : pg_Sm M V s tot) (hG : pg_G x0 x1 x6 q c) (hx : pg_X x3 x7 x8 tot (n + 1) c) (h8 : x8 = pg_b (!(W s))) (ht : t < 32) (m : M s = true) (mt : M t = false) : wL_lawOf_312 post mc ms x1 (nI s) x3 (nI t) x6 x7 x8 0 kc ks fc uc ck a1 a2 a3 a4 a5 a6 a7 a8 a9 := by
  have ne : s ≠ t := fun e => by
    rw [e, mt] at m
    exact absurd m (by decide)
  have hv : V s = tot := by
    rw [hs.2.1 s hs.1 m, if_pos rfl]
  unfold wL_lawOf_312
  refine pg_rm0 h hs.1 ht m mt ?_
  rintro ⟨f1, f2, f3, b1, b2, b3, b4, b5, b6, b7, b8, b9⟩ h'
  have hs' : pg_Sm (pg_up (pg_up M s false) t true) (pg_up V t (V s)) t tot := by
    refine ⟨ht, fun i hi mi => ?_, Or.inl pg_us⟩
    by_cases e : i = t
    · rw [pg_ue e, if_pos e, hv]
    · rw [pg_un e] at mi
      rw [pg_un e, if_neg e]
      by_cases e' : i = s
      · rw [pg_ue e'] at mi
        exact absurd mi (by decide)
      · rw [pg_un e'] at mi
        rw [hs.2.1 i hi mi, if_neg e']
  have g := pg_l368 (mc := mc) (ms := ms) (kc := kc) (ks := ks) hp h' hs' hG hx
  refine br_t rfl (br_t rfl (pg_mapped h' hs.1 (by rw [pg_un ne, pg_us]) (br_t rfl (pg_writable h' ht pg_us ?_))))
  rw [pg_us]
  cases e : W s with
  | true =>
    rw [e] at h8
    exact br_t h8 (br_t rfl g)
  | false =>
    rw [e] at h8
    exact br_f (by rw [h8]; decide) (br_t rfl g)
/-- the second page is no page -/
theorem pg_l225A {z : Int32} (hp : post 1 ()) (h : pg_I M W V n (fc, uc, ck, a1, a2, a3, a4, a5, a6, a7, a8, a9)) (hs : pg_Sm M V s tot) (hG : pg_G x0 x1 x6 q c) (hx : pg_X x3 0 x8 tot n c) (hb : pg_bad x2) : wL_lawOf_225 post mc ms x0 x1 x2 x3 x4 x6 0 x8 z z kc ks fc uc ck a1 a2 a3 a4 a5 a6 a7 a8 a9 := by
  have k : ∀ x9 z0, wL_lawOf_284 post mc ms x1 x2 x3 x4 x6 0 x8 x9 z0 kc ks fc uc ck a1 a2 a3 a4 a5 a6 a7 a8 a9 := by
    intro x9 z0
    unfold wL_lawOf_284
    refine br_t rfl ?_
    unfold wL_lawOf_296
    exact pg_l312X hp h hs hG hx (Or.inl hb)
  have k3 : ∀ x9, wL_lawOf_283 post mc ms x1 x2 x3 x4 x6 0 x8 x9 kc ks fc uc ck a1 a2 a3 a4 a5 a6 a7 a8 a9 := by
    intro x9
    unfold wL_lawOf_283
    exact k x9 0
  have k9 : ∀ x9, wL_lawOf_279 post mc ms x1 x2 x3 x4 x6 0 x8 x9 kc ks fc uc ck a1 a2 a3 a4 a5 a6 a7 a8 a9 := by
    intro x9
    unfold wL_lawOf_279
    exact k x9 1
  have k7 : ∀ z0, wL_lawOf_247 post mc ms x0 x1 x2 x3 x4 x6 0 x8 z0 kc ks fc uc ck a1 a2 a3 a4 a5 a6 a7 a8 a9 := by
    intro z0
    unfold wL_lawOf_247
    exact br_c (fun _ => k3 _) (fun _ => br_c (fun _ => k9 _) (fun _ => br_c (fun _ => k3 _) (fun _ => br_c (fun _ => k3 _) (fun _ => br_c (fun _ => k3 _) (fun _ => k9 _)))))
  have k6 : wL_lawOf_246 post mc ms x0 x1 x2 x3 x4 x6 0 x8 kc ks fc uc ck a1 a2 a3 a4 a5 a6 a7 a8 a9 := by
    unfold wL_lawOf_246
    exact k7 0
  unfold wL_lawOf_225
  exact br_t rfl (br_c (fun _ => k6) (fun _ => br_c (fun _ => k6) (fun _ => k7 1)))
/-- the second page is mapped now -/
theorem pg_l225B {z : Int32} (hp : post 1 ()) (h : pg_I M W V (n + 1) (fc, uc, ck, a1, a2, a3, a4, a5, a6, a7, a8, a9)) (hs : pg_Sm M V s tot) (hG : pg_G x0 x1 x6 q c) (hx : pg_X x3 1 x8 tot (n + 1) c) (h8 : x8 = pg_b (!(W s))) (m : M s = true) (hM : ∀ t, t < 32 → (M t = true ↔ (t = s ∨ (q ≤ t ∧ t < q + c)))) : wL_lawOf_225 post mc ms x0 x1 (nI s) x3 x4 x6 1 x8 z z kc ks fc uc ck a1 a2 a3 a4 a5 a6 a7 a8 a9 := by
  have kX : pg_bad x4 → wL_lawOf_246 post mc ms x0 x1 (nI s) x3 x4 x6 1 x8 kc ks fc uc ck a1 a2 a3 a4 a5 a6 a7 a8 a9 := by
    intro hb
    unfold wL_lawOf_246 wL_lawOf_247
    refine br_t rfl ?_
    unfold wL_lawOf_283 wL_lawOf_284
    refine br_f (by decide) (br_t rfl ?_)
    unfold wL_lawOf_296
    exact pg_l312X hp h hs hG hx (Or.inr hb)
  unfold wL_lawOf_225
  refine br_t rfl (br_c (fun z => kX (Or.inl z)) (fun z0 => br_c (fun z => kX (Or.inr z)) (fun z1 => ?_)))
  obtain ⟨t, ht, rfl⟩ := pg_nbad z0 z1
  have kT : M t = true → wL_lawOf_279 post mc ms x1 (nI s) x3 (nI t) x6 1 x8 1 kc ks fc uc ck a1 a2 a3 a4 a5 a6 a7 a8 a9 := by
    intro mt
    unfold wL_lawOf_279 wL_lawOf_284
    exact br_f (by decide) (br_f (by decide) (br_f (by decide) (pg_l312T hp h hs hG hx hs.1 ht m mt)))
  have kC : M t = false → wL_lawOf_283 post mc ms x1 (nI s) x3 (nI t) x6 1 x8 1 kc ks fc uc ck a1 a2 a3 a4 a5 a6 a7 a8 a9 := by
    intro mt
    unfold wL_lawOf_283 wL_lawOf_284
    exact br_f (by decide) (br_f (by decide) (br_t rfl (pg_l312C hp h hs hG hx h8 ht m mt)))
  have hs1 := hs.1
  unfold wL_lawOf_247
  refine br_f (by decide) (pk_eq t s (fun e => kT ((hM t ht).mpr (Or.inl e))) (fun ne => ?_))
  have kF : ¬ (q ≤ t ∧ t < q + c) → M t = false := fun e => pg_tf (fun y => by
    rcases (hM t ht).mp y with y | y
    · exact ne y
    · exact e y)
  rcases hG with ⟨e6, ec⟩ | ⟨e6, e0, e1, c1, c2⟩
  · exact br_t e6 (kC (kF (by omega)))
  · refine br_f (by rw [e6]; decide) ?_
    subst e0 e1
    refine pk_lt t q (fun y => kC (kF (by omega))) (fun y1 => ?_)
    exact pk_le (q + c) t (fun y => kC (kF (by omega))) (fun y2 => kT ((hM t ht).mpr (Or.inr ⟨y1, y2⟩))) (nI_add _ _)
end
end
section
section
variable {post : Int32 → St0 → Prop} {mc ms kc ks : Nat} {q c : Nat} {x0 x1 x2 x3 x4 x6 : Int32} {fc uc ck : Int32} {a1 a2 a3 a4 a5 a6 a7 a8 a9 : Nat → Int32}
/-- nothing but zeros so far -/
theorem pg_Sm0 {M : Nat → Bool} {s : Nat} (hs : s < 32) : pg_Sm M (fun _ => 0) s 0 := ⟨hs, fun i _ _ => (ite_self _).symm, Or.inr rfl⟩
theorem pg_l109A (hp : post 1 ()) (h : pg_I (pg_rg q c) (fun _ => true) (fun _ => 0) c (fc, uc, ck, a1, a2, a3, a4, a5, a6, a7, a8, a9)) (hG : pg_G x0 x1 x6 q c) (hb : pg_bad x2) : wL_lawOf_109 post mc ms x0 x1 x2 x3 x4 x6 0 0 kc ks fc uc ck a1 a2 a3 a4 a5 a6 a7 a8 a9 := by
  unfold wL_lawOf_109
  refine pg_protX hb (br_t rfl ?_)
  unfold wL_lawOf_140
  refine br_t rfl (pg_wrX hb (br_t rfl ?_))
  unfold wL_lawOf_175
  exact br_t rfl (pg_toX hb (br_t rfl (pg_l225A hp h (pg_Sm0 (s := 0) (by omega)) hG (Or.inl ⟨Or.inl rfl, rfl, rfl⟩) hb)))
theorem pg_l109B {s : Nat} (hp : post 1 ()) (h : pg_I (pg_rg q c) (fun _ => true) (fun _ => 0) c (fc, uc, ck, a1, a2, a3, a4, a5, a6, a7, a8, a9)) (hG : pg_G x0 x1 x6 q c) (hs : s < 32) (hm : q ≤ s ∧ s < q + c) : wL_lawOf_109 post mc ms x0 x1 (nI s) x3 x4 x6 1 1 kc ks fc uc ck a1 a2 a3 a4 a5 a6 a7 a8 a9 := by
  have m := pg_rgT hm
  obtain ⟨n, rfl⟩ : ∃ n, c = n + 1 := ⟨c - 1, by omega⟩
  unfold wL_lawOf_109
  refine pg_prot1 h hs m rfl ?_
  rintro ⟨f1, f2, f3, b1, b2, b3, b4, b5, b6, b7, b8, b9⟩ h'
  refine br_f (by decide) (br_f (by decide) ?_)
  unfold wL_lawOf_140
  refine br_t rfl (pg_wr1 h' hs m pg_us (br_f (by decide) (br_f (by decide) ?_)))
  unfold wL_lawOf_175
  refine br_t rfl (pg_to1 h' hs m pg_us (br_f (by decide) (br_f (by decide) ?_)))
  refine pg_l225B hp h' (pg_Sm0 hs) hG (Or.inl ⟨Or.inr rfl, rfl, rfl⟩) (by rw [pg_us]; rfl) m (fun t ht => ⟨fun e => ?_, fun e => ?_⟩)
  · exact Or.inr (of_decide_eq_true e)
  · rcases e with e | e
    · rw [e]; exact m
    · exact pg_rgT e
theorem pg_l109C {s : Nat} (hp : post 1 ()) (h : pg_I (pg_rg q c) (fun _ => true) (fun _ => 0) c (fc, uc, ck, a1, a2, a3, a4, a5, a6, a7, a8, a9)) (hG : pg_G x0 x1 x6 q c) (hs : s < 32) (hm : ¬ (q ≤ s ∧ s < q + c)) : wL_lawOf_109 post mc ms x0 x1 (nI s) x3 x4 x6 1 0 kc ks fc uc ck a1 a2 a3 a4 a5 a6 a7 a8 a9 := by
  have m : pg_rg q c s = false := pg_rgF hm
  have hc : c < 32 := by
    rcases hG with ⟨_, e⟩ | ⟨_, _, _, _, e⟩ <;> omega
  unfold wL_lawOf_109
  refine pg_prot0 h hs m (br_f (by decide) (br_t rfl ?_))
  unfold wL_lawOf_140
  refine br_t rfl (pg_wr0 h hs m (br_f (by decide) (br_t rfl ?_)))
  unfold wL_lawOf_175
  refine br_t rfl (pg_to0 h hs hc m ?_)
  rintro ⟨f1, f2, f3, b1, b2, b3, b4, b5, b6, b7, b8, b9⟩ h'
  have hS : pg_Sm (pg_up (pg_rg q c) s true) (pg_up (fun _ => 0) s x3) s x3 := by
    refine ⟨hs, fun i _ _ => rfl, Or.inl pg_us⟩
  have g : wL_lawOf_224 post mc ms x0 x1 (nI s) x3 x4 x6 1 0 1 kc ks f1 f2 f3 b1 b2 b3 b4 b5 b6 b7 b8 b9 := by
    unfold wL_lawOf_224
    refine pg_l225B hp h' hS hG (Or.inr ⟨rfl, rfl, rfl, rfl⟩) (by rw [pg_us]; rfl) pg_us (fun t ht => ?_)
    by_cases e : t = s
    · rw [pg_ue e]
      exact ⟨fun _ => Or.inl e, fun _ => rfl⟩
    · rw [pg_un e]
      exact ⟨fun y => Or.inr (of_decide_eq_true y), fun y => pg_rgT (y.resolve_left e)⟩
  refine br_f (by decide) (br_t rfl ?_)
  rcases hG with ⟨e6, _⟩ | ⟨e6, _, e1, _, _⟩
  · exact br_t e6 g
  · refine br_f (by rw [e6]; decide) (pk_eq c 32 (fun z => absurd z (by omega)) (fun _ => g) e1)
theorem pg_l60 {z : Int32} (hp : post 1 ()) (h : pg_I (pg_rg q c) (fun _ => true) (fun _ => 0) c (fc, uc, ck, a1, a2, a3, a4, a5, a6, a7, a8, a9)) (hG : pg_G x0 x1 x6 q c) : wL_lawOf_60 post mc ms x0 x1 x2 x3 x4 x6 z z kc ks fc uc ck a1 a2 a3 a4 a5 a6 a7 a8 a9 := by
  have kX : pg_bad x2 → wL_lawOf_79 post mc ms x0 x1 x2 x3 x4 x6 kc ks fc uc ck a1 a2 a3 a4 a5 a6 a7 a8 a9 := by
    intro hb
    have g : wL_lawOf_108 post mc ms x0 x1 x2 x3 x4 x6 0 kc ks fc uc ck a1 a2 a3 a4 a5 a6 a7 a8 a9 := by
      unfold wL_lawOf_108
      exact pg_l109A hp h hG hb
    unfold wL_lawOf_79 wL_lawOf_80
    exact br_c (fun _ => g) (fun _ => br_t rfl g)
  unfold wL_lawOf_60
  refine br_t rfl (br_c (fun z => kX (Or.inl z)) (fun z0 => br_c (fun z => kX (Or.inr z)) (fun z1 => ?_)))
  obtain ⟨s, hs, rfl⟩ := pg_nbad z0 z1
  have kC : ¬ (q ≤ s ∧ s < q + c) → wL_lawOf_108 post mc ms x0 x1 (nI s) x3 x4 x6 1 kc ks fc uc ck a1 a2 a3 a4 a5 a6 a7 a8 a9 := by
    intro hm
    unfold wL_lawOf_108
    exact pg_l109C hp h hG hs hm
  have hG' := hG
  unfold wL_lawOf_80
  rcases hG with ⟨e6, ec⟩ | ⟨e6, e0, e1, c1, c2⟩
  · exact br_t e6 (kC (by omega))
  · refine br_f (by rw [e6]; decide) (br_f (by decide) (pk_lt s q (fun y => kC (by omega)) (fun y1 => ?_) rfl e0))
    exact pk_le (q + c) s (fun y => kC (by omega)) (fun y2 => pg_l109B hp h hG' hs ⟨y1, y2⟩) (by rw [e0, e1, nI_add])
theorem pg_l38 (hp : post 1 ()) (h : ∀ q, pg_I (pg_rg q 0) (fun _ => true) (fun _ => 0) 0 (fc, uc, ck, a1, a2, a3, a4, a5, a6, a7, a8, a9)) (hx : x1 < 1 ∨ 32 < x1 ∨ x0 < 0 ∨ 32 - x1 < x0) : wL_lawOf_38 post mc ms x0 x1 x2 x3 x4 kc ks fc uc ck a1 a2 a3 a4 a5 a6 a7 a8 a9 := by
  unfold wL_lawOf_38 wL_lawOf_39
  exact pg_mapX hx (br_t rfl (pg_l60 hp (h 0) (Or.inl ⟨rfl, rfl⟩)))
theorem pg_l39 (hp : post 1 ()) (h : ∀ q, pg_I (pg_rg q 0) (fun _ => true) (fun _ => 0) 0 (fc, uc, ck, a1, a2, a3, a4, a5, a6, a7, a8, a9)) (c1 : 1 ≤ c) (c2 : q + c ≤ 32) : wL_lawOf_39 post mc ms (nI q) (nI c) x2 x3 x4 1 kc ks fc uc ck a1 a2 a3 a4 a5 a6 a7 a8 a9 := by
  unfold wL_lawOf_39
  refine pg_map (h q) c1 c2 ?_
  rintro ⟨f1, f2, f3, b1, b2, b3, b4, b5, b6, b7, b8, b9⟩ h'
  exact br_f (by decide) (pg_l60 hp h' (Or.inr ⟨rfl, rfl, rfl, c1, c2⟩))
theorem pg_good {x y : Int32} (h1 : ¬ y < 1) (h2 : ¬ 32 < y) (h3 : ¬ x < 0) (h4 : ¬ 32 - y < x) : ∃ q c, x = nI q ∧ y = nI c ∧ 1 ≤ c ∧ q + c ≤ 32 := by
  have h0 : ¬ y < 0 := by
    rw [Int32.lt_iff_toInt_lt] at h1 ⊢
    have e1 : (1 : Int32).toInt = 1 := by decide
    have e2 : (0 : Int32).toInt = 0 := by decide
    omega
  obtain ⟨c, hc, rfl⟩ := nI_of h0
  obtain ⟨q, hq, rfl⟩ := nI_of h3
  have c1 : 1 ≤ c := Classical.byContradiction (fun z => h1 (nI_lt (b := 1) (by omega) (by decide)))
  have c2 : c ≤ 32 := Classical.byContradiction (fun z => h2 (nI_lt (a := 32) (by omega) hc))
  refine ⟨q, c, rfl, rfl, c1, Classical.byContradiction (fun z => h4 ?_)⟩
  rw [show (32 : Int32) = nI 32 from rfl, pk_sub c2]
  exact nI_lt (by omega) hq
theorem pg_lawOf {p0 p1 p2 p3 p4 : Int32} (hp : post 1 ()) : wpL_lawOf post 142 2272 () p0 p1 p2 p3 p4 := by
  unfold wpL_lawOf
  refine ⟨by omega, by omega, 9, 448, by omega, by omega, pg_init ?_⟩
  rintro ⟨f1, f2, f3, b1, b2, b3, b4, b5, b6, b7, b8, b9⟩ h
  refine br_c (fun z => pg_l38 hp h (Or.inl z)) (fun z1 => br_c (fun z => pg_l38 hp h (Or.inr (Or.inl z))) (fun z2 => br_c (fun z => pg_l38 hp h (Or.inr (Or.inr (Or.inl z)))) (fun z3 => br_c (fun z => pg_l38 hp h (Or.inr (Or.inr (Or.inr z)))) (fun z4 => ?_))))
  obtain ⟨q, c, rfl, rfl, c1, c2⟩ := pg_good z1 z2 z3 z4
  exact pg_l39 hp h c1 c2
theorem pg_cell {pst : Int32 → Prop} {L k : Nat} {xs : Nat → Int32} (hL : L ≤ 5) (hk : k < 5) (H : ∀ r, pst r) : wpL_cellAt pst L xs () (nI k) := by
  unfold wpL_cellAt
  exact pk_le L k (fun _ => H _) (fun z => ⟨pk_in k L z, H _⟩)
end
end
section
theorem i_vc (xs : Nat → Int32) (L : Nat) (hL : L ≤ 5) : wpL_law (fun r => r = 1) L xs := by
  unfold wpL_law
  exact pg_cell (k := 0) hL (by omega) (fun r1 => pg_cell (k := 1) hL (by omega) (fun r2 => pg_cell (k := 2) hL (by omega) (fun r3 => pg_cell (k := 3) hL (by omega) (fun r4 => pg_cell (k := 4) hL (by omega) (fun r5 => ⟨142, 2272, by omega, by omega, pg_lawOf rfl⟩)))))
end
