section
theorem pk_us {f : Nat → Int32} {k : Nat} {x : Int32} : upd f k x k = x := if_pos rfl
theorem pk_un {f : Nat → Int32} {k j : Nat} {x : Int32} (h : j ≠ k) : upd f k x j = f j := if_neg h
theorem pk_sub {a b : Nat} (h : b ≤ a) : nI a - nI b = nI (a - b) := by
  obtain ⟨c, rfl⟩ : ∃ c, a = c + b := ⟨a - b, by omega⟩
  rw [← nI_add, Int32.add_sub_cancel, Nat.add_sub_cancel]
theorem pk_mul (a b : Nat) : nI a * nI b = nI (a * b) := (Int32.ofNat_mul a b).symm
theorem pk_ix (x : Int32) {n : Nat} (hn : n < 2 ^ 31) : x < 0 ∨ nI n ≤ x ∨ ∃ j : Nat, j < n ∧ x = nI j := by
  by_cases h : x < 0
  · exact Or.inl h
  · obtain ⟨j, hj, rfl⟩ := nI_of h
    by_cases h2 : j < n
    · exact Or.inr (Or.inr ⟨j, h2, rfl⟩)
    · exact Or.inr (Or.inl (nI_le (by omega) hj))
theorem pk_le {x y : Int32} {A B : Prop} (a b : Nat) (f : a ≤ b → A) (g : b < a → B) (hx : x = nI a := by rfl) (hy : y = nI b := by rfl) (ha : a < 2 ^ 31 := by omega) (hb : b < 2 ^ 31 := by omega) : (x ≤ y → A) ∧ (¬ x ≤ y → B) := by
  subst hx hy
  rw [nI_leI ha hb]
  exact ⟨f, fun z => g (by omega)⟩
theorem pk_lt {x y : Int32} {A B : Prop} (a b : Nat) (f : a < b → A) (g : b ≤ a → B) (hx : x = nI a := by rfl) (hy : y = nI b := by rfl) (ha : a < 2 ^ 31 := by omega) (hb : b < 2 ^ 31 := by omega) : (x < y → A) ∧ (¬ x < y → B) := by
  subst hx hy
  rw [nI_ltI ha hb]
  exact ⟨f, fun z => g (by omega)⟩
theorem pk_eq {x y : Int32} {A B : Prop} (a b : Nat) (f : a = b → A) (g : a ≠ b → B) (hx : x = nI a := by rfl) (hy : y = nI b := by rfl) (ha : a < 2 ^ 31 := by omega) (hb : b < 2 ^ 31 := by omega) : (x = y → A) ∧ (¬ x = y → B) := by
  subst hx hy
  rw [nI_eq ha hb]
  exact ⟨f, g⟩
theorem pk_in {x : Int32} (n N : Nat) (h : n < N) (hx : x = nI n := by rfl) (hN : N < 2 ^ 31 := by omega) : vp_in x N := by
  subst hx
  exact vp_in_nI h hN
theorem pk_cl {x : Int32} (n : Nat) (hx : x = nI n := by rfl) (h : n < 2 ^ 31 := by omega) : x.toNatClampNeg = n := by
  subst hx
  exact nI_clamp h
/-! the abstract state: booleans, naturals, homes (16: none) -/
def fv_u {α : Type} (f : Nat → α) (k : Nat) (v : α) : Nat → α := fun j => if j = k then v else f j
theorem fv_us {α : Type} {f : Nat → α} {k : Nat} {v : α} : fv_u f k v k = v := if_pos rfl
theorem fv_un {α : Type} {f : Nat → α} {k j : Nat} {v : α} (h : j ≠ k) : fv_u f k v j = f j := if_neg h
theorem fv_ueq {α : Type} {f : Nat → α} {k : Nat} : fv_u f k (f k) = f := by
  funext j
  unfold fv_u
  split
  · rename_i h; rw [h]
  · rfl
theorem fv_uu {α : Type} {f : Nat → α} {k : Nat} {v w : α} : fv_u (fv_u f k v) k w = fv_u f k w := by
  funext j
  unfold fv_u
  split
  · rfl
  · rfl
def fv_b (x : Bool) : Int32 := cond x 1 0
def fv_bA (f : Nat → Bool) : Nat → Int32 := fun j => fv_b (f j)
def fv_nA (f : Nat → Nat) : Nat → Int32 := fun j => nI (f j)
def fv_h (h : Nat) : Int32 := if h < 16 then nI h else -1
def fv_hA (f : Nat → Nat) : Nat → Int32 := fun j => fv_h (f j)
theorem fv_bz {x : Bool} : fv_b x = 0 ↔ x = false := by cases x <;> decide
theorem fv_h1 {h : Nat} (p : h < 16) : fv_h h = nI h := if_pos p
theorem fv_h2 {h : Nat} (p : 16 ≤ h) : fv_h h = -1 := if_neg (by omega)
theorem fv_rB {f : Nat → Bool} {e : Nat} (he : e < 64) : fv_bA f (nI e).toNatClampNeg = fv_b (f e) := by
  rw [nI_clamp (by omega)]; rfl
theorem fv_rN {f : Nat → Nat} {e : Nat} (he : e < 64) : fv_nA f (nI e).toNatClampNeg = nI (f e) := by
  rw [nI_clamp (by omega)]; rfl
theorem fv_rW {f : Nat → Int32} {e : Nat} (he : e < 64) : f (nI e).toNatClampNeg = f e := by
  rw [nI_clamp (by omega)]
theorem fv_rH {ho : Nat → Nat} {b : Nat} (hb : b < 8) (h : ho b < 16) : fv_hA ho (nI b).toNatClampNeg = nI (ho b) := by
  rw [nI_clamp (by omega)]; exact fv_h1 h
theorem fv_rHn {ho : Nat → Nat} {b : Nat} (hb : b < 8) (h : 16 ≤ ho b) : fv_hA ho (nI b).toNatClampNeg = -1 := by
  rw [nI_clamp (by omega)]; exact fv_h2 h
theorem fv_brb {x : Bool} {A B : Prop} (f : x = false → A) (g : x = true → B) : (fv_b x = 0 → A) ∧ (¬ fv_b x = 0 → B) := by
  rw [fv_bz]
  exact ⟨f, fun z => g (by cases x; exact absurd rfl z; rfl)⟩
theorem fv_brB {p : Nat → Bool} {A B : Prop} (e : Nat) (he : e < 64) (f : p e = false → A) (g : p e = true → B) : (fv_bA p (nI e).toNatClampNeg = 0 → A) ∧ (¬ fv_bA p (nI e).toNatClampNeg = 0 → B) := by
  rw [fv_rB he]
  exact fv_brb f g
theorem fv_hlt {h : Nat} : fv_h h < 0 ↔ 16 ≤ h := by
  by_cases p : h < 16
  · rw [fv_h1 p]
    exact ⟨fun z => absurd z (nI_pos (by omega)), fun z => absurd p (by omega)⟩
  · rw [fv_h2 (by omega)]
    exact ⟨fun _ => by omega, fun _ => by decide⟩
theorem fv_hle {h : Nat} : 0 ≤ fv_h h ↔ h < 16 := by
  by_cases p : h < 16
  · rw [fv_h1 p]
    exact ⟨fun _ => p, fun _ => nI_pos' (by omega)⟩
  · rw [fv_h2 (by omega)]
    exact ⟨fun z => absurd z (by decide), fun z => absurd z p⟩
theorem fv_heq {h e : Nat} (he : e < 16) : fv_h h = nI e ↔ h = e := by
  by_cases p : h < 16
  · rw [fv_h1 p]
    exact nI_eq (by omega) (by omega)
  · rw [fv_h2 (by omega)]
    refine ⟨fun z => ?_, fun z => absurd (z ▸ he) p⟩
    have h1 : ¬ nI e < 0 := nI_pos (by omega)
    rw [← z] at h1
    exact absurd (by decide) h1
theorem fv_brHlt {ho : Nat → Nat} {A B : Prop} (b : Nat) (hb : b < 8) (f : 16 ≤ ho b → A) (g : ho b < 16 → B) : (fv_hA ho (nI b).toNatClampNeg < 0 → A) ∧ (¬ fv_hA ho (nI b).toNatClampNeg < 0 → B) := by
  rw [nI_clamp (by omega)]
  show (fv_h (ho b) < 0 → A) ∧ (¬ fv_h (ho b) < 0 → B)
  rw [fv_hlt]
  exact ⟨f, fun z => g (by omega)⟩
theorem fv_brHle {ho : Nat → Nat} {A B : Prop} (b : Nat) (hb : b < 8) (f : ho b < 16 → A) (g : 16 ≤ ho b → B) : (0 ≤ fv_hA ho (nI b).toNatClampNeg → A) ∧ (¬ 0 ≤ fv_hA ho (nI b).toNatClampNeg → B) := by
  rw [nI_clamp (by omega)]
  show (0 ≤ fv_h (ho b) → A) ∧ (¬ 0 ≤ fv_h (ho b) → B)
  rw [fv_hle]
  exact ⟨f, fun z => g (by omega)⟩
theorem fv_brHeq {ho : Nat → Nat} {A B : Prop} (b e : Nat) (hb : b < 8) (he : e < 16) (f : ho b = e → A) (g : ho b ≠ e → B) : (fv_hA ho (nI b).toNatClampNeg = nI e → A) ∧ (¬ fv_hA ho (nI b).toNatClampNeg = nI e → B) := by
  rw [nI_clamp (by omega)]
  show (fv_h (ho b) = nI e → A) ∧ (¬ fv_h (ho b) = nI e → B)
  rw [fv_heq he]
  exact ⟨f, g⟩
theorem fv_inH {ho : Nat → Nat} {b : Nat} (hb : b < 8) (h : ho b < 16) : vp_in (fv_hA ho (nI b).toNatClampNeg) 16 := by
  rw [fv_rH hb h]
  exact vp_in_nI h (by decide)
theorem fv_i16 {e : Nat} (h : e < 16) : vp_in (nI e) 16 := vp_in_nI h (by decide)
theorem fv_i8 {e : Nat} (h : e < 8) : vp_in (nI e) 8 := vp_in_nI h (by decide)
theorem fv_i4 {e : Nat} (h : e < 4) : vp_in (nI e) 4 := vp_in_nI h (by decide)
theorem fv_nar (g : Bool) : vp_nar .boolean (fv_b g) = fv_b g := by cases g <;> rfl
theorem fv_uB {p : Nat → Bool} {e : Nat} (g : Bool) (he : e < 64) : upd (fv_bA p) (nI e).toNatClampNeg (vp_nar .boolean (fv_b g)) = fv_bA (fv_u p e g) := by
  rw [nI_clamp (by omega), fv_nar]
  funext j
  show (if j = e then fv_b g else fv_b (p j)) = fv_b (if j = e then g else p j)
  split <;> rfl
theorem fv_uN {f : Nat → Nat} {e : Nat} (v : Nat) (he : e < 64) : upd (fv_nA f) (nI e).toNatClampNeg (nI v) = fv_nA (fv_u f e v) := by
  rw [nI_clamp (by omega)]
  funext j
  show (if j = e then nI v else nI (f j)) = nI (if j = e then v else f j)
  split <;> rfl
theorem fv_uW {f : Nat → Int32} {e : Nat} {v : Int32} (he : e < 64) : upd f (nI e).toNatClampNeg v = upd f e v := by
  rw [nI_clamp (by omega)]
theorem fv_uH {ho : Nat → Nat} {b : Nat} (v : Nat) (hb : b < 8) (hv : v < 16) : upd (fv_hA ho) (nI b).toNatClampNeg (nI v) = fv_hA (fv_u ho b v) := by
  rw [nI_clamp (by omega), ← fv_h1 hv]
  funext j
  show (if j = b then fv_h v else fv_h (ho j)) = fv_h (if j = b then v else ho j)
  split <;> rfl
theorem fv_uHn {ho : Nat → Nat} {b : Nat} (hb : b < 8) : upd (fv_hA ho) (nI b).toNatClampNeg (-1) = fv_hA (fv_u ho b 16) := by
  rw [nI_clamp (by omega)]
  funext j
  show (if j = b then fv_h 16 else fv_h (ho j)) = fv_h (if j = b then 16 else ho j)
  split <;> rfl
/-- a page's index -/
theorem fv_ix {e i : Nat} : nI e * 4 + nI i = nI (4 * e + i) := by
  show nI e * nI 4 + nI i = _
  rw [pk_mul, nI_add, Nat.mul_comm]
theorem fv_ix4 {e i : Nat} : 4 * nI e + nI i = nI (4 * e + i) := by
  show nI 4 * nI e + nI i = _
  rw [pk_mul, nI_add]
def fv_okp (ab : Bool) (c s : Nat) : Prop := ab = true → s ≤ c
def fv_sp (ab : Bool) (c s : Nat) : Nat := cond ab (c - s) c
theorem fv_sp_le {ab : Bool} {c s : Nat} : fv_sp ab c s ≤ c := by
  cases ab
  · exact Nat.le_refl _
  · exact Nat.sub_le _ _
theorem fv_sp_sp {ab : Bool} {c s t : Nat} : fv_sp ab (fv_sp ab c s) t = fv_sp ab c (s + t) := by
  cases ab
  · rfl
  · show c - s - t = c - (s + t); omega
theorem fv_sp0 {ab : Bool} {c : Nat} : fv_sp ab c 0 = c := by cases ab <;> rfl
theorem fv_ok_add {ab : Bool} {c s t : Nat} : fv_okp ab c (s + t) ↔ fv_okp ab c s ∧ fv_okp ab (fv_sp ab c s) t := by
  cases ab
  · exact ⟨fun _ => ⟨fun z => (nomatch z), fun z => (nomatch z)⟩, fun _ z => (nomatch z)⟩
  · constructor
    · intro h
      have h1 := h rfl
      refine ⟨fun _ => by omega, fun _ => ?_⟩
      show t ≤ c - s
      omega
    · intro h _
      have h1 := h.1 rfl
      have h2 : t ≤ c - s := h.2 rfl
      omega
theorem fv_ok0 {ab : Bool} {c : Nat} : fv_okp ab c 0 := fun _ => Nat.zero_le _
end
section
/-! counting -/
def fv_cn (p : Nat → Bool) : Nat → Nat
  | 0 => 0
  | n + 1 => fv_cn p n + cond (p n) 1 0
theorem fv_cn_congr {p q : Nat → Bool} : ∀ n, (∀ j, j < n → p j = q j) → fv_cn p n = fv_cn q n := by
  intro n
  induction n with
  | zero => intro _; rfl
  | succ n ih =>
    intro h
    show fv_cn p n + cond (p n) 1 0 = fv_cn q n + cond (q n) 1 0
    rw [ih (fun j hj => h j (by omega)), h n (by omega)]
theorem fv_cn_add {p q r : Nat → Bool} : ∀ n, (∀ j, j < n → p j = true → q j = true ∨ r j = true) → fv_cn p n ≤ fv_cn q n + fv_cn r n := by
  intro n
  induction n with
  | zero => intro _; exact Nat.le_refl _
  | succ n ih =>
    intro h
    have h1 := ih (fun j hj => h j (by omega))
    have h2 := h n (by omega)
    show fv_cn p n + cond (p n) 1 0 ≤ (fv_cn q n + cond (q n) 1 0) + (fv_cn r n + cond (r n) 1 0)
    cases hp : p n
    · simp only [cond_false]; omega
    · rcases h2 hp with h3 | h3
      · rw [h3]; simp only [cond_true]; omega
      · rw [h3]; simp only [cond_true]; omega
theorem fv_cn_all {p : Nat → Bool} : ∀ n, (∀ j, j < n → p j = true) → fv_cn p n = n := by
  intro n
  induction n with
  | zero => intro _; rfl
  | succ n ih =>
    intro h
    show fv_cn p n + cond (p n) 1 0 = n + 1
    rw [ih (fun j hj => h j (by omega)), h n (by omega)]
    rfl
theorem fv_cn_none {p : Nat → Bool} : ∀ n, (∀ j, j < n → p j = false) → fv_cn p n = 0 := by
  intro n
  induction n with
  | zero => intro _; rfl
  | succ n ih =>
    intro h
    show fv_cn p n + cond (p n) 1 0 = 0
    rw [ih (fun j hj => h j (by omega)), h n (by omega)]
    rfl
theorem fv_cn_le {p : Nat → Bool} : ∀ n, fv_cn p n ≤ n := by
  intro n
  induction n with
  | zero => exact Nat.le_refl _
  | succ n ih =>
    show fv_cn p n + cond (p n) 1 0 ≤ n + 1
    cases p n
    · simp only [cond_false]; omega
    · simp only [cond_true]; omega
theorem fv_cn_pos {p : Nat → Bool} : ∀ n, 0 < fv_cn p n → ∃ e, e < n ∧ p e = true := by
  intro n
  induction n with
  | zero => intro h; exact absurd h (Nat.lt_irrefl 0)
  | succ n ih =>
    intro h
    cases hp : p n
    · have h1 : 0 < fv_cn p n := by
        have h2 : 0 < fv_cn p n + cond (p n) 1 0 := h
        rw [hp] at h2
        exact h2
      obtain ⟨e, he, h3⟩ := ih h1
      exact ⟨e, by omega, h3⟩
    · exact ⟨n, by omega, hp⟩
theorem fv_cn_set {p : Nat → Bool} {e : Nat} : ∀ n, e < n → p e = false → fv_cn (fv_u p e true) n = fv_cn p n + 1 := by
  intro n
  induction n with
  | zero => intro h; exact absurd h (Nat.not_lt_zero e)
  | succ n ih =>
    intro h hp
    show fv_cn (fv_u p e true) n + cond (fv_u p e true n) 1 0 = fv_cn p n + cond (p n) 1 0 + 1
    by_cases h1 : e = n
    · subst h1
      rw [fv_us, hp, fv_cn_congr (q := p) e (fun j hj => fv_un (by omega))]
      rfl
    · rw [ih (by omega) hp, fv_un (by omega)]
      omega
theorem fv_cn_unset {p : Nat → Bool} {e : Nat} {n : Nat} (h : e < n) (hp : p e = true) : fv_cn (fv_u p e false) n + 1 = fv_cn p n := by
  rw [← fv_cn_set n h (p := fv_u p e false) fv_us, fv_uu, ← hp, fv_ueq]
theorem fv_cn_one {x : Nat} : ∀ n, fv_cn (fun e => x == e) n ≤ 1 ∧ (n ≤ x → fv_cn (fun e => x == e) n = 0) := by
  intro n
  induction n with
  | zero => exact ⟨Nat.zero_le _, fun _ => rfl⟩
  | succ n ih =>
    show fv_cn (fun e => x == e) n + cond (x == n) 1 0 ≤ 1 ∧ (n + 1 ≤ x → fv_cn (fun e => x == e) n + cond (x == n) 1 0 = 0)
    by_cases h : x = n
    · rw [ih.2 (by omega), h]
      refine ⟨?_, fun z => absurd z (by omega)⟩
      rw [beq_self_eq_true]
      exact Nat.le_refl _
    · rw [beq_false_of_ne h]
      exact ⟨ih.1, fun z => ih.2 (by omega)⟩
/-- is e the home of one of the first n logical blocks -/
def fv_iu (ho : Nat → Nat) (e : Nat) : Nat → Bool
  | 0 => false
  | n + 1 => fv_iu ho e n || (ho n == e)
theorem fv_iu_iff {ho : Nat → Nat} {e : Nat} : ∀ n, fv_iu ho e n = true ↔ ∃ b, b < n ∧ ho b = e := by
  intro n
  induction n with
  | zero => exact ⟨fun z => (nomatch z), fun ⟨b, hb, _⟩ => absurd hb (Nat.not_lt_zero b)⟩
  | succ n ih =>
    show (fv_iu ho e n || (ho n == e)) = true ↔ _
    rw [Bool.or_eq_true, ih, beq_iff_eq]
    constructor
    · rintro (⟨b, hb, h⟩ | h)
      · exact ⟨b, by omega, h⟩
      · exact ⟨n, by omega, h⟩
    · rintro ⟨b, hb, h⟩
      by_cases h1 : b = n
      · exact Or.inr (h1 ▸ h)
      · exact Or.inl ⟨b, by omega, h⟩
theorem fv_iu_no {ho : Nat → Nat} {e n : Nat} : fv_iu ho e n = false ↔ ∀ b, b < n → ho b ≠ e := by
  constructor
  · intro h b hb h1
    rw [(fv_iu_iff n).mpr ⟨b, hb, h1⟩] at h
    exact absurd h (by decide)
  · intro h
    cases h1 : fv_iu ho e n
    · rfl
    · obtain ⟨b, hb, h2⟩ := (fv_iu_iff n).mp h1
      exact absurd h2 (h b hb)
theorem fv_iu_cn {ho : Nat → Nat} {m : Nat} : ∀ n, fv_cn (fun e => fv_iu ho e n) m ≤ n := by
  intro n
  induction n with
  | zero => exact Nat.le_of_eq (fv_cn_none m (fun j _ => rfl))
  | succ n ih =>
    have h := fv_cn_add (p := fun e => fv_iu ho e (n + 1)) (q := fun e => fv_iu ho e n) (r := fun e => ho n == e) m (fun j _ h => by
      have h1 : (fv_iu ho j n || (ho n == j)) = true := h
      rw [Bool.or_eq_true] at h1
      exact h1)
    have h2 := (fv_cn_one (x := ho n) m).1
    omega
/-- clean and not bad -/
def fv_av (cl bd : Nat → Bool) : Nat → Bool := fun e => cl e && !bd e
theorem fv_av_iff {cl bd : Nat → Bool} {e : Nat} : fv_av cl bd e = true ↔ cl e = true ∧ bd e = false := by
  unfold fv_av
  cases cl e <;> cases bd e <;> simp
theorem fv_free_ex {bb : Nat} {cl bd : Nat → Bool} {ho : Nat → Nat} (h3 : bb ≤ 3) (hb : fv_cn bd 16 = bb) (ha : fv_cn (fv_av cl bd) 16 < 2) : ∃ e, e < 16 ∧ cl e = false ∧ bd e = false ∧ ∀ b, b < 8 → ho b ≠ e := by
  apply Classical.byContradiction
  intro hn
  have h1 : fv_cn (fun _ => true) 16 ≤ fv_cn bd 16 + fv_cn (fun e => fv_av cl bd e || fv_iu ho e 8) 16 := by
    apply fv_cn_add
    intro j hj _
    cases hd : bd j
    · right
      show (fv_av cl bd j || fv_iu ho j 8) = true
      rw [Bool.or_eq_true]
      cases hc : cl j
      · cases hu : fv_iu ho j 8
        · exact absurd ⟨j, hj, hc, hd, fv_iu_no.mp hu⟩ hn
        · exact Or.inr rfl
      · exact Or.inl (fv_av_iff.mpr ⟨hc, hd⟩)
    · exact Or.inl rfl
  have h2 : fv_cn (fun e => fv_av cl bd e || fv_iu ho e 8) 16 ≤ fv_cn (fv_av cl bd) 16 + fv_cn (fun e => fv_iu ho e 8) 16 := by
    apply fv_cn_add
    intro j _ h
    have h' : (fv_av cl bd j || fv_iu ho j 8) = true := h
    rw [Bool.or_eq_true] at h'
    exact h'
  have h4 := fv_iu_cn (ho := ho) (m := 16) 8
  have h5 := fv_cn_all (p := fun _ => true) 16 (fun _ _ => rfl)
  omega
/-! which block has the words -/
def fv_S (cl bd gr cs : Nat → Bool) (e : Nat) : Prop := cl e = false ∧ bd e = false ∧ (gr e = true ∨ cs e = true)
def fv_NB (S : Nat → Prop) (ow nu : Nat → Nat) (m b h : Nat) : Prop :=
  (h = 16 ∧ ∀ e, e < m → S e → ow e ≠ b) ∨ (h < m ∧ h < 16 ∧ S h ∧ ow h = b ∧ ∀ e, e < m → S e → ow e = b → nu e ≤ nu h)
def fv_fin (dp : Nat → Bool) (fi : Nat → Nat) (h : Nat) : Nat := if h < 16 ∧ (dp h = true ∨ fi h = 0) then 16 else h
def fv_HO (S : Nat → Prop) (ow nu : Nat → Nat) (dp : Nat → Bool) (fi ho : Nat → Nat) : Prop :=
  ∀ b, b < 8 → ∃ h, fv_NB S ow nu 16 b h ∧ ho b = fv_fin dp fi h
theorem fv_fin16 {dp : Nat → Bool} {fi : Nat → Nat} : fv_fin dp fi 16 = 16 := if_neg (by omega)
theorem fv_fin_c {dp dp' : Nat → Bool} {fi fi' : Nat → Nat} {h : Nat} (h1 : h < 16 → dp' h = dp h ∧ fi' h = fi h) : fv_fin dp' fi' h = fv_fin dp fi h := by
  unfold fv_fin
  by_cases h2 : h < 16
  · rw [(h1 h2).1, (h1 h2).2]
  · rw [if_neg (fun z => h2 z.1), if_neg (fun z => h2 z.1)]
theorem fv_fin_cases {dp : Nat → Bool} {fi : Nat → Nat} {h : Nat} (hh : h < 16) : (fv_fin dp fi h = h ∧ dp h = false ∧ 0 < fi h) ∨ (fv_fin dp fi h = 16 ∧ (dp h = true ∨ fi h = 0)) := by
  unfold fv_fin
  by_cases h1 : dp h = true ∨ fi h = 0
  · exact Or.inr ⟨if_pos ⟨hh, h1⟩, h1⟩
  · refine Or.inl ⟨if_neg (fun z => h1 z.2), ?_, ?_⟩
    · cases hd : dp h
      · rfl
      · exact absurd (Or.inl hd) h1
    · have : fi h ≠ 0 := fun z => h1 (Or.inr z)
      omega
theorem fv_NB_uniq {S : Nat → Prop} {ow nu : Nat → Nat} {b h h' : Nat} (hd : ∀ e e', e < 16 → e' < 16 → S e → S e' → nu e = nu e' → e = e') (a : fv_NB S ow nu 16 b h) (a' : fv_NB S ow nu 16 b h') : h = h' := by
  rcases a with ⟨e1, n1⟩ | ⟨_, l1, s1, o1, m1⟩
  · rcases a' with ⟨e2, _⟩ | ⟨_, l2, s2, o2, _⟩
    · rw [e1, e2]
    · exact absurd o2 (n1 h' l2 s2)
  · rcases a' with ⟨_, n2⟩ | ⟨_, l2, s2, o2, m2⟩
    · exact absurd o1 (n2 h l1 s1)
    · exact hd h h' l1 l2 s1 s2 (Nat.le_antisymm (m2 h l1 s1 o1) (m1 h' l2 s2 o2))
theorem fv_HO_uniq {S : Nat → Prop} {ow nu fi ho ho' : Nat → Nat} {dp : Nat → Bool} (hd : ∀ e e', e < 16 → e' < 16 → S e → S e' → nu e = nu e' → e = e') (a : fv_HO S ow nu dp fi ho) (a' : fv_HO S ow nu dp fi ho') (h8 : ∀ b, 8 ≤ b → ho' b = ho b) : ho' = ho := by
  funext b
  by_cases hb : b < 8
  · obtain ⟨h, n, e⟩ := a b hb
    obtain ⟨h', n', e'⟩ := a' b hb
    rw [e, e', fv_NB_uniq hd n n']
  · exact h8 b (by omega)
/-- a block that no logical block uses goes, the oldest of these -/
theorem fv_HO_erase {S S' : Nat → Prop} {ow nu fi ho : Nat → Nat} {dp : Nat → Bool} {e0 : Nat} (hS : ∀ e, e < 16 → (S' e ↔ S e ∧ e ≠ e0)) (hu : ∀ b, b < 8 → ho b ≠ e0)
    (hold : ∀ e, e < 16 → S e → (∀ b, b < 8 → ho b ≠ e) → nu e0 ≤ nu e)
    (hd : ∀ e, e < 16 → S e → S e0 → nu e = nu e0 → e = e0)
    (a : fv_HO S ow nu dp fi ho) : fv_HO S' ow nu dp fi ho := by
  intro b hb
  obtain ⟨h, n, e⟩ := a b hb
  rcases n with ⟨e1, n1⟩ | ⟨_, l1, s1, o1, m1⟩
  · exact ⟨h, Or.inl ⟨e1, fun e he hs => n1 e he ((hS e he).mp hs).1⟩, e⟩
  · by_cases h0 : h = e0
    · subst h0
      rcases fv_fin_cases (dp := dp) (fi := fi) l1 with h2 | h2
      · exact absurd (e.trans h2.1) (hu b hb)
      · refine ⟨16, Or.inl ⟨rfl, ?_⟩, ?_⟩
        · intro x hx hs ho1
          obtain ⟨s2, ne⟩ := (hS x hx).mp hs
          have h3 := m1 x hx s2 ho1
          have h4 := hold x hx s2 (by
            intro b' hb' hx'
            obtain ⟨h', n', e'⟩ := a b' hb'
            rcases n' with ⟨e5, _⟩ | ⟨_, l5, s5, o5, _⟩
            · rw [e5, fv_fin16] at e'
              omega
            · rcases fv_fin_cases (dp := dp) (fi := fi) l5 with h6 | h6
              · have h7 : h' = x := by rw [← hx', e', h6.1]
                rw [h7, ho1] at o5
                rw [← o5, e, h2.1] at hx'
                omega
              · rw [e', h6.1] at hx'
                omega)
          exact ne (hd x hx s2 s1 (Nat.le_antisymm h3 h4))
        · rw [e, h2.1, fv_fin16]
    · refine ⟨h, Or.inr ⟨l1, l1, (hS h l1).mpr ⟨s1, h0⟩, o1, fun x hx hs => m1 x hx ((hS x hx).mp hs).1⟩, e⟩
theorem fv_HO_congr {S S' : Nat → Prop} {ow ow' nu nu' fi fi' ho : Nat → Nat} {dp dp' : Nat → Bool} (hS : ∀ e, e < 16 → (S' e ↔ S e))
    (hk : ∀ e, e < 16 → S e → ow' e = ow e ∧ nu' e = nu e ∧ dp' e = dp e ∧ fi' e = fi e) (a : fv_HO S ow nu dp fi ho) : fv_HO S' ow' nu' dp' fi' ho := by
  intro b hb
  obtain ⟨h, n, e⟩ := a b hb
  rcases n with ⟨e1, n1⟩ | ⟨_, l1, s1, o1, m1⟩
  · refine ⟨h, Or.inl ⟨e1, fun x hx hs => ?_⟩, ?_⟩
    · have s := (hS x hx).mp hs
      rw [(hk x hx s).1]
      exact n1 x hx s
    · rw [e, e1, fv_fin16, fv_fin16]
  · have k1 := hk h l1 s1
    refine ⟨h, Or.inr ⟨l1, l1, (hS h l1).mpr s1, k1.1.trans o1, fun x hx hs hxo => ?_⟩, ?_⟩
    · have s := (hS x hx).mp hs
      have k2 := hk x hx s
      rw [k2.2.1, k1.2.1]
      exact m1 x hx s (k2.1.symm.trans hxo)
    · rw [e]
      exact (fv_fin_c (fun _ => k1.2.2)).symm
/-- block e0 is, or becomes, the newest of b0 -/
theorem fv_HO_new {S S' : Nat → Prop} {ow ow' nu nu' fi fi' ho ho' : Nat → Nat} {dp dp' : Nat → Bool} {e0 b0 : Nat} (he0 : e0 < 16)
    (hS : ∀ e, e < 16 → (S' e ↔ S e ∨ e = e0))
    (hk : ∀ e, e < 16 → e ≠ e0 → S e → ow' e = ow e ∧ nu' e = nu e ∧ dp' e = dp e ∧ fi' e = fi e)
    (ho0 : ow' e0 = b0) (hs0 : S e0 → ow e0 = b0)
    (hm : ∀ e, e < 16 → e ≠ e0 → S e → ow e = b0 → nu e ≤ nu' e0)
    (hh : ∀ b, b < 8 → b ≠ b0 → ho' b = ho b) (hh0 : ho' b0 = fv_fin dp' fi' e0)
    (a : fv_HO S ow nu dp fi ho) : fv_HO S' ow' nu' dp' fi' ho' := by
  intro b hb
  by_cases h0 : b = b0
  · subst h0
    refine ⟨e0, Or.inr ⟨he0, he0, (hS e0 he0).mpr (Or.inr rfl), ho0, fun x hx hs hxo => ?_⟩, hh0⟩
    by_cases h1 : x = e0
    · rw [h1]; exact Nat.le_refl _
    · have s : S x := by
        rcases (hS x hx).mp hs with s | s
        · exact s
        · exact absurd s h1
      have k := hk x hx h1 s
      rw [k.2.1]
      exact hm x hx h1 s (k.1.symm.trans hxo)
  · obtain ⟨h, n, e⟩ := a b hb
    rcases n with ⟨e1, n1⟩ | ⟨_, l1, s1, o1, m1⟩
    · refine ⟨h, Or.inl ⟨e1, fun x hx hs => ?_⟩, ?_⟩
      · by_cases h1 : x = e0
        · rw [h1, ho0]
          exact fun z => h0 z.symm
        · have s : S x := by
            rcases (hS x hx).mp hs with s | s
            · exact s
            · exact absurd s h1
          rw [(hk x hx h1 s).1]
          exact n1 x hx s
      · rw [hh b hb h0, e, e1, fv_fin16, fv_fin16]
    · have ne : h ≠ e0 := by
        intro z
        rw [z] at s1 o1
        exact h0 (o1.symm.trans (hs0 s1))
      have k1 := hk h l1 ne s1
      refine ⟨h, Or.inr ⟨l1, l1, (hS h l1).mpr (Or.inl s1), k1.1.trans o1, fun x hx hs hxo => ?_⟩, ?_⟩
      · by_cases h1 : x = e0
        · rw [h1, ho0] at hxo
          exact absurd hxo.symm h0
        · have s : S x := by
            rcases (hS x hx).mp hs with s | s
            · exact s
            · exact absurd s h1
          have k2 := hk x hx h1 s
          rw [k2.2.1, k1.2.1]
          exact m1 x hx s (k2.1.symm.trans hxo)
      · rw [hh b hb h0, e]
        exact (fv_fin_c (fun _ => k1.2.2)).symm
end
section
def fv_IX (bb nn : Nat) (cl bd : Nat → Bool) (ow nu : Nat → Nat) (gr cs dp : Nat → Bool) (fi ho : Nat → Nat) : Prop :=
  bb ≤ 3 ∧ fv_cn bd 16 = bb ∧ 1 ≤ nn ∧ (∀ e, e < 16 → ow e < 8) ∧ (∀ e, e < 16 → fi e ≤ 4) ∧ (∀ e, e < 16 → cl e = false → bd e = false → nu e < nn) ∧
  (∀ e e', e < 16 → e' < 16 → cl e = false → bd e = false → cl e' = false → bd e' = false → nu e = nu e' → e = e') ∧ fv_HO (fv_S cl bd gr cs) ow nu dp fi ho
section
variable {bb nn : Nat} {cl bd gr cs dp : Nat → Bool} {ow nu fi ho : Nat → Nat}
theorem fv_bb3 (I : fv_IX bb nn cl bd ow nu gr cs dp fi ho) : bb ≤ 3 := I.1
theorem fv_cnb (I : fv_IX bb nn cl bd ow nu gr cs dp fi ho) : fv_cn bd 16 = bb := I.2.1
theorem fv_nn1 (I : fv_IX bb nn cl bd ow nu gr cs dp fi ho) : 1 ≤ nn := I.2.2.1
theorem fv_ow8 (I : fv_IX bb nn cl bd ow nu gr cs dp fi ho) {e : Nat} (he : e < 16) : ow e < 8 := I.2.2.2.1 e he
theorem fv_fi4 (I : fv_IX bb nn cl bd ow nu gr cs dp fi ho) {e : Nat} (he : e < 16) : fi e ≤ 4 := I.2.2.2.2.1 e he
theorem fv_nun (I : fv_IX bb nn cl bd ow nu gr cs dp fi ho) {e : Nat} (he : e < 16) (h1 : cl e = false) (h2 : bd e = false) : nu e < nn := I.2.2.2.2.2.1 e he h1 h2
theorem fv_dis (I : fv_IX bb nn cl bd ow nu gr cs dp fi ho) {e e' : Nat} (he : e < 16) (he' : e' < 16) (h1 : cl e = false) (h2 : bd e = false) (h3 : cl e' = false) (h4 : bd e' = false) (h : nu e = nu e') : e = e' := I.2.2.2.2.2.2.1 e e' he he' h1 h2 h3 h4 h
theorem fv_hom (I : fv_IX bb nn cl bd ow nu gr cs dp fi ho) : fv_HO (fv_S cl bd gr cs) ow nu dp fi ho := I.2.2.2.2.2.2.2
theorem fv_disS (I : fv_IX bb nn cl bd ow nu gr cs dp fi ho) : ∀ e e', e < 16 → e' < 16 → fv_S cl bd gr cs e → fv_S cl bd gr cs e' → nu e = nu e' → e = e' :=
  fun _ _ he he' s s' h => fv_dis I he he' s.1 s.2.1 s'.1 s'.2.1 h
/-- what holds of a block in use -/
theorem fv_use (I : fv_IX bb nn cl bd ow nu gr cs dp fi ho) {b : Nat} (hb : b < 8) (h : ho b < 16) : fv_S cl bd gr cs (ho b) ∧ ow (ho b) = b ∧ dp (ho b) = false ∧ 0 < fi (ho b) ∧ ∀ e, e < 16 → fv_S cl bd gr cs e → ow e = b → nu e ≤ nu (ho b) := by
  obtain ⟨h0, n, e⟩ := fv_hom I b hb
  rcases n with ⟨e1, _⟩ | ⟨_, l1, s1, o1, m1⟩
  · rw [e1, fv_fin16] at e
    omega
  · rcases fv_fin_cases (dp := dp) (fi := fi) l1 with h2 | h2
    · rw [h2.1] at e
      rw [e]
      exact ⟨s1, o1, h2.2.1, h2.2.2, m1⟩
    · rw [h2.1] at e
      omega
theorem fv_use_ne (I : fv_IX bb nn cl bd ow nu gr cs dp fi ho) {b e : Nat} (hb : b < 8) (he : e < 16) (hc : cl e = true) : ho b ≠ e := by
  intro h
  have h1 := (fv_use I hb (by omega)).1.1
  rw [h, hc] at h1
  exact absurd h1 (by decide)
theorem fv_use_ne2 (I : fv_IX bb nn cl bd ow nu gr cs dp fi ho) {b e : Nat} (hb : b < 8) (he : e < 16) (h1 : gr e = false) (h2 : cs e = false) : ho b ≠ e := by
  intro h
  have h3 := (fv_use I hb (by omega)).1.2.2
  rw [h, h1, h2] at h3
  exact absurd h3 (by decide)
/-- another attach -/
theorem fv_IX_nn (I : fv_IX bb nn cl bd ow nu gr cs dp fi ho) {m : Nat} (h1 : 1 ≤ m) (hm : ∀ e, e < 16 → cl e = false → bd e = false → nu e < m) : fv_IX bb m cl bd ow nu gr cs dp fi ho :=
  ⟨fv_bb3 I, fv_cnb I, h1, fun _ he => fv_ow8 I he, fun _ he => fv_fi4 I he, hm, I.2.2.2.2.2.2.1, fv_hom I⟩
/-- erasing -/
theorem fv_IX_clean (I : fv_IX bb nn cl bd ow nu gr cs dp fi ho) {e0 : Nat} (he0 : e0 < 16) (hc : cl e0 = false) (hd : bd e0 = false) (hu : ∀ b, b < 8 → ho b ≠ e0)
    (hold : ∀ e, e < 16 → cl e = false → bd e = false → (∀ b, b < 8 → ho b ≠ e) → nu e0 ≤ nu e) : fv_IX bb nn (fv_u cl e0 true) bd ow nu gr cs dp fi ho := by
  have hl : ∀ e, fv_u cl e0 true e = false → e ≠ e0 ∧ cl e = false := by
    intro e h
    by_cases z : e = e0
    · rw [z, fv_us] at h
      exact absurd h (by decide)
    · rw [fv_un z] at h
      exact ⟨z, h⟩
  refine ⟨fv_bb3 I, fv_cnb I, fv_nn1 I, fun _ he => fv_ow8 I he, fun _ he => fv_fi4 I he, fun e he h1 h2 => fv_nun I he (hl e h1).2 h2,
    fun e e' he he' h1 h2 h3 h4 h => fv_dis I he he' (hl e h1).2 h2 (hl e' h3).2 h4 h, ?_⟩
  refine fv_HO_erase (S := fv_S cl bd gr cs) (e0 := e0) ?_ hu (fun e he s => hold e he s.1 s.2.1) (fun e he s s0 h => fv_disS I e e0 he he0 s s0 h) (fv_hom I)
  intro e he
  constructor
  · intro s
    exact ⟨⟨(hl e s.1).2, s.2⟩, (hl e s.1).1⟩
  · intro s
    exact ⟨(fv_un s.2).trans s.1.1, s.1.2⟩
theorem fv_IX_bad (I : fv_IX bb nn cl bd ow nu gr cs dp fi ho) {e0 : Nat} (h3 : bb < 3) (he0 : e0 < 16) (hc : cl e0 = false) (hd : bd e0 = false) (hu : ∀ b, b < 8 → ho b ≠ e0)
    (hold : ∀ e, e < 16 → cl e = false → bd e = false → (∀ b, b < 8 → ho b ≠ e) → nu e0 ≤ nu e) : fv_IX (bb + 1) nn cl (fv_u bd e0 true) ow nu gr cs dp fi ho := by
  have hl : ∀ e, fv_u bd e0 true e = false → e ≠ e0 ∧ bd e = false := by
    intro e h
    by_cases z : e = e0
    · rw [z, fv_us] at h
      exact absurd h (by decide)
    · rw [fv_un z] at h
      exact ⟨z, h⟩
  refine ⟨by omega, ?_, fv_nn1 I, fun _ he => fv_ow8 I he, fun _ he => fv_fi4 I he, fun e he h1 h2 => fv_nun I he h1 (hl e h2).2,
    fun e e' he he' h1 h2 h3 h4 h => fv_dis I he he' h1 (hl e h2).2 h3 (hl e' h4).2 h, ?_⟩
  · rw [fv_cn_set 16 he0 hd, fv_cnb I]
  refine fv_HO_erase (S := fv_S cl bd gr cs) (e0 := e0) ?_ hu (fun e he s => hold e he s.1 s.2.1) (fun e he s s0 h => fv_disS I e e0 he he0 s s0 h) (fv_hom I)
  intro e he
  constructor
  · intro s
    exact ⟨⟨s.1, (hl e s.2.1).2, s.2.2⟩, (hl e s.2.1).1⟩
  · intro s
    exact ⟨s.1.1, (fv_un s.2).trans s.1.2.1, s.1.2.2⟩
theorem fv_hd_live {e0 : Nat} {e : Nat} (h : fv_u cl e0 false e = false) : e = e0 ∨ (e ≠ e0 ∧ cl e = false) := by
  by_cases z : e = e0
  · exact Or.inl z
  · rw [fv_un z] at h
    exact Or.inr ⟨z, h⟩
theorem fv_hd_nu (I : fv_IX bb nn cl bd ow nu gr cs dp fi ho) {e0 : Nat} (e : Nat) (he : e < 16) (h1 : fv_u cl e0 false e = false) (h2 : bd e = false) : fv_u nu e0 nn e < nn + 1 := by
  rcases fv_hd_live h1 with z | z
  · rw [z, fv_us]; omega
  · rw [fv_un z.1]
    have := fv_nun I he z.2 h2
    omega
theorem fv_hd_dis (I : fv_IX bb nn cl bd ow nu gr cs dp fi ho) {e0 : Nat} (e e' : Nat) (he : e < 16) (he' : e' < 16) (h1 : fv_u cl e0 false e = false) (h2 : bd e = false) (h3 : fv_u cl e0 false e' = false) (h4 : bd e' = false) (h : fv_u nu e0 nn e = fv_u nu e0 nn e') : e = e' := by
  rcases fv_hd_live h1 with z | z
  · rcases fv_hd_live h3 with y | y
    · rw [z, y]
    · rw [z, fv_us, fv_un y.1] at h
      have := fv_nun I he' y.2 h4
      omega
  · rcases fv_hd_live h3 with y | y
    · rw [y, fv_us, fv_un z.1] at h
      have := fv_nun I he z.2 h2
      omega
    · rw [fv_un z.1, fv_un y.1] at h
      exact fv_dis I he he' z.2 h2 y.2 h4 h
theorem fv_u_lt {f : Nat → Nat} {e0 v m : Nat} (h : ∀ e, e < 16 → f e < m) (hv : v < m) (e : Nat) (he : e < 16) : fv_u f e0 v e < m := by
  by_cases z : e = e0
  · rw [z, fv_us]; exact hv
  · rw [fv_un z]; exact h e he
theorem fv_u_le {f : Nat → Nat} {e0 v m : Nat} (h : ∀ e, e < 16 → f e ≤ m) (hv : v ≤ m) (e : Nat) (he : e < 16) : fv_u f e0 v e ≤ m := by
  by_cases z : e = e0
  · rw [z, fv_us]; exact hv
  · rw [fv_un z]; exact h e he
/-- a copy with i words, not closed, on a clean block -/
theorem fv_IX_copy (I : fv_IX bb nn cl bd ow nu gr cs dp fi ho) {e0 b0 i : Nat} (he0 : e0 < 16) (hb0 : b0 < 8) (hi : i ≤ 4) (hc : cl e0 = true) :
    fv_IX bb (nn + 1) (fv_u cl e0 false) bd (fv_u ow e0 b0) (fv_u nu e0 nn) (fv_u gr e0 false) (fv_u cs e0 false) (fv_u dp e0 false) (fv_u fi e0 i) ho := by
  refine ⟨fv_bb3 I, fv_cnb I, by omega, fv_u_lt (fun _ he => fv_ow8 I he) hb0, fv_u_le (fun _ he => fv_fi4 I he) hi, fv_hd_nu I, fv_hd_dis I, ?_⟩
  have hn : ∀ e, fv_S cl bd gr cs e → e ≠ e0 := by
    intro e s z
    rw [z] at s
    exact absurd (hc.symm.trans s.1) (by decide)
  refine fv_HO_congr (S := fv_S cl bd gr cs) ?_ (fun e _ s => ⟨fv_un (hn e s), fv_un (hn e s), fv_un (hn e s), fv_un (hn e s)⟩) (fv_hom I)
  intro e he
  constructor
  · intro s
    by_cases z : e = e0
    · have := s.2.2
      rw [z, fv_us, fv_us] at this
      exact absurd this (by decide)
    · have h1 := s.1
      have h2 := s.2.2
      rw [fv_un z] at h1
      rw [fv_un z, fv_un z] at h2
      exact ⟨h1, s.2.1, h2⟩
  · intro s
    have z := hn e s
    refine ⟨(fv_un z).trans s.1, s.2.1, ?_⟩
    rw [fv_un z, fv_un z]
    exact s.2.2
/-- a growing block for b0, which has no words -/
theorem fv_IX_grow (I : fv_IX bb nn cl bd ow nu gr cs dp fi ho) {e0 b0 : Nat} (he0 : e0 < 16) (hb0 : b0 < 8) (hh : ho b0 = 16) (hc : cl e0 = true) (hd : bd e0 = false) :
    fv_IX bb (nn + 1) (fv_u cl e0 false) bd (fv_u ow e0 b0) (fv_u nu e0 nn) (fv_u gr e0 true) (fv_u cs e0 false) (fv_u dp e0 false) (fv_u fi e0 0) ho := by
  refine ⟨fv_bb3 I, fv_cnb I, by omega, fv_u_lt (fun _ he => fv_ow8 I he) hb0, fv_u_le (fun _ he => fv_fi4 I he) (by omega), fv_hd_nu I, fv_hd_dis I, ?_⟩
  have hn : ∀ e, fv_S cl bd gr cs e → e ≠ e0 := by
    intro e s z
    rw [z] at s
    exact absurd (hc.symm.trans s.1) (by decide)
  refine fv_HO_new (S := fv_S cl bd gr cs) (ho := ho) (e0 := e0) (b0 := b0) he0 ?_ (fun e _ z s => ⟨fv_un z, fv_un z, fv_un z, fv_un z⟩) fv_us (fun s => absurd rfl (hn e0 s)) ?_ (fun _ _ _ => rfl) ?_ (fv_hom I)
  · intro e he
    constructor
    · intro s
      by_cases z : e = e0
      · exact Or.inr z
      · have h1 := s.1
        have h2 := s.2.2
        rw [fv_un z] at h1
        rw [fv_un z, fv_un z] at h2
        exact Or.inl ⟨h1, s.2.1, h2⟩
    · rintro (s | z)
      · have z := hn e s
        refine ⟨(fv_un z).trans s.1, s.2.1, ?_⟩
        rw [fv_un z, fv_un z]
        exact s.2.2
      · rw [z]
        exact ⟨fv_us, hd, Or.inl fv_us⟩
  · intro e he _ s _
    rw [fv_us]
    have := fv_nun I he s.1 s.2.1
    omega
  · rw [hh]
    exact (if_pos ⟨he0, Or.inr fv_us⟩).symm
/-- closing a copy: it is the newest of its logical block -/
theorem fv_IX_close (I : fv_IX bb nn cl bd ow nu gr cs dp fi ho) {e0 b0 : Nat} (he0 : e0 < 16) (hb0 : b0 < 8) (hc : cl e0 = false) (hd : bd e0 = false) (hg : gr e0 = false) (hs : cs e0 = false) (hp : dp e0 = false) (hw : ow e0 = b0)
    (hm : ∀ e, e < 16 → fv_S cl bd gr cs e → ow e = b0 → nu e ≤ nu e0) : fv_IX bb nn cl bd ow nu gr (fv_u cs e0 true) dp fi (fv_u ho b0 (if fi e0 = 0 then 16 else e0)) := by
  refine ⟨fv_bb3 I, fv_cnb I, fv_nn1 I, fun _ he => fv_ow8 I he, fun _ he => fv_fi4 I he, fun e he h1 h2 => fv_nun I he h1 h2,
    fun e e' he he' h1 h2 h3 h4 h => fv_dis I he he' h1 h2 h3 h4 h, ?_⟩
  have hn : ∀ e, fv_S cl bd gr cs e → e ≠ e0 := by
    intro e s z
    rw [z] at s
    have := s.2.2
    rw [hg, hs] at this
    exact absurd this (by decide)
  refine fv_HO_new (S := fv_S cl bd gr cs) (ho := ho) (e0 := e0) (b0 := b0) he0 ?_ (fun e _ z s => ⟨rfl, rfl, rfl, rfl⟩) hw (fun s => absurd rfl (hn e0 s)) (fun e he _ s h => hm e he s h) (fun _ _ z => fv_un z) ?_ (fv_hom I)
  · intro e he
    constructor
    · intro s
      by_cases z : e = e0
      · exact Or.inr z
      · have h2 := s.2.2
        rw [fv_un z] at h2
        exact Or.inl ⟨s.1, s.2.1, h2⟩
    · rintro (s | z)
      · have z := hn e s
        refine ⟨s.1, s.2.1, ?_⟩
        rw [fv_un z]
        exact s.2.2
      · rw [z]
        exact ⟨hc, hd, Or.inr fv_us⟩
  · rw [fv_us]
    unfold fv_fin
    rw [hp]
    by_cases z : fi e0 = 0
    · rw [if_pos z, if_pos ⟨he0, Or.inr z⟩]
    · rw [if_neg z, if_neg (fun y => by rcases y.2 with y | y; exact absurd y (by decide); exact z y)]
/-- one more word on the newest block of b0, not dropped -/
theorem fv_IX_word (I : fv_IX bb nn cl bd ow nu gr cs dp fi ho) {e0 b0 : Nat} (he0 : e0 < 16) (hb0 : b0 < 8) (hs : fv_S cl bd gr cs e0) (hw : ow e0 = b0) (hp : dp e0 = false) (hf : fi e0 < 4)
    (hm : ∀ e, e < 16 → fv_S cl bd gr cs e → ow e = b0 → nu e ≤ nu e0) : fv_IX bb nn cl bd ow nu gr cs dp (fv_u fi e0 (fi e0 + 1)) (fv_u ho b0 e0) := by
  refine ⟨fv_bb3 I, fv_cnb I, fv_nn1 I, fun _ he => fv_ow8 I he, fv_u_le (fun _ he => fv_fi4 I he) (by omega), fun e he h1 h2 => fv_nun I he h1 h2,
    fun e e' he he' h1 h2 h3 h4 h => fv_dis I he he' h1 h2 h3 h4 h, ?_⟩
  refine fv_HO_new (S := fv_S cl bd gr cs) (ho := ho) (e0 := e0) (b0 := b0) he0 ?_ (fun e _ z s => ⟨rfl, rfl, rfl, fv_un z⟩) hw (fun _ => hw) (fun e he _ s h => hm e he s h) (fun _ _ z => fv_un z) ?_ (fv_hom I)
  · intro e he
    constructor
    · intro s
      exact Or.inl s
    · rintro (s | z)
      · exact s
      · rw [z]
        exact hs
  · rw [fv_us]
    unfold fv_fin
    rw [hp, fv_us, if_neg]
    intro y
    rcases y.2 with y | y
    · exact absurd y (by decide)
    · omega
/-- dropped -/
theorem fv_IX_drop (I : fv_IX bb nn cl bd ow nu gr cs dp fi ho) {b0 : Nat} (hb0 : b0 < 8) (h : ho b0 < 16) : fv_IX bb nn cl bd ow nu gr cs (fv_u dp (ho b0) true) fi (fv_u ho b0 16) := by
  obtain ⟨hs, hw, hp, hf, hm⟩ := fv_use I hb0 h
  refine ⟨fv_bb3 I, fv_cnb I, fv_nn1 I, fun _ he => fv_ow8 I he, fun _ he => fv_fi4 I he, fun e he h1 h2 => fv_nun I he h1 h2,
    fun e e' he he' h1 h2 h3 h4 h => fv_dis I he he' h1 h2 h3 h4 h, ?_⟩
  refine fv_HO_new (S := fv_S cl bd gr cs) (ho := ho) (e0 := ho b0) (b0 := b0) h ?_ (fun e _ z s => ⟨rfl, rfl, fv_un z, rfl⟩) hw (fun _ => hw) (fun e he _ s h => hm e he s h) (fun _ _ z => fv_un z) ?_ (fv_hom I)
  · intro e he
    constructor
    · intro s
      exact Or.inl s
    · rintro (s | z)
      · exact s
      · rw [z]
        exact hs
  · rw [fv_us]
    exact (if_pos ⟨h, Or.inl fv_us⟩).symm
end
/-! what is seen: sizes and words -/
def fv_VR (fi : Nat → Nat) (pg : Nat → Int32) (ho sz : Nat → Nat) (wd : Nat → Int32) : Prop :=
  ∀ b, b < 8 → (16 ≤ ho b → sz b = 0) ∧ (ho b < 16 → sz b = fi (ho b) ∧ ∀ i, i < fi (ho b) → wd (4 * b + i) = pg (4 * ho b + i))
theorem fv_VR_keep {fi fi' ho sz : Nat → Nat} {pg pg' wd : Nat → Int32} (V : fv_VR fi pg ho sz wd) (h4 : ∀ e, e < 16 → fi e ≤ 4)
    (h : ∀ b, b < 8 → ho b < 16 → fi' (ho b) = fi (ho b) ∧ ∀ i, i < 4 → pg' (4 * ho b + i) = pg (4 * ho b + i)) : fv_VR fi' pg' ho sz wd := by
  intro b hb
  refine ⟨(V b hb).1, fun hh => ?_⟩
  obtain ⟨k1, k2⟩ := h b hb hh
  obtain ⟨v1, v2⟩ := (V b hb).2 hh
  rw [k1]
  refine ⟨v1, fun i hi => ?_⟩
  have := h4 _ hh
  rw [v2 i hi, k2 i (by omega)]
theorem fv_VR_set {fi fi' ho ho' sz sz' : Nat → Nat} {pg pg' wd wd' : Nat → Int32} {b0 : Nat} (V : fv_VR fi pg ho sz wd) (h4 : ∀ e, e < 16 → fi e ≤ 4)
    (h : ∀ b, b < 8 → b ≠ b0 → ho' b = ho b ∧ sz' b = sz b ∧ (∀ i, i < 4 → wd' (4 * b + i) = wd (4 * b + i)) ∧ (ho b < 16 → fi' (ho b) = fi (ho b) ∧ ∀ i, i < 4 → pg' (4 * ho b + i) = pg (4 * ho b + i)))
    (h1 : 16 ≤ ho' b0 → sz' b0 = 0) (h2 : ho' b0 < 16 → sz' b0 = fi' (ho' b0) ∧ ∀ i, i < fi' (ho' b0) → wd' (4 * b0 + i) = pg' (4 * ho' b0 + i)) : fv_VR fi' pg' ho' sz' wd' := by
  intro b hb
  by_cases z : b = b0
  · rw [z]
    exact ⟨h1, h2⟩
  · obtain ⟨k1, k2, k3, k4⟩ := h b hb z
    rw [k1, k2]
    refine ⟨(V b hb).1, fun hh => ?_⟩
    obtain ⟨l1, l2⟩ := k4 hh
    obtain ⟨v1, v2⟩ := (V b hb).2 hh
    rw [l1]
    refine ⟨v1, fun i hi => ?_⟩
    have := h4 _ hh
    rw [k3 i (by omega), v2 i hi, l2 i (by omega)]
end
section
section
variable {bb nn dr c : Nat} {ab : Bool} {fl : Int32} {cl bd gr cs dp : Nat → Bool} {wn pg dx hel : Nat → Int32} {ow nu fi ho : Nat → Nat}
theorem fv_bft {x : Bool} (h : x = false) (h' : x = true) : False := by rw [h] at h'; exact absurd h' (by decide)
theorem fv_sound {post : Int32 → Prop} {e : Nat} (he : e < 16) (h1 : fv_S cl bd gr cs e → post 1) (h0 : ¬ fv_S cl bd gr cs e → post 0) : wpX_sound post ((nI bb), fl, (nI nn), (nI dr), (fv_b ab), (nI c), (fv_bA cl), (fv_bA bd), wn, (fv_nA ow), (fv_nA nu), (fv_bA gr), (fv_bA cs), (fv_bA dp), (fv_nA fi), pg, (fv_hA ho), dx, hel) (nI e) :=
  And.intro (fv_i16 he) (fv_brB e (by omega)
    (fun hb => ⟨fv_i16 he, fv_brB e (by omega)
      (fun hc => ⟨fv_i16 he, fv_brB e (by omega)
        (fun hg => ⟨fv_i16 he, fv_brB e (by omega)
          (fun hs => h0 (fun s => s.2.2.elim (fun z => fv_bft hg z) (fun z => fv_bft hs z)))
          (fun hs => h1 ⟨hc, hb, Or.inr hs⟩)⟩)
        (fun hg => h1 ⟨hc, hb, Or.inl hg⟩)⟩)
      (fun hc => h0 (fun s => fv_bft s.1 hc))⟩)
    (fun hb => h0 (fun s => fv_bft s.2.1 hb)))
theorem fv_narr (x : Bool) : narrow .boolean (.int (fv_b x)) = .int (fv_b x) := by cases x <;> rfl
theorem fv_inUse_l {post : Int32 → Prop} {e : Nat} (he : e < 16) (h : post (fv_b (fv_iu ho e 8))) : ∀ d i, i + d = 8 → wX_inUse_4 post (nI e) (nI bb) fl (nI nn) (nI dr) (fv_b ab) (nI c) (fv_bA cl) (fv_bA bd) wn (fv_nA ow) (fv_nA nu) (fv_bA gr) (fv_bA cs) (fv_bA dp) (fv_nA fi) pg (fv_hA ho) dx hel (d + 1) (fv_b (fv_iu ho e i)) (nI i) := by
  intro d
  induction d with
  | zero =>
    intro i hi
    have hi : i = 8 := by omega
    subst hi
    exact pk_le 8 8 (fun _ => ⟨fv_narr _, h⟩) (fun z => absurd z (by omega))
  | succ d ih =>
    intro i hi
    have K : ∀ x, fv_iu ho e (i + 1) = x → wX_inUse_4 post (nI e) (nI bb) fl (nI nn) (nI dr) (fv_b ab) (nI c) (fv_bA cl) (fv_bA bd) wn (fv_nA ow) (fv_nA nu) (fv_bA gr) (fv_bA cs) (fv_bA dp) (fv_nA fi) pg (fv_hA ho) dx hel (d + 1) (fv_b x) (nI (i + 1)) := fun x hx => hx ▸ ih (i + 1) (by omega)
    have hk : fv_iu ho e (i + 1) = (fv_iu ho e i || (ho i == e)) := rfl
    refine pk_le 8 i (fun z => absurd z (by omega)) (fun _ => fv_brb (fun hf => ⟨fv_i8 (by omega), fv_brHeq i e (by omega) he (fun z => nm_r (nI_1 i) (K true ?_)) (fun z => nm_r (nI_1 i) (K false ?_))⟩) (fun ht => nm_r (nI_1 i) (K true ?_)))
    · rw [hk, z, beq_self_eq_true, Bool.or_true]
    · rw [hk, hf, beq_false_of_ne z]; rfl
    · rw [hk, ht, Bool.true_or]
theorem fv_inUse {post : Int32 → Prop} {e : Nat} (he : e < 16) (h : post (fv_b (fv_iu ho e 8))) : wpX_inUse post ((nI bb), fl, (nI nn), (nI dr), (fv_b ab), (nI c), (fv_bA cl), (fv_bA bd), wn, (fv_nA ow), (fv_nA nu), (fv_bA gr), (fv_bA cs), (fv_bA dp), (fv_nA fi), pg, (fv_hA ho), dx, hel) (nI e) :=
  Exists.intro 9 (fv_inUse_l he h 8 0 rfl)
theorem fv_cleanBlocks_l {post : Int32 → Prop} (h : post (nI (fv_cn (fv_av cl bd) 16))) : ∀ d i, i + d = 16 → wX_cleanBlocks_4 post (nI bb) fl (nI nn) (nI dr) (fv_b ab) (nI c) (fv_bA cl) (fv_bA bd) wn (fv_nA ow) (fv_nA nu) (fv_bA gr) (fv_bA cs) (fv_bA dp) (fv_nA fi) pg (fv_hA ho) dx hel (d + 1) (nI (fv_cn (fv_av cl bd) i)) (nI i) := by
  intro d
  induction d with
  | zero =>
    intro i hi
    have hi : i = 16 := by omega
    subst hi
    exact pk_le 16 16 (fun _ => h) (fun z => absurd z (by omega))
  | succ d ih =>
    intro i hi
    have K : ∀ x, fv_cn (fv_av cl bd) (i + 1) = x → wX_cleanBlocks_4 post (nI bb) fl (nI nn) (nI dr) (fv_b ab) (nI c) (fv_bA cl) (fv_bA bd) wn (fv_nA ow) (fv_nA nu) (fv_bA gr) (fv_bA cs) (fv_bA dp) (fv_nA fi) pg (fv_hA ho) dx hel (d + 1) (nI x) (nI (i + 1)) := fun x hx => hx ▸ ih (i + 1) (by omega)
    have hk : fv_cn (fv_av cl bd) (i + 1) = fv_cn (fv_av cl bd) i + cond (cl i && !bd i) 1 0 := rfl
    refine pk_le 16 i (fun z => absurd z (by omega)) (fun _ => ⟨fv_i16 (by omega), fv_brB i (by omega) (fun hc => nm_r (nI_1 i) (K _ ?_)) (fun hc => ⟨fv_i16 (by omega), fv_brB i (by omega) (fun hb => nm_r (nI_1 _) (nm_r (nI_1 i) (K _ ?_))) (fun hb => nm_r (nI_1 i) (K _ ?_))⟩)⟩)
    · rw [hk, hc]; rfl
    · rw [hk, hc, hb]; rfl
    · rw [hk, hc, hb]; rfl
theorem fv_cleanBlocks {post : Int32 → Prop} (h : post (nI (fv_cn (fv_av cl bd) 16))) : wpX_cleanBlocks post ((nI bb), fl, (nI nn), (nI dr), (fv_b ab), (nI c), (fv_bA cl), (fv_bA bd), wn, (fv_nA ow), (fv_nA nu), (fv_bA gr), (fv_bA cs), (fv_bA dp), (fv_nA fi), pg, (fv_hA ho), dx, hel) :=
  Exists.intro 17 (fv_cleanBlocks_l h 16 0 rfl)
theorem fv_pick69 {post : Int32 → Prop} {J : Int32 → Int32 → Prop} {x1 x2 : Int32} {i : Nat} (h : J (nI i) (nI (i + 1))) : wX_pick_69 post J x1 x2 (nI i) (nI bb) fl (nI nn) (nI dr) (fv_b ab) (nI c) (fv_bA cl) (fv_bA bd) wn (fv_nA ow) (fv_nA nu) (fv_bA gr) (fv_bA cs) (fv_bA dp) (fv_nA fi) pg (fv_hA ho) dx hel :=
  br_f (by decide) (nm_r (nI_1 i) h)
theorem fv_pick73 {post : Int32 → Prop} {J : Int32 → Int32 → Prop} {x1 x2 : Int32} {i : Nat} (h : J x2 (nI (i + 1))) : wX_pick_73 post J x1 x2 (nI i) (nI bb) fl (nI nn) (nI dr) (fv_b ab) (nI c) (fv_bA cl) (fv_bA bd) wn (fv_nA ow) (fv_nA nu) (fv_bA gr) (fv_bA cs) (fv_bA dp) (fv_nA fi) pg (fv_hA ho) dx hel :=
  br_t rfl (nm_r (nI_1 i) h)
theorem fv_pick_l {post : Int32 → Prop} {x1 : Int32} (h : ∀ e, e < 16 → cl e = true → bd e = false → post (nI e)) (hn : (∀ e, e < 16 → fv_av cl bd e = false) → post (-1)) :
    ∀ d i q, i + d = 16 → ((q = 16 ∧ ∀ e, e < i → fv_av cl bd e = false) ∨ (q < 16 ∧ cl q = true ∧ bd q = false)) → wX_pick_4 post x1 (nI bb) fl (nI nn) (nI dr) (fv_b ab) (nI c) (fv_bA cl) (fv_bA bd) wn (fv_nA ow) (fv_nA nu) (fv_bA gr) (fv_bA cs) (fv_bA dp) (fv_nA fi) pg (fv_hA ho) dx hel (d + 1) (fv_h q) (nI i) := by
  intro d
  induction d with
  | zero =>
    intro i q hi hq
    have hi : i = 16 := by omega
    subst hi
    refine pk_le 16 16 (fun _ => ?_) (fun z => absurd z (by omega))
    rcases hq with ⟨q1, q2⟩ | ⟨q1, q2, q3⟩
    · rw [q1]; exact hn q2
    · rw [fv_h1 q1]; exact h q q1 q2 q3
  | succ d ih =>
    intro i q hi hq
    have hi16 : i < 16 := by omega
    have keep : fv_av cl bd i = false → wX_pick_4 post x1 (nI bb) fl (nI nn) (nI dr) (fv_b ab) (nI c) (fv_bA cl) (fv_bA bd) wn (fv_nA ow) (fv_nA nu) (fv_bA gr) (fv_bA cs) (fv_bA dp) (fv_nA fi) pg (fv_hA ho) dx hel (d + 1) (fv_h q) (nI (i + 1)) := by
      intro ha
      apply ih (i + 1) q (by omega)
      rcases hq with ⟨q1, q2⟩ | hq
      · refine Or.inl ⟨q1, fun e he => ?_⟩
        by_cases z : e = i
        · rw [z]; exact ha
        · exact q2 e (by omega)
      · exact Or.inr hq
    have take : cl i = true → bd i = false → wX_pick_4 post x1 (nI bb) fl (nI nn) (nI dr) (fv_b ab) (nI c) (fv_bA cl) (fv_bA bd) wn (fv_nA ow) (fv_nA nu) (fv_bA gr) (fv_bA cs) (fv_bA dp) (fv_nA fi) pg (fv_hA ho) dx hel (d + 1) (nI i) (nI (i + 1)) := by
      intro hc hb
      have := ih (i + 1) i (by omega) (Or.inr ⟨hi16, hc, hb⟩)
      rw [fv_h1 hi16] at this
      exact this
    refine pk_le 16 i (fun z => absurd z (by omega)) (fun _ => ⟨fv_i16 hi16, fv_brB i (by omega) (fun hc => nm_r (nI_1 i) (keep ?_)) (fun hc => ⟨fv_i16 hi16, fv_brB i (by omega) (fun hb => ?_) (fun hb => nm_r (nI_1 i) (keep ?_))⟩)⟩)
    · show (cl i && !bd i) = false
      rw [hc]; rfl
    · rcases hq with ⟨q1, q2⟩ | ⟨q1, q2, q3⟩
      · exact br_t (fv_hlt.mpr (by omega)) (fv_pick69 (take hc hb))
      · have kp : wX_pick_4 post x1 (nI bb) fl (nI nn) (nI dr) (fv_b ab) (nI c) (fv_bA cl) (fv_bA bd) wn (fv_nA ow) (fv_nA nu) (fv_bA gr) (fv_bA cs) (fv_bA dp) (fv_nA fi) pg (fv_hA ho) dx hel (d + 1) (fv_h q) (nI (i + 1)) := ih (i + 1) q (by omega) (Or.inr ⟨q1, q2, q3⟩)
        have hin : vp_in (fv_h q) 16 := by rw [fv_h1 q1]; exact fv_i16 q1
        exact br_f (fun z => absurd (fv_hlt.mp z) (by omega)) (br_c
          (fun _ => ⟨fv_i16 hi16, hin, br_c (fun _ => fv_pick73 kp) (fun _ => fv_pick69 (take hc hb))⟩)
          (fun _ => ⟨fv_i16 hi16, hin, br_c (fun _ => fv_pick73 kp) (fun _ => fv_pick69 (take hc hb))⟩))
    · show (cl i && !bd i) = false
      rw [hc, hb]; rfl
theorem fv_pick {post : Int32 → Prop} {p : Int32} (h : ∀ e, e < 16 → cl e = true → bd e = false → post (nI e)) (hn : (∀ e, e < 16 → fv_av cl bd e = false) → post (-1)) : wpX_pick post ((nI bb), fl, (nI nn), (nI dr), (fv_b ab), (nI c), (fv_bA cl), (fv_bA bd), wn, (fv_nA ow), (fv_nA nu), (fv_bA gr), (fv_bA cs), (fv_bA dp), (fv_nA fi), pg, (fv_hA ho), dx, hel) p :=
  Exists.intro 17 (fv_pick_l h hn 16 0 16 rfl (Or.inl ⟨rfl, fun e he => absurd he (Nat.not_lt_zero e)⟩))
theorem fv_pick_some {post : Int32 → Prop} {p : Int32} (h : ∀ e, e < 16 → cl e = true → bd e = false → post (nI e)) (hs : 0 < fv_cn (fv_av cl bd) 16) : wpX_pick post ((nI bb), fl, (nI nn), (nI dr), (fv_b ab), (nI c), (fv_bA cl), (fv_bA bd), wn, (fv_nA ow), (fv_nA nu), (fv_bA gr), (fv_bA cs), (fv_bA dp), (fv_nA fi), pg, (fv_hA ho), dx, hel) p := by
  refine fv_pick h (fun z => ?_)
  rw [fv_cn_none 16 z] at hs
  exact absurd hs (Nat.lt_irrefl 0)
theorem fv_sizeOf {post : Int32 → Prop} {sz : Nat → Nat} {wd : Nat → Int32} {b : Nat} (hb : b < 8) (V : fv_VR fi pg ho sz wd) (h : post (nI (sz b))) : wpX_sizeOf post ((nI bb), fl, (nI nn), (nI dr), (fv_b ab), (nI c), (fv_bA cl), (fv_bA bd), wn, (fv_nA ow), (fv_nA nu), (fv_bA gr), (fv_bA cs), (fv_bA dp), (fv_nA fi), pg, (fv_hA ho), dx, hel) (nI b) := by
  refine And.intro (fv_i8 hb) (fv_brHle b hb (fun z => ⟨fv_i8 hb, fv_inH hb z, ?_⟩) (fun z => ?_))
  · rw [fv_rH hb z, fv_rN (by omega), ← ((V b hb).2 z).1]
    exact h
  · rw [(V b hb).1 z] at h
    exact h
theorem fv_badBlock0 {post : Int32 → Prop} {b : Nat} (hb : b < 8) (h : post 0) : wpX_badBlock post ((nI bb), fl, (nI nn), (nI dr), (fv_b ab), (nI c), (fv_bA cl), (fv_bA bd), wn, (fv_nA ow), (fv_nA nu), (fv_bA gr), (fv_bA cs), (fv_bA dp), (fv_nA fi), pg, (fv_hA ho), dx, hel) (nI b) :=
  br_f (nI_pos (by omega)) (br_t (nI_lt (b := 8) hb (by decide)) h)
theorem fv_badBlock1 {post : Int32 → Prop} {x : Int32} (hx : x < 0 ∨ nI 8 ≤ x) (h : post 1) : wpX_badBlock post ((nI bb), fl, (nI nn), (nI dr), (fv_b ab), (nI c), (fv_bA cl), (fv_bA bd), wn, (fv_nA ow), (fv_nA nu), (fv_bA gr), (fv_bA cs), (fv_bA dp), (fv_nA fi), pg, (fv_hA ho), dx, hel) x :=
  br_c (fun _ => h) (fun z => br_f (fun y => hx.elim z (fun w => absurd w (Int32.not_le.mpr y))) h)
theorem fv_writeHeader {post : SX → Prop} {e b : Nat} {g : Bool} (he : e < 16)
    (h : post ((nI bb), fl, (nI (nn + 1)), (nI dr), (fv_b ab), (nI c), (fv_bA (fv_u cl e false)), (fv_bA bd), wn, (fv_nA (fv_u ow e b)), (fv_nA (fv_u nu e nn)), (fv_bA (fv_u gr e g)), (fv_bA (fv_u cs e false)), (fv_bA (fv_u dp e false)), (fv_nA (fv_u fi e 0)), pg, (fv_hA ho), dx, hel)) : wpX_writeHeader post ((nI bb), fl, (nI nn), (nI dr), (fv_b ab), (nI c), (fv_bA cl), (fv_bA bd), wn, (fv_nA ow), (fv_nA nu), (fv_bA gr), (fv_bA cs), (fv_bA dp), (fv_nA fi), pg, (fv_hA ho), dx, hel) (nI e) (nI b) (fv_b g) :=
  And.intro (fv_i16 he) (nm_r (fv_uB false (by omega)) ⟨fv_i16 he, nm_r (fv_uN b (by omega)) ⟨fv_i16 he, nm_r (fv_uN nn (by omega)) (nm_r (nI_1 nn) ⟨fv_i16 he, nm_r (fv_uB g (by omega)) ⟨fv_i16 he, nm_r (fv_uB false (by omega)) ⟨fv_i16 he, nm_r (fv_uB false (by omega)) ⟨fv_i16 he, nm_r (fv_uN 0 (by omega)) h⟩⟩⟩⟩)⟩⟩)
theorem fv_writeWord {post : SX → Prop} {e : Nat} {w : Int32} (he : e < 16) (hf : fi e < 4)
    (h : post ((nI bb), fl, (nI nn), (nI dr), (fv_b ab), (nI c), (fv_bA cl), (fv_bA bd), wn, (fv_nA ow), (fv_nA nu), (fv_bA gr), (fv_bA cs), (fv_bA dp), (fv_nA (fv_u fi e (fi e + 1))), (upd pg (4 * e + fi e) w), (fv_hA ho), dx, hel)) : wpX_writeWord post ((nI bb), fl, (nI nn), (nI dr), (fv_b ab), (nI c), (fv_bA cl), (fv_bA bd), wn, (fv_nA ow), (fv_nA nu), (fv_bA gr), (fv_bA cs), (fv_bA dp), (fv_nA fi), pg, (fv_hA ho), dx, hel) (nI e) w := by
  have hx : nI e * 4 + fv_nA fi (nI e).toNatClampNeg = nI (4 * e + fi e) := by rw [fv_rN (by omega), fv_ix]
  have h1 : upd pg (nI e * 4 + fv_nA fi (nI e).toNatClampNeg).toNatClampNeg w = upd pg (4 * e + fi e) w := by rw [hx, nI_clamp (by omega)]
  have h2 : upd (fv_nA fi) (nI e).toNatClampNeg (fv_nA fi (nI e).toNatClampNeg + 1) = fv_nA (fv_u fi e (fi e + 1)) := by rw [fv_rN (by omega), nI_1, fv_uN _ (by omega)]
  have h3 : vp_in (nI e * 4 + fv_nA fi (nI e).toNatClampNeg) 64 := by rw [hx]; exact vp_in_nI (by omega) (by decide)
  exact And.intro (fv_i16 he) ⟨h3, nm_r h1 ⟨fv_i16 he, fv_i16 he, nm_r h2 h⟩⟩
theorem fv_adopt {post : SX → Prop} {e b : Nat} (he : e < 16) (hb : b < 8) (hf : fi e ≤ 4) (h : post ((nI bb), fl, (nI nn), (nI dr), (fv_b ab), (nI c), (fv_bA cl), (fv_bA bd), wn, (fv_nA ow), (fv_nA nu), (fv_bA gr), (fv_bA cs), (fv_bA dp), (fv_nA fi), pg, (fv_hA (fv_u ho b (if fi e = 0 then 16 else e))), dx, hel)) : wpX_adopt post ((nI bb), fl, (nI nn), (nI dr), (fv_b ab), (nI c), (fv_bA cl), (fv_bA bd), wn, (fv_nA ow), (fv_nA nu), (fv_bA gr), (fv_bA cs), (fv_bA dp), (fv_nA fi), pg, (fv_hA ho), dx, hel) (nI b) (nI e) := by
  refine And.intro (fv_i16 he) (pk_eq (fi e) 0 (fun z => ⟨fv_i8 hb, nm_r (fv_uHn hb) ?_⟩) (fun z => ⟨fv_i8 hb, nm_r (fv_uH e hb he) ?_⟩) (fv_rN (by omega)) rfl (by omega) (by omega))
  · rw [if_pos z] at h; exact h
  · rw [if_neg z] at h; exact h
theorem fv_erase38 {post : SX → Prop} {e : Nat} (he : e < 16) (h : ∀ w, post ((nI bb), fl, (nI nn), (nI dr), (fv_b ab), (nI c), (fv_bA (fv_u cl e true)), (fv_bA bd), w, (fv_nA ow), (fv_nA nu), (fv_bA gr), (fv_bA cs), (fv_bA dp), (fv_nA fi), pg, (fv_hA ho), dx, hel)) : wX_erase_38 post (nI e) (nI bb) fl (nI nn) (nI dr) (fv_b ab) (nI c) (fv_bA cl) (fv_bA bd) wn (fv_nA ow) (fv_nA nu) (fv_bA gr) (fv_bA cs) (fv_bA dp) (fv_nA fi) pg (fv_hA ho) dx hel :=
  And.intro (fv_i16 he) (nm_r (fv_uB true (by omega)) ⟨fv_i16 he, fv_i16 he, nm_e (h _)⟩)
theorem fv_erase {post : SX → Prop} {e : Nat} (he : e < 16) (h3 : bb ≤ 3) (h : ∀ w, post ((nI bb), fl, (nI nn), (nI dr), (fv_b ab), (nI c), (fv_bA (fv_u cl e true)), (fv_bA bd), w, (fv_nA ow), (fv_nA nu), (fv_bA gr), (fv_bA cs), (fv_bA dp), (fv_nA fi), pg, (fv_hA ho), dx, hel)) (hb : bb < 3 → post ((nI (bb + 1)), 0, (nI nn), (nI dr), (fv_b ab), (nI c), (fv_bA cl), (fv_bA (fv_u bd e true)), wn, (fv_nA ow), (fv_nA nu), (fv_bA gr), (fv_bA cs), (fv_bA dp), (fv_nA fi), pg, (fv_hA ho), dx, hel)) : wpX_erase post ((nI bb), fl, (nI nn), (nI dr), (fv_b ab), (nI c), (fv_bA cl), (fv_bA bd), wn, (fv_nA ow), (fv_nA nu), (fv_bA gr), (fv_bA cs), (fv_bA dp), (fv_nA fi), pg, (fv_hA ho), dx, hel) (nI e) :=
  br_c (fun _ => fv_erase38 he h) (fun _ => pk_le 3 bb (fun _ => fv_erase38 he h) (fun z => ⟨fv_i16 he, nm_r (fv_uB true (by omega)) (nm_r (nI_1 bb) (hb z))⟩))
end
end
section
/-- a block that may be erased -/
def fv_fr (cl bd : Nat → Bool) (ho : Nat → Nat) (e : Nat) : Prop := cl e = false ∧ bd e = false ∧ ∀ b, b < 8 → ho b ≠ e
section
variable {bb nn dr c : Nat} {ab : Bool} {fl : Int32} {cl bd gr cs dp : Nat → Bool} {wn pg dx hel : Nat → Int32} {ow nu fi ho : Nat → Nat}
theorem fv_rec41n {post : Int32 → SX → Prop} {J : Int32 → Int32 → Prop} {x1 : Int32} {i : Nat} (h : J x1 (nI (i + 1))) : wX_reclaim_41 post J x1 (nI i) 0 (nI bb) fl (nI nn) (nI dr) (fv_b ab) (nI c) (fv_bA cl) (fv_bA bd) wn (fv_nA ow) (fv_nA nu) (fv_bA gr) (fv_bA cs) (fv_bA dp) (fv_nA fi) pg (fv_hA ho) dx hel :=
  br_t rfl (nm_r (nI_1 i) h)
theorem fv_rec40 {post : Int32 → SX → Prop} {J : Int32 → Int32 → Prop} {x1 : Int32} {i : Nat} (h : J x1 (nI (i + 1))) : wX_reclaim_40 post J x1 (nI i) (nI bb) fl (nI nn) (nI dr) (fv_b ab) (nI c) (fv_bA cl) (fv_bA bd) wn (fv_nA ow) (fv_nA nu) (fv_bA gr) (fv_bA cs) (fv_bA dp) (fv_nA fi) pg (fv_hA ho) dx hel :=
  fv_rec41n h
theorem fv_rec41a {post : Int32 → SX → Prop} {J : Int32 → Int32 → Prop} {x1 : Int32} {i : Nat} (hx : x1 < 0) (h : J (nI i) (nI (i + 1))) : wX_reclaim_41 post J x1 (nI i) 1 (nI bb) fl (nI nn) (nI dr) (fv_b ab) (nI c) (fv_bA cl) (fv_bA bd) wn (fv_nA ow) (fv_nA nu) (fv_bA gr) (fv_bA cs) (fv_bA dp) (fv_nA fi) pg (fv_hA ho) dx hel :=
  br_f (by decide) (br_t hx (nm_r (nI_1 i) h))
theorem fv_rec41b {post : Int32 → SX → Prop} {J : Int32 → Int32 → Prop} {q i : Nat} (hq : q < 16) (hi : i < 16) (nq : nu q < 2 ^ 31) (ni : nu i < 2 ^ 31) (h1 : nu q ≤ nu i → J (nI q) (nI (i + 1))) (h2 : nu i < nu q → J (nI i) (nI (i + 1))) : wX_reclaim_41 post J (nI q) (nI i) 1 (nI bb) fl (nI nn) (nI dr) (fv_b ab) (nI c) (fv_bA cl) (fv_bA bd) wn (fv_nA ow) (fv_nA nu) (fv_bA gr) (fv_bA cs) (fv_bA dp) (fv_nA fi) pg (fv_hA ho) dx hel :=
  br_f (by decide) (br_f (nI_pos (by omega)) ⟨fv_i16 hi, fv_i16 hq, pk_le (nu q) (nu i) (fun z => nm_r (nI_1 i) (h1 z)) (fun z => nm_r (nI_1 i) (h2 z)) (fv_rN (by omega)) (fv_rN (by omega)) nq ni⟩)
theorem fv_reclaim_l {post : Int32 → SX → Prop} (hnu : ∀ e, e < 16 → cl e = false → bd e = false → nu e < 2 ^ 31) (h3 : bb ≤ 3)
    (h0 : (∀ e, e < 16 → ¬ fv_fr cl bd ho e) → post 0 ((nI bb), fl, (nI nn), (nI dr), (fv_b ab), (nI c), (fv_bA cl), (fv_bA bd), wn, (fv_nA ow), (fv_nA nu), (fv_bA gr), (fv_bA cs), (fv_bA dp), (fv_nA fi), pg, (fv_hA ho), dx, hel))
    (hc : ∀ e w, e < 16 → fv_fr cl bd ho e → (∀ e', e' < 16 → fv_fr cl bd ho e' → nu e ≤ nu e') → post 1 ((nI bb), fl, (nI nn), (nI dr), (fv_b ab), (nI c), (fv_bA (fv_u cl e true)), (fv_bA bd), w, (fv_nA ow), (fv_nA nu), (fv_bA gr), (fv_bA cs), (fv_bA dp), (fv_nA fi), pg, (fv_hA ho), dx, hel))
    (hb : ∀ e, e < 16 → fv_fr cl bd ho e → (∀ e', e' < 16 → fv_fr cl bd ho e' → nu e ≤ nu e') → bb < 3 → post 1 ((nI (bb + 1)), 0, (nI nn), (nI dr), (fv_b ab), (nI c), (fv_bA cl), (fv_bA (fv_u bd e true)), wn, (fv_nA ow), (fv_nA nu), (fv_bA gr), (fv_bA cs), (fv_bA dp), (fv_nA fi), pg, (fv_hA ho), dx, hel)) :
    ∀ d i q, i + d = 16 → ((q = 16 ∧ ∀ e, e < i → ¬ fv_fr cl bd ho e) ∨ (q < 16 ∧ fv_fr cl bd ho q ∧ ∀ e, e < i → fv_fr cl bd ho e → nu q ≤ nu e)) → wX_reclaim_4 post (nI bb) fl (nI nn) (nI dr) (fv_b ab) (nI c) (fv_bA cl) (fv_bA bd) wn (fv_nA ow) (fv_nA nu) (fv_bA gr) (fv_bA cs) (fv_bA dp) (fv_nA fi) pg (fv_hA ho) dx hel (d + 1) (fv_h q) (nI i) := by
  intro d
  induction d with
  | zero =>
    intro i q hi hq
    have hi : i = 16 := by omega
    subst hi
    refine pk_le 16 16 (fun _ => ?_) (fun z => absurd z (by omega))
    rcases hq with ⟨q1, q2⟩ | ⟨q1, q2, q3⟩
    · exact br_f (fun z => absurd (fv_hle.mp z) (by omega)) (h0 q2)
    · rw [fv_h1 q1]
      exact br_t (nI_pos' (by omega)) (fv_erase q1 h3 (fun w => hc q w q1 q2 q3) (hb q q1 q2 q3))
  | succ d ih =>
    intro i q hi hq
    have hi16 : i < 16 := by omega
    have keep : ¬ fv_fr cl bd ho i → wX_reclaim_4 post (nI bb) fl (nI nn) (nI dr) (fv_b ab) (nI c) (fv_bA cl) (fv_bA bd) wn (fv_nA ow) (fv_nA nu) (fv_bA gr) (fv_bA cs) (fv_bA dp) (fv_nA fi) pg (fv_hA ho) dx hel (d + 1) (fv_h q) (nI (i + 1)) := by
      intro ha
      apply ih (i + 1) q (by omega)
      rcases hq with ⟨q1, q2⟩ | ⟨q1, q2, q3⟩
      · refine Or.inl ⟨q1, fun e he => ?_⟩
        by_cases z : e = i
        · rw [z]; exact ha
        · exact q2 e (by omega)
      · refine Or.inr ⟨q1, q2, fun e he hf => ?_⟩
        by_cases z : e = i
        · rw [z] at hf; exact absurd hf ha
        · exact q3 e (by omega) hf
    refine pk_le 16 i (fun z => absurd z (by omega)) (fun _ => ⟨fv_i16 hi16, fv_brB i (by omega) (fun hc => ⟨fv_i16 hi16, fv_brB i (by omega) (fun hb => fv_inUse hi16 (fv_brb (fun hu => ?_) (fun hu => fv_rec40 (keep ?_)))) (fun hb => fv_rec40 (keep (fun z => fv_bft z.2.1 hb)))⟩) (fun hc => fv_rec40 (keep (fun z => fv_bft z.1 hc)))⟩)
    · have hf : fv_fr cl bd ho i := ⟨hc, hb, fv_iu_no.mp hu⟩
      rcases hq with ⟨q1, q2⟩ | ⟨q1, q2, q3⟩
      · refine fv_rec41a (fv_hlt.mpr (by omega)) ?_
        have := ih (i + 1) i (by omega) (Or.inr ⟨hi16, hf, fun e he hfe => by
          by_cases z : e = i
          · rw [z]; exact Nat.le_refl _
          · exact absurd hfe (q2 e (by omega))⟩)
        rw [fv_h1 hi16] at this
        exact this
      · have k1 : nu q ≤ nu i → wX_reclaim_4 post (nI bb) fl (nI nn) (nI dr) (fv_b ab) (nI c) (fv_bA cl) (fv_bA bd) wn (fv_nA ow) (fv_nA nu) (fv_bA gr) (fv_bA cs) (fv_bA dp) (fv_nA fi) pg (fv_hA ho) dx hel (d + 1) (nI q) (nI (i + 1)) := by
          intro hle
          have := ih (i + 1) q (by omega) (Or.inr ⟨q1, q2, fun e he hfe => by
            by_cases z : e = i
            · rw [z]; exact hle
            · exact q3 e (by omega) hfe⟩)
          rw [fv_h1 q1] at this
          exact this
        have k2 : nu i < nu q → wX_reclaim_4 post (nI bb) fl (nI nn) (nI dr) (fv_b ab) (nI c) (fv_bA cl) (fv_bA bd) wn (fv_nA ow) (fv_nA nu) (fv_bA gr) (fv_bA cs) (fv_bA dp) (fv_nA fi) pg (fv_hA ho) dx hel (d + 1) (nI i) (nI (i + 1)) := by
          intro hlt
          have := ih (i + 1) i (by omega) (Or.inr ⟨hi16, hf, fun e he hfe => by
            by_cases z : e = i
            · rw [z]; exact Nat.le_refl _
            · have := q3 e (by omega) hfe
              omega⟩)
          rw [fv_h1 hi16] at this
          exact this
        rw [fv_h1 q1]
        exact fv_rec41b q1 hi16 (hnu q q1 q2.1 q2.2.1) (hnu i hi16 hc hb) k1 k2
    · intro z
      rw [fv_iu_no.mpr z.2.2] at hu
      exact absurd hu (by decide)
theorem fv_av_clean {e : Nat} (hb : bd e = false) : fv_av (fv_u cl e true) bd = fv_u (fv_av cl bd) e true := by
  funext j
  by_cases z : j = e
  · rw [z, fv_us]
    show (fv_u cl e true e && !bd e) = true
    rw [fv_us, hb]; rfl
  · rw [fv_un z]
    show (fv_u cl e true j && !bd j) = (cl j && !bd j)
    rw [fv_un z]
theorem fv_av_bad {e : Nat} (hc : cl e = false) : fv_av cl (fv_u bd e true) = fv_av cl bd := by
  funext j
  by_cases z : j = e
  · show (cl j && !fv_u bd e true j) = (cl j && !bd j)
    rw [z, hc]; rfl
  · show (cl j && !fv_u bd e true j) = (cl j && !bd j)
    rw [fv_un z]
theorem fv_av_head {e : Nat} : fv_av (fv_u cl e false) bd = fv_u (fv_av cl bd) e false := by
  funext j
  by_cases z : j = e
  · rw [z, fv_us]
    show (fv_u cl e false e && !bd e) = false
    rw [fv_us]; rfl
  · rw [fv_un z]
    show (fv_u cl e false j && !bd j) = (cl j && !bd j)
    rw [fv_un z]
theorem fv_reclaim {post : Int32 → SX → Prop} (I : fv_IX bb nn cl bd ow nu gr cs dp fi ho) (hn : nn < 2 ^ 30) (h0 : (∀ e, e < 16 → ¬ fv_fr cl bd ho e) → post 0 ((nI bb), fl, (nI nn), (nI dr), (fv_b ab), (nI c), (fv_bA cl), (fv_bA bd), wn, (fv_nA ow), (fv_nA nu), (fv_bA gr), (fv_bA cs), (fv_bA dp), (fv_nA fi), pg, (fv_hA ho), dx, hel))
    (h1 : ∀ (bb' : Nat) (fl' : Int32) (cl' bd' : Nat → Bool) (wn' : Nat → Int32), fv_IX bb' nn cl' bd' ow nu gr cs dp fi ho → fv_cn (fv_av cl' bd') 16 + bb' = fv_cn (fv_av cl bd) 16 + bb + 1 → post 1 ((nI bb'), fl', (nI nn), (nI dr), (fv_b ab), (nI c), (fv_bA cl'), (fv_bA bd'), wn', (fv_nA ow), (fv_nA nu), (fv_bA gr), (fv_bA cs), (fv_bA dp), (fv_nA fi), pg, (fv_hA ho), dx, hel)) : wpX_reclaim post ((nI bb), fl, (nI nn), (nI dr), (fv_b ab), (nI c), (fv_bA cl), (fv_bA bd), wn, (fv_nA ow), (fv_nA nu), (fv_bA gr), (fv_bA cs), (fv_bA dp), (fv_nA fi), pg, (fv_hA ho), dx, hel) := by
  refine Exists.intro 17 (fv_reclaim_l (fun e he hc hb => ?_) (fv_bb3 I) h0 ?_ ?_ 16 0 16 rfl (Or.inl ⟨rfl, fun e he => absurd he (Nat.not_lt_zero e)⟩))
  · have := fv_nun I he hc hb
    omega
  · intro e w he hf ho'
    refine h1 _ _ _ _ _ (fv_IX_clean I he hf.1 hf.2.1 hf.2.2 (fun e' he' z1 z2 z3 => ho' e' he' ⟨z1, z2, z3⟩)) ?_
    rw [fv_av_clean hf.2.1, fv_cn_set 16 he]
    · omega
    · show (cl e && !bd e) = false
      rw [hf.1]; rfl
  · intro e he hf ho' h3
    refine h1 _ _ _ _ _ (fv_IX_bad I h3 he hf.1 hf.2.1 hf.2.2 (fun e' he' z1 z2 z3 => ho' e' he' ⟨z1, z2, z3⟩)) ?_
    rw [fv_av_bad hf.1]
    omega
theorem fv_provide_l {post : SX → Prop} (hn : nn < 2 ^ 30)
    (h : ∀ (bb' : Nat) (fl' : Int32) (cl' bd' : Nat → Bool) (wn' : Nat → Int32), fv_IX bb' nn cl' bd' ow nu gr cs dp fi ho → 2 ≤ fv_cn (fv_av cl' bd') 16 → post ((nI bb'), fl', (nI nn), (nI dr), (fv_b ab), (nI c), (fv_bA cl'), (fv_bA bd'), wn', (fv_nA ow), (fv_nA nu), (fv_bA gr), (fv_bA cs), (fv_bA dp), (fv_nA fi), pg, (fv_hA ho), dx, hel)) :
    ∀ d i (bb' : Nat) (fl' : Int32) (cl' bd' : Nat → Bool) (wn' : Nat → Int32), i + d = 16 → fv_IX bb' nn cl' bd' ow nu gr cs dp fi ho → i ≤ fv_cn (fv_av cl' bd') 16 + bb' → wX_provide_2 post (d + 1) (nI i) (nI bb') fl' (nI nn) (nI dr) (fv_b ab) (nI c) (fv_bA cl') (fv_bA bd') wn' (fv_nA ow) (fv_nA nu) (fv_bA gr) (fv_bA cs) (fv_bA dp) (fv_nA fi) pg (fv_hA ho) dx hel := by
  intro d
  induction d with
  | zero =>
    intro i bb' fl' cl' bd' wn' hi I hle
    have hi : i = 16 := by omega
    subst hi
    have := fv_bb3 I
    exact pk_le 16 16 (fun _ => h _ _ _ _ _ I (by omega)) (fun z => absurd z (by omega))
  | succ d ih =>
    intro i bb' fl' cl' bd' wn' hi I hle
    have hcl := fv_cn_le (p := fv_av cl' bd') 16
    refine pk_le 16 i (fun z => absurd z (by omega)) (fun _ => fv_cleanBlocks (pk_le 2 (fv_cn (fv_av cl' bd') 16) (fun z => h _ _ _ _ _ I z) (fun z => ?_)))
    refine fv_reclaim I hn (fun hno => ?_) (fun bb2 fl2 cl2 bd2 wn2 I2 heq => nm_r (nI_1 i) (ih (i + 1) bb2 fl2 cl2 bd2 wn2 (by omega) I2 (by omega)))
    obtain ⟨e, he, hc, hb, hu⟩ := fv_free_ex (ho := ho) (fv_bb3 I) (fv_cnb I) z
    exact absurd ⟨hc, hb, hu⟩ (hno e he)
theorem fv_provide {post : SX → Prop} (I : fv_IX bb nn cl bd ow nu gr cs dp fi ho) (hn : nn < 2 ^ 30)
    (h : ∀ (bb' : Nat) (fl' : Int32) (cl' bd' : Nat → Bool) (wn' : Nat → Int32), fv_IX bb' nn cl' bd' ow nu gr cs dp fi ho → 2 ≤ fv_cn (fv_av cl' bd') 16 → post ((nI bb'), fl', (nI nn), (nI dr), (fv_b ab), (nI c), (fv_bA cl'), (fv_bA bd'), wn', (fv_nA ow), (fv_nA nu), (fv_bA gr), (fv_bA cs), (fv_bA dp), (fv_nA fi), pg, (fv_hA ho), dx, hel)) : wpX_provide post ((nI bb), fl, (nI nn), (nI dr), (fv_b ab), (nI c), (fv_bA cl), (fv_bA bd), wn, (fv_nA ow), (fv_nA nu), (fv_bA gr), (fv_bA cs), (fv_bA dp), (fv_nA fi), pg, (fv_hA ho), dx, hel) :=
  Exists.intro 17 (fv_provide_l hn h 16 0 bb fl cl bd wn rfl I (Nat.zero_le _))
end
end
section
theorem fv_NB_skip {S : Nat → Prop} {ow nu : Nat → Nat} {e b h : Nat} (n : fv_NB S ow nu e b h) (hs : S e → ow e ≠ b) : fv_NB S ow nu (e + 1) b h := by
  rcases n with ⟨e1, n1⟩ | ⟨l0, l1, s1, o1, m1⟩
  · refine Or.inl ⟨e1, fun x hx s => ?_⟩
    by_cases z : x = e
    · rw [z] at s ⊢; exact hs s
    · exact n1 x (by omega) s
  · refine Or.inr ⟨by omega, l1, s1, o1, fun x hx s o => ?_⟩
    by_cases z : x = e
    · rw [z] at s o; exact absurd o (hs s)
    · exact m1 x (by omega) s o
theorem fv_NB_take {S : Nat → Prop} {ow nu : Nat → Nat} {e b h : Nat} (n : fv_NB S ow nu e b h) (he : e < 16) (s : S e) (o : ow e = b) (hc : 16 ≤ h ∨ nu h < nu e) : fv_NB S ow nu (e + 1) b e := by
  refine Or.inr ⟨by omega, he, s, o, fun x hx sx ox => ?_⟩
  by_cases z : x = e
  · rw [z]; exact Nat.le_refl _
  · rcases n with ⟨e1, n1⟩ | ⟨l0, l1, s1, o1, m1⟩
    · exact absurd ox (n1 x (by omega) sx)
    · have := m1 x (by omega) sx ox
      omega
theorem fv_NB_leave {S : Nat → Prop} {ow nu : Nat → Nat} {e b h : Nat} (n : fv_NB S ow nu e b h) (hh : h < 16) (hc : nu e ≤ nu h) : fv_NB S ow nu (e + 1) b h := by
  rcases n with ⟨e1, n1⟩ | ⟨l0, l1, s1, o1, m1⟩
  · omega
  · refine Or.inr ⟨by omega, l1, s1, o1, fun x hx sx ox => ?_⟩
    by_cases z : x = e
    · rw [z]; exact hc
    · exact m1 x (by omega) sx ox
section
variable {bb nn dr c : Nat} {ab : Bool} {fl : Int32} {cl bd gr cs dp : Nat → Bool} {wn pg dx hel : Nat → Int32} {ow nu fi ho : Nat → Nat}
theorem fv_at146 {post : SX → Prop} (h4 : ∀ e, e < 16 → fi e ≤ 4) :
    ∀ d i (ho : Nat → Nat), i + d = 8 → (∀ ho' : Nat → Nat, (∀ b, b < 8 → i ≤ b → ho' b = fv_fin dp fi (ho b)) → (∀ b, b < i ∨ 8 ≤ b → ho' b = ho b) → post ((nI bb), fl, (nI nn), (nI dr), (fv_b ab), (nI c), (fv_bA cl), (fv_bA bd), wn, (fv_nA ow), (fv_nA nu), (fv_bA gr), (fv_bA cs), (fv_bA dp), (fv_nA fi), pg, (fv_hA ho'), dx, hel)) → wX_attach_146 post (nI bb) fl (nI nn) (nI dr) (fv_b ab) (nI c) (d + 1) (nI i) (fv_bA cl) (fv_bA bd) wn (fv_nA ow) (fv_nA nu) (fv_bA gr) (fv_bA cs) (fv_bA dp) (fv_nA fi) pg (fv_hA ho) dx hel := by
  intro d
  induction d with
  | zero =>
    intro i ho hi h
    have hi : i = 8 := by omega
    subst hi
    exact pk_le 8 8 (fun _ => h ho (fun b hb hb' => absurd hb (by omega)) (fun _ _ => rfl)) (fun z => absurd z (by omega))
  | succ d ih =>
    intro i ho hi h
    have hi8 : i < 8 := by omega
    have K : fv_fin dp fi (ho i) = ho i → wX_attach_146 post (nI bb) fl (nI nn) (nI dr) (fv_b ab) (nI c) (d + 1) (nI (i + 1)) (fv_bA cl) (fv_bA bd) wn (fv_nA ow) (fv_nA nu) (fv_bA gr) (fv_bA cs) (fv_bA dp) (fv_nA fi) pg (fv_hA ho) dx hel := by
      intro hf
      refine ih (i + 1) ho (by omega) (fun ho' h1 h2 => h ho' (fun b hb hib => ?_) (fun b hb => h2 b (by omega)))
      by_cases z : b = i
      · rw [z, hf]; exact h2 i (by omega)
      · exact h1 b hb (by omega)
    have K16 : fv_fin dp fi (ho i) = 16 → wX_attach_146 post (nI bb) fl (nI nn) (nI dr) (fv_b ab) (nI c) (d + 1) (nI (i + 1)) (fv_bA cl) (fv_bA bd) wn (fv_nA ow) (fv_nA nu) (fv_bA gr) (fv_bA cs) (fv_bA dp) (fv_nA fi) pg (fv_hA (fv_u ho i 16)) dx hel := by
      intro hf
      refine ih (i + 1) (fv_u ho i 16) (by omega) (fun ho' h1 h2 => h ho' (fun b hb hib => ?_) (fun b hb => ?_))
      · by_cases z : b = i
        · rw [z, hf, h2 i (by omega), fv_us]
        · rw [h1 b hb (by omega), fv_un z]
      · rw [h2 b (by omega), fv_un (by omega)]
    refine pk_le 8 i (fun z => absurd z (by omega)) (fun _ => ⟨fv_i8 hi8, ?_⟩)
    by_cases hh : ho i < 16
    · refine nm_r (fv_rH hi8 hh) (br_f (nI_pos (by omega)) ⟨fv_i16 hh, fv_brB (ho i) (by omega) (fun hd => ⟨fv_i16 hh, pk_eq (fi (ho i)) 0 (fun z => ⟨fv_i8 hi8, nm_r (fv_uHn hi8) (nm_r (nI_1 i) (K16 (if_pos ⟨hh, Or.inr z⟩)))⟩) (fun z => nm_r (nI_1 i) (K (if_neg (fun y => y.2.elim (fun w => fv_bft hd w) z)))) (fv_rN (by omega)) rfl (by have := h4 _ hh; omega) (by omega)⟩) (fun hd => ⟨fv_i8 hi8, nm_r (fv_uHn hi8) (nm_r (nI_1 i) (K16 (if_pos ⟨hh, Or.inl hd⟩)))⟩)⟩)
    · exact nm_r (fv_rHn hi8 (by omega)) (br_t (by decide) (nm_r (nI_1 i) (K (if_neg (fun y => hh y.1)))))
theorem fv_at87 {post : SX → Prop} {J : Int32 → Int32 → (Nat → Int32) → (Nat → Int32) → (Nat → Int32) → (Nat → Int32) → (Nat → Int32) → (Nat → Int32) → (Nat → Int32) → (Nat → Int32) → (Nat → Int32) → (Nat → Int32) → (Nat → Int32) → (Nat → Int32) → (Nat → Int32) → Prop} {e : Nat} (he : e < 16) (ho8 : ow e < 8)
    (hnu : fv_S cl bd gr cs e → nu e < 2 ^ 31) (hnh : ho (ow e) < 16 → nu (ho (ow e)) < 2 ^ 31)
    (h0 : ¬ fv_S cl bd gr cs e → J (nI (e + 1)) (nI nn) (fv_bA cl) (fv_bA bd) wn (fv_nA ow) (fv_nA nu) (fv_bA gr) (fv_bA cs) (fv_bA dp) (fv_nA fi) pg (fv_hA ho) dx hel)
    (h1 : fv_S cl bd gr cs e → (16 ≤ ho (ow e) ∨ nu (ho (ow e)) < nu e) → J (nI (e + 1)) (nI nn) (fv_bA cl) (fv_bA bd) wn (fv_nA ow) (fv_nA nu) (fv_bA gr) (fv_bA cs) (fv_bA dp) (fv_nA fi) pg (fv_hA (fv_u ho (ow e) e)) dx hel)
    (h2 : fv_S cl bd gr cs e → ho (ow e) < 16 → nu e ≤ nu (ho (ow e)) → J (nI (e + 1)) (nI nn) (fv_bA cl) (fv_bA bd) wn (fv_nA ow) (fv_nA nu) (fv_bA gr) (fv_bA cs) (fv_bA dp) (fv_nA fi) pg (fv_hA ho) dx hel) : wX_attach_87 post J (nI e) (nI bb) fl (nI nn) (nI dr) (fv_b ab) (nI c) (fv_bA cl) (fv_bA bd) wn (fv_nA ow) (fv_nA nu) (fv_bA gr) (fv_bA cs) (fv_bA dp) (fv_nA fi) pg (fv_hA ho) dx hel := by
  refine fv_sound he (fun s => br_f (by decide) ⟨fv_i16 he, nm_r (fv_rN (by omega)) ⟨fv_i8 ho8, fv_brHlt (ow e) ho8 (fun z => ⟨fv_i8 ho8, nm_r (fv_uH e ho8 he) (nm_r (nI_1 e) (h1 s (Or.inl z)))⟩) (fun z => ⟨fv_i16 he, fv_i8 ho8, fv_inH ho8 z, ?_⟩)⟩⟩) (fun s => br_t rfl (nm_r (nI_1 e) (h0 s)))
  have hr : fv_nA nu (fv_hA ho (nI (ow e)).toNatClampNeg).toNatClampNeg = nI (nu (ho (ow e))) := by rw [fv_rH ho8 z, fv_rN (by omega)]
  exact pk_le (nu e) (nu (ho (ow e))) (fun y => nm_r (nI_1 e) (h2 s z y)) (fun y => ⟨fv_i8 ho8, nm_r (fv_uH e ho8 he) (nm_r (nI_1 e) (h1 s (Or.inr y)))⟩) (fv_rN (by omega)) hr (hnu s) (hnh z)
theorem fv_at38 {post : SX → Prop} {M : Nat} {hz : Nat → Nat} (how : ∀ e, e < 16 → ow e < 8) (hM : M < 2 ^ 30) (hnu : ∀ e, e < 16 → cl e = false → bd e = false → nu e < M)
    (h : ∀ (m : Nat) (ho' : Nat → Nat), 1 ≤ m → m ≤ M → (∀ e, e < 16 → cl e = false → bd e = false → nu e < m) → (∀ b, 8 ≤ b → ho' b = hz b) → (∀ b, b < 8 → fv_NB (fv_S cl bd gr cs) ow nu 16 b (ho' b)) → ∃ n, wX_attach_146 post (nI bb) fl (nI m) (nI dr) (fv_b ab) (nI c) n 0 (fv_bA cl) (fv_bA bd) wn (fv_nA ow) (fv_nA nu) (fv_bA gr) (fv_bA cs) (fv_bA dp) (fv_nA fi) pg (fv_hA ho') dx hel) :
    ∀ d e (nn : Nat) (ho : Nat → Nat), e + d = 16 → 1 ≤ nn → nn ≤ M → (∀ x, x < e → cl x = false → bd x = false → nu x < nn) → (∀ b, 8 ≤ b → ho b = hz b) → (∀ b, b < 8 → fv_NB (fv_S cl bd gr cs) ow nu e b (ho b)) →
      wX_attach_38 post (nI bb) fl (nI dr) (fv_b ab) (nI c) (d + 1) (nI e) (nI nn) (fv_bA cl) (fv_bA bd) wn (fv_nA ow) (fv_nA nu) (fv_bA gr) (fv_bA cs) (fv_bA dp) (fv_nA fi) pg (fv_hA ho) dx hel := by
  intro d
  induction d with
  | zero =>
    intro e nn ho hi g1 g2 g3 g4 g5
    have hi : e = 16 := by omega
    subst hi
    exact pk_le 16 16 (fun _ => h nn ho g1 g2 g3 g4 g5) (fun z => absurd z (by omega))
  | succ d ih =>
    intro e nn ho hi g1 g2 g3 g4 g5
    have he : e < 16 := by omega
    have key : ∀ m, 1 ≤ m → m ≤ M → (∀ x, x < e + 1 → cl x = false → bd x = false → nu x < m) → wX_attach_87 post (wX_attach_38 post (nI bb) fl (nI dr) (fv_b ab) (nI c) (d + 1)) (nI e) (nI bb) fl (nI m) (nI dr) (fv_b ab) (nI c) (fv_bA cl) (fv_bA bd) wn (fv_nA ow) (fv_nA nu) (fv_bA gr) (fv_bA cs) (fv_bA dp) (fv_nA fi) pg (fv_hA ho) dx hel := by
      intro m k1 k2 k3
      refine fv_at87 he (how e he) (fun s => ?_) (fun hh => ?_) (fun s => ?_) (fun s hc => ?_) (fun s hh hc => ?_)
      · have := hnu e he s.1 s.2.1
        omega
      · rcases g5 (ow e) (how e he) with ⟨y, _⟩ | ⟨_, y, s, _, _⟩
        · omega
        · have := hnu _ y s.1 s.2.1
          omega
      · exact ih (e + 1) m ho (by omega) k1 k2 k3 g4 (fun b hb => fv_NB_skip (g5 b hb) (fun y => absurd y s))
      · refine ih (e + 1) m _ (by omega) k1 k2 k3 (fun b hb => ?_) (fun b hb => ?_)
        · have := how e he
          rw [fv_un (by omega)]; exact g4 b hb
        · by_cases z : b = ow e
          · rw [z, fv_us]
            exact fv_NB_take (g5 (ow e) (how e he)) he s rfl hc
          · rw [fv_un z]
            exact fv_NB_skip (g5 b hb) (fun _ y => z y.symm)
      · refine ih (e + 1) m ho (by omega) k1 k2 k3 g4 (fun b hb => ?_)
        by_cases z : b = ow e
        · rw [z]
          exact fv_NB_leave (g5 (ow e) (how e he)) hh hc
        · exact fv_NB_skip (g5 b hb) (fun _ y => z y.symm)
    have same : (cl e = false → bd e = false → nu e < nn) → wX_attach_87 post (wX_attach_38 post (nI bb) fl (nI dr) (fv_b ab) (nI c) (d + 1)) (nI e) (nI bb) fl (nI nn) (nI dr) (fv_b ab) (nI c) (fv_bA cl) (fv_bA bd) wn (fv_nA ow) (fv_nA nu) (fv_bA gr) (fv_bA cs) (fv_bA dp) (fv_nA fi) pg (fv_hA ho) dx hel := by
      intro hs
      refine key nn g1 g2 (fun x hx y1 y2 => ?_)
      by_cases z : x = e
      · rw [z] at y1 y2 ⊢; exact hs y1 y2
      · exact g3 x (by omega) y1 y2
    refine pk_le 16 e (fun z => absurd z (by omega)) (fun _ => ⟨fv_i16 he, fv_brB e (by omega) (fun hc => ⟨fv_i16 he, fv_brB e (by omega) (fun hb => ⟨fv_i16 he, ?_⟩) (fun hb => same (fun _ y => (fv_bft y hb).elim))⟩) (fun hc => same (fun y _ => (fv_bft y hc).elim))⟩)
    have hm := hnu e he hc hb
    refine pk_lt (nu e) nn (fun z => same (fun _ _ => z)) (fun z => ⟨fv_i16 he, nm_r (e' := nI (nu e + 1)) ?_ (key (nu e + 1) (by omega) (by omega) (fun x hx y1 y2 => ?_))⟩) (fv_rN (by omega)) rfl (by omega) (by omega)
    · rw [fv_rN (by omega), nI_1]
    · by_cases w : x = e
      · rw [w]; omega
      · have := g3 x (by omega) y1 y2
        omega
theorem fv_at17 {post : SX → Prop} {hz : Nat → Nat} (h : ∀ ho' : Nat → Nat, (∀ b, b < 8 → ho' b = 16) → (∀ b, 8 ≤ b → ho' b = hz b) → ∃ n, wX_attach_38 post (nI bb) fl (nI dr) (fv_b ab) (nI c) n 0 (nI nn) (fv_bA cl) (fv_bA bd) wn (fv_nA ow) (fv_nA nu) (fv_bA gr) (fv_bA cs) (fv_bA dp) (fv_nA fi) pg (fv_hA ho') dx hel) :
    ∀ d i (ho : Nat → Nat), i + d = 8 → (∀ b, b < i → ho b = 16) → (∀ b, 8 ≤ b → ho b = hz b) → wX_attach_17 post (nI bb) fl (nI nn) (nI dr) (fv_b ab) (nI c) (d + 1) (nI i) (fv_bA cl) (fv_bA bd) wn (fv_nA ow) (fv_nA nu) (fv_bA gr) (fv_bA cs) (fv_bA dp) (fv_nA fi) pg (fv_hA ho) dx hel := by
  intro d
  induction d with
  | zero =>
    intro i ho hi g1 g2
    have hi : i = 8 := by omega
    subst hi
    exact pk_le 8 8 (fun _ => h ho g1 g2) (fun z => absurd z (by omega))
  | succ d ih =>
    intro i ho hi g1 g2
    have hi8 : i < 8 := by omega
    refine pk_le 8 i (fun z => absurd z (by omega)) (fun _ => ⟨fv_i8 hi8, nm_r (fv_uHn hi8) (nm_r (nI_1 i) (ih (i + 1) (fv_u ho i 16) (by omega) (fun b hb => ?_) (fun b hb => ?_)))⟩)
    · by_cases z : b = i
      · rw [z, fv_us]
      · rw [fv_un z]; exact g1 b (by omega)
    · rw [fv_un (by omega)]; exact g2 b hb
theorem fv_attach {post : SX → Prop} {M : Nat} (how : ∀ e, e < 16 → ow e < 8) (h4 : ∀ e, e < 16 → fi e ≤ 4) (hM1 : 1 ≤ M) (hM : M < 2 ^ 30) (hnu : ∀ e, e < 16 → cl e = false → bd e = false → nu e < M)
    (h : ∀ (m : Nat) (ho' : Nat → Nat), 1 ≤ m → m ≤ M → (∀ e, e < 16 → cl e = false → bd e = false → nu e < m) → (∀ b, 8 ≤ b → ho' b = ho b) → fv_HO (fv_S cl bd gr cs) ow nu dp fi ho' → post ((nI bb), fl, (nI m), (nI 0), (fv_b false), (nI c), (fv_bA cl), (fv_bA bd), wn, (fv_nA ow), (fv_nA nu), (fv_bA gr), (fv_bA cs), (fv_bA dp), (fv_nA fi), pg, (fv_hA ho'), dx, hel)) : wpX_attach post ((nI bb), fl, (nI nn), (nI dr), (fv_b ab), (nI c), (fv_bA cl), (fv_bA bd), wn, (fv_nA ow), (fv_nA nu), (fv_bA gr), (fv_bA cs), (fv_bA dp), (fv_nA fi), pg, (fv_hA ho), dx, hel) := by
  have K38 : ∀ (m : Nat) (ho1 : Nat → Nat), 1 ≤ m → m ≤ M → (∀ e, e < 16 → cl e = false → bd e = false → nu e < m) → (∀ b, 8 ≤ b → ho1 b = ho b) → (∀ b, b < 8 → fv_NB (fv_S cl bd gr cs) ow nu 16 b (ho1 b)) → ∃ n, wX_attach_146 post (nI bb) fl (nI m) (nI 0) (fv_b false) (nI c) n 0 (fv_bA cl) (fv_bA bd) wn (fv_nA ow) (fv_nA nu) (fv_bA gr) (fv_bA cs) (fv_bA dp) (fv_nA fi) pg (fv_hA ho1) dx hel := by
    intro m ho1 k1 k2 k3 k4 k5
    refine ⟨9, fv_at146 h4 8 0 ho1 rfl (fun ho2 l1 l2 => h m ho2 k1 k2 k3 (fun b hb => (l2 b (Or.inr hb)).trans (k4 b hb)) (fun b hb => ⟨ho1 b, k5 b hb, l1 b hb (Nat.zero_le _)⟩))⟩
  have K17 : ∀ ho' : Nat → Nat, (∀ b, b < 8 → ho' b = 16) → (∀ b, 8 ≤ b → ho' b = ho b) → ∃ n, wX_attach_38 post (nI bb) fl (nI 0) (fv_b false) (nI c) n 0 (nI 1) (fv_bA cl) (fv_bA bd) wn (fv_nA ow) (fv_nA nu) (fv_bA gr) (fv_bA cs) (fv_bA dp) (fv_nA fi) pg (fv_hA ho') dx hel := by
    intro ho' k1 k2
    exact ⟨17, fv_at38 how hM hnu K38 16 0 1 ho' rfl (Nat.le_refl _) hM1 (fun x hx => absurd hx (Nat.not_lt_zero x)) k2 (fun b hb => Or.inl ⟨k1 b hb, fun e he => absurd he (Nat.not_lt_zero e)⟩)⟩
  exact Exists.intro 9 (fv_at17 (nn := 1) K17 8 0 ho rfl (fun b hb => absurd hb (Nat.not_lt_zero b)) (fun _ _ => rfl))
theorem fv_attachI {post : SX → Prop} (I : fv_IX bb nn cl bd ow nu gr cs dp fi ho) (hn : nn < 2 ^ 30) (h : ∀ m, fv_IX bb m cl bd ow nu gr cs dp fi ho → m ≤ nn → post ((nI bb), fl, (nI m), (nI 0), (fv_b false), (nI c), (fv_bA cl), (fv_bA bd), wn, (fv_nA ow), (fv_nA nu), (fv_bA gr), (fv_bA cs), (fv_bA dp), (fv_nA fi), pg, (fv_hA ho), dx, hel)) : wpX_attach post ((nI bb), fl, (nI nn), (nI dr), (fv_b ab), (nI c), (fv_bA cl), (fv_bA bd), wn, (fv_nA ow), (fv_nA nu), (fv_bA gr), (fv_bA cs), (fv_bA dp), (fv_nA fi), pg, (fv_hA ho), dx, hel) := by
  refine fv_attach (M := nn) (fun _ he => fv_ow8 I he) (fun _ he => fv_fi4 I he) (fv_nn1 I) hn (fun _ he h1 h2 => fv_nun I he h1 h2) (fun m ho' k1 k2 k3 k4 k5 => ?_)
  rw [fv_HO_uniq (fv_disS I) (fv_hom I) k5 k4]
  exact h m (fv_IX_nn I k1 k3) k2
theorem fv_step20 {post : Int32 → SX → Prop} (hok : fv_okp ab c 1) (h : post 1 ((nI bb), fl, (nI nn), (nI dr), (fv_b ab), (nI (fv_sp ab c 1)), (fv_bA cl), (fv_bA bd), wn, (fv_nA ow), (fv_nA nu), (fv_bA gr), (fv_bA cs), (fv_bA dp), (fv_nA fi), pg, (fv_hA ho), dx, hel)) : wX_step_20 post (nI bb) fl (nI nn) (nI dr) (fv_b ab) (nI c) (fv_bA cl) (fv_bA bd) wn (fv_nA ow) (fv_nA nu) (fv_bA gr) (fv_bA cs) (fv_bA dp) (fv_nA fi) pg (fv_hA ho) dx hel := by
  cases ab
  · exact br_t rfl h
  · have hc := hok rfl
    refine br_f (by decide) (nm_r (e' := nI (c - 1)) ?_ h)
    show nI c - nI 1 = _
    exact pk_sub hc
theorem fv_step {post : Int32 → SX → Prop} (I : fv_IX bb nn cl bd ow nu gr cs dp fi ho) (hn : nn < 2 ^ 30) (hc : c ≤ 40) (h1 : fv_okp ab c 1 → post 1 ((nI bb), fl, (nI nn), (nI dr), (fv_b ab), (nI (fv_sp ab c 1)), (fv_bA cl), (fv_bA bd), wn, (fv_nA ow), (fv_nA nu), (fv_bA gr), (fv_bA cs), (fv_bA dp), (fv_nA fi), pg, (fv_hA ho), dx, hel))
    (h0 : ¬ fv_okp ab c 1 → ∀ m, fv_IX bb m cl bd ow nu gr cs dp fi ho → m ≤ nn → post 0 ((nI bb), fl, (nI m), (nI 0), (fv_b false), (nI c), (fv_bA cl), (fv_bA bd), wn, (fv_nA ow), (fv_nA nu), (fv_bA gr), (fv_bA cs), (fv_bA dp), (fv_nA fi), pg, (fv_hA ho), dx, hel)) : wpX_step post ((nI bb), fl, (nI nn), (nI dr), (fv_b ab), (nI c), (fv_bA cl), (fv_bA bd), wn, (fv_nA ow), (fv_nA nu), (fv_bA gr), (fv_bA cs), (fv_bA dp), (fv_nA fi), pg, (fv_hA ho), dx, hel) := by
  refine fv_brb (fun ha => ?_) (fun ha => pk_eq c 0 (fun z => ?_) (fun z => ?_))
  · have hok : fv_okp ab c 1 := fun y => (fv_bft ha y).elim
    exact fv_step20 hok (h1 hok)
  · have hok : ¬ fv_okp ab c 1 := fun y => absurd (y ha) (by omega)
    exact fv_attachI I hn (h0 hok)
  · have hok : fv_okp ab c 1 := fun _ => by omega
    exact fv_step20 hok (h1 hok)
end
end
section
theorem fv_ok_mono {ab : Bool} {c s t : Nat} (h : fv_okp ab c t) (hs : s ≤ t) : fv_okp ab c s := fun z => Nat.le_trans hs (h z)
/-- power was cut: whatever stands on the memory, what is seen is as before -/
def fv_cut (K : Nat) (ho sz : Nat → Nat) (wd dx : Nat → Int32) (Q : SX → Prop) : Prop :=
  ∀ (bb nn c : Nat) (fl : Int32) (cl bd : Nat → Bool) (wn : Nat → Int32) (ow nu : Nat → Nat) (gr cs dp : Nat → Bool) (fi : Nat → Nat) (pg hel : Nat → Int32),
    fv_IX bb nn cl bd ow nu gr cs dp fi ho → fv_VR fi pg ho sz wd → nn ≤ K → c ≤ 40 → Q ((nI bb), fl, (nI nn), (nI 0), (fv_b false), (nI c), (fv_bA cl), (fv_bA bd), wn, (fv_nA ow), (fv_nA nu), (fv_bA gr), (fv_bA cs), (fv_bA dp), (fv_nA fi), pg, (fv_hA ho), dx, hel)
/-- the page behind a copy of i held words on block e -/
def fv_pgc (pg hel : Nat → Int32) (e i : Nat) (pg' : Nat → Int32) : Prop :=
  (∀ j, j < i → pg' (4 * e + j) = hel j) ∧ ∀ j, j < 4 * e ∨ 4 * e + 4 ≤ j → pg' j = pg j
section
variable {bb nn dr c : Nat} {ab : Bool} {fl : Int32} {cl bd gr cs dp : Nat → Bool} {wn pg dx hel : Nat → Int32} {ow nu fi ho : Nat → Nat}
variable {sz : Nat → Nat} {wd : Nat → Int32}
theorem fv_VR_copy {pg' : Nat → Int32} {e i : Nat} (I : fv_IX bb nn cl bd ow nu gr cs dp fi ho) (V : fv_VR fi pg ho sz wd) (he : e < 16) (hc : cl e = true) (hp : fv_pgc pg hel e i pg') : fv_VR (fv_u fi e i) pg' ho sz wd := by
  refine fv_VR_keep V (fun _ he => fv_fi4 I he) (fun b hb hh => ?_)
  have ne := fv_use_ne I hb he hc
  exact ⟨fv_un ne, fun j hj => hp.2 _ (by omega)⟩
theorem fv_sz4 (I : fv_IX bb nn cl bd ow nu gr cs dp fi ho) (V : fv_VR fi pg ho sz wd) {b : Nat} (hb : b < 8) : sz b ≤ 4 := by
  by_cases h : ho b < 16
  · rw [((V b hb).2 h).1]; exact fv_fi4 I h
  · rw [(V b hb).1 (by omega)]; omega
theorem fv_hold_l {post : Int32 → SX → Prop} {b : Nat} (hb : b < 8) (I : fv_IX bb nn cl bd ow nu gr cs dp fi ho) (V : fv_VR fi pg ho sz wd)
    (h : ∀ hel' : Nat → Int32, (∀ j, j < sz b → hel' j = wd (4 * b + j)) → post (nI (sz b)) ((nI bb), fl, (nI nn), (nI dr), (fv_b ab), (nI c), (fv_bA cl), (fv_bA bd), wn, (fv_nA ow), (fv_nA nu), (fv_bA gr), (fv_bA cs), (fv_bA dp), (fv_nA fi), pg, (fv_hA ho), dx, hel')) :
    ∀ d i (hel : Nat → Int32), i + d = sz b → (∀ j, j < i → hel j = wd (4 * b + j)) → wX_hold_8 post (nI b) (nI (sz b)) (nI bb) fl (nI nn) (nI dr) (fv_b ab) (nI c) (d + 1) (nI i) (fv_bA cl) (fv_bA bd) wn (fv_nA ow) (fv_nA nu) (fv_bA gr) (fv_bA cs) (fv_bA dp) (fv_nA fi) pg (fv_hA ho) dx hel := by
  have h4 := fv_sz4 I V hb
  intro d
  induction d with
  | zero =>
    intro i hel hi hj
    have hi : i = sz b := by omega
    subst hi
    exact pk_le (sz b) (sz b) (fun _ => h hel hj) (fun z => absurd z (by omega))
  | succ d ih =>
    intro i hel hi hj
    have hh : ho b < 16 := by
      apply Classical.byContradiction
      intro z
      have := (V b hb).1 (by omega)
      omega
    have v := (V b hb).2 hh
    have hx : fv_hA ho (nI b).toNatClampNeg * 4 + nI i = nI (4 * ho b + i) := by rw [fv_rH hb hh, fv_ix]
    have h1 : vp_in (fv_hA ho (nI b).toNatClampNeg * 4 + nI i) 64 := by rw [hx]; exact vp_in_nI (by omega) (by decide)
    have h2 : upd hel (nI i).toNatClampNeg (pg (fv_hA ho (nI b).toNatClampNeg * 4 + nI i).toNatClampNeg) = upd hel i (pg (4 * ho b + i)) := by
      rw [hx, nI_clamp (by omega), nI_clamp (by omega)]
    refine pk_le (sz b) i (fun z => absurd z (by omega)) (fun _ => ⟨fv_i8 hb, h1, fv_i4 (by omega), nm_r h2 (nm_r (nI_1 i) (ih (i + 1) _ (by omega) (fun j hjj => ?_)))⟩)
    by_cases z : j = i
    · rw [z, pk_us]
      exact (v.2 i (by omega)).symm
    · rw [pk_un z]
      exact hj j (by omega)
theorem fv_hold {post : Int32 → SX → Prop} {b : Nat} (hb : b < 8) (I : fv_IX bb nn cl bd ow nu gr cs dp fi ho) (V : fv_VR fi pg ho sz wd)
    (h : ∀ hel' : Nat → Int32, (∀ j, j < sz b → hel' j = wd (4 * b + j)) → post (nI (sz b)) ((nI bb), fl, (nI nn), (nI dr), (fv_b ab), (nI c), (fv_bA cl), (fv_bA bd), wn, (fv_nA ow), (fv_nA nu), (fv_bA gr), (fv_bA cs), (fv_bA dp), (fv_nA fi), pg, (fv_hA ho), dx, hel')) : wpX_hold post ((nI bb), fl, (nI nn), (nI dr), (fv_b ab), (nI c), (fv_bA cl), (fv_bA bd), wn, (fv_nA ow), (fv_nA nu), (fv_bA gr), (fv_bA cs), (fv_bA dp), (fv_nA fi), pg, (fv_hA ho), dx, hel) (nI b) := by
  unfold wpX_hold
  exact fv_sizeOf hb V (Exists.intro (sz b + 1) (fv_hold_l hb I V h (sz b) 0 hel (Nat.zero_add _) (fun j hj => absurd hj (Nat.not_lt_zero j))))
theorem fv_wc30 {post : Int32 → SX → Prop} {K n e b : Nat} (I : fv_IX bb nn cl bd ow nu gr cs dp fi ho) (V : fv_VR fi pg ho sz wd) (he : e < 16) (hb : b < 8) (hn : n ≤ 4) (hcl : cl e = true) (hK : nn + 1 ≤ K) (hK2 : K < 2 ^ 30) (hc : c ≤ 40)
    (hcut : ¬ fv_okp ab c (1 + n) → fv_cut K ho sz wd dx (post (-9)))
    (hok : fv_okp ab c (1 + n) → ∀ pg' : Nat → Int32, fv_pgc pg hel e n pg' → post (nI e) ((nI bb), fl, (nI (nn + 1)), (nI dr), (fv_b ab), (nI (fv_sp ab c (1 + n))), (fv_bA (fv_u cl e false)), (fv_bA bd), wn, (fv_nA (fv_u ow e b)), (fv_nA (fv_u nu e nn)), (fv_bA (fv_u gr e false)), (fv_bA (fv_u cs e false)), (fv_bA (fv_u dp e false)), (fv_nA (fv_u fi e n)), pg', (fv_hA ho), dx, hel)) :
    ∀ d i (pg' : Nat → Int32), i + d = n → fv_okp ab c (1 + i) → fv_pgc pg hel e i pg' → wX_writeCopy_30 post (nI n) (nI e) (d + 1) (nI i) (nI bb) fl (nI (nn + 1)) (nI dr) (fv_b ab) (nI (fv_sp ab c (1 + i))) (fv_bA (fv_u cl e false)) (fv_bA bd) wn (fv_nA (fv_u ow e b)) (fv_nA (fv_u nu e nn)) (fv_bA (fv_u gr e false)) (fv_bA (fv_u cs e false)) (fv_bA (fv_u dp e false)) (fv_nA (fv_u fi e i)) pg' (fv_hA ho) dx hel := by
  intro d
  induction d with
  | zero =>
    intro i pg' hi ho1 hp
    have hi : i = n := by omega
    subst hi
    exact pk_le i i (fun _ => hok ho1 pg' hp) (fun z => absurd z (by omega))
  | succ d ih =>
    intro i pg' hi ho1 hp
    have Ii := fv_IX_copy I he hb (i := i) (by omega) hcl
    have hsp : fv_sp ab c (1 + i) ≤ 40 := Nat.le_trans fv_sp_le hc
    refine pk_le n i (fun z => absurd z (by omega)) (fun _ => fv_step Ii (by omega) hsp (fun ok => br_f (by decide) ⟨fv_i4 (by omega), fv_writeWord he ?_ (nm_r (nI_1 i) ?_)⟩) (fun nok m Im hm => br_t rfl (hcut ?_ _ _ _ _ _ _ _ _ _ _ _ _ _ _ _ Im (fv_VR_copy I V he hcl hp) (by omega) hsp)))
    · rw [fv_us]; omega
    · rw [fv_sp_sp, fv_us, fv_uu, nI_clamp (by omega)]
      refine ih (i + 1) _ (by omega) ((fv_ok_add (s := 1 + i) (t := 1)).mpr ⟨ho1, ok⟩) ⟨fun j hj => ?_, fun j hj => ?_⟩
      · by_cases z : j = i
        · rw [z, pk_us]
        · rw [pk_un (by omega)]; exact hp.1 j (by omega)
      · rw [pk_un (by omega)]; exact hp.2 j hj
    · intro z
      exact nok ((fv_ok_add (s := 1 + i) (t := 1)).mp (fv_ok_mono z (by omega))).2
theorem fv_writeCopy {post : Int32 → SX → Prop} {K n b : Nat} (I : fv_IX bb nn cl bd ow nu gr cs dp fi ho) (V : fv_VR fi pg ho sz wd) (hav : 0 < fv_cn (fv_av cl bd) 16) (hb : b < 8) (hn : n ≤ 4) (hK : nn + 1 ≤ K) (hK2 : K < 2 ^ 30) (hc : c ≤ 40)
    (hcut : ¬ fv_okp ab c (1 + n) → fv_cut K ho sz wd dx (post (-9)))
    (hok : fv_okp ab c (1 + n) → ∀ (e : Nat) (pg' : Nat → Int32), e < 16 → cl e = true → bd e = false → fv_pgc pg hel e n pg' → post (nI e) ((nI bb), fl, (nI (nn + 1)), (nI dr), (fv_b ab), (nI (fv_sp ab c (1 + n))), (fv_bA (fv_u cl e false)), (fv_bA bd), wn, (fv_nA (fv_u ow e b)), (fv_nA (fv_u nu e nn)), (fv_bA (fv_u gr e false)), (fv_bA (fv_u cs e false)), (fv_bA (fv_u dp e false)), (fv_nA (fv_u fi e n)), pg', (fv_hA ho), dx, hel)) :
    wpX_writeCopy post ((nI bb), fl, (nI nn), (nI dr), (fv_b ab), (nI c), (fv_bA cl), (fv_bA bd), wn, (fv_nA ow), (fv_nA nu), (fv_bA gr), (fv_bA cs), (fv_bA dp), (fv_nA fi), pg, (fv_hA ho), dx, hel) (nI b) (nI n) := by
  refine fv_pick_some (fun e he hcl hbd => fv_step I (by omega) hc (fun ok => br_f (by decide) (fv_writeHeader (g := false) he (Exists.intro (n + 1) (fv_wc30 I V he hb hn hcl hK hK2 hc hcut (fun z pg' hp => hok z e pg' he hcl hbd hp) n 0 pg (Nat.zero_add _) ok ⟨fun j hj => absurd hj (Nat.not_lt_zero j), fun _ _ => rfl⟩)))) (fun nok m Im hm => br_t rfl (hcut (fun z => nok (fv_ok_mono z (by omega))) _ _ _ _ _ _ _ _ _ _ _ _ _ _ _ Im V (by omega) hc))) hav
end
end
section
/-- every state that shows these sizes and words -/
def fv_all (K dr : Nat) (ab : Bool) (c : Nat) (sz : Nat → Nat) (wd dx : Nat → Int32) (Q : SX → Prop) : Prop :=
  ∀ (bb nn : Nat) (fl : Int32) (cl bd : Nat → Bool) (wn : Nat → Int32) (ow nu : Nat → Nat) (gr cs dp : Nat → Bool) (fi : Nat → Nat) (pg : Nat → Int32) (ho : Nat → Nat) (hel : Nat → Int32),
    fv_IX bb nn cl bd ow nu gr cs dp fi ho → fv_VR fi pg ho sz wd → nn ≤ K → Q ((nI bb), fl, (nI nn), (nI dr), (fv_b ab), (nI c), (fv_bA cl), (fv_bA bd), wn, (fv_nA ow), (fv_nA nu), (fv_bA gr), (fv_bA cs), (fv_bA dp), (fv_nA fi), pg, (fv_hA ho), dx, hel)
theorem fv_all_cut {K : Nat} {sz : Nat → Nat} {wd dx : Nat → Int32} {Q : SX → Prop} (ho : Nat → Nat) (h : ∀ c, c ≤ 40 → fv_all K 0 false c sz wd dx Q) : fv_cut K ho sz wd dx Q :=
  fun _ _ _ _ _ _ _ _ _ _ _ _ _ _ _ I V hK hc => h _ hc _ _ _ _ _ _ _ _ _ _ _ _ _ _ _ I V hK
section
variable {bb nn dr c : Nat} {ab : Bool} {fl : Int32} {cl bd gr cs dp : Nat → Bool} {wn pg dx hel : Nat → Int32} {ow nu fi ho : Nat → Nat}
variable {sz : Nat → Nat} {wd : Nat → Int32}
theorem fv_ho16 (I : fv_IX bb nn cl bd ow nu gr cs dp fi ho) {b : Nat} (hb : b < 8) (h : 16 ≤ ho b) : ho b = 16 := by
  obtain ⟨h0, n, e⟩ := fv_hom I b hb
  rcases n with ⟨e1, _⟩ | ⟨_, l1, _, _, _⟩
  · rw [e, e1, fv_fin16]
  · rcases fv_fin_cases (dp := dp) (fi := fi) l1 with h2 | h2
    · omega
    · rw [e, h2.1]
theorem fv_VR_close (I : fv_IX bb nn cl bd ow nu gr cs dp fi ho) (V : fv_VR fi pg ho sz wd) {e b : Nat} {wd' : Nat → Int32} (he : e < 16) (hg : gr e = false) (hs : cs e = false)
    (h1 : ∀ i, i < fi e → wd' (4 * b + i) = pg (4 * e + i)) (h2 : ∀ b', b' < 8 → b' ≠ b → ∀ i, i < 4 → wd' (4 * b' + i) = wd (4 * b' + i)) : fv_VR fi pg (fv_u ho b (if fi e = 0 then 16 else e)) (fv_u sz b (fi e)) wd' := by
  refine fv_VR_set (b0 := b) V (fun _ he => fv_fi4 I he) (fun b' hb' ne => ⟨fv_un ne, fv_un ne, h2 b' hb' ne, fun _ => ⟨rfl, fun _ _ => rfl⟩⟩) ?_ ?_
  · rw [fv_us, fv_us]
    intro z
    by_cases y : fi e = 0
    · exact y
    · rw [if_neg y] at z
      omega
  · rw [fv_us, fv_us]
    by_cases y : fi e = 0
    · rw [if_pos y]
      intro z
      omega
    · rw [if_neg y]
      intro _
      exact ⟨rfl, h1⟩
theorem fv_app64 {post : Int32 → SX → Prop} {K e b : Nat} {w : Int32} (I : fv_IX bb nn cl bd ow nu gr cs dp fi ho) (V : fv_VR fi pg ho sz wd) (he : e < 16) (hb : b < 8) (hK : nn ≤ K) (hK2 : K < 2 ^ 30) (hc : c ≤ 40)
    (hs : fv_S cl bd gr cs e) (hw : ow e = b) (hp : dp e = false) (hf : fi e < 4) (hm : ∀ x, x < 16 → fv_S cl bd gr cs x → ow x = b → nu x ≤ nu e)
    (hz : sz b = fi e) (hwd : ∀ i, i < fi e → wd (4 * b + i) = pg (4 * e + i))
    (hcut : ¬ fv_okp ab c 1 → fv_cut K ho sz wd dx (post (-9)))
    (hok : fv_okp ab c 1 → fv_all K dr ab (fv_sp ab c 1) (fv_u sz b (sz b + 1)) (upd wd (4 * b + sz b) w) dx (post (nI (sz b + 1)))) : wX_append_64 post (nI b) w (nI e) (nI bb) fl (nI nn) (nI dr) (fv_b ab) (nI c) (fv_bA cl) (fv_bA bd) wn (fv_nA ow) (fv_nA nu) (fv_bA gr) (fv_bA cs) (fv_bA dp) (fv_nA fi) pg (fv_hA ho) dx hel := by
  unfold wX_append_64
  refine fv_step I (by omega) hc (fun ok => br_f (by decide) (fv_writeWord he hf ⟨fv_i8 hb, nm_r (fv_uH e hb he) ⟨fv_i16 he, ?_⟩⟩)) (fun nok m Im hm' => br_t rfl (hcut nok _ _ _ _ _ _ _ _ _ _ _ _ _ _ _ Im V (by omega) hc))
  rw [fv_rN (by omega), fv_us, ← hz]
  refine hok ok _ _ _ _ _ _ _ _ _ _ _ _ _ _ _ ?_ ?_ hK
  · rw [hz]
    exact fv_IX_word I he hb hs hw hp hf hm
  · refine fv_VR_set (b0 := b) V (fun _ he => fv_fi4 I he) (fun b' hb' ne => ?_) ?_ ?_
    · refine ⟨fv_un ne, fv_un ne, fun i hi => pk_un (by omega), fun hh => ?_⟩
      have hne : ho b' ≠ e := by
        intro z
        have := (fv_use I hb' hh).2.1
        rw [z, hw] at this
        exact ne this.symm
      exact ⟨fv_un hne, fun i hi => pk_un (by omega)⟩
    · rw [fv_us]
      intro z
      omega
    · rw [fv_us, fv_us, fv_us]
      intro _
      refine ⟨rfl, fun i hi => ?_⟩
      by_cases z : i = sz b
      · rw [z, pk_us, pk_us]
      · rw [pk_un (by omega), pk_un (by omega)]
        exact hwd i (by omega)
theorem fv_Xappend {post : Int32 → SX → Prop} {K b : Nat} {w : Int32} (I : fv_IX bb nn cl bd ow nu gr cs dp fi ho) (V : fv_VR fi pg ho sz wd) (hb : b < 8) (hK : nn + 1 ≤ K) (hK2 : K < 2 ^ 30) (hc : c ≤ 40)
    (h4 : sz b = 4 → post (-2) ((nI bb), fl, (nI nn), (nI dr), (fv_b ab), (nI c), (fv_bA cl), (fv_bA bd), wn, (fv_nA ow), (fv_nA nu), (fv_bA gr), (fv_bA cs), (fv_bA dp), (fv_nA fi), pg, (fv_hA ho), dx, hel))
    (hcut : sz b ≠ 4 → ¬ fv_okp ab c (if sz b = 0 then 2 else 1) → ∀ c', c' ≤ 40 → fv_all K 0 false c' sz wd dx (post (-9)))
    (hok : sz b ≠ 4 → fv_okp ab c (if sz b = 0 then 2 else 1) → fv_all K dr ab (fv_sp ab c (if sz b = 0 then 2 else 1)) (fv_u sz b (sz b + 1)) (upd wd (4 * b + sz b) w) dx (post (nI (sz b + 1)))) : wpX_append post ((nI bb), fl, (nI nn), (nI dr), (fv_b ab), (nI c), (fv_bA cl), (fv_bA bd), wn, (fv_nA ow), (fv_nA nu), (fv_bA gr), (fv_bA cs), (fv_bA dp), (fv_nA fi), pg, (fv_hA ho), dx, hel) (nI b) w := by
  have hz4 := fv_sz4 I V hb
  unfold wpX_append
  refine fv_badBlock0 hb (br_t rfl (fv_sizeOf hb V (pk_eq (sz b) 4 h4 (fun n4 => ⟨fv_i8 hb, ?_⟩))))
  have hcut := hcut n4
  have hok := hok n4
  by_cases hh : ho b < 16
  · obtain ⟨hs, hw, hp, hf, hm⟩ := fv_use I hb hh
    have v := (V b hb).2 hh
    have hn0 : ¬ sz b = 0 := by omega
    rw [if_neg hn0] at hcut hok
    exact nm_r (fv_rH hb hh) (br_t (nI_pos' (by omega)) (fv_app64 I V hh hb (by omega) hK2 hc hs hw hp (by omega) hm v.1 v.2 (fun z => fv_all_cut ho (hcut z)) hok))
  · have h16 := fv_ho16 I hb (by omega)
    have hz0 : sz b = 0 := (V b hb).1 (by omega)
    rw [if_pos hz0] at hcut hok
    refine nm_r (fv_rHn hb (by omega)) (br_f (by decide) (fv_provide I (by omega) (fun bb' fl' cl' bd' wn' I' hav => fv_pick_some (fun e he hcl hbd => fv_step I' (by omega) hc (fun ok => br_f (by decide) (fv_writeHeader (g := true) he ?_)) (fun nok m Im hm => br_t rfl (fv_all_cut ho (hcut (fun z => nok (fv_ok_mono z (by omega)))) _ _ _ _ _ _ _ _ _ _ _ _ _ _ _ Im V (by omega) hc))) (by omega))))
    have Ig := fv_IX_grow I' he hb h16 hcl hbd
    have Vg : fv_VR (fv_u fi e 0) pg ho sz wd := fv_VR_copy (hel := hel) I' V he hcl ⟨fun j hj => absurd hj (Nat.not_lt_zero j), fun _ _ => rfl⟩
    refine fv_app64 (K := K) Ig Vg he hb hK hK2 (Nat.le_trans fv_sp_le hc) ⟨fv_us, hbd, Or.inl fv_us⟩ fv_us fv_us (by rw [fv_us]; omega) (fun x hx s _ => ?_) (by rw [fv_us]; exact hz0) (fun i hi => ?_) (fun nok => fv_all_cut ho (hcut (fun z => nok ((fv_ok_add (s := 1) (t := 1)).mp z).2))) (fun ok2 => ?_)
    · have := fv_nun Ig hx s.1 s.2.1
      rw [fv_us]
      omega
    · rw [fv_us] at hi
      exact absurd hi (Nat.not_lt_zero i)
    · rw [fv_sp_sp]
      exact hok ((fv_ok_add (s := 1) (t := 1)).mpr ⟨ok, ok2⟩)
theorem fv_Xdrop {post : Int32 → SX → Prop} {K b : Nat} (I : fv_IX bb nn cl bd ow nu gr cs dp fi ho) (V : fv_VR fi pg ho sz wd) (hb : b < 8) (hK : nn ≤ K) (hK2 : K < 2 ^ 30) (hc : c ≤ 40)
    (h0 : sz b = 0 → post (-4) ((nI bb), fl, (nI nn), (nI dr), (fv_b ab), (nI c), (fv_bA cl), (fv_bA bd), wn, (fv_nA ow), (fv_nA nu), (fv_bA gr), (fv_bA cs), (fv_bA dp), (fv_nA fi), pg, (fv_hA ho), dx, hel))
    (hcut : sz b ≠ 0 → ¬ fv_okp ab c 1 → ∀ c', c' ≤ 40 → fv_all K 0 false c' sz wd dx (post (-9)))
    (hok : sz b ≠ 0 → fv_okp ab c 1 → fv_all K dr ab (fv_sp ab c 1) (fv_u sz b 0) wd dx (post (nI (sz b)))) : wpX_drop post ((nI bb), fl, (nI nn), (nI dr), (fv_b ab), (nI c), (fv_bA cl), (fv_bA bd), wn, (fv_nA ow), (fv_nA nu), (fv_bA gr), (fv_bA cs), (fv_bA dp), (fv_nA fi), pg, (fv_hA ho), dx, hel) (nI b) := by
  have hz4 := fv_sz4 I V hb
  unfold wpX_drop
  refine fv_badBlock0 hb (br_t rfl (fv_sizeOf hb V (pk_eq (sz b) 0 h0 (fun n0 => ?_))))
  have hh : ho b < 16 := by
    apply Classical.byContradiction
    intro z
    exact n0 ((V b hb).1 (by omega))
  have hx : upd (fv_bA dp) (fv_hA ho (nI b).toNatClampNeg).toNatClampNeg (vp_nar .boolean 1) = fv_bA (fv_u dp (ho b) true) := by
    rw [fv_rH hb hh]
    exact fv_uB true (by omega)
  refine fv_step I (by omega) hc (fun ok => br_f (by decide) ⟨fv_i8 hb, fv_inH hb hh, nm_r hx ⟨fv_i8 hb, nm_r (fv_uHn hb) ?_⟩⟩) (fun nok m Im hm' => br_t rfl (fv_all_cut ho (hcut n0 nok) _ _ _ _ _ _ _ _ _ _ _ _ _ _ _ Im V (by omega) hc))
  refine hok n0 ok _ _ _ _ _ _ _ _ _ _ _ _ _ _ _ (fv_IX_drop I hb hh) ?_ hK
  refine fv_VR_set (b0 := b) V (fun _ he => fv_fi4 I he) (fun b' hb' ne => ⟨fv_un ne, fv_un ne, fun _ _ => rfl, fun _ => ⟨rfl, fun _ _ => rfl⟩⟩) (fun _ => fv_us) (fun z => ?_)
  rw [fv_us] at z
  omega
theorem fv_change_l {post : Int32 → SX → Prop} {K b : Nat} {wd' : Nat → Int32} (I : fv_IX bb nn cl bd ow nu gr cs dp fi ho) (V : fv_VR fi pg ho sz wd) (hb : b < 8) (hK : nn + 1 ≤ K) (hK2 : K < 2 ^ 30) (hc : c ≤ 40) (hdr : dr ≤ 4)
    (hw1 : ∀ i, i < dr → wd' (4 * b + i) = dx i) (hw2 : ∀ j, j < 4 * b ∨ 4 * b + 4 ≤ j → wd' j = wd j)
    (hcut : ¬ fv_okp ab c (dr + 2) → ∀ c', c' ≤ 40 → fv_all K 0 false c' sz wd dx (post (-9)))
    (hok : fv_okp ab c (dr + 2) → fv_all K 0 ab (fv_sp ab c (dr + 2)) (fv_u sz b dr) wd' dx (post (nI dr))) :
    ∀ d i (hel : Nat → Int32), i + d = dr → (∀ j, j < i → hel j = dx j) → wX_change_17 post (nI b) (nI dr) (nI bb) fl (nI nn) (nI dr) (fv_b ab) (nI c) (d + 1) (nI i) (fv_bA cl) (fv_bA bd) wn (fv_nA ow) (fv_nA nu) (fv_bA gr) (fv_bA cs) (fv_bA dp) (fv_nA fi) pg (fv_hA ho) dx hel := by
  intro d
  induction d with
  | zero =>
    intro i hel hi hj
    have hi : i = dr := by omega
    subst hi
    have e2 : i + 2 = 1 + i + 1 := by omega
    refine pk_le i i (fun _ => fv_provide I (by omega) (fun bb' fl' cl' bd' wn' I' hav => fv_writeCopy (K := K) I' V (by omega) hb hdr hK hK2 hc (fun nok => ?_) (fun ok e pg' he hcl hbd hp => br_t (nI_pos' (by omega)) ?_))) (fun z => absurd z (by omega))
    · intro _ _ _ _ _ _ _ _ _ _ _ _ _ _ _ I2 V2 k1 k2
      exact br_f (by decide) (hcut (fun z => nok (fv_ok_mono z (by omega))) _ k2 _ _ _ _ _ _ _ _ _ _ _ _ _ _ _ I2 V2 k1)
    · have Ic := fv_IX_copy I' he hb hdr hcl
      have Vc := fv_VR_copy I' V he hcl hp
      have hsp : fv_sp ab c (1 + i) ≤ 40 := Nat.le_trans fv_sp_le hc
      refine fv_step Ic (by omega) hsp (fun ok2 => br_f (by decide) ⟨fv_i16 he, nm_r (fv_uB true (by omega)) (fv_adopt he hb (by rw [fv_us]; exact hdr) ?_)⟩) (fun nok m Im hm => br_t rfl (hcut (fun z => nok ((fv_ok_add (s := 1 + i) (t := 1)).mp (e2 ▸ z)).2) _ hsp _ _ _ _ _ _ _ _ _ _ _ _ _ _ _ Im Vc (by omega)))
      have h1 := hok (e2 ▸ (fv_ok_add (s := 1 + i) (t := 1)).mpr ⟨ok, ok2⟩)
      rw [e2] at h1
      rw [fv_sp_sp]
      refine h1 _ _ _ _ _ _ _ _ _ _ _ _ _ _ _ (fv_IX_close Ic he hb fv_us hbd fv_us fv_us fv_us fv_us (fun x hx s _ => ?_)) ?_ hK
      · have := fv_nun Ic hx s.1 s.2.1
        rw [fv_us]
        omega
      · have hf : fv_u fi e i e = i := fv_us
        have V2 := fv_VR_close (b := b) (e := e) (wd' := wd') Ic Vc he fv_us fv_us (fun j hjj => by
          rw [hf] at hjj
          rw [hw1 j hjj, hp.1 j hjj, hj j hjj]) (fun b' hb' ne j hjj => hw2 _ (by omega))
        rw [hf] at V2 ⊢
        exact V2
  | succ d ih =>
    intro i hel hi hj
    have h2 : upd hel (nI i).toNatClampNeg (dx (nI i).toNatClampNeg) = upd hel i (dx i) := by rw [nI_clamp (by omega)]
    refine pk_le dr i (fun z => absurd z (by omega)) (fun _ => ⟨fv_i4 (by omega), fv_i4 (by omega), nm_r h2 (nm_r (nI_1 i) (ih (i + 1) _ (by omega) (fun j hjj => ?_)))⟩)
    by_cases z : j = i
    · rw [z, pk_us]
    · rw [pk_un z]
      exact hj j (by omega)
theorem fv_Xchange {post : Int32 → SX → Prop} {K b : Nat} {wd' : Nat → Int32} (I : fv_IX bb nn cl bd ow nu gr cs dp fi ho) (V : fv_VR fi pg ho sz wd) (hb : b < 8) (hK : nn + 1 ≤ K) (hK2 : K < 2 ^ 30) (hc : c ≤ 40) (hdr : dr ≤ 4)
    (hw1 : ∀ i, i < dr → wd' (4 * b + i) = dx i) (hw2 : ∀ j, j < 4 * b ∨ 4 * b + 4 ≤ j → wd' j = wd j)
    (hcut : ¬ fv_okp ab c (dr + 2) → ∀ c', c' ≤ 40 → fv_all K 0 false c' sz wd dx (post (-9)))
    (hok : fv_okp ab c (dr + 2) → fv_all K 0 ab (fv_sp ab c (dr + 2)) (fv_u sz b dr) wd' dx (post (nI dr))) : wpX_change post ((nI bb), fl, (nI nn), (nI dr), (fv_b ab), (nI c), (fv_bA cl), (fv_bA bd), wn, (fv_nA ow), (fv_nA nu), (fv_bA gr), (fv_bA cs), (fv_bA dp), (fv_nA fi), pg, (fv_hA ho), dx, hel) (nI b) := by
  unfold wpX_change
  exact fv_badBlock0 hb (br_t rfl (Exists.intro (dr + 1) (fv_change_l I V hb hK hK2 hc hdr hw1 hw2 hcut hok dr 0 hel (Nat.zero_add _) (fun j hj => absurd hj (Nat.not_lt_zero j)))))
end
end
section
section
variable {bb nn dr c : Nat} {ab : Bool} {fl : Int32} {cl bd gr cs dp : Nat → Bool} {wn pg dx hel : Nat → Int32} {ow nu fi ho : Nat → Nat}
variable {sz : Nat → Nat} {wd : Nat → Int32}
theorem fv_Xswap {post : Int32 → SX → Prop} {K b b2 : Nat} {wd' : Nat → Int32} (I : fv_IX bb nn cl bd ow nu gr cs dp fi ho) (V : fv_VR fi pg ho sz wd) (hb : b < 8) (hb2 : b2 < 8) (hne : b ≠ b2) (hK : nn + 2 ≤ K) (hK2 : K < 2 ^ 30) (hc : c ≤ 40)
    (hw1 : ∀ i, i < 4 → wd' (4 * b + i) = wd (4 * b2 + i)) (hw2 : ∀ i, i < 4 → wd' (4 * b2 + i) = wd (4 * b + i)) (hw3 : ∀ b', b' < 8 → b' ≠ b → b' ≠ b2 → ∀ i, i < 4 → wd' (4 * b' + i) = wd (4 * b' + i))
    (hcut : ¬ fv_okp ab c (sz b + sz b2 + 3) → ∀ c', c' ≤ 40 → fv_all K 0 false c' sz wd dx (post (-9)))
    (hok : fv_okp ab c (sz b + sz b2 + 3) → fv_all K dr ab (fv_sp ab c (sz b + sz b2 + 3)) (fv_u (fv_u sz b (sz b2)) b2 (sz b)) wd' dx (post 0)) : wpX_swap post ((nI bb), fl, (nI nn), (nI dr), (fv_b ab), (nI c), (fv_bA cl), (fv_bA bd), wn, (fv_nA ow), (fv_nA nu), (fv_bA gr), (fv_bA cs), (fv_bA dp), (fv_nA fi), pg, (fv_hA ho), dx, hel) (nI b) (nI b2) := by
  have z1 := fv_sz4 I V hb
  have z2 := fv_sz4 I V hb2
  have es : sz b + sz b2 + 3 = 1 + sz b2 + (1 + sz b) + 1 := by omega
  rw [es] at hcut hok
  unfold wpX_swap
  refine fv_badBlock0 hb (br_t rfl (fv_badBlock0 hb2 (br_t rfl (pk_eq b b2 (fun z => absurd z hne) (fun _ => ?_)))))
  refine fv_provide I (by omega) (fun bb' fl' cl' bd' wn' I' hav => fv_hold hb2 I' V (fun hel1 hh1 => ?_))
  refine fv_writeCopy (K := K) I' V (by omega) hb z2 (by omega) hK2 hc (fun nok => ?_) (fun ok e1 pg1 he1 hcl1 hbd1 hp1 => br_t (nI_pos' (by omega)) ?_)
  · intro _ _ _ _ _ _ _ _ _ _ _ _ _ _ _ I2 V2 k1 k2
    exact br_f (by decide) (hcut (fun z => nok (fv_ok_mono z (by omega))) _ k2 _ _ _ _ _ _ _ _ _ _ _ _ _ _ _ I2 V2 k1)
  have I1 := fv_IX_copy I' he1 hb z2 hcl1
  have V1 := fv_VR_copy I' V he1 hcl1 hp1
  have hsp1 : fv_sp ab c (1 + sz b2) ≤ 40 := Nat.le_trans fv_sp_le hc
  have hav1 : 0 < fv_cn (fv_av (fv_u cl' e1 false) bd') 16 := by
    have := fv_cn_unset he1 (p := fv_av cl' bd') (fv_av_iff.mpr ⟨hcl1, hbd1⟩)
    rw [fv_av_head]
    omega
  refine fv_hold hb I1 V1 (fun hel2 hh2 => ?_)
  refine fv_writeCopy (K := K) I1 V1 hav1 hb2 z1 (by omega) hK2 hsp1 (fun nok => ?_) (fun ok2 e2 pg2 he2 hcl2 hbd2 hp2 => br_t (nI_pos' (by omega)) ?_)
  · intro _ _ _ _ _ _ _ _ _ _ _ _ _ _ _ I2 V2 k1 k2
    exact br_f (by decide) (hcut (fun z => nok ((fv_ok_add (s := 1 + sz b2) (t := 1 + sz b)).mp (fv_ok_mono z (by omega))).2) _ k2 _ _ _ _ _ _ _ _ _ _ _ _ _ _ _ I2 V2 k1)
  have n21 : e2 ≠ e1 := by
    intro z
    rw [z, fv_us] at hcl2
    exact absurd hcl2 (by decide)
  have n12 : e1 ≠ e2 := fun z => n21 z.symm
  have I2 := fv_IX_copy I1 he2 hb2 z1 hcl2
  have V2 := fv_VR_copy I1 V1 he2 hcl2 hp2
  rw [fv_sp_sp]
  have hsp2 : fv_sp ab c (1 + sz b2 + (1 + sz b)) ≤ 40 := Nat.le_trans fv_sp_le hc
  have hok2 := (fv_ok_add (s := 1 + sz b2) (t := 1 + sz b)).mpr ⟨ok, ok2⟩
  refine fv_step I2 (by omega) hsp2 (fun ok3 => br_f (by decide) ⟨fv_i16 he1, nm_r (fv_uB true (by omega)) ⟨fv_i16 he2, nm_r (fv_uB true (by omega)) (fv_adopt he1 hb ?_ (fv_adopt he2 hb2 ?_ ?_))⟩⟩) (fun nok m Im hm => br_t rfl (hcut (fun z => nok (fv_ok_add.mp z).2) _ hsp2 _ _ _ _ _ _ _ _ _ _ _ _ _ _ _ Im V2 (by omega)))
  · rw [fv_un n12, fv_us]; exact z2
  · rw [fv_us]; exact z1
  have f1 : fv_u (fv_u fi e1 (sz b2)) e2 (sz b) e1 = sz b2 := by rw [fv_un n12, fv_us]
  have f2 : fv_u (fv_u fi e1 (sz b2)) e2 (sz b) e2 = sz b := fv_us
  have I3 := fv_IX_close I2 he1 hb (by rw [fv_un n12, fv_us]) hbd1 (by rw [fv_un n12, fv_us]) (by rw [fv_un n12, fv_us]) (by rw [fv_un n12, fv_us]) (by rw [fv_un n12, fv_us]) (fun x hx s _ => by
    have nx : x ≠ e2 := by
      intro y
      have := s.2.2
      rw [y, fv_us, fv_us] at this
      exact absurd this (by decide)
    have h1 := s.1
    rw [fv_un nx] at h1
    have := fv_nun I1 hx h1 s.2.1
    rw [fv_un nx, fv_un n12, fv_us]
    omega)
  have V3 := fv_VR_close (b := b) (e := e1) (wd' := fun j => if 4 * b ≤ j ∧ j < 4 * b + 4 then wd' j else wd j) I2 V2 he1 (by rw [fv_un n12, fv_us]) (by rw [fv_un n12, fv_us]) (fun j hj => by
    rw [f1] at hj
    show (if 4 * b ≤ 4 * b + j ∧ 4 * b + j < 4 * b + 4 then wd' (4 * b + j) else wd (4 * b + j)) = _
    rw [if_pos (by omega), hp2.2 _ (by omega), hp1.1 j hj, hh1 j hj, hw1 j (by omega)]) (fun b' hb' ne j hj => by
    show (if 4 * b ≤ 4 * b' + j ∧ 4 * b' + j < 4 * b + 4 then wd' (4 * b' + j) else wd (4 * b' + j)) = _
    rw [if_neg (by omega)])
  have I4 := fv_IX_close I3 he2 hb2 fv_us hbd2 fv_us (by rw [fv_un n21, fv_us]) fv_us fv_us (fun x hx s _ => by
    have := fv_nun I3 hx s.1 s.2.1
    rw [fv_us]
    omega)
  have V4 := fv_VR_close (b := b2) (e := e2) (wd' := wd') I3 V3 he2 fv_us (by rw [fv_un n21, fv_us]) (fun j hj => by
    rw [f2] at hj
    rw [hp2.1 j hj, hh2 j hj, hw2 j (by omega)]) (fun b' hb' ne j hj => by
    show wd' (4 * b' + j) = if 4 * b ≤ 4 * b' + j ∧ 4 * b' + j < 4 * b + 4 then wd' (4 * b' + j) else wd (4 * b' + j)
    by_cases y : b' = b
    · rw [y, if_pos (by omega)]
    · rw [if_neg (by omega), hw3 b' hb' y ne j hj])
  have h1 := hok ((fv_ok_add (s := 1 + sz b2 + (1 + sz b)) (t := 1)).mpr ⟨hok2, ok3⟩)
  rw [fv_sp_sp]
  refine h1 _ _ _ _ _ _ _ _ _ _ _ _ _ _ _ I4 ?_ (by omega)
  rw [f1, f2] at V4 ⊢
  exact V4
/-! housekeeping -/
theorem fv_lev113 {post : SX → Prop} {K e b : Nat} (I : fv_IX bb nn cl bd ow nu gr cs dp fi ho) (V : fv_VR fi pg ho sz wd) (he : e < 16) (hb : b < 8) (h0 : sz b ≠ 0) (hK : nn + 1 ≤ K) (hcl : cl e = true) (hbd : bd e = false) (hh : ∀ j, j < sz b → hel j = wd (4 * b + j))
    (h : fv_all K dr ab c sz wd dx post) :
    ∀ d i (pg' : Nat → Int32), i + d = sz b → fv_pgc pg hel e i pg' → wX_level_113 post (nI e) (nI b) (nI (sz b)) (d + 1) (nI i) (nI bb) fl (nI (nn + 1)) (nI dr) (fv_b ab) (nI c) (fv_bA (fv_u cl e false)) (fv_bA bd) wn (fv_nA (fv_u ow e b)) (fv_nA (fv_u nu e nn)) (fv_bA (fv_u gr e false)) (fv_bA (fv_u cs e false)) (fv_bA (fv_u dp e false)) (fv_nA (fv_u fi e i)) pg' (fv_hA ho) dx hel := by
  have z4 := fv_sz4 I V hb
  intro d
  induction d with
  | zero =>
    intro i pg' hi hp
    have hi : i = sz b := by omega
    subst hi
    refine pk_le (sz b) (sz b) (fun _ => ⟨fv_i16 he, nm_r (fv_uB true (by omega)) ⟨fv_i8 hb, nm_r (fv_uH e hb he) ?_⟩⟩) (fun z => absurd z (by omega))
    have Ic := fv_IX_copy I he hb z4 hcl
    have Vc := fv_VR_copy I V he hcl hp
    have hf : fv_u fi e (sz b) e = sz b := fv_us
    have I2 := fv_IX_close Ic he hb fv_us hbd fv_us fv_us fv_us fv_us (fun x hx s _ => by
      have := fv_nun Ic hx s.1 s.2.1
      rw [fv_us]
      omega)
    have V2 := fv_VR_close (b := b) (e := e) (wd' := wd) Ic Vc he fv_us fv_us (fun j hj => by
      rw [hf] at hj
      rw [hp.1 j hj, hh j hj]) (fun _ _ _ _ _ => rfl)
    rw [hf, if_neg h0] at I2
    rw [hf, if_neg h0, fv_ueq] at V2
    exact h _ _ _ _ _ _ _ _ _ _ _ _ _ _ _ I2 V2 hK
  | succ d ih =>
    intro i pg' hi hp
    refine pk_le (sz b) i (fun z => absurd z (by omega)) (fun _ => ⟨fv_i4 (by omega), fv_writeWord he (by rw [fv_us]; omega) (nm_r (nI_1 i) ?_)⟩)
    rw [fv_us, fv_uu, nI_clamp (by omega)]
    refine ih (i + 1) _ (by omega) ⟨fun j hj => ?_, fun j hj => ?_⟩
    · by_cases z : j = i
      · rw [z, pk_us]
      · rw [pk_un (by omega)]; exact hp.1 j (by omega)
    · rw [pk_un (by omega)]; exact hp.2 j hj
theorem fv_lev14 {post : SX → Prop} {K e : Nat} (I : fv_IX bb nn cl bd ow nu gr cs dp fi ho) (V : fv_VR fi pg ho sz wd) (he : e < 16) (hK : nn + 1 ≤ K) (hcl : cl e = true) (hbd : bd e = false) (h : fv_all K dr ab c sz wd dx post) :
    ∀ d i q, i + d = 8 → (q = 16 ∨ (q < 8 ∧ ho q < 16)) → wX_level_14 post (nI e) (nI bb) fl (nI nn) (nI dr) (fv_b ab) (nI c) (fv_bA cl) (fv_bA bd) wn (fv_nA ow) (fv_nA nu) (fv_bA gr) (fv_bA cs) (fv_bA dp) (fv_nA fi) pg (fv_hA ho) dx hel (d + 1) (fv_h q) (nI i) := by
  have hme : post ((nI bb), fl, (nI nn), (nI dr), (fv_b ab), (nI c), (fv_bA cl), (fv_bA bd), wn, (fv_nA ow), (fv_nA nu), (fv_bA gr), (fv_bA cs), (fv_bA dp), (fv_nA fi), pg, (fv_hA ho), dx, hel) := h _ _ _ _ _ _ _ _ _ _ _ _ _ _ _ I V (by omega)
  intro d
  induction d with
  | zero =>
    intro i q hi hq
    have hi : i = 8 := by omega
    subst hi
    refine pk_le 8 8 (fun _ => br_f (nI_pos (by omega)) ?_) (fun z => absurd z (by omega))
    rcases hq with hq | ⟨hq, hh⟩
    · exact br_t (fv_hlt.mpr (by omega)) hme
    · rw [fv_h1 (by omega)]
      have v := (V q hq).2 hh
      have hu := fv_use I hq hh
      refine br_f (nI_pos (by omega)) ⟨fv_i16 he, fv_i8 hq, fv_inH hq hh, br_c (fun _ => fv_hold hq I V (fun hel1 hh1 => fv_writeHeader (g := false) he (Exists.intro (sz q + 1) ?_))) (fun _ => hme)⟩
      exact fv_lev113 I V he hq (by omega) hK hcl hbd hh1 h (sz q) 0 pg (Nat.zero_add _) ⟨fun j hj => absurd hj (Nat.not_lt_zero j), fun _ _ => rfl⟩
  | succ d ih =>
    intro i q hi hq
    have hi8 : i < 8 := by omega
    have keep := ih (i + 1) q (by omega) hq
    have take : ho i < 16 → wX_level_14 post (nI e) (nI bb) fl (nI nn) (nI dr) (fv_b ab) (nI c) (fv_bA cl) (fv_bA bd) wn (fv_nA ow) (fv_nA nu) (fv_bA gr) (fv_bA cs) (fv_bA dp) (fv_nA fi) pg (fv_hA ho) dx hel (d + 1) (nI i) (nI (i + 1)) := by
      intro hh
      have := ih (i + 1) i (by omega) (Or.inr ⟨hi8, hh⟩)
      rw [fv_h1 (by omega)] at this
      exact this
    refine pk_le 8 i (fun z => absurd z (by omega)) (fun _ => ⟨fv_i8 hi8, fv_brHlt i hi8 (fun _ => nm_r (nI_1 i) keep) (fun hh => ?_)⟩)
    rcases hq with hq | ⟨hq, hhq⟩
    · exact br_t (fv_hlt.mpr (by omega)) (nm_r (nI_1 i) (take hh))
    · rw [fv_h1 (by omega)] at keep ⊢
      exact br_f (nI_pos (by omega)) ⟨fv_i8 hi8, fv_inH hi8 hh, fv_i8 hq, fv_inH hq hhq, br_c (fun _ => nm_r (nI_1 i) keep) (fun _ => nm_r (nI_1 i) (take hh))⟩
theorem fv_level {post : SX → Prop} {K : Nat} (I : fv_IX bb nn cl bd ow nu gr cs dp fi ho) (V : fv_VR fi pg ho sz wd) (hK : nn + 1 ≤ K) (hK2 : K < 2 ^ 30) (h : fv_all K dr ab c sz wd dx post) : wpX_level post ((nI bb), fl, (nI nn), (nI dr), (fv_b ab), (nI c), (fv_bA cl), (fv_bA bd), wn, (fv_nA ow), (fv_nA nu), (fv_bA gr), (fv_bA cs), (fv_bA dp), (fv_nA fi), pg, (fv_hA ho), dx, hel) := by
  unfold wpX_level
  exact fv_provide I (by omega) (fun bb' fl' cl' bd' wn' I' hav => fv_pick_some (fun e he hcl hbd => Exists.intro 9 (fv_lev14 I' V he hK hcl hbd h 8 0 16 rfl (Or.inl rfl))) (by omega))
theorem fv_rest_l {post : SX → Prop} {K : Nat} {x : Int32} (hK2 : K + 20 < 2 ^ 30) (h : fv_all (K + 20) dr ab c sz wd dx post) :
    ∀ d i, i + d = 20 → fv_all (K + i) dr ab c sz wd dx (fun u => match u with | (y1, y2, y3, y4, y5, y6, y7, y8, y9, y10, y11, y12, y13, y14, y15, y16, y17, y18, y19) => wX_rest_2 post x (d + 1) (nI i) y1 y2 y3 y4 y5 y6 y7 y8 y9 y10 y11 y12 y13 y14 y15 y16 y17 y18 y19) := by
  intro d
  induction d with
  | zero =>
    intro i hi bb nn fl cl bd wn ow nu gr cs dp fi pg ho hel I V hK
    have hi : i = 20 := by omega
    subst hi
    have hme : post ((nI bb), fl, (nI nn), (nI dr), (fv_b ab), (nI c), (fv_bA cl), (fv_bA bd), wn, (fv_nA ow), (fv_nA nu), (fv_bA gr), (fv_bA cs), (fv_bA dp), (fv_nA fi), pg, (fv_hA ho), dx, hel) := h _ _ _ _ _ _ _ _ _ _ _ _ _ _ _ I V hK
    exact br_c (fun _ => hme) (fun _ => pk_le 20 20 (fun _ => hme) (fun z => absurd z (by omega)))
  | succ d ih =>
    intro i hi bb nn fl cl bd wn ow nu gr cs dp fi pg ho hel I V hK
    have hme : post ((nI bb), fl, (nI nn), (nI dr), (fv_b ab), (nI c), (fv_bA cl), (fv_bA bd), wn, (fv_nA ow), (fv_nA nu), (fv_bA gr), (fv_bA cs), (fv_bA dp), (fv_nA fi), pg, (fv_hA ho), dx, hel) := h _ _ _ _ _ _ _ _ _ _ _ _ _ _ _ I V (by omega)
    have ih' := ih (i + 1) (by omega)
    refine br_c (fun _ => hme) (fun _ => pk_le 20 i (fun z => absurd z (by omega)) (fun _ => fv_reclaim I (by omega) (fun _ => br_t rfl (fv_level (K := K + (i + 1)) I V (by omega) (by omega) ?_)) (fun bb' fl' cl' bd' wn' I' _ => br_f (by decide) (nm_r (nI_1 i) (ih' _ _ _ _ _ _ _ _ _ _ _ _ _ _ _ I' V (by omega))))))
    intro bb2 nn2 fl2 cl2 bd2 wn2 ow2 nu2 gr2 cs2 dp2 fi2 pg2 ho2 hel2 I2 V2 hK'
    exact nm_r (nI_1 i) (ih' _ _ _ _ _ _ _ _ _ _ _ _ _ _ _ I2 V2 hK')
theorem fv_Xrest {post : SX → Prop} {K : Nat} {x : Int32} (I : fv_IX bb nn cl bd ow nu gr cs dp fi ho) (V : fv_VR fi pg ho sz wd) (hK : nn ≤ K) (hK2 : K + 20 < 2 ^ 30) (h : fv_all (K + 20) dr ab c sz wd dx post) : wpX_rest post ((nI bb), fl, (nI nn), (nI dr), (fv_b ab), (nI c), (fv_bA cl), (fv_bA bd), wn, (fv_nA ow), (fv_nA nu), (fv_bA gr), (fv_bA cs), (fv_bA dp), (fv_nA fi), pg, (fv_hA ho), dx, hel) x :=
  Exists.intro 21 (fv_rest_l (x := x) hK2 h 20 0 rfl _ _ _ _ _ _ _ _ _ _ _ _ _ _ _ I V hK)
end
end
section
/-- the reference's words behind a change, behind a swap -/
def fv_wc (wd dx : Nat → Int32) (b i : Nat) : Nat → Int32 := fun j => if 4 * b ≤ j ∧ j < 4 * b + i then dx (j - 4 * b) else wd j
def fv_ws (wd : Nat → Int32) (b b2 i : Nat) : Nat → Int32 := fun j => if 4 * b ≤ j ∧ j < 4 * b + i then wd (j - 4 * b + 4 * b2) else if 4 * b2 ≤ j ∧ j < 4 * b2 + i then wd (j - 4 * b2 + 4 * b) else wd j
theorem fv_wc0 {wd dx : Nat → Int32} {b : Nat} : fv_wc wd dx b 0 = wd := by
  funext j
  exact if_neg (by omega)
theorem fv_wcs {wd dx : Nat → Int32} {b i : Nat} : upd (fv_wc wd dx b i) (4 * b + i) (dx i) = fv_wc wd dx b (i + 1) := by
  funext j
  by_cases z : j = 4 * b + i
  · rw [z, pk_us]
    unfold fv_wc
    rw [if_pos (by omega), Nat.add_sub_cancel_left]
  · rw [pk_un z]
    unfold fv_wc
    by_cases y : 4 * b ≤ j ∧ j < 4 * b + i
    · rw [if_pos y, if_pos (by omega)]
    · rw [if_neg y, if_neg (by omega)]
theorem fv_ws0 {wd : Nat → Int32} {b b2 : Nat} : fv_ws wd b b2 0 = wd := by
  funext j
  unfold fv_ws
  rw [if_neg (by omega), if_neg (by omega)]
theorem fv_ws_b {wd : Nat → Int32} {b b2 n i : Nat} (h : i < n) : fv_ws wd b b2 n (4 * b + i) = wd (4 * b2 + i) := by
  unfold fv_ws
  rw [if_pos (by omega)]
  exact congrArg wd (by omega)
theorem fv_ws_b2 {wd : Nat → Int32} {b b2 n i : Nat} (hne : b ≠ b2) (hn : n ≤ 4) (h : i < n) : fv_ws wd b b2 n (4 * b2 + i) = wd (4 * b + i) := by
  unfold fv_ws
  rw [if_neg (by omega), if_pos (by omega)]
  exact congrArg wd (by omega)
theorem fv_ws_o {wd : Nat → Int32} {b b2 n j : Nat} (h1 : ¬ (4 * b ≤ j ∧ j < 4 * b + n)) (h2 : ¬ (4 * b2 ≤ j ∧ j < 4 * b2 + n)) : fv_ws wd b b2 n j = wd j := by
  unfold fv_ws
  rw [if_neg h1, if_neg h2]
theorem fv_wss {wd : Nat → Int32} {b b2 i : Nat} (hne : b ≠ b2) (hi : i < 4) : upd (upd (fv_ws wd b b2 i) (4 * b + i) (fv_ws wd b b2 i (4 * b2 + i))) (4 * b2 + i) (fv_ws wd b b2 i (4 * b + i)) = fv_ws wd b b2 (i + 1) := by
  funext j
  rw [fv_ws_o (j := 4 * b2 + i) (by omega) (by omega), fv_ws_o (j := 4 * b + i) (by omega) (by omega)]
  by_cases z : j = 4 * b2 + i
  · rw [z, pk_us, fv_ws_b2 hne (by omega) (by omega)]
  · rw [pk_un z]
    by_cases y : j = 4 * b + i
    · rw [y, pk_us, fv_ws_b (by omega)]
    · rw [pk_un y]
      unfold fv_ws
      by_cases w : 4 * b ≤ j ∧ j < 4 * b + i
      · rw [if_pos w, if_pos (by omega)]
      · rw [if_neg w, if_neg (c := 4 * b ≤ j ∧ j < 4 * b + (i + 1)) (by omega)]
        by_cases x : 4 * b2 ≤ j ∧ j < 4 * b2 + i
        · rw [if_pos x, if_pos (by omega)]
        · rw [if_neg x, if_neg (by omega)]
def fv_in (wd : Nat → Int32) (b : Nat) : Nat → Nat → Int32 → Int32
  | 0 => fun _ s => s
  | d + 1 => fun i s => fv_in wd b d (i + 1) (s + (4 * nI b + nI i + 1) * wd (4 * b + i))
def fv_out (wd : Nat → Int32) (sz : Nat → Nat) : Nat → Nat → Int32 → Int32
  | 0 => fun _ s => s
  | d + 1 => fun b s => fv_out wd sz d (b + 1) (fv_in wd b (sz b) 0 s)
section
variable {dr d : Nat} {ab : Bool} {wd dx : Nat → Int32} {sz : Nat → Nat}
theorem fv_isBlock1 {post : Int32 → Prop} {b : Nat} (hb : b < 8) (h : post 1) : wpY_isBlock post ((nI dr), (fv_b ab), (nI d), wd, (fv_nA sz), dx) (nI b) :=
  br_f (nI_pos (by omega)) (br_f (nI_nlt (a := 7) (by omega) (by decide)) h)
theorem fv_isBlock0 {post : Int32 → Prop} {x : Int32} (hx : x < 0 ∨ nI 8 ≤ x) (h : post 0) : wpY_isBlock post ((nI dr), (fv_b ab), (nI d), wd, (fv_nA sz), dx) x := by
  refine br_c (fun _ => h) (fun z => br_t ?_ h)
  rcases hx with y | y
  · exact absurd y z
  · have y1 := Int32.le_iff_toInt_le.mp y
    rw [nI_toInt (by decide)] at y1
    rw [Int32.lt_iff_toInt_lt, show (7 : Int32).toInt = 7 from by decide]
    omega
theorem fv_isCut21 {post : Int32 → SY → Prop} {x : Int32} {s : Nat} (hx : x = nI s) (hok : fv_okp ab d s) (h : post 0 ((nI dr), (fv_b ab), (nI (fv_sp ab d s)), wd, (fv_nA sz), dx)) : wY_isCut_21 post x (nI dr) (fv_b ab) (nI d) wd (fv_nA sz) dx := by
  subst hx
  cases ab
  · exact br_t rfl h
  · exact br_f (by decide) (nm_r (e' := nI (d - s)) (pk_sub (hok rfl)) h)
theorem fv_isCut {post : Int32 → SY → Prop} {x : Int32} {s : Nat} (hx : x = nI s) (hs : s < 100) (hd : d ≤ 40) (h1 : fv_okp ab d s → post 0 ((nI dr), (fv_b ab), (nI (fv_sp ab d s)), wd, (fv_nA sz), dx)) (h0 : ¬ fv_okp ab d s → post 1 ((nI 0), (fv_b false), (nI d), wd, (fv_nA sz), dx)) : wpY_isCut post ((nI dr), (fv_b ab), (nI d), wd, (fv_nA sz), dx) x := by
  refine fv_brb (fun ha => ?_) (fun ha => pk_le s d (fun z => ?_) (fun z => ?_) hx)
  · have hok : fv_okp ab d s := fun y => (fv_bft ha y).elim
    exact fv_isCut21 hx hok (h1 hok)
  · have hok : fv_okp ab d s := fun _ => z
    exact fv_isCut21 hx hok (h1 hok)
  · exact h0 (fun y => absurd (y ha) (by omega))
theorem fv_Yapp38 {post : Int32 → SY → Prop} {b s : Nat} {w x : Int32} (hb : b < 8) (hz : sz b < 4) (hx : x = nI s) (hs : s < 100) (hd : d ≤ 40)
    (hcut : ¬ fv_okp ab d s → post (-9) ((nI 0), (fv_b false), (nI d), wd, (fv_nA sz), dx))
    (hok : fv_okp ab d s → post (nI (sz b + 1)) ((nI dr), (fv_b ab), (nI (fv_sp ab d s)), (upd wd (4 * b + sz b) w), (fv_nA (fv_u sz b (sz b + 1))), dx)) : wY_append_38 post (nI b) w x (nI dr) (fv_b ab) (nI d) wd (fv_nA sz) dx := by
  have e1 : 4 * nI b + fv_nA sz (nI b).toNatClampNeg = nI (4 * b + sz b) := by rw [fv_rN (by omega), fv_ix4]
  have e2 : vp_in (4 * nI b + fv_nA sz (nI b).toNatClampNeg) 32 := by rw [e1]; exact vp_in_nI (by omega) (by decide)
  have e3 : upd wd (4 * nI b + fv_nA sz (nI b).toNatClampNeg).toNatClampNeg w = upd wd (4 * b + sz b) w := by rw [e1, nI_clamp (by omega)]
  have e4 : upd (fv_nA sz) (nI b).toNatClampNeg (fv_nA sz (nI b).toNatClampNeg + 1) = fv_nA (fv_u sz b (sz b + 1)) := by rw [fv_rN (by omega), nI_1, fv_uN _ (by omega)]
  unfold wY_append_38
  refine fv_isCut hx hs hd (fun ok => br_t rfl ⟨fv_i8 hb, e2, nm_r e3 ⟨fv_i8 hb, fv_i8 hb, nm_r e4 ⟨fv_i8 hb, ?_⟩⟩⟩) (fun nok => br_f (by decide) (hcut nok))
  rw [fv_rN (by omega), fv_us]
  exact hok ok
theorem fv_Yappend {post : Int32 → SY → Prop} {b : Nat} {w : Int32} (hb : b < 8) (hz : sz b ≤ 4) (hd : d ≤ 40) (h4 : sz b = 4 → post (-2) ((nI dr), (fv_b ab), (nI d), wd, (fv_nA sz), dx))
    (hcut : sz b ≠ 4 → ¬ fv_okp ab d (if sz b = 0 then 2 else 1) → post (-9) ((nI 0), (fv_b false), (nI d), wd, (fv_nA sz), dx))
    (hok : sz b ≠ 4 → fv_okp ab d (if sz b = 0 then 2 else 1) → post (nI (sz b + 1)) ((nI dr), (fv_b ab), (nI (fv_sp ab d (if sz b = 0 then 2 else 1))), (upd wd (4 * b + sz b) w), (fv_nA (fv_u sz b (sz b + 1))), dx)) : wpY_append post ((nI dr), (fv_b ab), (nI d), wd, (fv_nA sz), dx) (nI b) w := by
  unfold wpY_append
  refine fv_isBlock1 hb (br_f (by decide) ⟨fv_i8 hb, pk_eq (sz b) 4 h4 (fun n4 => ⟨fv_i8 hb, pk_le (sz b) 0 (fun z => ?_) (fun z => ?_) (fv_rN (by omega)) rfl (by omega) (by omega)⟩) (fv_rN (by omega)) rfl (by omega) (by omega)⟩)
  · have hcut := hcut n4
    have hok := hok n4
    rw [if_pos (by omega)] at hcut hok
    exact fv_Yapp38 (s := 2) hb (by omega) rfl (by decide) hd hcut hok
  · have hcut := hcut n4
    have hok := hok n4
    rw [if_neg (by omega)] at hcut hok
    exact fv_Yapp38 (s := 1) hb (by omega) rfl (by decide) hd hcut hok
theorem fv_Ydrop {post : Int32 → SY → Prop} {b : Nat} (hb : b < 8) (hz : sz b ≤ 4) (hd : d ≤ 40) (h0 : sz b = 0 → post (-4) ((nI dr), (fv_b ab), (nI d), wd, (fv_nA sz), dx))
    (hcut : sz b ≠ 0 → ¬ fv_okp ab d 1 → post (-9) ((nI 0), (fv_b false), (nI d), wd, (fv_nA sz), dx))
    (hok : sz b ≠ 0 → fv_okp ab d 1 → post (nI (sz b)) ((nI dr), (fv_b ab), (nI (fv_sp ab d 1)), wd, (fv_nA (fv_u sz b 0)), dx)) : wpY_drop post ((nI dr), (fv_b ab), (nI d), wd, (fv_nA sz), dx) (nI b) := by
  unfold wpY_drop
  exact fv_isBlock1 hb (br_f (by decide) ⟨fv_i8 hb, pk_eq (sz b) 0 h0 (fun n0 => fv_isCut (s := 1) rfl (by omega) hd (fun ok => br_t rfl ⟨fv_i8 hb, nm_r (fv_rN (by omega)) ⟨fv_i8 hb, nm_r (fv_uN 0 (by omega)) (hok n0 ok)⟩⟩) (fun nok => br_f (by decide) (hcut n0 nok))) (fv_rN (by omega)) rfl (by omega) (by omega)⟩)
theorem fv_Ychange_l {post : Int32 → SY → Prop} {b : Nat} (hb : b < 8) (hdr : dr ≤ 4) (h : post (nI dr) ((nI 0), (fv_b ab), (nI d), (fv_wc wd dx b dr), (fv_nA (fv_u sz b dr)), dx)) :
    ∀ n i, i + n = dr → wY_change_28 post (nI b) (nI dr) (fv_b ab) (nI d) (n + 1) (nI i) (fv_wc wd dx b i) (fv_nA sz) dx := by
  intro n
  induction n with
  | zero =>
    intro i hi
    have hi : i = dr := by omega
    subst hi
    refine pk_le i i (fun _ => ⟨fv_i8 hb, nm_r (fv_uN i (by omega)) ⟨fv_i8 hb, ?_⟩⟩) (fun z => absurd z (by omega))
    rw [fv_rN (by omega), fv_us]
    exact h
  | succ n ih =>
    intro i hi
    have e1 : vp_in (4 * nI b + nI i) 32 := by rw [fv_ix4]; exact vp_in_nI (by omega) (by decide)
    have e2 : upd (fv_wc wd dx b i) (4 * nI b + nI i).toNatClampNeg (dx (nI i).toNatClampNeg) = fv_wc wd dx b (i + 1) := by rw [fv_ix4, nI_clamp (by omega), nI_clamp (by omega), fv_wcs]
    exact pk_le dr i (fun z => absurd z (by omega)) (fun _ => ⟨fv_i4 (by omega), e1, nm_r e2 (nm_r (nI_1 i) (ih (i + 1) (by omega)))⟩)
theorem fv_Ychange {post : Int32 → SY → Prop} {b : Nat} (hb : b < 8) (hdr : dr ≤ 4) (hd : d ≤ 40)
    (hcut : ¬ fv_okp ab d (dr + 2) → post (-9) ((nI 0), (fv_b false), (nI d), wd, (fv_nA sz), dx))
    (hok : fv_okp ab d (dr + 2) → post (nI dr) ((nI 0), (fv_b ab), (nI (fv_sp ab d (dr + 2))), (fv_wc wd dx b dr), (fv_nA (fv_u sz b dr)), dx)) : wpY_change post ((nI dr), (fv_b ab), (nI d), wd, (fv_nA sz), dx) (nI b) := by
  unfold wpY_change
  refine fv_isBlock1 hb (br_f (by decide) (fv_isCut (s := dr + 2) (nI_add dr 2) (by omega) hd (fun ok => br_t rfl (Exists.intro (dr + 1) ?_)) (fun nok => br_f (by decide) (hcut nok))))
  have := fv_Ychange_l (d := fv_sp ab d (dr + 2)) (ab := ab) (wd := wd) (sz := sz) (dx := dx) hb hdr (hok ok) dr 0 (Nat.zero_add _)
  rw [fv_wc0] at this
  exact this
theorem fv_Yswap_l {post : Int32 → SY → Prop} {b b2 : Nat} (hb : b < 8) (hb2 : b2 < 8) (hne : b ≠ b2) (h : post 0 ((nI dr), (fv_b ab), (nI d), (fv_ws wd b b2 4), (fv_nA sz), dx)) :
    ∀ n i, i + n = 4 → wY_swap_79 post (nI b) (nI b2) (nI dr) (fv_b ab) (nI d) (n + 1) (nI i) (fv_ws wd b b2 i) (fv_nA sz) dx := by
  intro n
  induction n with
  | zero =>
    intro i hi
    have hi : i = 4 := by omega
    subst hi
    exact pk_le 4 4 (fun _ => h) (fun z => absurd z (by omega))
  | succ n ih =>
    intro i hi
    have e1 : vp_in (4 * nI b + nI i) 32 := by rw [fv_ix4]; exact vp_in_nI (by omega) (by decide)
    have e2 : vp_in (4 * nI b2 + nI i) 32 := by rw [fv_ix4]; exact vp_in_nI (by omega) (by decide)
    have c1 : (4 * nI b + nI i).toNatClampNeg = 4 * b + i := by rw [fv_ix4, nI_clamp (by omega)]
    have c2 : (4 * nI b2 + nI i).toNatClampNeg = 4 * b2 + i := by rw [fv_ix4, nI_clamp (by omega)]
    have e3 : fv_ws wd b b2 i (4 * nI b + nI i).toNatClampNeg = fv_ws wd b b2 i (4 * b + i) := by rw [c1]
    have e4 : upd (fv_ws wd b b2 i) (4 * nI b + nI i).toNatClampNeg (fv_ws wd b b2 i (4 * nI b2 + nI i).toNatClampNeg) = upd (fv_ws wd b b2 i) (4 * b + i) (fv_ws wd b b2 i (4 * b2 + i)) := by rw [c1, c2]
    have e5 : upd (upd (fv_ws wd b b2 i) (4 * b + i) (fv_ws wd b b2 i (4 * b2 + i))) (4 * nI b2 + nI i).toNatClampNeg (fv_ws wd b b2 i (4 * b + i)) = fv_ws wd b b2 (i + 1) := by rw [c2, fv_wss hne (by omega)]
    exact pk_le 4 i (fun z => absurd z (by omega)) (fun _ => ⟨e1, nm_r e3 ⟨e2, e1, nm_r e4 ⟨e2, nm_r e5 (nm_r (nI_1 i) (ih (i + 1) (by omega)))⟩⟩⟩)
theorem fv_Yswap {post : Int32 → SY → Prop} {b b2 : Nat} (hb : b < 8) (hb2 : b2 < 8) (hne : b ≠ b2) (hz : sz b ≤ 4) (hz2 : sz b2 ≤ 4) (hd : d ≤ 40)
    (hcut : ¬ fv_okp ab d (sz b + sz b2 + 3) → post (-9) ((nI 0), (fv_b false), (nI d), wd, (fv_nA sz), dx))
    (hok : fv_okp ab d (sz b + sz b2 + 3) → post 0 ((nI dr), (fv_b ab), (nI (fv_sp ab d (sz b + sz b2 + 3))), (fv_ws wd b b2 4), (fv_nA (fv_u (fv_u sz b (sz b2)) b2 (sz b))), dx)) : wpY_swap post ((nI dr), (fv_b ab), (nI d), wd, (fv_nA sz), dx) (nI b) (nI b2) := by
  have e1 : fv_nA sz (nI b).toNatClampNeg + fv_nA sz (nI b2).toNatClampNeg + 3 = nI (sz b + sz b2 + 3) := by
    rw [fv_rN (by omega), fv_rN (by omega), nI_add]
    exact nI_add _ 3
  have e2 : upd (fv_nA sz) (nI b).toNatClampNeg (fv_nA sz (nI b2).toNatClampNeg) = fv_nA (fv_u sz b (sz b2)) := by rw [fv_rN (e := b2) (by omega), fv_uN _ (by omega)]
  unfold wpY_swap
  refine fv_isBlock1 hb (br_f (by decide) (fv_isBlock1 hb2 (br_f (by decide) (pk_eq b b2 (fun z => absurd z hne) (fun _ => ⟨fv_i8 hb, fv_i8 hb2, fv_isCut e1 (by omega) hd (fun ok => br_t rfl ⟨fv_i8 hb, nm_r (fv_rN (by omega)) ⟨fv_i8 hb2, fv_i8 hb, nm_r e2 ⟨fv_i8 hb2, nm_r (fv_uN _ (by omega)) (Exists.intro 5 ?_)⟩⟩⟩) (fun nok => br_f (by decide) (hcut nok))⟩)))))
  have := fv_Yswap_l (dr := dr) (d := fv_sp ab d (sz b + sz b2 + 3)) (ab := ab) (wd := wd) (sz := fv_u (fv_u sz b (sz b2)) b2 (sz b)) (dx := dx) hb hb2 hne (hok ok) 4 0 rfl
  rw [fv_ws0] at this
  exact this
theorem fv_Ydig12 {post : Int32 → Prop} {J : Int32 → Int32 → Prop} {b : Nat} (hb : b < 8) (hz : sz b ≤ 4) :
    ∀ n i (s : Int32), i + n = sz b → J (fv_in wd b n i s) (nI (b + 1)) → wY_digest_12 post J (nI b) (nI dr) (fv_b ab) (nI d) wd (fv_nA sz) dx (n + 1) s (nI i) := by
  intro n
  induction n with
  | zero =>
    intro i s hi h
    have hi : i = sz b := by omega
    subst hi
    exact And.intro (fv_i8 hb) (pk_le (sz b) (sz b) (fun _ => nm_r (nI_1 b) h) (fun z => absurd z (by omega)) (fv_rN (by omega)) rfl (by omega) (by omega))
  | succ n ih =>
    intro i s hi h
    have e1 : vp_in (4 * nI b + nI i) 32 := by rw [fv_ix4]; exact vp_in_nI (by omega) (by decide)
    have e2 : s + (4 * nI b + nI i + 1) * wd (4 * nI b + nI i).toNatClampNeg = s + (4 * nI b + nI i + 1) * wd (4 * b + i) := by
      rw [show (4 * nI b + nI i).toNatClampNeg = 4 * b + i from by rw [fv_ix4, nI_clamp (by omega)]]
    exact And.intro (fv_i8 hb) (pk_le (sz b) i (fun z => absurd z (by omega)) (fun _ => ⟨e1, nm_r e2 (nm_r (nI_1 i) (ih (i + 1) _ (by omega) h))⟩) (fv_rN (by omega)) rfl (by omega) (by omega))
theorem fv_Ydig4 {post : Int32 → Prop} (hz : ∀ b, b < 8 → sz b ≤ 4) : ∀ n b (s : Int32), b + n = 8 → post (fv_out wd sz n b s) → wY_digest_4 post (nI dr) (fv_b ab) (nI d) wd (fv_nA sz) dx (n + 1) s (nI b) := by
  intro n
  induction n with
  | zero =>
    intro b s hi h
    have hi : b = 8 := by omega
    subst hi
    exact pk_le 8 8 (fun _ => h) (fun z => absurd z (by omega))
  | succ n ih =>
    intro b s hi h
    exact pk_le 8 b (fun z => absurd z (by omega)) (fun _ => Exists.intro (sz b + 1) (fv_Ydig12 (by omega) (hz b (by omega)) (sz b) 0 s (Nat.zero_add _) (ih (b + 1) _ (by omega) h)))
theorem fv_Ydigest {post : Int32 → Prop} (hz : ∀ b, b < 8 → sz b ≤ 4) (h : post (fv_out wd sz 8 0 0)) : wpY_digest post ((nI dr), (fv_b ab), (nI d), wd, (fv_nA sz), dx) :=
  Exists.intro 9 (fv_Ydig4 hz 8 0 0 rfl h)
end
section
variable {bb nn dr c : Nat} {ab : Bool} {fl : Int32} {cl bd gr cs dp : Nat → Bool} {wn pg dx hel : Nat → Int32} {ow nu fi ho : Nat → Nat}
variable {sz : Nat → Nat} {wd : Nat → Int32}
theorem fv_Xdig19 {post : Int32 → Prop} {J : Int32 → Int32 → Prop} {b : Nat} (I : fv_IX bb nn cl bd ow nu gr cs dp fi ho) (V : fv_VR fi pg ho sz wd) (hb : b < 8) :
    ∀ n i (s : Int32), i + n = sz b → J (fv_in wd b n i s) (nI (b + 1)) → wX_digest_19 post J (nI b) (nI (sz b)) (nI bb) fl (nI nn) (nI dr) (fv_b ab) (nI c) (fv_bA cl) (fv_bA bd) wn (fv_nA ow) (fv_nA nu) (fv_bA gr) (fv_bA cs) (fv_bA dp) (fv_nA fi) pg (fv_hA ho) dx hel (n + 1) s (nI i) := by
  have hz := fv_sz4 I V hb
  intro n
  induction n with
  | zero =>
    intro i s hi h
    have hi : i = sz b := by omega
    subst hi
    exact pk_le (sz b) (sz b) (fun _ => nm_r (nI_1 b) h) (fun z => absurd z (by omega))
  | succ n ih =>
    intro i s hi h
    have hh : ho b < 16 := by
      apply Classical.byContradiction
      intro z
      have := (V b hb).1 (by omega)
      omega
    have v := (V b hb).2 hh
    have e0 : fv_hA ho (nI b).toNatClampNeg * 4 + nI i = nI (4 * ho b + i) := by rw [fv_rH hb hh, fv_ix]
    have e1 : vp_in (fv_hA ho (nI b).toNatClampNeg * 4 + nI i) 64 := by rw [e0]; exact vp_in_nI (by omega) (by decide)
    have e2 : s + (4 * nI b + nI i + 1) * pg (fv_hA ho (nI b).toNatClampNeg * 4 + nI i).toNatClampNeg = s + (4 * nI b + nI i + 1) * wd (4 * b + i) := by
      rw [e0, nI_clamp (by omega), v.2 i (by omega)]
    exact pk_le (sz b) i (fun z => absurd z (by omega)) (fun _ => ⟨fv_i8 hb, e1, nm_r e2 (nm_r (nI_1 i) (ih (i + 1) _ (by omega) h))⟩)
theorem fv_Xdig4 {post : Int32 → Prop} (I : fv_IX bb nn cl bd ow nu gr cs dp fi ho) (V : fv_VR fi pg ho sz wd) : ∀ n b (s : Int32), b + n = 8 → post (fv_out wd sz n b s) → wX_digest_4 post (nI bb) fl (nI nn) (nI dr) (fv_b ab) (nI c) (fv_bA cl) (fv_bA bd) wn (fv_nA ow) (fv_nA nu) (fv_bA gr) (fv_bA cs) (fv_bA dp) (fv_nA fi) pg (fv_hA ho) dx hel (n + 1) s (nI b) := by
  intro n
  induction n with
  | zero =>
    intro b s hi h
    have hi : b = 8 := by omega
    subst hi
    exact pk_le 8 8 (fun _ => h) (fun z => absurd z (by omega))
  | succ n ih =>
    intro b s hi h
    exact pk_le 8 b (fun z => absurd z (by omega)) (fun _ => fv_sizeOf (by omega) V (Exists.intro (sz b + 1) (fv_Xdig19 I V (by omega) (sz b) 0 s (Nat.zero_add _) (ih (b + 1) _ (by omega) h))))
theorem fv_Xdigest {post : Int32 → Prop} (I : fv_IX bb nn cl bd ow nu gr cs dp fi ho) (V : fv_VR fi pg ho sz wd) (h : post (fv_out wd sz 8 0 0)) : wpX_digest post ((nI bb), fl, (nI nn), (nI dr), (fv_b ab), (nI c), (fv_bA cl), (fv_bA bd), wn, (fv_nA ow), (fv_nA nu), (fv_bA gr), (fv_bA cs), (fv_bA dp), (fv_nA fi), pg, (fv_hA ho), dx, hel) :=
  Exists.intro 9 (fv_Xdig4 I V 8 0 0 rfl h)
theorem fv_Xread {post : Int32 → Prop} {b : Nat} {x : Int32} (I : fv_IX bb nn cl bd ow nu gr cs dp fi ho) (V : fv_VR fi pg ho sz wd) (hb : b < 8) (h0 : x < 0 → post 0) (h1 : nI (sz b) ≤ x → post 0) (h2 : ∀ i, i < sz b → x = nI i → post (wd (4 * b + i))) : wpX_read post ((nI bb), fl, (nI nn), (nI dr), (fv_b ab), (nI c), (fv_bA cl), (fv_bA bd), wn, (fv_nA ow), (fv_nA nu), (fv_bA gr), (fv_bA cs), (fv_bA dp), (fv_nA fi), pg, (fv_hA ho), dx, hel) (nI b) x := by
  have hz := fv_sz4 I V hb
  unfold wpX_read
  refine fv_badBlock0 hb (br_t rfl ?_)
  rcases pk_ix x (n := sz b) (by omega) with y | y | ⟨i, hi, y⟩
  · exact br_t y (h0 y)
  · have hx : ¬ x < 0 := fun z => by
      have z1 := Int32.lt_iff_toInt_lt.mp z
      have y1 := Int32.le_iff_toInt_le.mp y
      rw [nI_toInt (by omega)] at y1
      rw [show (0 : Int32).toInt = 0 from by decide] at z1
      omega
    exact br_f hx (fv_sizeOf hb V (br_f (Int32.not_lt.mpr y) (h1 y)))
  · subst y
    have hh : ho b < 16 := by
      apply Classical.byContradiction
      intro z
      have := (V b hb).1 (by omega)
      omega
    have v := (V b hb).2 hh
    have e0 : fv_hA ho (nI b).toNatClampNeg * 4 + nI i = nI (4 * ho b + i) := by rw [fv_rH hb hh, fv_ix]
    have e1 : vp_in (fv_hA ho (nI b).toNatClampNeg * 4 + nI i) 64 := by rw [e0]; exact vp_in_nI (by omega) (by decide)
    refine br_f (nI_pos (by omega)) (fv_sizeOf hb V (br_t (nI_lt hi (by omega)) ⟨fv_i8 hb, e1, ?_⟩))
    rw [e0, nI_clamp (by omega), ← v.2 i (by omega)]
    exact h2 i hi rfl
end
end
section
theorem fv_ok_c {ab : Bool} {c d s : Nat} (h : ab = true → c = d) : fv_okp ab c s ↔ fv_okp ab d s :=
  ⟨fun z y => (h y) ▸ z y, fun z y => (h y).symm ▸ z y⟩
theorem fv_sp_c {ab : Bool} {c d s : Nat} (h : ab = true → c = d) : ab = true → fv_sp ab c s = fv_sp ab d s := fun z => by rw [h z]
section
variable {bb nn dr c : Nat} {ab : Bool} {fl : Int32} {cl bd gr cs dp : Nat → Bool} {wn pg dx hel : Nat → Int32} {ow nu fi ho : Nat → Nat}
variable {sz : Nat → Nat} {wd : Nat → Int32} {x y : Int32}
theorem fv_XappendB {post : Int32 → SX → Prop} (hx : x < 0 ∨ nI 8 ≤ x) (h : post (-1) ((nI bb), fl, (nI nn), (nI dr), (fv_b ab), (nI c), (fv_bA cl), (fv_bA bd), wn, (fv_nA ow), (fv_nA nu), (fv_bA gr), (fv_bA cs), (fv_bA dp), (fv_nA fi), pg, (fv_hA ho), dx, hel)) : wpX_append post ((nI bb), fl, (nI nn), (nI dr), (fv_b ab), (nI c), (fv_bA cl), (fv_bA bd), wn, (fv_nA ow), (fv_nA nu), (fv_bA gr), (fv_bA cs), (fv_bA dp), (fv_nA fi), pg, (fv_hA ho), dx, hel) x y := by
  unfold wpX_append
  exact fv_badBlock1 hx (br_f (by decide) h)
theorem fv_XchangeB {post : Int32 → SX → Prop} (hx : x < 0 ∨ nI 8 ≤ x) (h : post (-1) ((nI bb), fl, (nI nn), (nI dr), (fv_b ab), (nI c), (fv_bA cl), (fv_bA bd), wn, (fv_nA ow), (fv_nA nu), (fv_bA gr), (fv_bA cs), (fv_bA dp), (fv_nA fi), pg, (fv_hA ho), dx, hel)) : wpX_change post ((nI bb), fl, (nI nn), (nI dr), (fv_b ab), (nI c), (fv_bA cl), (fv_bA bd), wn, (fv_nA ow), (fv_nA nu), (fv_bA gr), (fv_bA cs), (fv_bA dp), (fv_nA fi), pg, (fv_hA ho), dx, hel) x := by
  unfold wpX_change
  exact fv_badBlock1 hx (br_f (by decide) h)
theorem fv_XdropB {post : Int32 → SX → Prop} (hx : x < 0 ∨ nI 8 ≤ x) (h : post (-1) ((nI bb), fl, (nI nn), (nI dr), (fv_b ab), (nI c), (fv_bA cl), (fv_bA bd), wn, (fv_nA ow), (fv_nA nu), (fv_bA gr), (fv_bA cs), (fv_bA dp), (fv_nA fi), pg, (fv_hA ho), dx, hel)) : wpX_drop post ((nI bb), fl, (nI nn), (nI dr), (fv_b ab), (nI c), (fv_bA cl), (fv_bA bd), wn, (fv_nA ow), (fv_nA nu), (fv_bA gr), (fv_bA cs), (fv_bA dp), (fv_nA fi), pg, (fv_hA ho), dx, hel) x := by
  unfold wpX_drop
  exact fv_badBlock1 hx (br_f (by decide) h)
theorem fv_XswapB1 {post : Int32 → SX → Prop} (hx : x < 0 ∨ nI 8 ≤ x) (h : post (-1) ((nI bb), fl, (nI nn), (nI dr), (fv_b ab), (nI c), (fv_bA cl), (fv_bA bd), wn, (fv_nA ow), (fv_nA nu), (fv_bA gr), (fv_bA cs), (fv_bA dp), (fv_nA fi), pg, (fv_hA ho), dx, hel)) : wpX_swap post ((nI bb), fl, (nI nn), (nI dr), (fv_b ab), (nI c), (fv_bA cl), (fv_bA bd), wn, (fv_nA ow), (fv_nA nu), (fv_bA gr), (fv_bA cs), (fv_bA dp), (fv_nA fi), pg, (fv_hA ho), dx, hel) x y := by
  unfold wpX_swap
  exact fv_badBlock1 hx (br_f (by decide) h)
theorem fv_XswapB2 {post : Int32 → SX → Prop} {b : Nat} (hb : b < 8) (hx : x < 0 ∨ nI 8 ≤ x) (h : post (-1) ((nI bb), fl, (nI nn), (nI dr), (fv_b ab), (nI c), (fv_bA cl), (fv_bA bd), wn, (fv_nA ow), (fv_nA nu), (fv_bA gr), (fv_bA cs), (fv_bA dp), (fv_nA fi), pg, (fv_hA ho), dx, hel)) : wpX_swap post ((nI bb), fl, (nI nn), (nI dr), (fv_b ab), (nI c), (fv_bA cl), (fv_bA bd), wn, (fv_nA ow), (fv_nA nu), (fv_bA gr), (fv_bA cs), (fv_bA dp), (fv_nA fi), pg, (fv_hA ho), dx, hel) (nI b) x := by
  unfold wpX_swap
  exact fv_badBlock0 hb (br_t rfl (fv_badBlock1 hx (br_f (by decide) h)))
theorem fv_XswapE {post : Int32 → SX → Prop} {b : Nat} (hb : b < 8) (h : post 0 ((nI bb), fl, (nI nn), (nI dr), (fv_b ab), (nI c), (fv_bA cl), (fv_bA bd), wn, (fv_nA ow), (fv_nA nu), (fv_bA gr), (fv_bA cs), (fv_bA dp), (fv_nA fi), pg, (fv_hA ho), dx, hel)) : wpX_swap post ((nI bb), fl, (nI nn), (nI dr), (fv_b ab), (nI c), (fv_bA cl), (fv_bA bd), wn, (fv_nA ow), (fv_nA nu), (fv_bA gr), (fv_bA cs), (fv_bA dp), (fv_nA fi), pg, (fv_hA ho), dx, hel) (nI b) (nI b) := by
  unfold wpX_swap
  exact fv_badBlock0 hb (br_t rfl (fv_badBlock0 hb (br_t rfl (br_t rfl h))))
theorem fv_XsizeB {post : Int32 → Prop} (hx : x < 0 ∨ nI 8 ≤ x) (h : post (-1)) : wpX_size post ((nI bb), fl, (nI nn), (nI dr), (fv_b ab), (nI c), (fv_bA cl), (fv_bA bd), wn, (fv_nA ow), (fv_nA nu), (fv_bA gr), (fv_bA cs), (fv_bA dp), (fv_nA fi), pg, (fv_hA ho), dx, hel) x := by
  unfold wpX_size
  exact fv_badBlock1 hx (br_f (by decide) h)
theorem fv_Xsize {post : Int32 → Prop} {b : Nat} (hb : b < 8) (V : fv_VR fi pg ho sz wd) (h : post (nI (sz b))) : wpX_size post ((nI bb), fl, (nI nn), (nI dr), (fv_b ab), (nI c), (fv_bA cl), (fv_bA bd), wn, (fv_nA ow), (fv_nA nu), (fv_bA gr), (fv_bA cs), (fv_bA dp), (fv_nA fi), pg, (fv_hA ho), dx, hel) (nI b) := by
  unfold wpX_size
  exact fv_badBlock0 hb (br_t rfl (fv_sizeOf hb V h))
theorem fv_XreadB {post : Int32 → Prop} (hx : x < 0 ∨ nI 8 ≤ x) (h : post 0) : wpX_read post ((nI bb), fl, (nI nn), (nI dr), (fv_b ab), (nI c), (fv_bA cl), (fv_bA bd), wn, (fv_nA ow), (fv_nA nu), (fv_bA gr), (fv_bA cs), (fv_bA dp), (fv_nA fi), pg, (fv_hA ho), dx, hel) x y := by
  unfold wpX_read
  exact fv_badBlock1 hx (br_f (by decide) h)
theorem fv_Xrestart {post : SX → Prop} (I : fv_IX bb nn cl bd ow nu gr cs dp fi ho) (hn : nn < 2 ^ 30) (h : ∀ m, fv_IX bb m cl bd ow nu gr cs dp fi ho → m ≤ nn → post ((nI bb), fl, (nI m), (nI 0), (fv_b false), (nI c), (fv_bA cl), (fv_bA bd), wn, (fv_nA ow), (fv_nA nu), (fv_bA gr), (fv_bA cs), (fv_bA dp), (fv_nA fi), pg, (fv_hA ho), dx, hel)) : wpX_restart post ((nI bb), fl, (nI nn), (nI dr), (fv_b ab), (nI c), (fv_bA cl), (fv_bA bd), wn, (fv_nA ow), (fv_nA nu), (fv_bA gr), (fv_bA cs), (fv_bA dp), (fv_nA fi), pg, (fv_hA ho), dx, hel) := by
  unfold wpX_restart
  exact fv_attachI I hn h
theorem fv_Xscrap {post : SX → Prop} (h : post ((nI bb), fl, (nI nn), (nI 0), (fv_b ab), (nI c), (fv_bA cl), (fv_bA bd), wn, (fv_nA ow), (fv_nA nu), (fv_bA gr), (fv_bA cs), (fv_bA dp), (fv_nA fi), pg, (fv_hA ho), dx, hel)) : wpX_scrap post ((nI bb), fl, (nI nn), (nI dr), (fv_b ab), (nI c), (fv_bA cl), (fv_bA bd), wn, (fv_nA ow), (fv_nA nu), (fv_bA gr), (fv_bA cs), (fv_bA dp), (fv_nA fi), pg, (fv_hA ho), dx, hel) := h
theorem fv_Xfail {post : SX → Prop} (h : post ((nI bb), 1, (nI nn), (nI dr), (fv_b ab), (nI c), (fv_bA cl), (fv_bA bd), wn, (fv_nA ow), (fv_nA nu), (fv_bA gr), (fv_bA cs), (fv_bA dp), (fv_nA fi), pg, (fv_hA ho), dx, hel)) : wpX_fail post ((nI bb), fl, (nI nn), (nI dr), (fv_b ab), (nI c), (fv_bA cl), (fv_bA bd), wn, (fv_nA ow), (fv_nA nu), (fv_bA gr), (fv_bA cs), (fv_bA dp), (fv_nA fi), pg, (fv_hA ho), dx, hel) := h
theorem fv_Xdrafted {post : Int32 → Prop} (h : post (nI dr)) : wpX_drafted post ((nI bb), fl, (nI nn), (nI dr), (fv_b ab), (nI c), (fv_bA cl), (fv_bA bd), wn, (fv_nA ow), (fv_nA nu), (fv_bA gr), (fv_bA cs), (fv_bA dp), (fv_nA fi), pg, (fv_hA ho), dx, hel) := h
end
section
variable {dr d : Nat} {ab : Bool} {wd dx : Nat → Int32} {sz : Nat → Nat} {x y : Int32}
theorem fv_YappendB {post : Int32 → SY → Prop} (hx : x < 0 ∨ nI 8 ≤ x) (h : post (-1) ((nI dr), (fv_b ab), (nI d), wd, (fv_nA sz), dx)) : wpY_append post ((nI dr), (fv_b ab), (nI d), wd, (fv_nA sz), dx) x y := by
  unfold wpY_append
  exact fv_isBlock0 hx (br_t rfl h)
theorem fv_YchangeB {post : Int32 → SY → Prop} (hx : x < 0 ∨ nI 8 ≤ x) (h : post (-1) ((nI dr), (fv_b ab), (nI d), wd, (fv_nA sz), dx)) : wpY_change post ((nI dr), (fv_b ab), (nI d), wd, (fv_nA sz), dx) x := by
  unfold wpY_change
  exact fv_isBlock0 hx (br_t rfl h)
theorem fv_YdropB {post : Int32 → SY → Prop} (hx : x < 0 ∨ nI 8 ≤ x) (h : post (-1) ((nI dr), (fv_b ab), (nI d), wd, (fv_nA sz), dx)) : wpY_drop post ((nI dr), (fv_b ab), (nI d), wd, (fv_nA sz), dx) x := by
  unfold wpY_drop
  exact fv_isBlock0 hx (br_t rfl h)
theorem fv_YswapB1 {post : Int32 → SY → Prop} (hx : x < 0 ∨ nI 8 ≤ x) (h : post (-1) ((nI dr), (fv_b ab), (nI d), wd, (fv_nA sz), dx)) : wpY_swap post ((nI dr), (fv_b ab), (nI d), wd, (fv_nA sz), dx) x y := by
  unfold wpY_swap
  exact fv_isBlock0 hx (br_t rfl h)
theorem fv_YswapB2 {post : Int32 → SY → Prop} {b : Nat} (hb : b < 8) (hx : x < 0 ∨ nI 8 ≤ x) (h : post (-1) ((nI dr), (fv_b ab), (nI d), wd, (fv_nA sz), dx)) : wpY_swap post ((nI dr), (fv_b ab), (nI d), wd, (fv_nA sz), dx) (nI b) x := by
  unfold wpY_swap
  exact fv_isBlock1 hb (br_f (by decide) (fv_isBlock0 hx (br_t rfl h)))
theorem fv_YswapE {post : Int32 → SY → Prop} {b : Nat} (hb : b < 8) (h : post 0 ((nI dr), (fv_b ab), (nI d), wd, (fv_nA sz), dx)) : wpY_swap post ((nI dr), (fv_b ab), (nI d), wd, (fv_nA sz), dx) (nI b) (nI b) := by
  unfold wpY_swap
  exact fv_isBlock1 hb (br_f (by decide) (fv_isBlock1 hb (br_f (by decide) (br_t rfl h))))
theorem fv_YsizeB {post : Int32 → Prop} (hx : x < 0 ∨ nI 8 ≤ x) (h : post (-1)) : wpY_size post ((nI dr), (fv_b ab), (nI d), wd, (fv_nA sz), dx) x := by
  unfold wpY_size
  exact fv_isBlock0 hx (br_t rfl h)
theorem fv_Ysize {post : Int32 → Prop} {b : Nat} (hb : b < 8) (h : post (nI (sz b))) : wpY_size post ((nI dr), (fv_b ab), (nI d), wd, (fv_nA sz), dx) (nI b) := by
  unfold wpY_size
  refine fv_isBlock1 hb (br_f (by decide) ⟨fv_i8 hb, ?_⟩)
  rw [fv_rN (by omega)]
  exact h
theorem fv_YreadB {post : Int32 → Prop} (hx : x < 0 ∨ nI 8 ≤ x) (h : post 0) : wpY_read post ((nI dr), (fv_b ab), (nI d), wd, (fv_nA sz), dx) x y := by
  unfold wpY_read
  exact fv_isBlock0 hx (br_t rfl h)
theorem fv_Yread0 {post : Int32 → Prop} {b : Nat} (hb : b < 8) (hx : x < 0) (h : post 0) : wpY_read post ((nI dr), (fv_b ab), (nI d), wd, (fv_nA sz), dx) (nI b) x := by
  unfold wpY_read
  exact fv_isBlock1 hb (br_f (by decide) (br_t hx h))
theorem fv_Yread1 {post : Int32 → Prop} {b : Nat} (hb : b < 8) (hx : nI (sz b) ≤ x) (h : post 0) : wpY_read post ((nI dr), (fv_b ab), (nI d), wd, (fv_nA sz), dx) (nI b) x := by
  unfold wpY_read
  refine fv_isBlock1 hb (br_f (by decide) (br_c (fun _ => h) (fun _ => ⟨fv_i8 hb, br_t ?_ h⟩)))
  rw [fv_rN (by omega)]
  exact hx
theorem fv_Yread2 {post : Int32 → Prop} {b i : Nat} (hb : b < 8) (hz : sz b ≤ 4) (hi : i < sz b) (h : post (wd (4 * b + i))) : wpY_read post ((nI dr), (fv_b ab), (nI d), wd, (fv_nA sz), dx) (nI b) (nI i) := by
  unfold wpY_read
  have e1 : vp_in (4 * nI b + nI i) 32 := by rw [fv_ix4]; exact vp_in_nI (by omega) (by decide)
  refine fv_isBlock1 hb (br_f (by decide) (br_f (nI_pos (by omega)) ⟨fv_i8 hb, br_f ?_ ⟨e1, ?_⟩⟩))
  · rw [fv_rN (by omega)]
    exact nI_ge hi (by omega)
  · rw [fv_ix4, nI_clamp (by omega)]
    exact h
theorem fv_Yrestart {post : SY → Prop} (h : post ((nI 0), (fv_b false), (nI d), wd, (fv_nA sz), dx)) : wpY_restart post ((nI dr), (fv_b ab), (nI d), wd, (fv_nA sz), dx) := h
theorem fv_Yscrap {post : SY → Prop} (h : post ((nI 0), (fv_b ab), (nI d), wd, (fv_nA sz), dx)) : wpY_scrap post ((nI dr), (fv_b ab), (nI d), wd, (fv_nA sz), dx) := h
theorem fv_Yfail {post : SY → Prop} (h : post ((nI dr), (fv_b ab), (nI d), wd, (fv_nA sz), dx)) : wpY_fail post ((nI dr), (fv_b ab), (nI d), wd, (fv_nA sz), dx) := h
theorem fv_Yrest {post : SY → Prop} (h : post ((nI dr), (fv_b ab), (nI d), wd, (fv_nA sz), dx)) : wpY_rest post ((nI dr), (fv_b ab), (nI d), wd, (fv_nA sz), dx) x := h
theorem fv_Ydrafted {post : Int32 → Prop} (h : post (nI dr)) : wpY_drafted post ((nI dr), (fv_b ab), (nI d), wd, (fv_nA sz), dx) := h
end
theorem fv_init_l {post : SX → Prop}
    (h : ∀ (cl : Nat → Bool) (ho : Nat → Nat), fv_IX 0 1 cl (fun _ => false) (fun _ => 0) (fun _ => 0) (fun _ => false) (fun _ => false) (fun _ => false) (fun _ => 0) ho → (∀ b, b < 8 → ho b = 16) →
      post ((nI 0), 0, (nI 1), (nI 0), (fv_b false), (nI 0), (fv_bA cl), (fv_bA (fun _ => false)), (fun _ => 0), (fv_nA (fun _ => 0)), (fv_nA (fun _ => 0)), (fv_bA (fun _ => false)), (fv_bA (fun _ => false)), (fv_bA (fun _ => false)), (fv_nA (fun _ => 0)), (fun _ => 0), (fv_hA ho), (fun _ => 0), (fun _ => 0))) :
    ∀ d i (cl : Nat → Bool), i + d = 16 → (∀ e, e < i → cl e = true) → wX_init_108 post (nI 0) 0 (nI 0) (nI 0) (fv_b false) (nI 0) (d + 1) (nI i) (fv_bA cl) (fv_bA (fun _ => false)) (fun _ => 0) (fv_nA (fun _ => 0)) (fv_nA (fun _ => 0)) (fv_bA (fun _ => false)) (fv_bA (fun _ => false)) (fv_bA (fun _ => false)) (fv_nA (fun _ => 0)) (fun _ => 0) (fv_hA (fun _ => 0)) (fun _ => 0) (fun _ => 0) := by
  intro d
  induction d with
  | zero =>
    intro i cl hi hcl
    have hi : i = 16 := by omega
    subst hi
    refine pk_le 16 16 (fun _ => fv_attach (M := 1) (fun _ _ => by decide) (fun _ _ => by decide) (Nat.le_refl _) (by decide) (fun e he z _ => (fv_bft z (hcl e he)).elim) (fun m ho' k1 k2 k3 k4 k5 => ?_)) (fun z => absurd z (by omega))
    have hm : m = 1 := by omega
    subst hm
    refine h cl ho' ⟨by decide, by decide, Nat.le_refl _, fun _ _ => Nat.succ_pos 7, fun _ _ => Nat.zero_le 4, k3, fun e _ he _ z => (fv_bft z (hcl e he)).elim, k5⟩ (fun b hb => ?_)
    obtain ⟨h0, n, e⟩ := k5 b hb
    rcases n with ⟨e1, _⟩ | ⟨_, l1, s1, _, _⟩
    · rw [e, e1, fv_fin16]
    · exact (fv_bft s1.1 (hcl h0 l1)).elim
  | succ d ih =>
    intro i cl hi hcl
    refine pk_le 16 i (fun z => absurd z (by omega)) (fun _ => ⟨fv_i16 (by omega), nm_r (fv_uB true (by omega)) (nm_r (nI_1 i) (ih (i + 1) _ (by omega) (fun e he => ?_)))⟩)
    by_cases z : e = i
    · rw [z, fv_us]
    · rw [fv_un z]; exact hcl e (by omega)
end
section
def i_Rel (k : Nat) (u : SX) (v : SY) : Prop :=
  ∃ (bb nn dr c d : Nat) (ab : Bool) (fl : Int32) (cl bd : Nat → Bool) (wn : Nat → Int32) (ow nu : Nat → Nat) (gr cs dp : Nat → Bool) (fi : Nat → Nat) (pg : Nat → Int32) (ho : Nat → Nat) (dx hel : Nat → Int32) (sz : Nat → Nat) (wd : Nat → Int32), u = ((nI bb), fl, (nI nn), (nI dr), (fv_b ab), (nI c), (fv_bA cl), (fv_bA bd), wn, (fv_nA ow), (fv_nA nu), (fv_bA gr), (fv_bA cs), (fv_bA dp), (fv_nA fi), pg, (fv_hA ho), dx, hel) ∧ v = ((nI dr), (fv_b ab), (nI d), wd, (fv_nA sz), dx) ∧ fv_IX bb nn cl bd ow nu gr cs dp fi ho ∧ fv_VR fi pg ho sz wd ∧ nn ≤ 20 * k + 1 ∧ dr ≤ 4 ∧ c ≤ 40 ∧ d ≤ 40 ∧ (ab = true → c = d)
theorem fv_el {k : Nat} {u : SX} {v : SY} {P : SX → SY → Prop} (h : ∀ (bb nn dr c d : Nat) (ab : Bool) (fl : Int32) (cl bd : Nat → Bool) (wn : Nat → Int32) (ow nu : Nat → Nat) (gr cs dp : Nat → Bool) (fi : Nat → Nat) (pg : Nat → Int32) (ho : Nat → Nat) (dx hel : Nat → Int32) (sz : Nat → Nat) (wd : Nat → Int32), fv_IX bb nn cl bd ow nu gr cs dp fi ho → fv_VR fi pg ho sz wd → nn ≤ 20 * k + 1 → dr ≤ 4 → c ≤ 40 → d ≤ 40 → (ab = true → c = d) → P ((nI bb), fl, (nI nn), (nI dr), (fv_b ab), (nI c), (fv_bA cl), (fv_bA bd), wn, (fv_nA ow), (fv_nA nu), (fv_bA gr), (fv_bA cs), (fv_bA dp), (fv_nA fi), pg, (fv_hA ho), dx, hel) ((nI dr), (fv_b ab), (nI d), wd, (fv_nA sz), dx)) (J : i_Rel k u v) : P u v :=
  Exists.elim J fun bb J => Exists.elim J fun nn J => Exists.elim J fun dr J => Exists.elim J fun c J => Exists.elim J fun d J => Exists.elim J fun ab J => Exists.elim J fun fl J => Exists.elim J fun cl J => Exists.elim J fun bd J => Exists.elim J fun wn J => Exists.elim J fun ow J => Exists.elim J fun nu J => Exists.elim J fun gr J => Exists.elim J fun cs J => Exists.elim J fun dp J => Exists.elim J fun fi J => Exists.elim J fun pg J => Exists.elim J fun ho J => Exists.elim J fun dx J => Exists.elim J fun hel J => Exists.elim J fun sz J => Exists.elim J fun wd J => by
    rw [J.1, J.2.1]
    exact h bb nn dr c d ab fl cl bd wn ow nu gr cs dp fi pg ho dx hel sz wd J.2.2.1 J.2.2.2.1 J.2.2.2.2.1 J.2.2.2.2.2.1 J.2.2.2.2.2.2.1 J.2.2.2.2.2.2.2.1 J.2.2.2.2.2.2.2.2
theorem fv_mk {k : Nat} {bb nn dr c d : Nat} {ab : Bool} {fl : Int32} {cl bd : Nat → Bool} {wn : Nat → Int32} {ow nu : Nat → Nat} {gr cs dp : Nat → Bool} {fi : Nat → Nat} {pg : Nat → Int32} {ho : Nat → Nat} {dx hel : Nat → Int32} {sz : Nat → Nat} {wd : Nat → Int32} (I : fv_IX bb nn cl bd ow nu gr cs dp fi ho) (V : fv_VR fi pg ho sz wd) (hK : nn ≤ 20 * k + 1) (hdr : dr ≤ 4) (hc : c ≤ 40) (hd : d ≤ 40) (hcd : ab = true → c = d) : i_Rel k ((nI bb), fl, (nI nn), (nI dr), (fv_b ab), (nI c), (fv_bA cl), (fv_bA bd), wn, (fv_nA ow), (fv_nA nu), (fv_bA gr), (fv_bA cs), (fv_bA dp), (fv_nA fi), pg, (fv_hA ho), dx, hel) ((nI dr), (fv_b ab), (nI d), wd, (fv_nA sz), dx) :=
  ⟨bb, nn, dr, c, d, ab, fl, cl, bd, wn, ow, nu, gr, cs, dp, fi, pg, ho, dx, hel, sz, wd, rfl, rfl, I, V, hK, hdr, hc, hd, hcd⟩
theorem i_up {k : Nat} {u : SX} {v : SY} (h : i_Rel k u v) : i_Rel (k + 3) u v := by
  refine fv_el (P := fun u v => i_Rel (k + 3) u v) ?_ h
  intro bb nn dr c d ab fl cl bd wn ow nu gr cs dp fi pg ho dx hel sz wd I V hK hdr hc hd hcd
  exact fv_mk I V (by omega) hdr hc hd hcd
theorem i_vc0 : wpX_init (fun u => wpY_init (fun v => i_Rel 0 u v)) := by
  refine Exists.intro 17 (fv_init_l (fun cl ho I hh => ?_) 16 0 (fun _ => false) rfl (fun e he => absurd he (Nat.not_lt_zero e)))
  exact fv_mk (k := 0) (d := 0) (ab := false) (sz := fun _ => 0) (wd := fun _ => 0) I (fun b hb => ⟨fun _ => rfl, fun z => absurd z (by rw [hh b hb]; omega)⟩) (by omega) (Nat.zero_le _) (Nat.zero_le _) (Nat.zero_le _) (fun _ => rfl)
theorem i_vc_draft {k : Nat} {u : SX} {v : SY} (I : i_Rel k u v) (hk : k + 3 ≤ 1536) (v1 : Int32) : wpX_draft (fun r u' => wpY_draft (fun r' v' => r' = r ∧ i_Rel (k + 3) u' v') v v1) u v1 := by
  refine fv_el (P := fun u v => wpX_draft (fun r u' => wpY_draft (fun r' v' => r' = r ∧ i_Rel (k + 3) u' v') v v1) u v1) ?_ I
  clear I
  intro bb nn dr c d ab fl cl bd wn ow nu gr cs dp fi pg ho dx hel sz wd I V hK hdr hc hd hcd
  refine pk_eq dr 4 (fun z => pk_eq dr 4 (fun _ => ⟨rfl, fv_mk I V (by omega) hdr hc hd hcd⟩) (fun y => absurd z y)) (fun z => ⟨fv_i4 (by omega), nm_r (fv_uW (by omega)) (nm_r (nI_1 dr) (pk_eq dr 4 (fun y => absurd y z) (fun _ => ⟨fv_i4 (by omega), nm_r (fv_uW (by omega)) (nm_r (nI_1 dr) ⟨rfl, fv_mk I V (by omega) (by omega) hc hd hcd⟩)⟩)))⟩)
theorem i_vc_scrap {k : Nat} {u : SX} {v : SY} (I : i_Rel k u v) (hk : k + 3 ≤ 1536) : wpX_scrap (fun u' => wpY_scrap (fun v' => i_Rel (k + 3) u' v') v) u := by
  refine fv_el (P := fun u v => wpX_scrap (fun u' => wpY_scrap (fun v' => i_Rel (k + 3) u' v') v) u) ?_ I
  clear I
  intro bb nn dr c d ab fl cl bd wn ow nu gr cs dp fi pg ho dx hel sz wd I V hK hdr hc hd hcd
  exact fv_Xscrap (fv_Yscrap (fv_mk I V (by omega) (Nat.zero_le _) hc hd hcd))
theorem i_vc_append {k : Nat} {u : SX} {v : SY} (I : i_Rel k u v) (hk : k + 3 ≤ 1536) (v1 : Int32) (v2 : Int32) : wpX_append (fun r u' => wpY_append (fun r' v' => r' = r ∧ i_Rel (k + 3) u' v') v v1 v2) u v1 v2 := by
  refine fv_el (P := fun u v => wpX_append (fun r u' => wpY_append (fun r' v' => r' = r ∧ i_Rel (k + 3) u' v') v v1 v2) u v1 v2) ?_ I
  clear I
  intro bb nn dr c d ab fl cl bd wn ow nu gr cs dp fi pg ho dx hel sz wd I V hK hdr hc hd hcd
  rcases pk_ix v1 (n := 8) (by omega) with y | y | ⟨b, hb, y⟩
  · exact fv_XappendB (Or.inl y) (fv_YappendB (Or.inl y) ⟨rfl, fv_mk I V (by omega) hdr hc hd hcd⟩)
  · exact fv_XappendB (Or.inr y) (fv_YappendB (Or.inr y) ⟨rfl, fv_mk I V (by omega) hdr hc hd hcd⟩)
  subst y
  have hz := fv_sz4 I V hb
  refine fv_Xappend (K := 20 * (k + 3) + 1) I V hb (by omega) (by omega) hc (fun z => ?_) (fun n4 nok c' hc' => ?_) (fun n4 ok => ?_)
  · exact fv_Yappend hb hz hd (fun _ => ⟨rfl, fv_mk I V (by omega) hdr hc hd hcd⟩) (fun n4 => absurd z n4) (fun n4 => absurd z n4)
  · intro _ _ _ _ _ _ _ _ _ _ _ _ _ _ _ I2 V2 hK2
    exact fv_Yappend hb hz hd (fun z => absurd z n4) (fun _ _ => ⟨rfl, fv_mk I2 V2 hK2 (Nat.zero_le _) hc' hd (fun z => nomatch z)⟩) (fun _ ok => absurd ((fv_ok_c hcd).mpr ok) nok)
  · intro _ _ _ _ _ _ _ _ _ _ _ _ _ _ _ I2 V2 hK2
    exact fv_Yappend hb hz hd (fun z => absurd z n4) (fun _ nok => absurd ((fv_ok_c hcd).mp ok) nok) (fun _ _ => ⟨rfl, fv_mk I2 V2 hK2 hdr (Nat.le_trans fv_sp_le hc) (Nat.le_trans fv_sp_le hd) (fv_sp_c hcd)⟩)
theorem i_vc_change {k : Nat} {u : SX} {v : SY} (I : i_Rel k u v) (hk : k + 3 ≤ 1536) (v1 : Int32) : wpX_change (fun r u' => wpY_change (fun r' v' => r' = r ∧ i_Rel (k + 3) u' v') v v1) u v1 := by
  refine fv_el (P := fun u v => wpX_change (fun r u' => wpY_change (fun r' v' => r' = r ∧ i_Rel (k + 3) u' v') v v1) u v1) ?_ I
  clear I
  intro bb nn dr c d ab fl cl bd wn ow nu gr cs dp fi pg ho dx hel sz wd I V hK hdr hc hd hcd
  rcases pk_ix v1 (n := 8) (by omega) with y | y | ⟨b, hb, y⟩
  · exact fv_XchangeB (Or.inl y) (fv_YchangeB (Or.inl y) ⟨rfl, fv_mk I V (by omega) hdr hc hd hcd⟩)
  · exact fv_XchangeB (Or.inr y) (fv_YchangeB (Or.inr y) ⟨rfl, fv_mk I V (by omega) hdr hc hd hcd⟩)
  subst y
  have hz := fv_sz4 I V hb
  refine fv_Xchange (K := 20 * (k + 3) + 1) (wd' := fv_wc wd dx b dr) I V hb (by omega) (by omega) hc hdr (fun i hi => ?_) (fun j hj => ?_) (fun nok c' hc' => ?_) (fun ok => ?_)
  · unfold fv_wc
    rw [if_pos (by omega), Nat.add_sub_cancel_left]
  · exact if_neg (by omega)
  · intro _ _ _ _ _ _ _ _ _ _ _ _ _ _ _ I2 V2 hK2
    exact fv_Ychange hb hdr hd (fun _ => ⟨rfl, fv_mk I2 V2 hK2 (Nat.zero_le _) hc' hd (fun z => nomatch z)⟩) (fun ok => absurd ((fv_ok_c hcd).mpr ok) nok)
  · intro _ _ _ _ _ _ _ _ _ _ _ _ _ _ _ I2 V2 hK2
    exact fv_Ychange hb hdr hd (fun nok => absurd ((fv_ok_c hcd).mp ok) nok) (fun _ => ⟨rfl, fv_mk I2 V2 hK2 (Nat.zero_le _) (Nat.le_trans fv_sp_le hc) (Nat.le_trans fv_sp_le hd) (fv_sp_c hcd)⟩)
theorem i_vc_drop {k : Nat} {u : SX} {v : SY} (I : i_Rel k u v) (hk : k + 3 ≤ 1536) (v1 : Int32) : wpX_drop (fun r u' => wpY_drop (fun r' v' => r' = r ∧ i_Rel (k + 3) u' v') v v1) u v1 := by
  refine fv_el (P := fun u v => wpX_drop (fun r u' => wpY_drop (fun r' v' => r' = r ∧ i_Rel (k + 3) u' v') v v1) u v1) ?_ I
  clear I
  intro bb nn dr c d ab fl cl bd wn ow nu gr cs dp fi pg ho dx hel sz wd I V hK hdr hc hd hcd
  rcases pk_ix v1 (n := 8) (by omega) with y | y | ⟨b, hb, y⟩
  · exact fv_XdropB (Or.inl y) (fv_YdropB (Or.inl y) ⟨rfl, fv_mk I V (by omega) hdr hc hd hcd⟩)
  · exact fv_XdropB (Or.inr y) (fv_YdropB (Or.inr y) ⟨rfl, fv_mk I V (by omega) hdr hc hd hcd⟩)
  subst y
  have hz := fv_sz4 I V hb
  refine fv_Xdrop (K := 20 * (k + 3) + 1) I V hb (by omega) (by omega) hc (fun z => ?_) (fun n0 nok c' hc' => ?_) (fun n0 ok => ?_)
  · exact fv_Ydrop hb hz hd (fun _ => ⟨rfl, fv_mk I V (by omega) hdr hc hd hcd⟩) (fun n0 => absurd z n0) (fun n0 => absurd z n0)
  · intro _ _ _ _ _ _ _ _ _ _ _ _ _ _ _ I2 V2 hK2
    exact fv_Ydrop hb hz hd (fun z => absurd z n0) (fun _ _ => ⟨rfl, fv_mk I2 V2 hK2 (Nat.zero_le _) hc' hd (fun z => nomatch z)⟩) (fun _ ok => absurd ((fv_ok_c hcd).mpr ok) nok)
  · intro _ _ _ _ _ _ _ _ _ _ _ _ _ _ _ I2 V2 hK2
    exact fv_Ydrop hb hz hd (fun z => absurd z n0) (fun _ nok => absurd ((fv_ok_c hcd).mp ok) nok) (fun _ _ => ⟨rfl, fv_mk I2 V2 hK2 hdr (Nat.le_trans fv_sp_le hc) (Nat.le_trans fv_sp_le hd) (fv_sp_c hcd)⟩)
theorem i_vc_swap {k : Nat} {u : SX} {v : SY} (I : i_Rel k u v) (hk : k + 3 ≤ 1536) (v1 : Int32) (v2 : Int32) : wpX_swap (fun r u' => wpY_swap (fun r' v' => r' = r ∧ i_Rel (k + 3) u' v') v v1 v2) u v1 v2 := by
  refine fv_el (P := fun u v => wpX_swap (fun r u' => wpY_swap (fun r' v' => r' = r ∧ i_Rel (k + 3) u' v') v v1 v2) u v1 v2) ?_ I
  clear I
  intro bb nn dr c d ab fl cl bd wn ow nu gr cs dp fi pg ho dx hel sz wd I V hK hdr hc hd hcd
  rcases pk_ix v1 (n := 8) (by omega) with y | y | ⟨b, hb, y⟩
  · exact fv_XswapB1 (Or.inl y) (fv_YswapB1 (Or.inl y) ⟨rfl, fv_mk I V (by omega) hdr hc hd hcd⟩)
  · exact fv_XswapB1 (Or.inr y) (fv_YswapB1 (Or.inr y) ⟨rfl, fv_mk I V (by omega) hdr hc hd hcd⟩)
  subst y
  rcases pk_ix v2 (n := 8) (by omega) with y | y | ⟨b2, hb2, y⟩
  · exact fv_XswapB2 hb (Or.inl y) (fv_YswapB2 hb (Or.inl y) ⟨rfl, fv_mk I V (by omega) hdr hc hd hcd⟩)
  · exact fv_XswapB2 hb (Or.inr y) (fv_YswapB2 hb (Or.inr y) ⟨rfl, fv_mk I V (by omega) hdr hc hd hcd⟩)
  subst y
  by_cases hne : b = b2
  · subst hne
    exact fv_XswapE hb (fv_YswapE hb ⟨rfl, fv_mk I V (by omega) hdr hc hd hcd⟩)
  have hz := fv_sz4 I V hb
  have hz2 := fv_sz4 I V hb2
  refine fv_Xswap (K := 20 * (k + 3) + 1) (wd' := fv_ws wd b b2 4) I V hb hb2 hne (by omega) (by omega) hc (fun i hi => fv_ws_b hi) (fun i hi => fv_ws_b2 hne (Nat.le_refl _) hi) (fun b' hb' n1 n2 i hi => fv_ws_o (by omega) (by omega)) (fun nok c' hc' => ?_) (fun ok => ?_)
  · intro _ _ _ _ _ _ _ _ _ _ _ _ _ _ _ I2 V2 hK2
    exact fv_Yswap hb hb2 hne hz hz2 hd (fun _ => ⟨rfl, fv_mk I2 V2 hK2 (Nat.zero_le _) hc' hd (fun z => nomatch z)⟩) (fun ok => absurd ((fv_ok_c hcd).mpr ok) nok)
  · intro _ _ _ _ _ _ _ _ _ _ _ _ _ _ _ I2 V2 hK2
    exact fv_Yswap hb hb2 hne hz hz2 hd (fun nok => absurd ((fv_ok_c hcd).mp ok) nok) (fun _ => ⟨rfl, fv_mk I2 V2 hK2 hdr (Nat.le_trans fv_sp_le hc) (Nat.le_trans fv_sp_le hd) (fv_sp_c hcd)⟩)
theorem i_vc_size {k : Nat} {u : SX} {v : SY} (I : i_Rel k u v) (hk : k + 3 ≤ 1536) (v1 : Int32) : wpX_size (fun r => wpY_size (fun r' => r' = r ∧ i_Rel (k + 3) u v) v v1) u v1 := by
  refine fv_el (P := fun u v => wpX_size (fun r => wpY_size (fun r' => r' = r ∧ i_Rel (k + 3) u v) v v1) u v1) ?_ I
  clear I
  intro bb nn dr c d ab fl cl bd wn ow nu gr cs dp fi pg ho dx hel sz wd I V hK hdr hc hd hcd
  rcases pk_ix v1 (n := 8) (by omega) with y | y | ⟨b, hb, y⟩
  · exact fv_XsizeB (Or.inl y) (fv_YsizeB (Or.inl y) ⟨rfl, fv_mk I V (by omega) hdr hc hd hcd⟩)
  · exact fv_XsizeB (Or.inr y) (fv_YsizeB (Or.inr y) ⟨rfl, fv_mk I V (by omega) hdr hc hd hcd⟩)
  subst y
  have hz := fv_sz4 I V hb
  exact fv_Xsize hb V (fv_Ysize hb ⟨rfl, fv_mk I V (by omega) hdr hc hd hcd⟩)
theorem i_vc_read {k : Nat} {u : SX} {v : SY} (I : i_Rel k u v) (hk : k + 3 ≤ 1536) (v1 : Int32) (v2 : Int32) : wpX_read (fun r => wpY_read (fun r' => r' = r ∧ i_Rel (k + 3) u v) v v1 v2) u v1 v2 := by
  refine fv_el (P := fun u v => wpX_read (fun r => wpY_read (fun r' => r' = r ∧ i_Rel (k + 3) u v) v v1 v2) u v1 v2) ?_ I
  clear I
  intro bb nn dr c d ab fl cl bd wn ow nu gr cs dp fi pg ho dx hel sz wd I V hK hdr hc hd hcd
  rcases pk_ix v1 (n := 8) (by omega) with y | y | ⟨b, hb, y⟩
  · exact fv_XreadB (Or.inl y) (fv_YreadB (Or.inl y) ⟨rfl, fv_mk I V (by omega) hdr hc hd hcd⟩)
  · exact fv_XreadB (Or.inr y) (fv_YreadB (Or.inr y) ⟨rfl, fv_mk I V (by omega) hdr hc hd hcd⟩)
  subst y
  have hz := fv_sz4 I V hb
  exact fv_Xread I V hb (fun y => fv_Yread0 hb y ⟨rfl, fv_mk I V (by omega) hdr hc hd hcd⟩) (fun y => fv_Yread1 hb y ⟨rfl, fv_mk I V (by omega) hdr hc hd hcd⟩) (fun i hi y => y ▸ fv_Yread2 hb hz hi ⟨rfl, fv_mk I V (by omega) hdr hc hd hcd⟩)
theorem i_vc_cutAfter {k : Nat} {u : SX} {v : SY} (I : i_Rel k u v) (hk : k + 3 ≤ 1536) (v1 : Int32) : wpX_cutAfter (fun r u' => wpY_cutAfter (fun r' v' => r' = r ∧ i_Rel (k + 3) u' v') v v1) u v1 := by
  refine fv_el (P := fun u v => wpX_cutAfter (fun r u' => wpY_cutAfter (fun r' v' => r' = r ∧ i_Rel (k + 3) u' v') v v1) u v1) ?_ I
  clear I
  intro bb nn dr c d ab fl cl bd wn ow nu gr cs dp fi pg ho dx hel sz wd I V hK hdr hc hd hcd
  by_cases h0 : v1 < 0
  · exact br_t h0 (br_t h0 ⟨rfl, fv_mk I V (by omega) hdr hc hd hcd⟩)
  obtain ⟨j, hj, e⟩ := nI_of h0
  subst e
  exact br_f h0 (pk_le j 40 (fun z => br_f h0 (pk_le j 40 (fun _ => ⟨rfl, fv_mk (ab := true) I V (by omega) hdr z z (fun _ => rfl)⟩) (fun y => absurd z (by omega)))) (fun z => br_f h0 (pk_le j 40 (fun y => absurd y (by omega)) (fun _ => ⟨rfl, fv_mk I V (by omega) hdr hc hd hcd⟩))))
theorem i_vc_cancel {k : Nat} {u : SX} {v : SY} (I : i_Rel k u v) (hk : k + 3 ≤ 1536) : wpX_cancel (fun r u' => wpY_cancel (fun r' v' => r' = r ∧ i_Rel (k + 3) u' v') v) u := by
  refine fv_el (P := fun u v => wpX_cancel (fun r u' => wpY_cancel (fun r' v' => r' = r ∧ i_Rel (k + 3) u' v') v) u) ?_ I
  clear I
  intro bb nn dr c d ab fl cl bd wn ow nu gr cs dp fi pg ho dx hel sz wd I V hK hdr hc hd hcd
  cases ab
  · exact br_t rfl (br_t rfl ⟨rfl, fv_mk I V (by omega) hdr hc hd hcd⟩)
  · exact br_f (by decide) (br_f (by decide) ⟨congrArg nI (hcd rfl).symm, fv_mk (ab := false) I V (by omega) hdr hc hd (fun z => nomatch z)⟩)
theorem i_vc_restart {k : Nat} {u : SX} {v : SY} (I : i_Rel k u v) (hk : k + 3 ≤ 1536) : wpX_restart (fun u' => wpY_restart (fun v' => i_Rel (k + 3) u' v') v) u := by
  refine fv_el (P := fun u v => wpX_restart (fun u' => wpY_restart (fun v' => i_Rel (k + 3) u' v') v) u) ?_ I
  clear I
  intro bb nn dr c d ab fl cl bd wn ow nu gr cs dp fi pg ho dx hel sz wd I V hK hdr hc hd hcd
  exact fv_Xrestart I (by omega) (fun m Im hm => fv_Yrestart (fv_mk Im V (by omega) (Nat.zero_le _) hc hd (fun z => nomatch z)))
theorem i_vc_drafted {k : Nat} {u : SX} {v : SY} (I : i_Rel k u v) (hk : k + 3 ≤ 1536) : wpX_drafted (fun r => wpY_drafted (fun r' => r' = r ∧ i_Rel (k + 3) u v) v) u := by
  refine fv_el (P := fun u v => wpX_drafted (fun r => wpY_drafted (fun r' => r' = r ∧ i_Rel (k + 3) u v) v) u) ?_ I
  clear I
  intro bb nn dr c d ab fl cl bd wn ow nu gr cs dp fi pg ho dx hel sz wd I V hK hdr hc hd hcd
  exact fv_Xdrafted (fv_Ydrafted ⟨rfl, fv_mk I V (by omega) hdr hc hd hcd⟩)
theorem i_vc_digest {k : Nat} {u : SX} {v : SY} (I : i_Rel k u v) (hk : k + 3 ≤ 1536) : wpX_digest (fun r => wpY_digest (fun r' => r' = r ∧ i_Rel (k + 3) u v) v) u := by
  refine fv_el (P := fun u v => wpX_digest (fun r => wpY_digest (fun r' => r' = r ∧ i_Rel (k + 3) u v) v) u) ?_ I
  clear I
  intro bb nn dr c d ab fl cl bd wn ow nu gr cs dp fi pg ho dx hel sz wd I V hK hdr hc hd hcd
  exact fv_Xdigest I V (fv_Ydigest (fun b hb => fv_sz4 I V hb) ⟨rfl, fv_mk I V (by omega) hdr hc hd hcd⟩)
theorem i_vc_rest {k : Nat} {u : SX} {v : SY} (I : i_Rel k u v) (hk : k + 3 ≤ 1536) (v1 : Int32) : wpX_rest (fun u' => wpY_rest (fun v' => i_Rel (k + 3) u' v') v v1) u v1 := by
  refine fv_el (P := fun u v => wpX_rest (fun u' => wpY_rest (fun v' => i_Rel (k + 3) u' v') v v1) u v1) ?_ I
  clear I
  intro bb nn dr c d ab fl cl bd wn ow nu gr cs dp fi pg ho dx hel sz wd I V hK hdr hc hd hcd
  refine fv_Xrest (K := 20 * k + 1) I V hK (by omega) ?_
  intro _ _ _ _ _ _ _ _ _ _ _ _ _ _ _ I2 V2 hK2
  exact fv_Yrest (fv_mk I2 V2 (by omega) hdr hc hd hcd)
theorem i_vc_fail {k : Nat} {u : SX} {v : SY} (I : i_Rel k u v) (hk : k + 3 ≤ 1536) : wpX_fail (fun u' => wpY_fail (fun v' => i_Rel (k + 3) u' v') v) u := by
  refine fv_el (P := fun u v => wpX_fail (fun u' => wpY_fail (fun v' => i_Rel (k + 3) u' v') v) u) ?_ I
  clear I
  intro bb nn dr c d ab fl cl bd wn ow nu gr cs dp fi pg ho dx hel sz wd I V hK hdr hc hd hcd
  exact fv_Xfail (fv_Yfail (fv_mk I V (by omega) hdr hc hd hcd))
end
