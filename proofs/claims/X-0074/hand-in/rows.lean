section
theorem pk_us {f : Nat → Int32} {k : Nat} {x : Int32} : upd f k x k = x := if_pos rfl
theorem pk_un {f : Nat → Int32} {k j : Nat} {x : Int32} (h : j ≠ k) : upd f k x j = f j := if_neg h
theorem pk_sub {a b : Nat} (h : b ≤ a) : nI a - nI b = nI (a - b) := by
  obtain ⟨c, rfl⟩ : ∃ c, a = c + b := ⟨a - b, by omega⟩
  rw [← nI_add, Int32.add_sub_cancel, Nat.add_sub_cancel]
theorem pk_m1 (n : Nat) : nI (n + 1) + (-1) = nI n := by
  rw [← nI_1, Int32.add_assoc, show (1 : Int32) + (-1) = 0 from rfl, Int32.add_zero]
theorem pk_mul (a b : Nat) : nI a * nI b = nI (a * b) := (Int32.ofNat_mul a b).symm
theorem pk_sub_toInt {a b : Nat} (ha : a < 2 ^ 30) (hb : b < 2 ^ 30) : (nI a - nI b).toInt = (a : Int) - b := by
  rw [Int32.toInt_sub, nI_toInt (by omega), nI_toInt (by omega)]
  exact Int.bmod_eq_of_le (by omega) (by omega)
theorem pk_sneg {a b : Nat} (hb : b < 2 ^ 30) (h : a < b) : nI a - nI b < 0 := by
  rw [Int32.lt_iff_toInt_lt, pk_sub_toInt (by omega) hb, show (0 : Int32).toInt = 0 from by decide]
  omega
theorem pk_ix (x : Int32) {n : Nat} (hn : n < 2 ^ 31) : x < 0 ∨ nI n ≤ x ∨ ∃ j : Nat, j < n ∧ x = nI j := by
  by_cases h : x < 0
  · exact Or.inl h
  · obtain ⟨j, hj, rfl⟩ := nI_of h
    by_cases h2 : j < n
    · exact Or.inr (Or.inr ⟨j, h2, rfl⟩)
    · exact Or.inr (Or.inl (nI_le (by omega) hj))
theorem pk_le {x y : Int32} {A B : Prop} (a b : Nat) (f : a ≤ b → A) (g : b < a → B) (hx : x = nI a := by rfl) (hy : y = nI b := by rfl) (ha : a < 2 ^ 31 := by omega) (hb : b < 2 ^ 31 := by omega) : (x ≤ y → A) ∧ (¬ x ≤ y → B) := by
  subst hx hy
  rw [nI_leI ha hb]
  exact ⟨f, fun z => g (by omega)⟩
theorem pk_lt {x y : Int32} {A B : Prop} (a b : Nat) (f : a < b → A) (g : b ≤ a → B) (hx : x = nI a := by rfl) (hy : y = nI b := by rfl) (ha : a < 2 ^ 31 := by omega) (hb : b < 2 ^ 31 := by omega) : (x < y → A) ∧ (¬ x < y → B) := by
  subst hx hy
  rw [nI_ltI ha hb]
  exact ⟨f, fun z => g (by omega)⟩
theorem pk_eq {x y : Int32} {A B : Prop} (a b : Nat) (f : a = b → A) (g : a ≠ b → B) (hx : x = nI a := by rfl) (hy : y = nI b := by rfl) (ha : a < 2 ^ 31 := by omega) (hb : b < 2 ^ 31 := by omega) : (x = y → A) ∧ (¬ x = y → B) := by
  subst hx hy
  rw [nI_eq ha hb]
  exact ⟨f, g⟩
theorem pk_in {x : Int32} (n N : Nat) (h : n < N) (hx : x = nI n := by rfl) (hN : N < 2 ^ 31 := by omega) : vp_in x N := by
  subst hx
  exact vp_in_nI h hN
theorem pk_cl {x : Int32} (n : Nat) (hx : x = nI n := by rfl) (h : n < 2 ^ 31 := by omega) : x.toNatClampNeg = n := by
  subst hx
  exact nI_clamp h
end
section
/-! sums below n, one-point changes, membership below n, the last index with a false flag -/
def ss_sm (f : Nat → Nat) : Nat → Nat
  | 0 => 0
  | n + 1 => ss_sm f n + f n
def ss_set {α : Type} (f : Nat → α) (k : Nat) (x : α) : Nat → α := fun j => if j = k then x else f j
theorem ss_set_s {α : Type} {f : Nat → α} {k : Nat} {x : α} : ss_set f k x k = x := if_pos rfl
theorem ss_set_n {α : Type} {f : Nat → α} {k j : Nat} {x : α} (h : j ≠ k) : ss_set f k x j = f j := if_neg h
theorem ss_set_id {α : Type} {f : Nat → α} {k : Nat} {x : α} (h : x = f k) : ss_set f k x = f := by
  funext j
  by_cases e : j = k
  · subst e; rw [ss_set_s, h]
  · rw [ss_set_n e]
theorem ss_sm_c {f g : Nat → Nat} : ∀ n, (∀ j, j < n → f j = g j) → ss_sm f n = ss_sm g n := by
  intro n
  induction n with
  | zero => intro _; rfl
  | succ n ih =>
    intro h
    show ss_sm f n + f n = ss_sm g n + g n
    have a := ih (fun j hj => h j (by omega))
    have b := h n (by omega)
    omega
theorem ss_sm_1 {f g : Nat → Nat} {k : Nat} : ∀ n, k < n → (∀ j, j < n → j ≠ k → f j = g j) → ss_sm f n + g k = ss_sm g n + f k := by
  intro n
  induction n with
  | zero => intro h; omega
  | succ n ih =>
    intro hk h
    show ss_sm f n + f n + g k = ss_sm g n + g n + f k
    by_cases e : k = n
    · subst e
      have a := ss_sm_c (f := f) (g := g) k (fun j hj => h j (by omega) (by omega))
      omega
    · have a := ih (by omega) (fun j hj hn => h j (by omega) hn)
      have b := h n (by omega) (by omega)
      omega
theorem ss_sm_le {f g : Nat → Nat} : ∀ n, (∀ j, j < n → f j ≤ g j) → ss_sm f n ≤ ss_sm g n := by
  intro n
  induction n with
  | zero => intro _; exact Nat.le_refl _
  | succ n ih =>
    intro h
    show ss_sm f n + f n ≤ ss_sm g n + g n
    have a := ih (fun j hj => h j (by omega))
    have b := h n (by omega)
    omega
theorem ss_sm_ge {f : Nat → Nat} {k : Nat} : ∀ n, k < n → f k ≤ ss_sm f n := by
  intro n
  induction n with
  | zero => intro h; omega
  | succ n ih =>
    intro h
    show f k ≤ ss_sm f n + f n
    by_cases e : k = n
    · subst e; omega
    · have a := ih (by omega); omega
theorem ss_sm_pos {f : Nat → Nat} : ∀ n, 0 < ss_sm f n → ∃ j, j < n ∧ 0 < f j := by
  intro n
  induction n with
  | zero => intro h; exact absurd h (Nat.lt_irrefl 0)
  | succ n ih =>
    intro h
    by_cases e : 0 < f n
    · exact ⟨n, by omega, e⟩
    · have h' : 0 < ss_sm f n + f n := h
      obtain ⟨j, hj, hf⟩ := ih (by omega)
      exact ⟨j, by omega, hf⟩
theorem ss_sm_add (f g : Nat → Nat) : ∀ n, ss_sm (fun j => f j + g j) n = ss_sm f n + ss_sm g n := by
  intro n
  induction n with
  | zero => rfl
  | succ n ih =>
    show ss_sm (fun j => f j + g j) n + (f n + g n) = (ss_sm f n + f n) + (ss_sm g n + g n)
    omega
theorem ss_sm_cst (c : Nat) : ∀ n, ss_sm (fun _ => c) n = c * n := by
  intro n
  induction n with
  | zero => rfl
  | succ n ih =>
    show ss_sm (fun _ => c) n + c = c * (n + 1)
    rw [ih, Nat.mul_succ]
theorem ss_sm_swap (f : Nat → Nat → Nat) (m : Nat) : ∀ n, ss_sm (fun i => ss_sm (fun j => f i j) m) n = ss_sm (fun j => ss_sm (fun i => f i j) n) m := by
  intro n
  induction n with
  | zero =>
    show 0 = ss_sm (fun j => 0) m
    rw [ss_sm_cst, Nat.zero_mul]
  | succ n ih =>
    show ss_sm (fun i => ss_sm (fun j => f i j) m) n + ss_sm (fun j => f n j) m = ss_sm (fun j => ss_sm (fun i => f i j) n + f n j) m
    rw [ih, ss_sm_add (fun j => ss_sm (fun i => f i j) n) (fun j => f n j)]
/-- the sum of an indicator of one index -/
theorem ss_sm_ind {k : Nat} {n : Nat} (h : k < n) (f : Nat → Nat) (hk : f k = 1) (hn : ∀ j, j ≠ k → f j = 0) : ss_sm f n = 1 := by
  have a := ss_sm_1 (f := f) (g := fun _ => 0) (k := k) n h (fun j _ hj => hn j hj)
  rw [ss_sm_cst] at a
  simp only [hk, Nat.zero_mul] at a
  omega
def ss_has (f : Nat → Nat) (x : Nat) : Nat → Bool
  | 0 => false
  | n + 1 => if f n = x then true else ss_has f x n
theorem ss_has_iff {f : Nat → Nat} {x : Nat} : ∀ n, ss_has f x n = true ↔ ∃ k, k < n ∧ f k = x := by
  intro n
  induction n with
  | zero =>
    constructor
    · intro h; exact nomatch h
    · rintro ⟨k, hk, _⟩; omega
  | succ n ih =>
    show (if f n = x then true else ss_has f x n) = true ↔ _
    by_cases e : f n = x
    · rw [if_pos e]
      exact ⟨fun _ => ⟨n, by omega, e⟩, fun _ => rfl⟩
    · rw [if_neg e, ih]
      constructor
      · rintro ⟨k, hk, h⟩; exact ⟨k, by omega, h⟩
      · rintro ⟨k, hk, h⟩
        by_cases e2 : k = n
        · subst e2; exact absurd h e
        · exact ⟨k, by omega, h⟩
/-- n different numbers below m: so many flags are set -/
theorem ss_has_cnt {f : Nat → Nat} {m : Nat} : ∀ n, (∀ k, k < n → f k < m) → (∀ k l, k < l → l < n → f k ≠ f l) → ss_sm (fun x => if ss_has f x n = true then 1 else 0) m = n := by
  intro n
  induction n with
  | zero =>
    intro _ _
    have : (fun x => if ss_has f x 0 = true then 1 else 0) = (fun _ => 0) := by
      funext x; exact if_neg (by intro h; exact nomatch h)
    rw [this, ss_sm_cst, Nat.zero_mul]
  | succ n ih =>
    intro hb hd
    have a := ih (fun k hk => hb k (by omega)) (fun k l hk hl => hd k l hk (by omega))
    have b := ss_sm_1 (f := fun x => if ss_has f x (n + 1) = true then 1 else 0) (g := fun x => if ss_has f x n = true then 1 else 0) (k := f n) m (hb n (by omega)) (by
      intro j _ hj
      have e : ss_has f j (n + 1) = ss_has f j n := if_neg (fun e => hj e.symm)
      simp only [e])
    have c : ss_has f (f n) (n + 1) = true := if_pos rfl
    have d : ¬ ss_has f (f n) n = true := by
      rw [ss_has_iff]
      rintro ⟨k, hk, e⟩
      exact hd k n hk (by omega) e
    simp only [c, d, if_true, if_false] at b
    rw [a] at b
    simpa using b
theorem ss_has_le {f : Nat → Nat} {m n : Nat} (hb : ∀ k, k < n → f k < m) (hd : ∀ k l, k < l → l < n → f k ≠ f l) : n ≤ m := by
  have a := ss_has_cnt n hb hd
  have b := ss_sm_le (f := fun x => if ss_has f x n = true then 1 else 0) (g := fun _ => 1) m (by
    intro j _
    show (if ss_has f j n = true then 1 else 0) ≤ 1
    split <;> omega)
  rw [ss_sm_cst] at b
  omega
def ss_last (p : Nat → Bool) : Nat → Nat
  | 0 => 0
  | n + 1 => if p n = true then ss_last p n else n
theorem ss_last_ok {p : Nat → Bool} : ∀ n, (∃ i, i < n ∧ p i = false) → ss_last p n < n ∧ p (ss_last p n) = false := by
  intro n
  induction n with
  | zero => rintro ⟨i, hi, _⟩; omega
  | succ n ih =>
    rintro ⟨i, hi, hp⟩
    show (if p n = true then ss_last p n else n) < n + 1 ∧ p (if p n = true then ss_last p n else n) = false
    by_cases e : p n = true
    · rw [if_pos e]
      have hin : i ≠ n := by intro h; subst h; rw [e] at hp; exact nomatch hp
      obtain ⟨a, b⟩ := ih ⟨i, by omega, hp⟩
      exact ⟨by omega, b⟩
    · rw [if_neg e]
      exact ⟨by omega, by cases h : p n with | true => exact absurd h e | false => rfl⟩
end
section
/-! records of extensions and frames, use counts, sharers, used cells -/
/-- an extension: frame, access, control, label, input, room, number of temporaries, these -/
abbrev ss_ER : Type := Nat × Option Nat × Option Nat × Int32 × Int32 × Nat × Nat × (Nat → Int32)
/-- a basic frame: room, number of bindings, names, values -/
abbrev ss_FR : Type := Nat × Nat × (Nat → Nat) × (Nat → Int32)
def ss_fr (r : ss_ER) : Nat := r.1
def ss_ac (r : ss_ER) : Option Nat := r.2.1
def ss_co (r : ss_ER) : Option Nat := r.2.2.1
def ss_lb (r : ss_ER) : Int32 := r.2.2.2.1
def ss_in (r : ss_ER) : Int32 := r.2.2.2.2.1
def ss_rm (r : ss_ER) : Nat := r.2.2.2.2.2.1
def ss_tn (r : ss_ER) : Nat := r.2.2.2.2.2.2.1
def ss_tp (r : ss_ER) : Nat → Int32 := r.2.2.2.2.2.2.2
def ss_br (r : ss_FR) : Nat := r.1
def ss_nn (r : ss_FR) : Nat := r.2.1
def ss_nm (r : ss_FR) : Nat → Nat := r.2.2.1
def ss_vl (r : ss_FR) : Nat → Int32 := r.2.2.2
def ss_oE (E : Nat → Nat) : Option Nat → Int32
  | none => -1
  | some j => nI (E j)
def ss_q (o : Option Nat) (i : Nat) : Nat := if o = some i then 1 else 0
theorem ss_q_s {i : Nat} : ss_q (some i) i = 1 := if_pos rfl
theorem ss_q_n {o : Option Nat} {i : Nat} (h : o ≠ some i) : ss_q o i = 0 := if_neg h
theorem ss_q_le (o : Option Nat) (i : Nat) : ss_q o i ≤ 1 := by
  unfold ss_q; split <;> omega
theorem ss_q_pos {o : Option Nat} {i : Nat} (h : 0 < ss_q o i) : o = some i := by
  unfold ss_q at h
  split at h
  · assumption
  · omega
theorem ss_q_no (i : Nat) : ss_q none i = 0 := if_neg (fun h => nomatch h)
/-- what an extension counts for i -/
def ss_lk (Lv : Nat → Bool) (Xd : Nat → ss_ER) (i : Nat) (j : Nat) : Nat := if Lv j = true then ss_q (ss_ac (Xd j)) i + ss_q (ss_co (Xd j)) i else 0
def ss_cnt (hd : Nat → Option Nat) (cur : Option Nat) (Lv : Nat → Bool) (Xd : Nat → ss_ER) (i : Nat) : Nat :=
  ss_q cur i + ss_sm (fun h => ss_q (hd h) i) 8 + ss_sm (ss_lk Lv Xd i) 32
def ss_sh (Lv : Nat → Bool) (Xd : Nat → ss_ER) (f : Nat) (j : Nat) : Nat := if Lv j = true then (if ss_fr (Xd j) = f then 1 else 0) else 0
def ss_shr (Lv : Nat → Bool) (Xd : Nat → ss_ER) (f : Nat) : Nat := ss_sm (ss_sh Lv Xd f) 32
def ss_ue (Lv : Nat → Bool) (Xd : Nat → ss_ER) (j : Nat) : Nat := if Lv j = true then 8 + ss_rm (Xd j) else 0
def ss_uf (Fv : Nat → Bool) (Fd : Nat → ss_FR) (f : Nat) : Nat := if Fv f = true then 3 + 2 * ss_br (Fd f) else 0
def ss_us (Lv Fv : Nat → Bool) (Xd : Nat → ss_ER) (Fd : Nat → ss_FR) : Nat := ss_sm (ss_ue Lv Xd) 32 + ss_sm (ss_uf Fv Fd) 32
section
variable {hd : Nat → Option Nat} {cur : Option Nat} {Lv Fv : Nat → Bool} {Xd : Nat → ss_ER} {Fd : Nat → ss_FR}
theorem ss_lk_le (i j : Nat) : ss_lk Lv Xd i j ≤ 2 := by
  unfold ss_lk
  have a := ss_q_le (ss_ac (Xd j)) i
  have b := ss_q_le (ss_co (Xd j)) i
  split <;> omega
theorem ss_cnt_le (i : Nat) : ss_cnt hd cur Lv Xd i ≤ 73 := by
  unfold ss_cnt
  have a := ss_q_le cur i
  have b := ss_sm_le (f := fun h => ss_q (hd h) i) (g := fun _ => 1) 8 (fun j _ => ss_q_le _ _)
  have c := ss_sm_le (f := ss_lk Lv Xd i) (g := fun _ => 2) 32 (fun j _ => ss_lk_le i j)
  rw [ss_sm_cst] at b c
  omega
theorem ss_shr_le (f : Nat) : ss_shr Lv Xd f ≤ 32 := by
  unfold ss_shr
  have c := ss_sm_le (f := ss_sh Lv Xd f) (g := fun _ => 1) 32 (fun j _ => by
    show ss_sh Lv Xd f j ≤ 1
    unfold ss_sh
    split
    · split <;> omega
    · omega)
  rw [ss_sm_cst] at c
  omega
/-- an extension goes -/
theorem ss_cnt_del {d : Nat} (hd32 : d < 32) (hl : Lv d = true) (i : Nat) :
    ss_cnt hd cur Lv Xd i = ss_cnt hd cur (ss_set Lv d false) Xd i + ss_q (ss_ac (Xd d)) i + ss_q (ss_co (Xd d)) i := by
  have a := ss_sm_1 (f := ss_lk Lv Xd i) (g := ss_lk (ss_set Lv d false) Xd i) (k := d) 32 hd32 (by
    intro j _ hj
    unfold ss_lk
    rw [ss_set_n hj])
  have b : ss_lk Lv Xd i d = ss_q (ss_ac (Xd d)) i + ss_q (ss_co (Xd d)) i := if_pos hl
  have c : ss_lk (ss_set Lv d false) Xd i d = 0 := if_neg (by rw [ss_set_s]; exact fun h => nomatch h)
  unfold ss_cnt
  omega
theorem ss_shr_del {d : Nat} (hd32 : d < 32) (hl : Lv d = true) (f : Nat) :
    ss_shr Lv Xd f = ss_shr (ss_set Lv d false) Xd f + ss_q (some (ss_fr (Xd d))) f := by
  have a := ss_sm_1 (f := ss_sh Lv Xd f) (g := ss_sh (ss_set Lv d false) Xd f) (k := d) 32 hd32 (by
    intro j _ hj
    unfold ss_sh
    rw [ss_set_n hj])
  have b : ss_sh Lv Xd f d = ss_q (some (ss_fr (Xd d))) f := by
    unfold ss_sh ss_q
    rw [if_pos hl]
    by_cases e : ss_fr (Xd d) = f
    · rw [if_pos e, if_pos (by rw [e])]
    · rw [if_neg e, if_neg (fun h => e (Option.some.inj h))]
  have c : ss_sh (ss_set Lv d false) Xd f d = 0 := if_neg (by rw [ss_set_s]; exact fun h => nomatch h)
  unfold ss_shr
  omega
theorem ss_us_delE {d : Nat} (hd32 : d < 32) (hl : Lv d = true) :
    ss_us Lv Fv Xd Fd = ss_us (ss_set Lv d false) Fv Xd Fd + (8 + ss_rm (Xd d)) := by
  have a := ss_sm_1 (f := ss_ue Lv Xd) (g := ss_ue (ss_set Lv d false) Xd) (k := d) 32 hd32 (by
    intro j _ hj
    unfold ss_ue
    rw [ss_set_n hj])
  have b : ss_ue Lv Xd d = 8 + ss_rm (Xd d) := if_pos hl
  have c : ss_ue (ss_set Lv d false) Xd d = 0 := if_neg (by rw [ss_set_s]; exact fun h => nomatch h)
  unfold ss_us
  omega
theorem ss_us_delF {d : Nat} (hd32 : d < 32) (hl : Fv d = true) :
    ss_us Lv Fv Xd Fd = ss_us Lv (ss_set Fv d false) Xd Fd + (3 + 2 * ss_br (Fd d)) := by
  have a := ss_sm_1 (f := ss_uf Fv Fd) (g := ss_uf (ss_set Fv d false) Fd) (k := d) 32 hd32 (by
    intro j _ hj
    unfold ss_uf
    rw [ss_set_n hj])
  have b : ss_uf Fv Fd d = 3 + 2 * ss_br (Fd d) := if_pos hl
  have c : ss_uf (ss_set Fv d false) Fd d = 0 := if_neg (by rw [ss_set_s]; exact fun h => nomatch h)
  unfold ss_us
  omega
/-- a new extension x with record r -/
theorem ss_cnt_new {x : Nat} (r : ss_ER) (hx : x < 32) (hl : Lv x = false) (i : Nat) :
    ss_cnt hd cur (ss_set Lv x true) (ss_set Xd x r) i = ss_cnt hd cur Lv Xd i + ss_q (ss_ac r) i + ss_q (ss_co r) i := by
  have a := ss_sm_1 (f := ss_lk Lv Xd i) (g := ss_lk (ss_set Lv x true) (ss_set Xd x r) i) (k := x) 32 hx (by
    intro j _ hj
    unfold ss_lk
    rw [ss_set_n hj, ss_set_n hj])
  have b : ss_lk Lv Xd i x = 0 := if_neg (by rw [hl]; exact fun h => nomatch h)
  have c : ss_lk (ss_set Lv x true) (ss_set Xd x r) i x = ss_q (ss_ac r) i + ss_q (ss_co r) i := by
    unfold ss_lk
    rw [ss_set_s, ss_set_s, if_pos rfl]
  unfold ss_cnt
  omega
theorem ss_shr_new {x : Nat} (r : ss_ER) (hx : x < 32) (hl : Lv x = false) (f : Nat) :
    ss_shr (ss_set Lv x true) (ss_set Xd x r) f = ss_shr Lv Xd f + ss_q (some (ss_fr r)) f := by
  have a := ss_sm_1 (f := ss_sh Lv Xd f) (g := ss_sh (ss_set Lv x true) (ss_set Xd x r) f) (k := x) 32 hx (by
    intro j _ hj
    unfold ss_sh
    rw [ss_set_n hj, ss_set_n hj])
  have b : ss_sh Lv Xd f x = 0 := if_neg (by rw [hl]; exact fun h => nomatch h)
  have c : ss_sh (ss_set Lv x true) (ss_set Xd x r) f x = ss_q (some (ss_fr r)) f := by
    unfold ss_sh ss_q
    rw [ss_set_s, ss_set_s, if_pos rfl]
    by_cases e : ss_fr r = f
    · rw [if_pos e, if_pos (by rw [e])]
    · rw [if_neg e, if_neg (fun h => e (Option.some.inj h))]
  unfold ss_shr
  omega
theorem ss_us_newE {x : Nat} (r : ss_ER) (hx : x < 32) (hl : Lv x = false) :
    ss_us (ss_set Lv x true) Fv (ss_set Xd x r) Fd = ss_us Lv Fv Xd Fd + (8 + ss_rm r) := by
  have a := ss_sm_1 (f := ss_ue Lv Xd) (g := ss_ue (ss_set Lv x true) (ss_set Xd x r)) (k := x) 32 hx (by
    intro j _ hj
    unfold ss_ue
    rw [ss_set_n hj, ss_set_n hj])
  have b : ss_ue Lv Xd x = 0 := if_neg (by rw [hl]; exact fun h => nomatch h)
  have c : ss_ue (ss_set Lv x true) (ss_set Xd x r) x = 8 + ss_rm r := by
    unfold ss_ue
    rw [ss_set_s, ss_set_s, if_pos rfl]
  unfold ss_us
  omega
theorem ss_us_newF {x : Nat} (r : ss_FR) (hx : x < 32) (hl : Fv x = false) :
    ss_us Lv (ss_set Fv x true) Xd (ss_set Fd x r) = ss_us Lv Fv Xd Fd + (3 + 2 * ss_br r) := by
  have a := ss_sm_1 (f := ss_uf Fv Fd) (g := ss_uf (ss_set Fv x true) (ss_set Fd x r)) (k := x) 32 hx (by
    intro j _ hj
    unfold ss_uf
    rw [ss_set_n hj, ss_set_n hj])
  have b : ss_uf Fv Fd x = 0 := if_neg (by rw [hl]; exact fun h => nomatch h)
  have c : ss_uf (ss_set Fv x true) (ss_set Fd x r) x = 3 + 2 * ss_br r := by
    unfold ss_uf
    rw [ss_set_s, ss_set_s, if_pos rfl]
  unfold ss_us
  omega
/-- the record of one extension changes, but not its links -/
theorem ss_cnt_dat {x : Nat} {r : ss_ER} (ha : ss_ac r = ss_ac (Xd x)) (hc : ss_co r = ss_co (Xd x)) (i : Nat) :
    ss_cnt hd cur Lv (ss_set Xd x r) i = ss_cnt hd cur Lv Xd i := by
  unfold ss_cnt
  rw [ss_sm_c (f := ss_lk Lv (ss_set Xd x r) i) (g := ss_lk Lv Xd i) 32 (by
    intro j _
    unfold ss_lk
    by_cases e : j = x
    · subst e; rw [ss_set_s, ha, hc]
    · rw [ss_set_n e])]
theorem ss_shr_dat {x : Nat} {r : ss_ER} (ha : ss_fr r = ss_fr (Xd x)) (f : Nat) :
    ss_shr Lv (ss_set Xd x r) f = ss_shr Lv Xd f := by
  unfold ss_shr
  rw [ss_sm_c (f := ss_sh Lv (ss_set Xd x r) f) (g := ss_sh Lv Xd f) 32 (by
    intro j _
    unfold ss_sh
    by_cases e : j = x
    · subst e; rw [ss_set_s, ha]
    · rw [ss_set_n e])]
theorem ss_us_datE {x : Nat} {r : ss_ER} (ha : ss_rm r = ss_rm (Xd x)) :
    ss_us Lv Fv (ss_set Xd x r) Fd = ss_us Lv Fv Xd Fd := by
  unfold ss_us
  rw [ss_sm_c (f := ss_ue Lv (ss_set Xd x r)) (g := ss_ue Lv Xd) 32 (by
    intro j _
    unfold ss_ue
    by_cases e : j = x
    · subst e; rw [ss_set_s, ha]
    · rw [ss_set_n e])]
theorem ss_us_datF {x : Nat} {r : ss_FR} (ha : ss_br r = ss_br (Fd x)) :
    ss_us Lv Fv Xd (ss_set Fd x r) = ss_us Lv Fv Xd Fd := by
  unfold ss_us
  rw [ss_sm_c (f := ss_uf Fv (ss_set Fd x r)) (g := ss_uf Fv Fd) 32 (by
    intro j _
    unfold ss_uf
    by_cases e : j = x
    · subst e; rw [ss_set_s, ha]
    · rw [ss_set_n e])]
/-- a slot changes -/
theorem ss_cnt_hd {h : Nat} {o : Option Nat} (hh : h < 8) (i : Nat) :
    ss_cnt (ss_set hd h o) cur Lv Xd i + ss_q (hd h) i = ss_cnt hd cur Lv Xd i + ss_q o i := by
  have a := ss_sm_1 (f := fun k => ss_q (ss_set hd h o k) i) (g := fun k => ss_q (hd k) i) (k := h) 8 hh (by
    intro j _ hj
    show ss_q (ss_set hd h o j) i = ss_q (hd j) i
    rw [ss_set_n hj])
  rw [ss_set_s] at a
  unfold ss_cnt
  omega
theorem ss_cnt_cur {o : Option Nat} (i : Nat) :
    ss_cnt hd o Lv Xd i + ss_q cur i = ss_cnt hd cur Lv Xd i + ss_q o i := by
  unfold ss_cnt
  omega
theorem ss_cnt_pos {i : Nat} (h : 0 < ss_cnt hd cur Lv Xd i) : cur = some i ∨ (∃ k, k < 8 ∧ hd k = some i) ∨ ∃ j, j < 32 ∧ Lv j = true ∧ (ss_ac (Xd j) = some i ∨ ss_co (Xd j) = some i) := by
  unfold ss_cnt at h
  by_cases a : 0 < ss_q cur i
  · exact Or.inl (ss_q_pos a)
  · by_cases b : 0 < ss_sm (fun h => ss_q (hd h) i) 8
    · obtain ⟨k, hk, hq⟩ := ss_sm_pos 8 b
      exact Or.inr (Or.inl ⟨k, hk, ss_q_pos hq⟩)
    · obtain ⟨j, hj, hq⟩ := ss_sm_pos (f := ss_lk Lv Xd i) 32 (by omega)
      unfold ss_lk at hq
      split at hq
      · refine Or.inr (Or.inr ⟨j, hj, by assumption, ?_⟩)
        by_cases c : 0 < ss_q (ss_ac (Xd j)) i
        · exact Or.inl (ss_q_pos c)
        · exact Or.inr (ss_q_pos (by omega))
      · omega
/-- a used frame's sharer -/
theorem ss_shr_pos {f : Nat} (h : 0 < ss_shr Lv Xd f) : ∃ j, j < 32 ∧ Lv j = true ∧ ss_fr (Xd j) = f := by
  obtain ⟨j, hj, hq⟩ := ss_sm_pos 32 h
  unfold ss_sh at hq
  split at hq
  · split at hq
    · exact ⟨j, hj, by assumption, by assumption⟩
    · omega
  · omega
theorem ss_shr_of {j : Nat} (hj : j < 32) (hl : Lv j = true) : 0 < ss_shr Lv Xd (ss_fr (Xd j)) := by
  have a := ss_sm_ge (f := ss_sh Lv Xd (ss_fr (Xd j))) 32 hj
  have b : ss_sh Lv Xd (ss_fr (Xd j)) j = 1 := by
    unfold ss_sh
    rw [if_pos hl, if_pos rfl]
  unfold ss_shr
  omega
theorem ss_us_ge {j : Nat} (hj : j < 32) (hl : Lv j = true) : 8 ≤ ss_us Lv Fv Xd Fd := by
  have a := ss_sm_ge (f := ss_ue Lv Xd) 32 hj
  have b : ss_ue Lv Xd j = 8 + ss_rm (Xd j) := if_pos hl
  unfold ss_us
  omega
/-- when the used cells fit, a place is free -/
theorem ss_free {n : Nat} (h : ss_us Lv Fv Xd Fd ≤ n) (hn : n < 256) : ∃ i, i < 32 ∧ Lv i = false := by
  by_cases e : ∃ i, i < 32 ∧ Lv i = false
  · exact e
  · have a := ss_sm_le (f := fun _ => 8) (g := ss_ue Lv Xd) 32 (by
      intro j hj
      show 8 ≤ ss_ue Lv Xd j
      have b : Lv j = true := by
        cases c : Lv j with
        | true => rfl
        | false => exact absurd ⟨j, hj, c⟩ e
      unfold ss_ue
      rw [if_pos b]
      omega)
    rw [ss_sm_cst] at a
    unfold ss_us at h
    omega
/-- and a frame's place, too -/
theorem ss_freeF {n : Nat} (h : ss_us Lv Fv Xd Fd ≤ n) (hn : n < 256) : ∃ f, f < 32 ∧ ss_shr Lv Xd f = 0 := by
  by_cases e : ∃ f, f < 32 ∧ ss_shr Lv Xd f = 0
  · exact e
  · have a := ss_sm_le (f := fun _ => 1) (g := ss_shr Lv Xd) 32 (by
      intro j hj
      show 1 ≤ ss_shr Lv Xd j
      by_cases c : ss_shr Lv Xd j = 0
      · exact absurd ⟨j, hj, c⟩ e
      · omega)
    have b : ss_sm (ss_shr Lv Xd) 32 ≤ ss_sm (fun j => if Lv j = true then 1 else 0) 32 := by
      show ss_sm (fun f => ss_sm (fun j => ss_sh Lv Xd f j) 32) 32 ≤ _
      rw [ss_sm_swap]
      apply ss_sm_le
      intro j hj
      show ss_sm (fun f => ss_sh Lv Xd f j) 32 ≤ if Lv j = true then 1 else 0
      by_cases c : Lv j = true
      · rw [if_pos c]
        by_cases g : ss_fr (Xd j) < 32
        · rw [ss_sm_ind (k := ss_fr (Xd j)) g (fun f => ss_sh Lv Xd f j) (by
            show ss_sh Lv Xd (ss_fr (Xd j)) j = 1
            unfold ss_sh; rw [if_pos c, if_pos rfl]) (by
            intro f hf
            show ss_sh Lv Xd f j = 0
            unfold ss_sh; rw [if_pos c, if_neg (fun z => hf z.symm)])]
          omega
        · rw [ss_sm_c (g := fun _ => 0) 32 (by
            intro f hf
            show ss_sh Lv Xd f j = 0
            unfold ss_sh; rw [if_pos c, if_neg (by omega)]), ss_sm_cst]
          omega
      · rw [if_neg c, ss_sm_c (g := fun _ => 0) 32 (by
            intro f hf
            show ss_sh Lv Xd f j = 0
            unfold ss_sh; rw [if_neg c]), ss_sm_cst]
        omega
    have d : 8 * ss_sm (fun j => if Lv j = true then 1 else 0) 32 ≤ ss_sm (ss_ue Lv Xd) 32 := by
      have : ∀ n, 8 * ss_sm (fun j => if Lv j = true then 1 else 0) n ≤ ss_sm (ss_ue Lv Xd) n := by
        intro n
        induction n with
        | zero => exact Nat.le_refl _
        | succ n ih =>
          show 8 * (ss_sm (fun j => if Lv j = true then 1 else 0) n + (if Lv n = true then 1 else 0)) ≤ ss_sm (ss_ue Lv Xd) n + ss_ue Lv Xd n
          unfold ss_ue at ih ⊢
          by_cases c : Lv n = true
          · rw [if_pos c, if_pos c]; omega
          · rw [if_neg c, if_neg c]; omega
      exact this 32
    rw [ss_sm_cst] at a
    unfold ss_us at h
    omega
end
end
section
/-! the layout of X's store and the picture of the blocks in it -/
def ss_Lay (z : Nat → Nat) : List Nat → Nat → Nat → Prop
  | [], a, t => a = t
  | b :: r, a, t => b = a ∧ 3 ≤ z a ∧ z a ≤ 12 ∧ ss_Lay z r (a + z a) t
theorem ss_Lay_le {z : Nat → Nat} {t : Nat} : ∀ {L : List Nat} {a : Nat}, ss_Lay z L a t → a ≤ t := by
  intro L
  induction L with
  | nil => intro a h; exact Nat.le_of_eq h
  | cons b r ih =>
    rintro a ⟨rfl, h3, h12, h⟩
    have := ih h
    omega
theorem ss_Lay_0 {z : Nat → Nat} {t : Nat} : ∀ {L : List Nat} {a : Nat}, ss_Lay z L a t → a ∈ L ∨ a = t := by
  intro L
  cases L with
  | nil => intro a h; exact Or.inr h
  | cons b r =>
    rintro a ⟨rfl, h3, h12, h⟩
    exact Or.inl (List.mem_cons_self)
theorem ss_Lay_in {z : Nat → Nat} {t : Nat} : ∀ {L : List Nat} {a : Nat}, ss_Lay z L a t → ∀ b, b ∈ L → a ≤ b ∧ b + z b ≤ t ∧ 3 ≤ z b ∧ z b ≤ 12 ∧ (b + z b ∈ L ∨ b + z b = t) := by
  intro L
  induction L with
  | nil => intro a h b hb; exact nomatch hb
  | cons c r ih =>
    rintro a ⟨rfl, h3, h12, h⟩ b hb
    rcases List.mem_cons.mp hb with e | e
    · subst e
      refine ⟨Nat.le_refl _, ss_Lay_le h, h3, h12, ?_⟩
      rcases ss_Lay_0 h with g | g
      · exact Or.inl (List.mem_cons_of_mem _ g)
      · exact Or.inr g
    · obtain ⟨i1, i2, i3, i4, i5⟩ := ih h b e
      refine ⟨by omega, i2, i3, i4, ?_⟩
      rcases i5 with g | g
      · exact Or.inl (List.mem_cons_of_mem _ g)
      · exact Or.inr g
theorem ss_Lay_dis {z : Nat → Nat} {t : Nat} : ∀ {L : List Nat} {a : Nat}, ss_Lay z L a t → ∀ b c, b ∈ L → c ∈ L → b < c → b + z b ≤ c := by
  intro L
  induction L with
  | nil => intro a h b c hb; exact nomatch hb
  | cons d r ih =>
    rintro a ⟨rfl, h3, h12, h⟩ b c hb hc hlt
    rcases List.mem_cons.mp hb with e | e
    · subst e
      rcases List.mem_cons.mp hc with g | g
      · omega
      · exact (ss_Lay_in h c g).1
    · rcases List.mem_cons.mp hc with g | g
      · subst g
        have := (ss_Lay_in h b e).1
        omega
      · exact ih h b c e g hlt
theorem ss_Lay_app {z z' : Nat → Nat} {t : Nat} : ∀ {L : List Nat} {a : Nat}, ss_Lay z L a t → (∀ b, b ∈ L → z' b = z b) → 3 ≤ z' t → z' t ≤ 12 → ss_Lay z' (L ++ [t]) a (t + z' t) := by
  intro L
  induction L with
  | nil =>
    intro a h _ h3 h12
    have e : a = t := h
    subst e
    exact ⟨rfl, h3, h12, rfl⟩
  | cons d r ih =>
    rintro a ⟨rfl, h3, h12, h⟩ hz g3 g12
    have e := hz d (List.mem_cons_self)
    refine ⟨rfl, by omega, by omega, ?_⟩
    rw [e]
    exact ih h (fun b hb => hz b (List.mem_cons_of_mem _ hb)) g3 g12
theorem ss_Lay_ind {z : Nat → Nat} {t : Nat} (P : Nat → Prop) : ∀ {L : List Nat} {a : Nat}, ss_Lay z L a t → P a → (∀ b, b ∈ L → P b → P (b + z b)) → ∀ b, b ∈ L ∨ b = t → P b := by
  intro L
  induction L with
  | nil =>
    intro a h h0 _ b hb
    have e : a = t := h
    rcases hb with g | g
    · exact nomatch g
    · rw [g, ← e]; exact h0
  | cons d r ih =>
    rintro a ⟨rfl, h3, h12, h⟩ h0 hs b hb
    have h1 := hs d (List.mem_cons_self) h0
    have k := ih h h1 (fun c hc => hs c (List.mem_cons_of_mem _ hc))
    rcases hb with g | g
    · rcases List.mem_cons.mp g with e | e
      · rw [e]; exact h0
      · exact k b (Or.inl e)
    · exact k b (Or.inr g)
/-- a header and the size that it tells -/
def ss_hd (x : Int32) (n : Nat) : Prop := (∃ m, m ≤ 4 ∧ x = nI m ∧ n = 3 + 2 * m) ∨ (∃ m, m ≤ 4 ∧ x = nI (8 + m) ∧ n = 8 + m)
def ss_Hd (L : List Nat) (z : Nat → Nat) (s : Nat → Int32) : Prop := ∀ a, a ∈ L → ss_hd (s a) (z a)
/-- an extension's cells -/
def ss_XC (s : Nat → Int32) (E F : Nat → Nat) (a : Nat) (r : ss_ER) (u : Nat) : Prop :=
  s a = nI (8 + ss_rm r) ∧ s (a + 1) = nI u ∧ s (a + 2) = nI (F (ss_fr r)) ∧ s (a + 3) = ss_oE E (ss_ac r) ∧ s (a + 4) = ss_oE E (ss_co r) ∧
  s (a + 5) = ss_lb r ∧ s (a + 6) = ss_in r ∧ s (a + 7) = nI (ss_tn r) ∧ ∀ k, k < ss_tn r → s (a + 8 + k) = ss_tp r k
/-- a frame's cells -/
def ss_FC (s : Nat → Int32) (a : Nat) (r : ss_FR) (u : Nat) : Prop :=
  s a = nI (ss_br r) ∧ s (a + 1) = nI u ∧ s (a + 2) = nI (ss_nn r) ∧ ∀ k, k < ss_nn r → s (a + 3 + 2 * k) = nI (ss_nm r k) ∧ s (a + 3 + 2 * k + 1) = ss_vl r k
def ss_EW (r : ss_ER) : Prop := ss_tn r ≤ ss_rm r ∧ ss_rm r ≤ 4
def ss_FW (r : ss_FR) : Prop := ss_nn r ≤ ss_br r ∧ ss_br r ≤ 4 ∧ (∀ k, k < ss_nn r → ss_nm r k < 32) ∧ (∀ k l, k < l → l < ss_nn r → ss_nm r k ≠ ss_nm r l)
def ss_RE (L : List Nat) (z E F : Nat → Nat) (Lv : Nat → Bool) (Xd : Nat → ss_ER) (cu : Nat → Nat) (s : Nat → Int32) : Prop :=
  ∀ i, Lv i = true → E i ∈ L ∧ z (E i) = 8 + ss_rm (Xd i) ∧ ss_EW (Xd i) ∧ ss_XC s E F (E i) (Xd i) (cu i)
def ss_RF (L : List Nat) (z F : Nat → Nat) (Fv : Nat → Bool) (Fd : Nat → ss_FR) (fu : Nat → Nat) (s : Nat → Int32) : Prop :=
  ∀ f, Fv f = true → F f ∈ L ∧ z (F f) = 3 + 2 * ss_br (Fd f) ∧ ss_FW (Fd f) ∧ ss_FC s (F f) (Fd f) (fu f)
def ss_RI (E F : Nat → Nat) (Lv Fv : Nat → Bool) : Prop :=
  (∀ i j, Lv i = true → Lv j = true → E i = E j → i = j) ∧ (∀ f g, Fv f = true → Fv g = true → F f = F g → f = g) ∧ (∀ i f, Lv i = true → Fv f = true → E i ≠ F f)
def ss_RD (L : List Nat) (E F : Nat → Nat) (Lv Fv : Nat → Bool) (s : Nat → Int32) : Prop :=
  ∀ a, a ∈ L → s (a + 1) = 0 ∨ (∃ i, Lv i = true ∧ a = E i) ∨ (∃ f, Fv f = true ∧ a = F f)
def ss_RS (L : List Nat) (z E F : Nat → Nat) (Lv Fv : Nat → Bool) (Xd : Nat → ss_ER) (Fd : Nat → ss_FR) (cu fu : Nat → Nat) (t : Nat) (s : Nat → Int32) : Prop :=
  ss_Lay z L 0 t ∧ ss_Hd L z s ∧ ss_RE L z E F Lv Xd cu s ∧ ss_RF L z F Fv Fd fu s ∧ ss_RI E F Lv Fv ∧ ss_RD L E F Lv Fv s
section
variable {s s' : Nat → Int32} {E F E' F' : Nat → Nat} {a u : Nat} {r : ss_ER} {g : ss_FR}
theorem ss_XC_f (h : ss_XC s E F a r u) (w : ss_EW r) (hs : ∀ p, a ≤ p → p < a + (8 + ss_rm r) → s' p = s p) : ss_XC s' E F a r u := by
  obtain ⟨h0, h1, h2, h3, h4, h5, h6, h7, h8⟩ := h
  have w1 := w.1
  refine ⟨?_, ?_, ?_, ?_, ?_, ?_, ?_, ?_, ?_⟩
  · rw [hs a (by omega) (by omega)]; exact h0
  · rw [hs _ (by omega) (by omega)]; exact h1
  · rw [hs _ (by omega) (by omega)]; exact h2
  · rw [hs _ (by omega) (by omega)]; exact h3
  · rw [hs _ (by omega) (by omega)]; exact h4
  · rw [hs _ (by omega) (by omega)]; exact h5
  · rw [hs _ (by omega) (by omega)]; exact h6
  · rw [hs _ (by omega) (by omega)]; exact h7
  · intro k hk
    rw [hs _ (by omega) (by omega)]; exact h8 k hk
theorem ss_FC_f (h : ss_FC s a g u) (w : ss_FW g) (hs : ∀ p, a ≤ p → p < a + (3 + 2 * ss_br g) → s' p = s p) : ss_FC s' a g u := by
  obtain ⟨h0, h1, h2, h8⟩ := h
  have w1 := w.1
  refine ⟨?_, ?_, ?_, ?_⟩
  · rw [hs a (by omega) (by omega)]; exact h0
  · rw [hs _ (by omega) (by omega)]; exact h1
  · rw [hs _ (by omega) (by omega)]; exact h2
  · intro k hk
    rw [hs _ (by omega) (by omega), hs _ (by omega) (by omega)]; exact h8 k hk
theorem ss_oE_c {o : Option Nat} (h : ∀ j, o = some j → E' j = E j) : ss_oE E' o = ss_oE E o := by
  cases o with
  | none => rfl
  | some j => show nI (E' j) = nI (E j); rw [h j rfl]
theorem ss_XC_c (h : ss_XC s E F a r u) (hf : F' (ss_fr r) = F (ss_fr r)) (ha : ∀ j, ss_ac r = some j → E' j = E j) (hc : ∀ j, ss_co r = some j → E' j = E j) : ss_XC s E' F' a r u := by
  obtain ⟨h0, h1, h2, h3, h4, h5, h6, h7, h8⟩ := h
  exact ⟨h0, h1, by rw [hf]; exact h2, by rw [ss_oE_c ha]; exact h3, by rw [ss_oE_c hc]; exact h4, h5, h6, h7, h8⟩
end
section
variable {L : List Nat} {z E F : Nat → Nat} {Lv Fv : Nat → Bool} {Xd : Nat → ss_ER} {Fd : Nat → ss_FR} {cu fu cu' fu' : Nat → Nat} {t : Nat} {s s' : Nat → Int32}
theorem ss_RS_cu (h : ss_RS L z E F Lv Fv Xd Fd cu fu t s) (hc : ∀ i, Lv i = true → cu' i = cu i) (hf : ∀ f, Fv f = true → fu' f = fu f) : ss_RS L z E F Lv Fv Xd Fd cu' fu' t s := by
  obtain ⟨h1, h2, h3, h4, h5, h6⟩ := h
  refine ⟨h1, h2, ?_, ?_, h5, h6⟩
  · intro i hi
    rw [hc i hi]; exact h3 i hi
  · intro f hi
    rw [hf f hi]; exact h4 f hi
/-- one extension's cells change -/
theorem ss_RS_ext {j n : Nat} {r' : ss_ER} (h : ss_RS L z E F Lv Fv Xd Fd cu fu t s) (hj : Lv j = true) (hs : ∀ p, (p < E j ∨ E j + z (E j) ≤ p) → s' p = s p) (hx : ss_XC s' E F (E j) r' n) (hw : ss_EW r') (hr : ss_rm r' = ss_rm (Xd j)) :
    ss_RS L z E F Lv Fv (ss_set Xd j r') Fd (ss_set cu j n) fu t s' := by
  obtain ⟨h1, h2, h3, h4, h5, h6⟩ := h
  obtain ⟨j1, j2, j3, j4⟩ := h3 j hj
  have far : ∀ b, b ∈ L → b ≠ E j → ∀ p, b ≤ p → p < b + z b → s' p = s p := by
    intro b hb hn p hp hq
    apply hs
    by_cases e : b < E j
    · have := ss_Lay_dis h1 b (E j) hb j1 e; omega
    · have := ss_Lay_dis h1 (E j) b j1 hb (by omega); omega
  refine ⟨h1, ?_, ?_, ?_, h5, ?_⟩
  · intro b hb
    by_cases e : b = E j
    · rw [e, j2, ← hr, hx.1]
      exact Or.inr ⟨ss_rm r', hw.2, rfl, rfl⟩
    · have := (ss_Lay_in h1 b hb).2.2.1
      rw [far b hb e b (by omega) (by omega)]
      exact h2 b hb
  · intro i hi
    by_cases e : i = j
    · subst e
      rw [ss_set_s, ss_set_s, hr]
      exact ⟨j1, j2, hw, hx⟩
    · rw [ss_set_n e, ss_set_n e]
      obtain ⟨i1, i2, i3, i4⟩ := h3 i hi
      refine ⟨i1, i2, i3, ss_XC_f i4 i3 ?_⟩
      intro p hp hq
      exact far (E i) i1 (fun z => e (h5.1 i j hi hj z)) p hp (by omega)
  · intro f hf
    obtain ⟨i1, i2, i3, i4⟩ := h4 f hf
    refine ⟨i1, i2, i3, ss_FC_f i4 i3 ?_⟩
    intro p hp hq
    exact far (F f) i1 (fun z => h5.2.2 j f hj hf z.symm) p hp (by omega)
  · intro b hb
    by_cases e : b = E j
    · exact Or.inr (Or.inl ⟨j, hj, e⟩)
    · have := (ss_Lay_in h1 b hb).2.2.1
      rw [far b hb e (b + 1) (by omega) (by omega)]
      exact h6 b hb
/-- one frame's cells change -/
theorem ss_RS_frm {j n : Nat} {r' : ss_FR} (h : ss_RS L z E F Lv Fv Xd Fd cu fu t s) (hj : Fv j = true) (hs : ∀ p, (p < F j ∨ F j + z (F j) ≤ p) → s' p = s p) (hx : ss_FC s' (F j) r' n) (hw : ss_FW r') (hr : ss_br r' = ss_br (Fd j)) :
    ss_RS L z E F Lv Fv Xd (ss_set Fd j r') cu (ss_set fu j n) t s' := by
  obtain ⟨h1, h2, h3, h4, h5, h6⟩ := h
  obtain ⟨j1, j2, j3, j4⟩ := h4 j hj
  have far : ∀ b, b ∈ L → b ≠ F j → ∀ p, b ≤ p → p < b + z b → s' p = s p := by
    intro b hb hn p hp hq
    apply hs
    by_cases e : b < F j
    · have := ss_Lay_dis h1 b (F j) hb j1 e; omega
    · have := ss_Lay_dis h1 (F j) b j1 hb (by omega); omega
  refine ⟨h1, ?_, ?_, ?_, h5, ?_⟩
  · intro b hb
    by_cases e : b = F j
    · rw [e, j2, ← hr, hx.1]
      exact Or.inl ⟨ss_br r', hw.2.1, rfl, rfl⟩
    · have := (ss_Lay_in h1 b hb).2.2.1
      rw [far b hb e b (by omega) (by omega)]
      exact h2 b hb
  · intro f hf
    obtain ⟨i1, i2, i3, i4⟩ := h3 f hf
    refine ⟨i1, i2, i3, ss_XC_f i4 i3 ?_⟩
    intro p hp hq
    exact far (E f) i1 (h5.2.2 f j hf hj) p hp (by omega)
  · intro i hi
    by_cases e : i = j
    · subst e
      rw [ss_set_s, ss_set_s, hr]
      exact ⟨j1, j2, hw, hx⟩
    · rw [ss_set_n e, ss_set_n e]
      obtain ⟨i1, i2, i3, i4⟩ := h4 i hi
      refine ⟨i1, i2, i3, ss_FC_f i4 i3 ?_⟩
      intro p hp hq
      exact far (F i) i1 (fun z => e (h5.2.1 i j hi hj z)) p hp (by omega)
  · intro b hb
    by_cases e : b = F j
    · exact Or.inr (Or.inr ⟨j, hj, e⟩)
    · have := (ss_Lay_in h1 b hb).2.2.1
      rw [far b hb e (b + 1) (by omega) (by omega)]
      exact h6 b hb
theorem ss_bt {b : Bool} (h : ¬ b = true) : b = false := by
  cases b with
  | true => exact absurd rfl h
  | false => rfl
theorem ss_set_t {Lv : Nat → Bool} {d i : Nat} (h : ss_set Lv d false i = true) : i ≠ d ∧ Lv i = true := by
  by_cases e : i = d
  · subst e; rw [ss_set_s] at h; exact nomatch h
  · rw [ss_set_n e] at h; exact ⟨e, h⟩
/-- an extension without users is dead -/
theorem ss_RS_delE {d : Nat} (h : ss_RS L z E F Lv Fv Xd Fd cu fu t s) (hd : Lv d = true) (h0 : cu d = 0) : ss_RS L z E F (ss_set Lv d false) Fv Xd Fd cu fu t s := by
  obtain ⟨h1, h2, h3, h4, h5, h6⟩ := h
  refine ⟨h1, h2, ?_, h4, ⟨?_, h5.2.1, ?_⟩, ?_⟩
  · intro i hi
    exact h3 i (ss_set_t hi).2
  · intro i j hi hj
    exact h5.1 i j (ss_set_t hi).2 (ss_set_t hj).2
  · intro i f hi hf
    exact h5.2.2 i f (ss_set_t hi).2 hf
  · intro b hb
    by_cases e : b = E d
    · have k := (h3 d hd).2.2.2.2.1
      rw [h0] at k
      rw [e]
      exact Or.inl k
    · rcases h6 b hb with k | ⟨i, hi, k⟩ | k
      · exact Or.inl k
      · refine Or.inr (Or.inl ⟨i, ?_, k⟩)
        rw [ss_set_n (fun z => e (by rw [k, z]))]; exact hi
      · exact Or.inr (Or.inr k)
theorem ss_RS_delF {d : Nat} (h : ss_RS L z E F Lv Fv Xd Fd cu fu t s) (hd : Fv d = true) (h0 : fu d = 0) : ss_RS L z E F Lv (ss_set Fv d false) Xd Fd cu fu t s := by
  obtain ⟨h1, h2, h3, h4, h5, h6⟩ := h
  refine ⟨h1, h2, h3, ?_, ⟨h5.1, ?_, ?_⟩, ?_⟩
  · intro i hi
    exact h4 i (ss_set_t hi).2
  · intro i j hi hj
    exact h5.2.1 i j (ss_set_t hi).2 (ss_set_t hj).2
  · intro i f hi hf
    exact h5.2.2 i f hi (ss_set_t hf).2
  · intro b hb
    by_cases e : b = F d
    · have k := (h4 d hd).2.2.2.2.1
      rw [h0] at k
      rw [e]
      exact Or.inl k
    · rcases h6 b hb with k | k | ⟨i, hi, k⟩
      · exact Or.inl k
      · exact Or.inr (Or.inl k)
      · refine Or.inr (Or.inr ⟨i, ?_, k⟩)
        rw [ss_set_n (fun z => e (by rw [k, z]))]; exact hi
theorem ss_set_cases {Lv : Nat → Bool} {x i : Nat} (h : ss_set Lv x true i = true) : i = x ∨ (i ≠ x ∧ Lv i = true) := by
  by_cases e : i = x
  · exact Or.inl e
  · rw [ss_set_n e] at h; exact Or.inr ⟨e, h⟩
/-- a new frame at the top -/
theorem ss_RS_newF {x : Nat} {r : ss_FR} {n : Nat} (h : ss_RS L z E F Lv Fv Xd Fd cu fu t s) (hx : Fv x = false) (hn : ∀ i, Lv i = true → ss_fr (Xd i) ≠ x) (hs : ∀ p, p < t → s' p = s p) (hw : ss_FW r) (hc : ss_FC s' t r n) :
    ss_RS (L ++ [t]) (ss_set z t (3 + 2 * ss_br r)) E (ss_set F x t) Lv (ss_set Fv x true) Xd (ss_set Fd x r) cu (ss_set fu x n) (t + (3 + 2 * ss_br r)) s' := by
  obtain ⟨h1, h2, h3, h4, h5, h6⟩ := h
  have lt : ∀ b, b ∈ L → b + z b ≤ t ∧ 3 ≤ z b := fun b hb => ⟨(ss_Lay_in h1 b hb).2.1, (ss_Lay_in h1 b hb).2.2.1⟩
  have zz : ∀ b, b ∈ L → ss_set z t (3 + 2 * ss_br r) b = z b := by
    intro b hb
    have := lt b hb
    exact ss_set_n (by omega)
  have w2 := hw.2.1
  refine ⟨?_, ?_, ?_, ?_, ⟨h5.1, ?_, ?_⟩, ?_⟩
  · have k := ss_Lay_app (z' := ss_set z t (3 + 2 * ss_br r)) h1 zz (by rw [ss_set_s]; omega) (by rw [ss_set_s]; omega)
    rw [ss_set_s] at k
    exact k
  · intro b hb
    rcases List.mem_append.mp hb with e | e
    · have := lt b e
      rw [zz b e, hs b (by omega)]
      exact h2 b e
    · have e' := List.mem_singleton.mp e
      subst e'
      rw [ss_set_s, hc.1]
      exact Or.inl ⟨ss_br r, w2, rfl, rfl⟩
  · intro i hi
    obtain ⟨i1, i2, i3, i4⟩ := h3 i hi
    have := lt _ i1
    refine ⟨List.mem_append_left _ i1, by rw [zz _ i1]; exact i2, i3, ?_⟩
    refine ss_XC_c (ss_XC_f i4 i3 ?_) (ss_set_n (hn i hi)) (fun _ _ => rfl) (fun _ _ => rfl)
    intro p hp hq
    exact hs p (by omega)
  · intro f hf
    rcases ss_set_cases hf with e | ⟨e, hf'⟩
    · subst e
      rw [ss_set_s, ss_set_s, ss_set_s, ss_set_s]
      exact ⟨List.mem_append_right _ (List.mem_singleton.mpr rfl), rfl, hw, hc⟩
    · obtain ⟨i1, i2, i3, i4⟩ := h4 f hf'
      have := lt _ i1
      rw [ss_set_n e, ss_set_n e, ss_set_n e, zz _ i1]
      refine ⟨List.mem_append_left _ i1, i2, i3, ss_FC_f i4 i3 ?_⟩
      intro p hp hq
      exact hs p (by omega)
  · intro f g hf hg hfg
    rcases ss_set_cases hf with e | ⟨e, hf'⟩
    · rcases ss_set_cases hg with e2 | ⟨e2, hg'⟩
      · rw [e, e2]
      · rw [e, ss_set_s, ss_set_n e2] at hfg
        have := lt _ (h4 g hg').1
        omega
    · rcases ss_set_cases hg with e2 | ⟨e2, hg'⟩
      · rw [e2, ss_set_s, ss_set_n e] at hfg
        have := lt _ (h4 f hf').1
        omega
      · rw [ss_set_n e, ss_set_n e2] at hfg
        exact h5.2.1 f g hf' hg' hfg
  · intro i f hi hf
    rcases ss_set_cases hf with e | ⟨e, hf'⟩
    · rw [e, ss_set_s]
      have := lt _ (h3 i hi).1
      omega
    · rw [ss_set_n e]
      exact h5.2.2 i f hi hf'
  · intro b hb
    rcases List.mem_append.mp hb with e | e
    · have := lt b e
      rw [hs (b + 1) (by omega)]
      rcases h6 b e with k | k | ⟨f, hf, k⟩
      · exact Or.inl k
      · exact Or.inr (Or.inl k)
      · have hfx : f ≠ x := by intro z; rw [z, hx] at hf; exact nomatch hf
        exact Or.inr (Or.inr ⟨f, by rw [ss_set_n hfx]; exact hf, by rw [ss_set_n hfx]; exact k⟩)
    · exact Or.inr (Or.inr ⟨x, ss_set_s, by rw [ss_set_s]; exact List.mem_singleton.mp e⟩)
/-- a new extension at the top -/
theorem ss_RS_newE {x : Nat} {r : ss_ER} {n : Nat} (h : ss_RS L z E F Lv Fv Xd Fd cu fu t s) (hx : Lv x = false) (hn : ∀ i, Lv i = true → ss_ac (Xd i) ≠ some x ∧ ss_co (Xd i) ≠ some x) (hs : ∀ p, p < t → s' p = s p) (hw : ss_EW r) (hc : ss_XC s' (ss_set E x t) F t r n) :
    ss_RS (L ++ [t]) (ss_set z t (8 + ss_rm r)) (ss_set E x t) F (ss_set Lv x true) Fv (ss_set Xd x r) Fd (ss_set cu x n) fu (t + (8 + ss_rm r)) s' := by
  obtain ⟨h1, h2, h3, h4, h5, h6⟩ := h
  have lt : ∀ b, b ∈ L → b + z b ≤ t ∧ 3 ≤ z b := fun b hb => ⟨(ss_Lay_in h1 b hb).2.1, (ss_Lay_in h1 b hb).2.2.1⟩
  have zz : ∀ b, b ∈ L → ss_set z t (8 + ss_rm r) b = z b := by
    intro b hb
    have := lt b hb
    exact ss_set_n (by omega)
  have w2 := hw.2
  refine ⟨?_, ?_, ?_, ?_, ⟨?_, h5.2.1, ?_⟩, ?_⟩
  · have k := ss_Lay_app (z' := ss_set z t (8 + ss_rm r)) h1 zz (by rw [ss_set_s]; omega) (by rw [ss_set_s]; omega)
    rw [ss_set_s] at k
    exact k
  · intro b hb
    rcases List.mem_append.mp hb with e | e
    · have := lt b e
      rw [zz b e, hs b (by omega)]
      exact h2 b e
    · have e' := List.mem_singleton.mp e
      subst e'
      rw [ss_set_s, hc.1]
      exact Or.inr ⟨ss_rm r, w2, rfl, rfl⟩
  · intro f hf
    rcases ss_set_cases hf with e | ⟨e, hf'⟩
    · subst e
      rw [ss_set_s (f := E), ss_set_s (f := z), ss_set_s (f := Xd), ss_set_s (f := cu)]
      exact ⟨List.mem_append_right _ (List.mem_singleton.mpr rfl), rfl, hw, hc⟩
    · obtain ⟨i1, i2, i3, i4⟩ := h3 f hf'
      have := lt _ i1
      have en : ss_set E x t f = E f := ss_set_n e
      rw [ss_set_n (f := Xd) e, ss_set_n (f := cu) e]
      refine ⟨?_, ?_, i3, ?_⟩
      · rw [en]; exact List.mem_append_left _ i1
      · rw [en, zz _ i1]; exact i2
      · rw [en]
        refine ss_XC_c (ss_XC_f i4 i3 ?_) rfl ?_ ?_
        · intro p hp hq
          exact hs p (by omega)
        · intro j hj
          exact ss_set_n (fun z => (hn f hf').1 (by rw [hj, z]))
        · intro j hj
          exact ss_set_n (fun z => (hn f hf').2 (by rw [hj, z]))
  · intro i hi
    obtain ⟨i1, i2, i3, i4⟩ := h4 i hi
    have := lt _ i1
    refine ⟨List.mem_append_left _ i1, by rw [zz _ i1]; exact i2, i3, ?_⟩
    refine ss_FC_f i4 i3 ?_
    intro p hp hq
    exact hs p (by omega)
  · intro f g hf hg hfg
    rcases ss_set_cases hf with e | ⟨e, hf'⟩
    · rcases ss_set_cases hg with e2 | ⟨e2, hg'⟩
      · rw [e, e2]
      · rw [e, ss_set_s, ss_set_n e2] at hfg
        have := lt _ (h3 g hg').1
        omega
    · rcases ss_set_cases hg with e2 | ⟨e2, hg'⟩
      · rw [e2, ss_set_s, ss_set_n e] at hfg
        have := lt _ (h3 f hf').1
        omega
      · rw [ss_set_n e, ss_set_n e2] at hfg
        exact h5.1 f g hf' hg' hfg
  · intro i f hi hf
    rcases ss_set_cases hi with e | ⟨e, hi'⟩
    · rw [e, ss_set_s]
      have := lt _ (h4 f hf).1
      omega
    · rw [ss_set_n e]
      exact h5.2.2 i f hi' hf
  · intro b hb
    rcases List.mem_append.mp hb with e | e
    · have := lt b e
      rw [hs (b + 1) (by omega)]
      rcases h6 b e with k | ⟨f, hf, k⟩ | k
      · exact Or.inl k
      · have hfx : f ≠ x := by intro z; rw [z, hx] at hf; exact nomatch hf
        exact Or.inr (Or.inl ⟨f, by rw [ss_set_n hfx]; exact hf, by rw [ss_set_n hfx]; exact k⟩)
      · exact Or.inr (Or.inr k)
    · exact Or.inr (Or.inl ⟨x, ss_set_s, by rw [ss_set_s]; exact List.mem_singleton.mp e⟩)
end
end
section
/-! where a compaction moves the blocks: pure rows -/
def ss_fw (z : Nat → Nat) (al : Nat → Bool) : List Nat → Nat → Nat
  | [], _ => 0
  | b :: r, a => (if al b = true ∧ b < a then z b else 0) + ss_fw z al r a
section
variable {z : Nat → Nat} {al : Nat → Bool} {t : Nat}
theorem ss_fw_low {a : Nat} : ∀ {L : List Nat}, (∀ b, b ∈ L → a ≤ b) → ss_fw z al L a = 0 := by
  intro L
  induction L with
  | nil => intro _; rfl
  | cons d r ih =>
    intro h
    show (if al d = true ∧ d < a then z d else 0) + ss_fw z al r a = 0
    have hd := h d (List.mem_cons_self)
    rw [if_neg (by rintro ⟨_, h2⟩; omega), ih (fun b hb => h b (List.mem_cons_of_mem _ hb))]
theorem ss_fw_step : ∀ {L : List Nat} {a0 b : Nat}, ss_Lay z L a0 t → b ∈ L → ss_fw z al L (b + z b) = ss_fw z al L b + (if al b = true then z b else 0) := by
  intro L
  induction L with
  | nil => intro a0 b _ hb; exact nomatch hb
  | cons d r ih =>
    rintro a0 b ⟨rfl, h3, h12, h⟩ hb
    show (if al d = true ∧ d < b + z b then z d else 0) + ss_fw z al r (b + z b) = ((if al d = true ∧ d < b then z d else 0) + ss_fw z al r b) + (if al b = true then z b else 0)
    have lo := fun c hc => (ss_Lay_in h c hc).1
    by_cases e : b = d
    · subst e
      rw [ss_fw_low (a := b + z b) (L := r) lo, ss_fw_low (a := b) (L := r) (fun c hc => by have := lo c hc; omega)]
      rw [if_neg (c := al b = true ∧ b < b) (by rintro ⟨_, h2⟩; omega)]
      by_cases g : al b = true
      · rw [if_pos ⟨g, by omega⟩, if_pos g]; omega
      · rw [if_neg (fun k => g k.1), if_neg g]
    · have hr : b ∈ r := by
        rcases List.mem_cons.mp hb with k | k
        · exact absurd k e
        · exact k
      have hlo := lo b hr
      rw [ih h hr]
      by_cases g : al d = true
      · rw [if_pos (c := al d = true ∧ d < b + z b) ⟨g, by omega⟩, if_pos (c := al d = true ∧ d < b) ⟨g, by omega⟩]; omega
      · rw [if_neg (c := al d = true ∧ d < b + z b) (fun k => g k.1), if_neg (c := al d = true ∧ d < b) (fun k => g k.1)]; omega
theorem ss_fw_mono {a b : Nat} (hab : a ≤ b) : ∀ {L : List Nat}, ss_fw z al L a ≤ ss_fw z al L b := by
  intro L
  induction L with
  | nil => exact Nat.le_refl _
  | cons d r ih =>
    show (if al d = true ∧ d < a then z d else 0) + ss_fw z al r a ≤ (if al d = true ∧ d < b then z d else 0) + ss_fw z al r b
    by_cases g : al d = true ∧ d < a
    · rw [if_pos g, if_pos ⟨g.1, by omega⟩]; omega
    · rw [if_neg g]; omega
theorem ss_fw_0 {L : List Nat} : ss_fw z al L 0 = 0 := ss_fw_low (fun b _ => Nat.zero_le b)
theorem ss_fw_le {L : List Nat} (h : ss_Lay z L 0 t) : ∀ b, b ∈ L ∨ b = t → ss_fw z al L b ≤ b := by
  apply ss_Lay_ind (fun b => ss_fw z al L b ≤ b) h
  · rw [ss_fw_0]; omega
  · intro b hb k
    rw [ss_fw_step h hb]
    split <;> omega
theorem ss_fw_lt {L : List Nat} {a0 a b : Nat} (h : ss_Lay z L a0 t) (ha : a ∈ L) (hl : al a = true) (hab : a + z a ≤ b) : ss_fw z al L a + z a ≤ ss_fw z al L b := by
  have k := ss_fw_step (al := al) h ha
  rw [if_pos hl] at k
  have m := ss_fw_mono (z := z) (al := al) hab (L := L)
  omega
theorem ss_Lay_mv {z' : Nat → Nat} {L : List Nat} (h : ss_Lay z L 0 t) (hz : ∀ b, b ∈ L → al b = true → z' (ss_fw z al L b) = z b) : ∀ {r : List Nat} {b : Nat}, (∀ c, c ∈ r → c ∈ L) → ss_Lay z r b t → ss_Lay z' ((r.filter al).map (ss_fw z al L)) (ss_fw z al L b) (ss_fw z al L t) := by
  intro r
  induction r with
  | nil =>
    intro b _ k
    have e : b = t := k
    rw [e]
    exact rfl
  | cons d r ih =>
    rintro b hin ⟨rfl, h3, h12, k⟩
    have hd := hin d (List.mem_cons_self)
    have k2 := ih (fun c hc => hin c (List.mem_cons_of_mem _ hc)) k
    have st := ss_fw_step (al := al) h hd
    by_cases g : al d = true
    · rw [List.filter_cons_of_pos g, List.map_cons]
      have e := hz d hd g
      rw [if_pos g] at st
      refine ⟨rfl, by omega, by omega, ?_⟩
      rw [e, ← st]
      exact k2
    · rw [List.filter_cons_of_neg g]
      rw [if_neg g] at st
      rw [st] at k2
      exact k2
/-- sums over a list -/
def ss_ls (f : Nat → Nat) : List Nat → Nat
  | [] => 0
  | b :: r => f b + ss_ls f r
theorem ss_ls_le {f g : Nat → Nat} : ∀ {L : List Nat}, (∀ b, b ∈ L → f b ≤ g b) → ss_ls f L ≤ ss_ls g L := by
  intro L
  induction L with
  | nil => intro _; exact Nat.le_refl _
  | cons d r ih =>
    intro h
    show f d + ss_ls f r ≤ g d + ss_ls g r
    have a := h d (List.mem_cons_self)
    have b := ih (fun c hc => h c (List.mem_cons_of_mem _ hc))
    omega
theorem ss_ls_0 {f : Nat → Nat} : ∀ {L : List Nat}, (∀ b, b ∈ L → f b = 0) → ss_ls f L = 0 := by
  intro L
  induction L with
  | nil => intro _; rfl
  | cons d r ih =>
    intro h
    show f d + ss_ls f r = 0
    have a := h d (List.mem_cons_self)
    have b := ih (fun c hc => h c (List.mem_cons_of_mem _ hc))
    omega
theorem ss_ls_add (f g : Nat → Nat) : ∀ L : List Nat, ss_ls (fun b => f b + g b) L = ss_ls f L + ss_ls g L := by
  intro L
  induction L with
  | nil => rfl
  | cons d r ih =>
    show (f d + g d) + ss_ls (fun b => f b + g b) r = (f d + ss_ls f r) + (g d + ss_ls g r)
    omega
theorem ss_ls_swap (f : Nat → Nat → Nat) (m : Nat) : ∀ L : List Nat, ss_ls (fun b => ss_sm (fun i => f i b) m) L = ss_sm (fun i => ss_ls (f i) L) m := by
  intro L
  induction L with
  | nil =>
    show 0 = ss_sm (fun _ => 0) m
    rw [ss_sm_cst, Nat.zero_mul]
  | cons d r ih =>
    show ss_sm (fun i => f i d) m + ss_ls (fun b => ss_sm (fun i => f i b) m) r = ss_sm (fun i => f i d + ss_ls (f i) r) m
    rw [ih, ss_sm_add (fun i => f i d) (fun i => ss_ls (f i) r)]
/-- each address stands once -/
theorem ss_ls_one {e w : Nat} : ∀ {L : List Nat} {a : Nat}, ss_Lay z L a t → ss_ls (fun b => if e = b then w else 0) L ≤ w := by
  intro L
  induction L with
  | nil => intro a _; exact Nat.zero_le _
  | cons d r ih =>
    rintro a ⟨rfl, h3, h12, h⟩
    show (if e = d then w else 0) + ss_ls (fun b => if e = b then w else 0) r ≤ w
    by_cases g : e = d
    · rw [if_pos g, ss_ls_0 (fun b hb => by
        have := (ss_Lay_in h b hb).1
        exact if_neg (by omega))]
      omega
    · rw [if_neg g]
      have := ih h
      omega
theorem ss_fw_ls {a : Nat} : ∀ {L : List Nat}, ss_fw z al L a ≤ ss_ls (fun b => if al b = true then z b else 0) L := by
  intro L
  induction L with
  | nil => exact Nat.le_refl _
  | cons d r ih =>
    show (if al d = true ∧ d < a then z d else 0) + ss_fw z al r a ≤ (if al d = true then z d else 0) + ss_ls _ r
    by_cases g : al d = true
    · rw [if_pos g]
      split <;> omega
    · rw [if_neg g, if_neg (fun k => g k.1)]; omega
/-- the live blocks' cells are no more than the used ones -/
theorem ss_fw_us {L : List Nat} {E F : Nat → Nat} {Lv Fv : Nat → Bool} {Xd : Nat → ss_ER} {Fd : Nat → ss_FR} {a : Nat} (h : ss_Lay z L 0 t)
    (hl : ∀ b, b ∈ L → al b = true → (∃ i, i < 32 ∧ Lv i = true ∧ b = E i ∧ z b = 8 + ss_rm (Xd i)) ∨ (∃ f, f < 32 ∧ Fv f = true ∧ b = F f ∧ z b = 3 + 2 * ss_br (Fd f))) :
    ss_fw z al L a ≤ ss_us Lv Fv Xd Fd := by
  have k1 := ss_fw_ls (z := z) (al := al) (a := a) (L := L)
  have k2 := ss_ls_le (f := fun b => if al b = true then z b else 0) (g := fun b => ss_sm (fun i => if E i = b then ss_ue Lv Xd i else 0) 32 + ss_sm (fun f => if F f = b then ss_uf Fv Fd f else 0) 32) (L := L) (by
    intro b hb
    show (if al b = true then z b else 0) ≤ ss_sm (fun i => if E i = b then ss_ue Lv Xd i else 0) 32 + ss_sm (fun f => if F f = b then ss_uf Fv Fd f else 0) 32
    by_cases g : al b = true
    · rw [if_pos g]
      rcases hl b hb g with ⟨i, hi, hv, e, hz⟩ | ⟨f, hf, hv, e, hz⟩
      · have m := ss_sm_ge (f := fun i => if E i = b then ss_ue Lv Xd i else 0) 32 hi
        have m2 : (if E i = b then ss_ue Lv Xd i else 0) = 8 + ss_rm (Xd i) := by
          rw [if_pos e.symm]
          exact if_pos hv
        omega
      · have m := ss_sm_ge (f := fun f => if F f = b then ss_uf Fv Fd f else 0) 32 hf
        have m2 : (if F f = b then ss_uf Fv Fd f else 0) = 3 + 2 * ss_br (Fd f) := by
          rw [if_pos e.symm]
          exact if_pos hv
        omega
    · rw [if_neg g]; exact Nat.zero_le _)
  rw [ss_ls_add (fun b => ss_sm (fun i => if E i = b then ss_ue Lv Xd i else 0) 32) (fun b => ss_sm (fun f => if F f = b then ss_uf Fv Fd f else 0) 32),
    ss_ls_swap (fun i b => if E i = b then ss_ue Lv Xd i else 0), ss_ls_swap (fun f b => if F f = b then ss_uf Fv Fd f else 0)] at k2
  have k3 := ss_sm_le (f := fun i => ss_ls (fun b => if E i = b then ss_ue Lv Xd i else 0) L) (g := ss_ue Lv Xd) 32 (fun i _ => ss_ls_one h)
  have k4 := ss_sm_le (f := fun i => ss_ls (fun b => if F i = b then ss_uf Fv Fd i else 0) L) (g := ss_uf Fv Fd) 32 (fun i _ => ss_ls_one h)
  unfold ss_us
  omega
end
end
section
/-! X's small steps over the picture -/
theorem ss_p1 (a : Nat) : nI a + 1 = nI (a + 1) := nI_add a 1
theorem ss_p2 (a : Nat) : nI a + 2 = nI (a + 2) := nI_add a 2
theorem ss_p3 (a : Nat) : nI a + 3 = nI (a + 3) := nI_add a 3
theorem ss_p4 (a : Nat) : nI a + 4 = nI (a + 4) := nI_add a 4
theorem ss_p5 (a : Nat) : nI a + 5 = nI (a + 5) := nI_add a 5
theorem ss_p6 (a : Nat) : nI a + 6 = nI (a + 6) := nI_add a 6
theorem ss_p7 (a : Nat) : nI a + 7 = nI (a + 7) := nI_add a 7
theorem ss_p8 (a : Nat) : nI a + 8 = nI (a + 8) := nI_add a 8
theorem ss_c8 (m : Nat) : (8 : Int32) + nI m = nI (8 + m) := nI_add 8 m
theorem ss_c32 (m : Nat) : (3 : Int32) + 2 * nI m = nI (3 + 2 * m) := by
  rw [show (2 : Int32) * nI m = nI (2 * m) from pk_mul 2 m]
  exact nI_add 3 (2 * m)
/-- an index a + k into a table of N cells -/
theorem ss_ix {a k N : Nat} {c : Int32} (h : a + k < N) (hN : N < 2 ^ 31) (hc : c = nI k := by rfl) : vp_in (nI a + c) N := by
  subst hc
  rw [nI_add]
  exact vp_in_nI h hN
theorem ss_cl {a k : Nat} {c : Int32} (h : a + k < 2 ^ 31) (hc : c = nI k := by rfl) : (nI a + c).toNatClampNeg = a + k := by
  subst hc
  rw [nI_add]
  exact nI_clamp h
theorem ss_rd {s : Nat → Int32} {a k : Nat} {c v : Int32} (hs : s (a + k) = v) (h : a + k < 2 ^ 31) (hc : c = nI k := by rfl) : s (nI a + c).toNatClampNeg = v := by
  rw [ss_cl h hc]; exact hs
theorem ss_rd0 {s : Nat → Int32} {a : Nat} {v : Int32} (hs : s a = v) (h : a < 2 ^ 31) : s (nI a).toNatClampNeg = v := by
  rw [nI_clamp h]; exact hs
section
variable {s : Nat → Int32} {E F : Nat → Nat} {a u : Nat} {r : ss_ER} {g : ss_FR}
theorem ss_XC_u (n : Nat) (h : ss_XC s E F a r u) : ss_XC (upd s (a + 1) (nI n)) E F a r n := by
  obtain ⟨h0, h1, h2, h3, h4, h5, h6, h7, h8⟩ := h
  refine ⟨?_, pk_us, ?_, ?_, ?_, ?_, ?_, ?_, ?_⟩
  · rw [pk_un (by omega)]; exact h0
  · rw [pk_un (by omega)]; exact h2
  · rw [pk_un (by omega)]; exact h3
  · rw [pk_un (by omega)]; exact h4
  · rw [pk_un (by omega)]; exact h5
  · rw [pk_un (by omega)]; exact h6
  · rw [pk_un (by omega)]; exact h7
  · intro k hk
    rw [pk_un (by omega)]; exact h8 k hk
theorem ss_FC_u (n : Nat) (h : ss_FC s a g u) : ss_FC (upd s (a + 1) (nI n)) a g n := by
  obtain ⟨h0, h1, h2, h8⟩ := h
  refine ⟨?_, pk_us, ?_, ?_⟩
  · rw [pk_un (by omega)]; exact h0
  · rw [pk_un (by omega)]; exact h2
  · intro k hk
    rw [pk_un (by omega), pk_un (by omega)]; exact h8 k hk
end
section
variable {L : List Nat} {z E F : Nat → Nat} {Lv Fv : Nat → Bool} {Xd : Nat → ss_ER} {Fd : Nat → ss_FR} {cu fu cu' fu' : Nat → Nat} {t : Nat} {s : Nat → Int32}
theorem ss_RS_in {j : Nat} (h : ss_RS L z E F Lv Fv Xd Fd cu fu t s) (hj : Lv j = true) : E j + (8 + ss_rm (Xd j)) ≤ t ∧ ss_tn (Xd j) ≤ ss_rm (Xd j) ∧ ss_rm (Xd j) ≤ 4 := by
  obtain ⟨h1, h2, h3, h4, h5, h6⟩ := h
  obtain ⟨i1, i2, i3, i4⟩ := h3 j hj
  have := (ss_Lay_in h1 _ i1).2.1
  exact ⟨by omega, i3.1, i3.2⟩
theorem ss_RS_inF {j : Nat} (h : ss_RS L z E F Lv Fv Xd Fd cu fu t s) (hj : Fv j = true) : F j + (3 + 2 * ss_br (Fd j)) ≤ t ∧ ss_nn (Fd j) ≤ ss_br (Fd j) ∧ ss_br (Fd j) ≤ 4 := by
  obtain ⟨h1, h2, h3, h4, h5, h6⟩ := h
  obtain ⟨i1, i2, i3, i4⟩ := h4 j hj
  have := (ss_Lay_in h1 _ i1).2.1
  exact ⟨by omega, i3.1, i3.2.1⟩
theorem ss_RS_uE {j : Nat} (n : Nat) (h : ss_RS L z E F Lv Fv Xd Fd cu fu t s) (hj : Lv j = true) : ss_RS L z E F Lv Fv Xd Fd (ss_set cu j n) fu t (upd s (E j + 1) (nI n)) := by
  obtain ⟨i1, i2, i3, i4⟩ := h.2.2.1 j hj
  have k := ss_RS_ext (s' := upd s (E j + 1) (nI n)) (r' := Xd j) (n := n) h hj (by
    intro p hp
    exact pk_un (by omega)) (ss_XC_u n i4) i3 rfl
  rw [ss_set_id (f := Xd) rfl] at k
  exact k
theorem ss_RS_uF {j : Nat} (n : Nat) (h : ss_RS L z E F Lv Fv Xd Fd cu fu t s) (hj : Fv j = true) : ss_RS L z E F Lv Fv Xd Fd cu (ss_set fu j n) t (upd s (F j + 1) (nI n)) := by
  obtain ⟨i1, i2, i3, i4⟩ := h.2.2.2.1 j hj
  have k := ss_RS_frm (s' := upd s (F j + 1) (nI n)) (r' := Fd j) (n := n) h hj (by
    intro p hp
    exact pk_un (by omega)) (ss_FC_u n i4) i3 rfl
  rw [ss_set_id (f := Fd) rfl] at k
  exact k
end
/-- the pending ones: those of Lv with count 0 -/
def ss_PD (Lv : Nat → Bool) (E cu : Nat → Nat) (np : Nat) (pl : Nat → Nat) (pn : Nat → Int32) : Prop :=
  (∀ k, k < np → Lv (pl k) = true ∧ cu (pl k) = 0 ∧ pn k = nI (E (pl k))) ∧ (∀ k l, k < l → l < np → pl k ≠ pl l) ∧ (∀ i, Lv i = true → cu i = 0 → ∃ k, k < np ∧ pl k = i)
section
variable {k1 k2 k3 k4 k5 k6 k7 k8 k9 k10 k11 k12 k13 kc kp kt ku ke : Int32} {st fw pn ah : Nat → Int32}
variable {L : List Nat} {z E F : Nat → Nat} {Lv Fv : Nat → Bool} {Xd : Nat → ss_ER} {Fd : Nat → ss_FR} {cu fu cu' fu' : Nat → Nat} {t : Nat}
theorem ss_x_sizeAt {post : Int32 → Prop} {x : Int32} {a n : Nat} (hx : x = nI a) (ha : a < 240) (h : ss_hd (st a) n) (hp : post (nI n)) : wpX_sizeAt post (k1, k2, k3, k4, k5, k6, k7, k8, k9, k10, k11, k12, k13, kc, kp, kt, ku, ke, st, fw, pn, ah) x := by
  subst hx
  refine And.intro (vp_in_nI ha (by decide)) ?_
  refine nm_r (ss_rd0 (a := a) (s := st) rfl (by omega)) ?_
  rcases h with ⟨m, hm, e, en⟩ | ⟨m, hm, e, en⟩
  · rw [e]
    refine br_f (nI_ge (b := 8) (a := m) (by omega) (by decide)) ?_
    rw [ss_c32, ← en]
    exact hp
  · rw [e]
    refine br_t (nI_le (a := 8) (b := 8 + m) (by omega) (by omega)) ?_
    rw [← en]
    exact hp
theorem ss_x_addE {post : SX → Prop} {x : Int32} {o : Option Nat} (hx : x = ss_oE E o) (h : ss_RS L z E F Lv Fv Xd Fd cu fu t st) (ht : t ≤ 240) (ho : ∀ j, o = some j → Lv j = true) (hp : ∀ s', ss_RS L z E F Lv Fv Xd Fd (fun i => cu i + ss_q o i) fu t s' → post (k1, k2, k3, k4, k5, k6, k7, k8, k9, k10, k11, k12, k13, kc, kp, kt, ku, ke, s', fw, pn, ah)) : wpX_addUser post (k1, k2, k3, k4, k5, k6, k7, k8, k9, k10, k11, k12, k13, kc, kp, kt, ku, ke, st, fw, pn, ah) x := by
  subst hx
  cases o with
  | none => exact br_t (show (-1 : Int32) < 0 by decide) (hp st (ss_RS_cu h (fun i _ => by rw [ss_q_no]; rfl) (fun _ _ => rfl)))
  | some j =>
    have hj := ho j rfl
    obtain ⟨i1, i2, i3, i4⟩ := h.2.2.1 j hj
    have lim := ss_RS_in h hj
    have c1 := i4.2.1
    refine br_f (nI_pos (n := E j) (by omega)) (And.intro (ss_ix (a := E j) (k := 1) (by omega) (by decide)) (And.intro (ss_ix (a := E j) (k := 1) (by omega) (by decide)) (nm_r (e' := upd st (E j + 1) (nI (cu j + 1))) ?_ ?_)))
    · show upd st (nI (E j) + 1).toNatClampNeg (st (nI (E j) + 1).toNatClampNeg + 1) = _
      rw [ss_cl (a := E j) (k := 1) (by omega), c1, nI_1]
    · refine hp _ (ss_RS_cu (ss_RS_uE (cu j + 1) h hj) ?_ (fun _ _ => rfl))
      intro i hi
      by_cases e : i = j
      · subst e
        rw [ss_set_s, ss_q_s]
      · rw [ss_set_n e, ss_q_n (fun k => e (Option.some.inj k).symm)]
        rfl
theorem ss_x_addF {post : SX → Prop} {x : Int32} {j : Nat} (hx : x = nI (F j)) (h : ss_RS L z E F Lv Fv Xd Fd cu fu t st) (ht : t ≤ 240) (hj : Fv j = true) (hp : ∀ s', ss_RS L z E F Lv Fv Xd Fd cu (fun i => fu i + ss_q (some j) i) t s' → post (k1, k2, k3, k4, k5, k6, k7, k8, k9, k10, k11, k12, k13, kc, kp, kt, ku, ke, s', fw, pn, ah)) : wpX_addUser post (k1, k2, k3, k4, k5, k6, k7, k8, k9, k10, k11, k12, k13, kc, kp, kt, ku, ke, st, fw, pn, ah) x := by
  subst hx
  obtain ⟨i1, i2, i3, i4⟩ := h.2.2.2.1 j hj
  have lim := ss_RS_inF h hj
  have c1 := i4.2.1
  refine br_f (nI_pos (n := F j) (by omega)) (And.intro (ss_ix (a := F j) (k := 1) (by omega) (by decide)) (And.intro (ss_ix (a := F j) (k := 1) (by omega) (by decide)) (nm_r (e' := upd st (F j + 1) (nI (fu j + 1))) ?_ ?_)))
  · rw [ss_cl (a := F j) (k := 1) (by omega), c1, nI_1]
  · refine hp _ (ss_RS_cu (ss_RS_uF (fu j + 1) h hj) (fun _ _ => rfl) ?_)
    intro i hi
    by_cases e : i = j
    · subst e
      rw [ss_set_s, ss_q_s]
    · rw [ss_set_n e, ss_q_n (fun k => e (Option.some.inj k).symm)]
      rfl
/-- one user less; Lp: the ones whose zero counts are pending -/
theorem ss_x_loseE {post : SX → Prop} {x : Int32} {o : Option Nat} {Lp : Nat → Bool} {np : Nat} {pl : Nat → Nat} (hx : x = ss_oE E o) (hkp : kp = nI np) (h : ss_RS L z E F Lv Fv Xd Fd cu fu t st) (ht : t ≤ 240)
    (hsub : ∀ i, Lp i = true → Lv i = true ∧ i < 32) (ho : ∀ j, o = some j → Lp j = true) (hc : ∀ i, Lv i = true → cu i = cu' i + ss_q o i) (hb : ∀ i, Lv i = true → cu i < 100) (P : ss_PD Lp E cu np pl pn)
    (hp : ∀ s' np' pl' pn', ss_RS L z E F Lv Fv Xd Fd cu' fu t s' → ss_PD Lp E cu' np' pl' pn' → post (k1, k2, k3, k4, k5, k6, k7, k8, k9, k10, k11, k12, k13, kc, nI np', kt, ku, ke, s', fw, pn', ah)) : wpX_loseUser post (k1, k2, k3, k4, k5, k6, k7, k8, k9, k10, k11, k12, k13, kc, kp, kt, ku, ke, st, fw, pn, ah) x := by
  subst hx hkp
  cases o with
  | none =>
    refine br_f (show ¬ (0 : Int32) ≤ -1 by decide) (hp st np pl pn (ss_RS_cu h (fun i hi => ?_) (fun _ _ => rfl)) ⟨?_, P.2.1, ?_⟩)
    · have := hc i hi
      rw [ss_q_no] at this
      omega
    · intro k hk
      obtain ⟨a, b, c⟩ := P.1 k hk
      have := hc _ (hsub _ a).1
      rw [ss_q_no] at this
      exact ⟨a, by omega, c⟩
    · intro i hi h0
      have := hc i (hsub i hi).1
      rw [ss_q_no] at this
      exact P.2.2 i hi (by omega)
  | some j =>
    have hjp := ho j rfl
    have hj := (hsub j hjp).1
    obtain ⟨i1, i2, i3, i4⟩ := h.2.2.1 j hj
    have lim := ss_RS_in h hj
    have c1 := i4.2.1
    have hcj := hc j hj
    rw [ss_q_s] at hcj
    have hbj := hb j hj
    have e1 : ∀ i, Lv i = true → cu' i = ss_set cu j (cu' j) i := by
      intro i hi
      by_cases e : i = j
      · subst e; rw [ss_set_s]
      · rw [ss_set_n e]
        have := hc i hi
        rw [ss_q_n (fun k => e (Option.some.inj k).symm)] at this
        omega
    have R : ss_RS L z E F Lv Fv Xd Fd cu' fu t (upd st (E j + 1) (nI (cu' j))) := ss_RS_cu (ss_RS_uE (cu' j) h hj) e1 (fun _ _ => rfl)
    have old : ∀ k, k < np → pl k ≠ j ∧ Lp (pl k) = true ∧ cu' (pl k) = 0 ∧ pn k = nI (E (pl k)) := by
      intro k hk
      obtain ⟨a, b, c⟩ := P.1 k hk
      have ne : pl k ≠ j := by intro e; rw [e] at b; omega
      refine ⟨ne, a, ?_, c⟩
      rw [e1 _ (hsub _ a).1, ss_set_n ne]
      exact b
    show wpX_loseUser post (k1, k2, k3, k4, k5, k6, k7, k8, k9, k10, k11, k12, k13, kc, nI np, kt, ku, ke, st, fw, pn, ah) (nI (E j))
    refine br_t (nI_pos' (n := E j) (by omega)) (And.intro (ss_ix (a := E j) (k := 1) (by omega) (by decide)) (And.intro (ss_ix (a := E j) (k := 1) (by omega) (by decide)) (nm_r (e' := upd st (E j + 1) (nI (cu' j))) ?_ (And.intro (ss_ix (a := E j) (k := 1) (by omega) (by decide)) ?_))))
    · show upd st (nI (E j) + 1).toNatClampNeg (st (nI (E j) + 1).toNatClampNeg - 1) = _
      rw [ss_cl (a := E j) (k := 1) (by omega), c1, hcj, nI_pred]
    · have rd : upd st (E j + 1) (nI (cu' j)) (nI (E j) + 1).toNatClampNeg = nI (cu' j) := by
        rw [ss_cl (a := E j) (k := 1) (by omega)]; exact pk_us
      rw [rd]
      refine pk_eq (cu' j) 0 (fun z0 => ?_) (fun nz => ?_)
      · have lt32 : np + 1 ≤ 32 := by
          refine ss_has_le (f := ss_set pl np j) (m := 32) (n := np + 1) ?_ ?_
          · intro k hk
            by_cases e : k = np
            · rw [e, ss_set_s]; exact (hsub j hjp).2
            · rw [ss_set_n e]; exact (hsub _ (old k (by omega)).2.1).2
          · intro k l hkl hl
            by_cases e : l = np
            · rw [e, ss_set_s, ss_set_n (by omega)]; exact (old k (by omega)).1
            · rw [ss_set_n e, ss_set_n (by omega)]; exact P.2.1 k l hkl (by omega)
        refine br_f (nI_ge (b := 32) (a := np) (by omega) (by decide)) (And.intro (vp_in_nI (by omega) (by decide)) (nm_r (e' := upd pn np (nI (E j))) (by rw [nI_clamp (by omega)]) (nm_r (nI_1 np) ?_)))
        refine hp _ (np + 1) (ss_set pl np j) _ R ⟨?_, ?_, ?_⟩
        · intro k hk
          by_cases e : k = np
          · subst e
            rw [ss_set_s]
            exact ⟨hjp, z0, pk_us⟩
          · rw [ss_set_n e, pk_un e]
            exact (old k (by omega)).2
        · intro k l hkl hl
          by_cases e : l = np
          · rw [e, ss_set_s, ss_set_n (by omega)]; exact (old k (by omega)).1
          · rw [ss_set_n e, ss_set_n (by omega)]; exact P.2.1 k l hkl (by omega)
        · intro i hi h0
          by_cases e : i = j
          · exact ⟨np, by omega, by rw [ss_set_s, e]⟩
          · have := e1 i (hsub i hi).1
            rw [ss_set_n e] at this
            obtain ⟨k, hk, ek⟩ := P.2.2 i hi (by omega)
            exact ⟨k, by omega, by rw [ss_set_n (by omega)]; exact ek⟩
      · refine hp _ np pl pn R ⟨fun k hk => (old k hk).2, P.2.1, ?_⟩
        intro i hi h0
        by_cases e : i = j
        · subst e; exact absurd h0 nz
        · have := e1 i (hsub i hi).1
          rw [ss_set_n e] at this
          exact P.2.2 i hi (by omega)
/-- a frame loses a user, and may be dead then -/
theorem ss_x_loseF {post : SX → Prop} {x : Int32} {j us : Nat} (hx : x = nI (F j)) (hku : ku = nI us) (h : ss_RS L z E F Lv Fv Xd Fd cu fu t st) (ht : t ≤ 240) (hj : Fv j = true)
    (hc : ∀ i, Fv i = true → fu i = fu' i + ss_q (some j) i) (hb : fu j < 100) (hu : 3 + 2 * ss_br (Fd j) ≤ us)
    (hp : ∀ Fv' us' s', ((fu' j = 0 ∧ Fv' = ss_set Fv j false ∧ us' + (3 + 2 * ss_br (Fd j)) = us) ∨ (0 < fu' j ∧ Fv' = Fv ∧ us' = us)) → ss_RS L z E F Lv Fv' Xd Fd cu fu' t s' → post (k1, k2, k3, k4, k5, k6, k7, k8, k9, k10, k11, k12, k13, kc, kp, kt, nI us', ke, s', fw, pn, ah)) : wpX_loseFrame post (k1, k2, k3, k4, k5, k6, k7, k8, k9, k10, k11, k12, k13, kc, kp, kt, ku, ke, st, fw, pn, ah) x := by
  subst hx hku
  obtain ⟨i1, i2, i3, i4⟩ := h.2.2.2.1 j hj
  have lim := ss_RS_inF h hj
  have c1 := i4.2.1
  have hcj := hc j hj
  rw [ss_q_s] at hcj
  have R : ss_RS L z E F Lv Fv Xd Fd cu fu' t (upd st (F j + 1) (nI (fu' j))) := by
    refine ss_RS_cu (ss_RS_uF (fu' j) h hj) (fun _ _ => rfl) ?_
    intro i hi
    by_cases e : i = j
    · subst e; rw [ss_set_s]
    · rw [ss_set_n e]
      have := hc i hi
      rw [ss_q_n (fun k => e (Option.some.inj k).symm)] at this
      omega
  refine And.intro (ss_ix (a := F j) (k := 1) (by omega) (by decide)) (And.intro (ss_ix (a := F j) (k := 1) (by omega) (by decide)) (nm_r (e' := upd st (F j + 1) (nI (fu' j))) ?_ (And.intro (ss_ix (a := F j) (k := 1) (by omega) (by decide)) ?_)))
  · rw [ss_cl (a := F j) (k := 1) (by omega), c1, hcj, nI_pred]
  · have rd : upd st (F j + 1) (nI (fu' j)) (nI (F j) + 1).toNatClampNeg = nI (fu' j) := by
      rw [ss_cl (a := F j) (k := 1) (by omega)]; exact pk_us
    rw [rd]
    refine pk_eq (fu' j) 0 (fun z0 => ?_) (fun nz => ?_)
    · refine ss_x_sizeAt rfl (by omega) (R.2.1 _ i1) ?_
      rw [i2]
      refine nm_r (pk_sub hu) ?_
      exact hp _ _ _ (Or.inl ⟨z0, rfl, by omega⟩) (ss_RS_delF R hj z0)
    · exact hp _ _ _ (Or.inr ⟨by omega, rfl, rfl⟩) R
end
end
section
/-! the good state; drop, enter, clearSlot -/
/-- closed: links, roots and frames lead to live ones, links go down -/
def ss_CL (E : Nat → Nat) (Lv Fv : Nat → Bool) (Xd : Nat → ss_ER) (hd : Nat → Option Nat) (cur : Option Nat) : Prop :=
  (∀ i, Lv i = true → i < 32 ∧ Fv (ss_fr (Xd i)) = true ∧ (∀ j, ss_ac (Xd i) = some j → Lv j = true ∧ E j < E i) ∧ (∀ j, ss_co (Xd i) = some j → Lv j = true ∧ E j < E i)) ∧
  (∀ f, Fv f = true → f < 32 ∧ 0 < ss_shr Lv Xd f) ∧ (∀ j, cur = some j → Lv j = true) ∧ (∀ h j, h < 8 → hd h = some j → Lv j = true)
def ss_GS (L : List Nat) (z E F : Nat → Nat) (Lv Fv : Nat → Bool) (Xd : Nat → ss_ER) (Fd : Nat → ss_FR) (hd : Nat → Option Nat) (cur : Option Nat) (t : Nat) (s : Nat → Int32) : Prop :=
  ss_RS L z E F Lv Fv Xd Fd (ss_cnt hd cur Lv Xd) (ss_shr Lv Xd) t s ∧ ss_CL E Lv Fv Xd hd cur ∧ ∀ i, Lv i = true → 0 < ss_cnt hd cur Lv Xd i
section
variable {E : Nat → Nat} {Lv Fv : Nat → Bool} {Xd : Nat → ss_ER} {hd : Nat → Option Nat} {cur : Option Nat}
/-- nobody counts what isn't live -/
theorem ss_cnt_dead {x : Nat} (h : ss_CL E Lv Fv Xd hd cur) (hx : Lv x = false) : ss_cnt hd cur Lv Xd x = 0 := by
  by_cases e : 0 < ss_cnt hd cur Lv Xd x
  · have k : Lv x = true := by
      rcases ss_cnt_pos e with k | ⟨h', h8, k⟩ | ⟨j, hj, hl, k⟩
      · exact h.2.2.1 x k
      · exact h.2.2.2 h' x h8 k
      · rcases k with k | k
        · exact ((h.1 j hl).2.2.1 x k).1
        · exact ((h.1 j hl).2.2.2 x k).1
    rw [hx] at k
    exact nomatch k
  · omega
/-- one that has no users goes: what is left is closed -/
theorem ss_CL_del {d : Nat} {Fv' : Nat → Bool} (h : ss_CL E Lv Fv Xd hd cur) (hl : Lv d = true) (h0 : ss_cnt hd cur Lv Xd d = 0)
    (hf : (ss_shr (ss_set Lv d false) Xd (ss_fr (Xd d)) = 0 ∧ Fv' = ss_set Fv (ss_fr (Xd d)) false) ∨ (0 < ss_shr (ss_set Lv d false) Xd (ss_fr (Xd d)) ∧ Fv' = Fv)) : ss_CL E (ss_set Lv d false) Fv' Xd hd cur := by
  obtain ⟨h1, h2, h3, h4⟩ := h
  have hd32 := (h1 d hl).1
  have nl : ∀ i, Lv i = true → ss_ac (Xd i) ≠ some d ∧ ss_co (Xd i) ≠ some d := by
    intro i hi
    have a := ss_sm_ge (f := ss_lk Lv Xd d) 32 (h1 i hi).1
    have b : ss_lk Lv Xd d i = ss_q (ss_ac (Xd i)) d + ss_q (ss_co (Xd i)) d := if_pos hi
    unfold ss_cnt at h0
    refine ⟨fun e => ?_, fun e => ?_⟩
    · rw [e, ss_q_s] at b; omega
    · rw [e, ss_q_s] at b; omega
  have keep : ∀ j, Lv j = true → j ≠ d → ss_set Lv d false j = true := by
    intro j hj e
    rw [ss_set_n e]; exact hj
  refine ⟨?_, ?_, ?_, ?_⟩
  · intro i hi
    obtain ⟨hn, hi'⟩ := ss_set_t hi
    obtain ⟨a, b, c, e⟩ := h1 i hi'
    refine ⟨a, ?_, ?_, ?_⟩
    · rcases hf with ⟨z0, ef⟩ | ⟨_, ef⟩
      · rw [ef]
        by_cases g : ss_fr (Xd i) = ss_fr (Xd d)
        · have k := ss_shr_of (Lv := ss_set Lv d false) (Xd := Xd) a hi
          rw [g] at k
          omega
        · rw [ss_set_n g]; exact b
      · rw [ef]; exact b
    · intro j hj
      obtain ⟨k1, k2⟩ := c j hj
      exact ⟨keep j k1 (fun g => (nl i hi').1 (by rw [hj, g])), k2⟩
    · intro j hj
      obtain ⟨k1, k2⟩ := e j hj
      exact ⟨keep j k1 (fun g => (nl i hi').2 (by rw [hj, g])), k2⟩
  · intro f hfv
    have key : ∀ f, f ≠ ss_fr (Xd d) → Fv f = true → f < 32 ∧ 0 < ss_shr (ss_set Lv d false) Xd f := by
      intro f hn hv
      obtain ⟨a, b⟩ := h2 f hv
      have c := ss_shr_del (Xd := Xd) hd32 hl f
      rw [ss_q_n (fun k => hn (Option.some.inj k).symm)] at c
      exact ⟨a, by omega⟩
    rcases hf with ⟨z0, ef⟩ | ⟨p0, ef⟩
    · rw [ef] at hfv
      obtain ⟨a, b⟩ := ss_set_t hfv
      exact key f a b
    · rw [ef] at hfv
      by_cases g : f = ss_fr (Xd d)
      · rw [g]; rw [g] at hfv; exact ⟨(h2 _ hfv).1, p0⟩
      · exact key f g hfv
  · intro j hj
    refine keep j (h3 j hj) ?_
    intro e
    subst e
    unfold ss_cnt at h0
    rw [hj, ss_q_s] at h0
    omega
  · intro h' j h8 hj
    refine keep j (h4 h' j h8 hj) ?_
    intro e
    subst e
    have a := ss_sm_ge (f := fun h => ss_q (hd h) j) 8 h8
    have b : ss_q (hd h') j = 1 := by
      rw [hj, ss_q_s]
    unfold ss_cnt at h0
    omega
end
section
variable {k1 k2 k3 k4 k5 k6 k7 k8 k9 k10 k11 k12 k13 kc kp kt ku ke : Int32} {st fw pn ah : Nat → Int32}
variable {L : List Nat} {z E F : Nat → Nat} {Xd : Nat → ss_ER} {Fd : Nat → ss_FR} {t : Nat} {hd : Nat → Option Nat} {cur : Option Nat}
theorem ss_x_dropL {post : SX → Prop} {Lv0 Fv0 : Nat → Bool} (ht : t ≤ 240)
    (hp : ∀ Lv Fv s' kp' pn', (∀ i, Lv i = true → Lv0 i = true) → (∀ i, Fv i = true → Fv0 i = true) → ss_GS L z E F Lv Fv Xd Fd hd cur t s' → ss_us Lv Fv Xd Fd ≤ 240 → post (k1, k2, k3, k4, k5, k6, k7, k8, k9, k10, k11, k12, k13, kc, kp', kt, nI (ss_us Lv Fv Xd Fd), ke, s', fw, pn', ah)) :
    ∀ (n c : Nat) (Lv Fv : Nat → Bool) (np : Nat) (pl : Nat → Nat) (st pn : Nat → Int32), 31 ≤ n + c → (∀ i, Lv i = true → Lv0 i = true) → (∀ i, Fv i = true → Fv0 i = true) →
      ss_RS L z E F Lv Fv Xd Fd (ss_cnt hd cur Lv Xd) (ss_shr Lv Xd) t st → ss_CL E Lv Fv Xd hd cur → ss_PD Lv E (ss_cnt hd cur Lv Xd) np pl pn → ss_us Lv Fv Xd Fd + 8 * c ≤ 240 →
      wX_drop_12 post n (nI c) k1 k2 k3 k4 k5 k6 k7 k8 k9 k10 k11 k12 k13 kc (nI np) kt (nI (ss_us Lv Fv Xd Fd)) ke st fw pn ah := by
  intro n
  induction n with
  | zero =>
    intro c Lv Fv np pl st pn hn h1 h2 R C P hu
    omega
  | succ n ih =>
    intro c Lv Fv np pl st pn hn hL hF R C P hu
    have exit : np = 0 → post (k1, k2, k3, k4, k5, k6, k7, k8, k9, k10, k11, k12, k13, kc, nI np, kt, nI (ss_us Lv Fv Xd Fd), ke, st, fw, pn, ah) := by
      intro e
      refine hp Lv Fv st _ pn hL hF ⟨R, C, ?_⟩ (by omega)
      intro i hi
      by_cases g : ss_cnt hd cur Lv Xd i = 0
      · obtain ⟨k, hk, _⟩ := P.2.2 i hi g
        omega
      · omega
    have np32 : np ≤ 32 := ss_has_le (f := pl) (m := 32) (n := np) (fun k hk => (C.1 _ (P.1 k hk).1).1) P.2.1
    refine pk_le 30 c (fun hc => ?_) (fun hc => ?_)
    · refine exit ?_
      by_cases e : np = 0
      · exact e
      · have := (P.1 0 (by omega)).1
        have := ss_us_ge (Fv := Fv) (Xd := Xd) (Fd := Fd) (C.1 _ this).1 this
        omega
    · refine pk_le np 0 (fun h0 => exit (by omega)) (fun h0 => ?_)
      obtain ⟨m, rfl⟩ : ∃ m, np = m + 1 := ⟨np - 1, by omega⟩
      obtain ⟨dl, d0, dp⟩ := P.1 m (by omega)
      have C1 := C.1 (pl m) dl
      have lim := ss_RS_in R dl
      obtain ⟨i1, i2, i3, i4⟩ := R.2.2.1 (pl m) dl
      obtain ⟨x0, x1, x2, x3, x4, x5, x6, x7, x8⟩ := i4
      have usd := ss_us_delE (Fv := Fv) (Xd := Xd) (Fd := Fd) C1.1 dl
      have cntd := fun i => ss_cnt_del (hd := hd) (cur := cur) (Xd := Xd) C1.1 dl i
      have shrd := fun i => ss_shr_del (Xd := Xd) C1.1 dl i
      refine nm_r (nI_pred m) (And.intro (vp_in_nI (by omega) (by decide)) (nm_r (e' := nI (E (pl m))) (by rw [nI_clamp (by omega)]; exact dp) ?_))
      refine ss_x_sizeAt rfl (by omega) (R.2.1 _ i1) ?_
      rw [i2]
      refine nm_r (e' := nI (ss_us (ss_set Lv (pl m) false) Fv Xd Fd)) (by rw [usd, pk_sub (by omega)]; exact congrArg nI (by omega)) ?_
      refine And.intro (ss_ix (k := 2) (by omega) (by decide)) ?_
      refine ss_x_loseF (j := ss_fr (Xd (pl m))) (fu' := ss_shr (ss_set Lv (pl m) false) Xd) (ss_rd (k := 2) x2 (by omega)) rfl R ht C1.2.1 (fun i _ => shrd i) ?_ ?_ ?_
      · have := ss_shr_le (Lv := Lv) (Xd := Xd) (ss_fr (Xd (pl m))); omega
      · have f32 := (C.2.1 _ C1.2.1).1
        have := ss_us_delF (Lv := ss_set Lv (pl m) false) (Xd := Xd) (Fd := Fd) f32 C1.2.1
        omega
      intro Fv' us' s1 hF' R1
      have hus : us' = ss_us (ss_set Lv (pl m) false) Fv' Xd Fd := by
        rcases hF' with ⟨_, e, e2⟩ | ⟨_, e, e2⟩
        · have f32 := (C.2.1 _ C1.2.1).1
          have := ss_us_delF (Lv := ss_set Lv (pl m) false) (Xd := Xd) (Fd := Fd) f32 C1.2.1
          rw [e]; omega
        · rw [e, e2]
      have Cd : ss_CL E (ss_set Lv (pl m) false) Fv' Xd hd cur := ss_CL_del C dl d0 (by
        rcases hF' with ⟨a, e, _⟩ | ⟨a, e, _⟩
        · exact Or.inl ⟨a, e⟩
        · exact Or.inr ⟨a, e⟩)
      have sub : ∀ i, ss_set Lv (pl m) false i = true → Lv i = true ∧ i < 32 := fun i hi => ⟨(ss_set_t hi).2, (C.1 i (ss_set_t hi).2).1⟩
      have acd : ∀ j, ss_ac (Xd (pl m)) = some j → ss_set Lv (pl m) false j = true := by
        intro j hj
        obtain ⟨a, b⟩ := C1.2.2.1 j hj
        rw [ss_set_n (by intro e; rw [e] at b; omega)]; exact a
      have cod : ∀ j, ss_co (Xd (pl m)) = some j → ss_set Lv (pl m) false j = true := by
        intro j hj
        obtain ⟨a, b⟩ := C1.2.2.2 j hj
        rw [ss_set_n (by intro e; rw [e] at b; omega)]; exact a
      have P1 : ss_PD (ss_set Lv (pl m) false) E (ss_cnt hd cur Lv Xd) m pl pn := by
        refine ⟨?_, fun k l hk hl => P.2.1 k l hk (by omega), ?_⟩
        · intro k hk
          obtain ⟨a, b, c⟩ := P.1 k (by omega)
          refine ⟨?_, b, c⟩
          rw [ss_set_n (P.2.1 k m hk (by omega))]; exact a
        · intro i hi hz
          obtain ⟨hn', hi'⟩ := ss_set_t hi
          obtain ⟨k, hk, e⟩ := P.2.2 i hi' hz
          refine ⟨k, ?_, e⟩
          by_cases g : k = m
          · rw [g] at e; exact absurd e.symm hn'
          · omega
      obtain ⟨j1, j2, j3, j4⟩ := R1.2.2.1 (pl m) dl
      obtain ⟨y0, y1, y2, y3, y4, y5, y6, y7, y8⟩ := j4
      refine And.intro (ss_ix (k := 3) (by omega) (by decide)) ?_
      refine ss_x_loseE (o := ss_ac (Xd (pl m))) (Lp := ss_set Lv (pl m) false) (cu' := fun i => ss_cnt hd cur (ss_set Lv (pl m) false) Xd i + ss_q (ss_co (Xd (pl m))) i) (ss_rd (k := 3) y3 (by omega)) rfl R1 ht sub acd (fun i _ => by have := cntd i; omega) (fun i _ => by have := ss_cnt_le (hd := hd) (cur := cur) (Lv := Lv) (Xd := Xd) i; omega) P1 ?_
      intro s2 np2 pl2 pn2 R2 P2
      obtain ⟨k1, k2, k3, k4⟩ := R2.2.2.1 (pl m) dl
      obtain ⟨w0, w1, w2, w3, w4, w5, w6, w7, w8⟩ := k4
      refine And.intro (ss_ix (k := 4) (by omega) (by decide)) ?_
      refine ss_x_loseE (o := ss_co (Xd (pl m))) (Lp := ss_set Lv (pl m) false) (cu' := ss_cnt hd cur (ss_set Lv (pl m) false) Xd) (ss_rd (k := 4) w4 (by omega)) rfl R2 ht sub cod (fun i _ => rfl) (fun i _ => by have := cntd i; have := ss_cnt_le (hd := hd) (cur := cur) (Lv := Lv) (Xd := Xd) i; omega) P2 ?_
      intro s3 np3 pl3 pn3 R3 P3
      refine nm_r (nI_1 c) ?_
      have R4 := ss_RS_delE R3 dl (by have := cntd (pl m); omega)
      rw [hus]
      refine ih (c + 1) (ss_set Lv (pl m) false) Fv' np3 pl3 s3 pn3 (by omega) (fun i hi => hL i (sub i hi).1) ?_ R4 Cd P3 ?_
      · intro f hf
        rcases hF' with ⟨_, e, _⟩ | ⟨_, e, _⟩
        · rw [e] at hf; exact hF f (ss_set_t hf).2
        · rw [e] at hf; exact hF f hf
      · rcases hF' with ⟨_, e, e2⟩ | ⟨_, e, e2⟩
        · omega
        · omega
/-- drop: one user too many is counted at x -/
theorem ss_x_drop {post : SX → Prop} {Lv Fv : Nat → Bool} {cu : Nat → Nat} {x : Int32} {o : Option Nat} (hx : x = ss_oE E o) (ht : t ≤ 240) (hku : ku = nI (ss_us Lv Fv Xd Fd)) (hu : ss_us Lv Fv Xd Fd ≤ 240)
    (h : ss_RS L z E F Lv Fv Xd Fd cu (ss_shr Lv Xd) t st) (C : ss_CL E Lv Fv Xd hd cur) (hc : ∀ i, Lv i = true → cu i = ss_cnt hd cur Lv Xd i + ss_q o i) (hpos : ∀ i, Lv i = true → 0 < cu i) (ho : ∀ j, o = some j → Lv j = true)
    (hp : ∀ Lv' Fv' s' kp' pn', (∀ i, Lv' i = true → Lv i = true) → (∀ i, Fv' i = true → Fv i = true) → ss_GS L z E F Lv' Fv' Xd Fd hd cur t s' → ss_us Lv' Fv' Xd Fd ≤ 240 → post (k1, k2, k3, k4, k5, k6, k7, k8, k9, k10, k11, k12, k13, kc, kp', kt, nI (ss_us Lv' Fv' Xd Fd), ke, s', fw, pn', ah)) : wpX_drop post (k1, k2, k3, k4, k5, k6, k7, k8, k9, k10, k11, k12, k13, kc, kp, kt, ku, ke, st, fw, pn, ah) x := by
  subst hku
  unfold wpX_drop
  refine ss_x_loseE (o := o) (Lp := Lv) (np := 0) (pl := fun _ => 0) (cu' := ss_cnt hd cur Lv Xd) hx rfl h ht (fun i hi => ⟨hi, (C.1 i hi).1⟩) ho hc (fun i hi => by have a := hc i hi; have b := ss_cnt_le (hd := hd) (cur := cur) (Lv := Lv) (Xd := Xd) i; have c := ss_q_le o i; omega) ⟨fun k hk => by omega, fun k l _ hl => by omega, fun i hi h0 => by have := hpos i hi; omega⟩ ?_
  intro s' np' pl' pn' R P
  exact ⟨31, ss_x_dropL ht hp 31 0 Lv Fv np' pl' s' pn' (by omega) (fun _ h => h) (fun _ h => h) R C P (by omega)⟩
theorem ss_x_enter {post : SX → Prop} {Lv Fv : Nat → Bool} {x : Int32} {i : Nat} (hx : x = nI (E i)) (ht : t ≤ 240) (hku : ku = nI (ss_us Lv Fv Xd Fd)) (hu : ss_us Lv Fv Xd Fd ≤ 240) (hke : ke = ss_oE E cur)
    (h : ss_RS L z E F Lv Fv Xd Fd (ss_cnt hd cur Lv Xd) (ss_shr Lv Xd) t st) (C : ss_CL E Lv Fv Xd hd cur) (hi : Lv i = true) (hpos : ∀ j, Lv j = true → j ≠ i → 0 < ss_cnt hd cur Lv Xd j)
    (hp : ∀ Lv' Fv' s' kp' pn', (∀ i, Lv' i = true → Lv i = true) → (∀ i, Fv' i = true → Fv i = true) → ss_GS L z E F Lv' Fv' Xd Fd hd (some i) t s' → ss_us Lv' Fv' Xd Fd ≤ 240 → post (k1, k2, k3, k4, k5, k6, k7, k8, k9, k10, k11, k12, k13, kc, kp', kt, nI (ss_us Lv' Fv' Xd Fd), nI (E i), s', fw, pn', ah)) : wpX_enter post (k1, k2, k3, k4, k5, k6, k7, k8, k9, k10, k11, k12, k13, kc, kp, kt, ku, ke, st, fw, pn, ah) x := by
  unfold wpX_enter
  refine ss_x_addE (o := some i) hx h ht (fun j hj => by rw [← Option.some.inj hj]; exact hi) ?_
  intro s' R
  subst hx
  refine ss_x_drop (Lv := Lv) (Fv := Fv) (hd := hd) (cur := some i) (o := cur) hke ht hku hu R ⟨C.1, C.2.1, fun j hj => by rw [← Option.some.inj hj]; exact hi, C.2.2.2⟩ ?_ ?_ C.2.2.1 ?_
  · intro j hj
    have := ss_cnt_cur (hd := hd) (cur := cur) (Lv := Lv) (Xd := Xd) (o := some i) j
    show ss_cnt hd cur Lv Xd j + ss_q (some i) j = _
    omega
  · intro j hj
    show 0 < ss_cnt hd cur Lv Xd j + ss_q (some i) j
    by_cases e : j = i
    · subst e; rw [ss_q_s]; omega
    · have := hpos j hj e; omega
  · intro Lv' Fv' s2 kp' pn' hL hF G hu'
    exact hp Lv' Fv' s2 kp' pn' hL hF G hu'
theorem ss_x_clearSlot {post : SX → Prop} {Lv Fv : Nat → Bool} {x : Int32} {h i : Nat} (hx : x = nI h) (h8 : h < 8) (hh : hd h = some i) (hhx : ah h = nI (E i)) (ht : t ≤ 240) (hku : ku = nI (ss_us Lv Fv Xd Fd)) (hu : ss_us Lv Fv Xd Fd ≤ 240)
    (G : ss_GS L z E F Lv Fv Xd Fd hd cur t st)
    (hp : ∀ Lv' Fv' s' kp' pn', (∀ i, Lv' i = true → Lv i = true) → (∀ i, Fv' i = true → Fv i = true) → ss_GS L z E F Lv' Fv' Xd Fd (ss_set hd h none) cur t s' → ss_us Lv' Fv' Xd Fd ≤ 240 → post (k1, k2, k3, k4, k5, k6, k7, k8, k9, k10, k11, k12, k13, kc, kp', kt, nI (ss_us Lv' Fv' Xd Fd), ke, s', fw, pn', upd ah h (-1))) : wpX_clearSlot post (k1, k2, k3, k4, k5, k6, k7, k8, k9, k10, k11, k12, k13, kc, kp, kt, ku, ke, st, fw, pn, ah) x := by
  subst hx
  obtain ⟨R, C, Pz⟩ := G
  unfold wpX_clearSlot
  refine And.intro (vp_in_nI h8 (by decide)) (nm_r (e' := nI (E i)) (ss_rd0 hhx (by omega)) (And.intro (vp_in_nI h8 (by decide)) (nm_r (e' := upd ah h (-1)) (by rw [nI_clamp (by omega)]) ?_)))
  refine ss_x_drop (Lv := Lv) (Fv := Fv) (hd := ss_set hd h none) (cur := cur) (o := some i) rfl ht hku hu R ⟨C.1, C.2.1, C.2.2.1, ?_⟩ ?_ Pz ?_ ?_
  · intro k j hk hj
    by_cases e : k = h
    · rw [e, ss_set_s] at hj; exact nomatch hj
    · rw [ss_set_n e] at hj; exact C.2.2.2 k j hk hj
  · intro j hj
    have := ss_cnt_hd (hd := hd) (cur := cur) (Lv := Lv) (Xd := Xd) (o := none) h8 j
    rw [hh, ss_q_no] at this
    omega
  · intro j hj
    exact C.2.2.2 h j h8 (by rw [hh, hj])
  · intro Lv' Fv' s2 kp' pn' hL hF G hu'
    exact hp Lv' Fv' s2 kp' pn' hL hF G hu'
end
end
section
/-! X makes frames and extensions -/
section
variable {k1 k2 k3 k4 k5 k6 k7 k8 k9 k10 k11 k12 k13 kc kp kt ku ke : Int32} {st fw pn ah : Nat → Int32}
variable {L : List Nat} {z E F : Nat → Nat} {Lv Fv : Nat → Bool} {Xd : Nat → ss_ER} {Fd : Nat → ss_FR} {cu fu : Nat → Nat} {t : Nat}
theorem ss_x_mkF {post : Int32 → SX → Prop} {x : Int32} {f m us : Nat} (hx : x = nI m) (hkt : kt = nI t) (hku : ku = nI us) (hm : m ≤ 4) (ht : t + (3 + 2 * m) ≤ 240) (h : ss_RS L z E F Lv Fv Xd Fd cu fu t st) (hf : Fv f = false) (hn : ∀ i, Lv i = true → ss_fr (Xd i) ≠ f)
    (hp : ∀ s', ss_RS (L ++ [t]) (ss_set z t (3 + 2 * m)) E (ss_set F f t) Lv (ss_set Fv f true) Xd (ss_set Fd f (m, 0, (fun _ => 0), (fun _ => 0))) cu (ss_set fu f 0) (t + (3 + 2 * m)) s' → post (nI t) (k1, k2, k3, k4, k5, k6, k7, k8, k9, k10, k11, k12, k13, kc, kp, nI (t + (3 + 2 * m)), nI (us + (3 + 2 * m)), ke, s', fw, pn, ah)) :
    wpX_makeFrame post (k1, k2, k3, k4, k5, k6, k7, k8, k9, k10, k11, k12, k13, kc, kp, kt, ku, ke, st, fw, pn, ah) x := by
  subst hx hkt hku
  unfold wpX_makeFrame wpX_allocate
  refine nm_r (e' := nI (t + (3 + 2 * m))) (by rw [ss_c32, nI_add]) (nm_r (e' := nI (us + (3 + 2 * m))) (by rw [ss_c32, nI_add]) ?_)
  refine And.intro (vp_in_nI (by omega) (by decide)) (nm_r (e' := upd st t (nI m)) (by rw [nI_clamp (by omega)]) ?_)
  refine And.intro (ss_ix (k := 1) (by omega) (by decide)) (nm_r (e' := upd (upd st t (nI m)) (t + 1) 0) (by rw [ss_cl (k := 1) (by omega)]) ?_)
  refine And.intro (ss_ix (k := 2) (by omega) (by decide)) (nm_r (e' := upd (upd (upd st t (nI m)) (t + 1) 0) (t + 2) 0) (by rw [ss_cl (k := 2) (by omega)]) ?_)
  apply hp
  refine ss_RS_newF (r := (m, 0, (fun _ => 0), (fun _ => 0))) h hf hn ?_ ⟨Nat.zero_le _, hm, fun k hk => absurd hk (Nat.not_lt_zero _), fun k l _ hl => absurd hl (Nat.not_lt_zero _)⟩ ⟨?_, ?_, ?_, fun k hk => absurd hk (Nat.not_lt_zero _)⟩
  · intro p hp
    rw [pk_un (by omega), pk_un (by omega), pk_un (by omega)]
  · rw [pk_un (by omega), pk_un (by omega), pk_us]; rfl
  · rw [pk_un (by omega), pk_us]; rfl
  · rw [pk_us]; rfl
/-- a fresh extension's record -/
def ss_new (f : Nat) (ac co : Option Nat) (m : Nat) : ss_ER := (f, ac, co, 0, 0, m, 0, fun _ => 0)
theorem ss_x_mkE {post : Int32 → SX → Prop} {xf xa xc xm : Int32} {x f m us : Nat} {ac co : Option Nat} (hxf : xf = nI (F f)) (hxa : xa = ss_oE E ac) (hxc : xc = ss_oE E co) (hxm : xm = nI m) (hkt : kt = nI t) (hku : ku = nI us) (hm : m ≤ 4) (ht : t + (8 + m) ≤ 240)
    (h : ss_RS L z E F Lv Fv Xd Fd cu fu t st) (hx : Lv x = false) (hn : ∀ i, Lv i = true → ss_ac (Xd i) ≠ some x ∧ ss_co (Xd i) ≠ some x) (hf : Fv f = true) (hac : ∀ j, ac = some j → Lv j = true) (hco : ∀ j, co = some j → Lv j = true)
    (hp : ∀ s', ss_RS (L ++ [t]) (ss_set z t (8 + m)) (ss_set E x t) F (ss_set Lv x true) Fv (ss_set Xd x (ss_new f ac co m)) Fd (fun i => ss_set cu x 0 i + ss_q ac i + ss_q co i) (fun i => fu i + ss_q (some f) i) (t + (8 + m)) s' → post (nI t) (k1, k2, k3, k4, k5, k6, k7, k8, k9, k10, k11, k12, k13, kc, kp, nI (t + (8 + m)), nI (us + (8 + m)), ke, s', fw, pn, ah)) :
    wpX_makeExtension post (k1, k2, k3, k4, k5, k6, k7, k8, k9, k10, k11, k12, k13, kc, kp, kt, ku, ke, st, fw, pn, ah) xf xa xc xm := by
  have na : ∀ j, ac = some j → ss_set E x t j = E j := by
    intro j hj
    refine ss_set_n (fun e => ?_)
    have := hac j hj
    rw [e, hx] at this
    exact nomatch this
  have nc : ∀ j, co = some j → ss_set E x t j = E j := by
    intro j hj
    refine ss_set_n (fun e => ?_)
    have := hco j hj
    rw [e, hx] at this
    exact nomatch this
  have ea : ss_oE (ss_set E x t) ac = ss_oE E ac := ss_oE_c na
  have ec : ss_oE (ss_set E x t) co = ss_oE E co := ss_oE_c nc
  subst hxm hkt hku
  unfold wpX_makeExtension wpX_allocate
  refine nm_r (e' := nI (t + (8 + m))) (by rw [ss_c8, nI_add]) (nm_r (e' := nI (us + (8 + m))) (by rw [ss_c8, nI_add]) ?_)
  refine And.intro (vp_in_nI (by omega) (by decide)) (nm_r (e' := upd st t (nI (8 + m))) (by rw [nI_clamp (by omega), ss_c8]) ?_)
  refine And.intro (ss_ix (k := 1) (by omega) (by decide)) (nm_r (e' := upd (upd st t (nI (8 + m))) (t + 1) 0) (by rw [ss_cl (k := 1) (by omega)]) ?_)
  refine And.intro (ss_ix (k := 2) (by omega) (by decide)) (nm_r (e' := upd (upd (upd st t (nI (8 + m))) (t + 1) 0) (t + 2) xf) (by rw [ss_cl (k := 2) (by omega)]) ?_)
  refine And.intro (ss_ix (k := 3) (by omega) (by decide)) (nm_r (e' := upd (upd (upd (upd st t (nI (8 + m))) (t + 1) 0) (t + 2) xf) (t + 3) xa) (by rw [ss_cl (k := 3) (by omega)]) ?_)
  refine And.intro (ss_ix (k := 4) (by omega) (by decide)) (nm_r (e' := upd (upd (upd (upd (upd st t (nI (8 + m))) (t + 1) 0) (t + 2) xf) (t + 3) xa) (t + 4) xc) (by rw [ss_cl (k := 4) (by omega)]) ?_)
  refine And.intro (ss_ix (k := 5) (by omega) (by decide)) (nm_r (e' := upd (upd (upd (upd (upd (upd st t (nI (8 + m))) (t + 1) 0) (t + 2) xf) (t + 3) xa) (t + 4) xc) (t + 5) 0) (by rw [ss_cl (k := 5) (by omega)]) ?_)
  refine And.intro (ss_ix (k := 6) (by omega) (by decide)) (nm_r (e' := upd (upd (upd (upd (upd (upd (upd st t (nI (8 + m))) (t + 1) 0) (t + 2) xf) (t + 3) xa) (t + 4) xc) (t + 5) 0) (t + 6) 0) (by rw [ss_cl (k := 6) (by omega)]) ?_)
  refine And.intro (ss_ix (k := 7) (by omega) (by decide)) (nm_r (e' := upd (upd (upd (upd (upd (upd (upd (upd st t (nI (8 + m))) (t + 1) 0) (t + 2) xf) (t + 3) xa) (t + 4) xc) (t + 5) 0) (t + 6) 0) (t + 7) 0) (by rw [ss_cl (k := 7) (by omega)]) ?_)
  have R := ss_RS_newE (x := x) (r := ss_new f ac co m) (n := 0) (s' := upd (upd (upd (upd (upd (upd (upd (upd st t (nI (8 + m))) (t + 1) 0) (t + 2) xf) (t + 3) xa) (t + 4) xc) (t + 5) 0) (t + 6) 0) (t + 7) 0) h hx hn (by
      intro p hp
      rw [pk_un (by omega), pk_un (by omega), pk_un (by omega), pk_un (by omega), pk_un (by omega), pk_un (by omega), pk_un (by omega), pk_un (by omega)]) ⟨Nat.zero_le _, hm⟩ (by
      refine ⟨?_, ?_, ?_, ?_, ?_, ?_, ?_, ?_, fun k hk => absurd hk (Nat.not_lt_zero _)⟩
      · rw [pk_un (by omega), pk_un (by omega), pk_un (by omega), pk_un (by omega), pk_un (by omega), pk_un (by omega), pk_un (by omega), pk_us]; rfl
      · rw [pk_un (by omega), pk_un (by omega), pk_un (by omega), pk_un (by omega), pk_un (by omega), pk_un (by omega), pk_us]; rfl
      · rw [pk_un (by omega), pk_un (by omega), pk_un (by omega), pk_un (by omega), pk_un (by omega), pk_us]; exact hxf
      · rw [pk_un (by omega), pk_un (by omega), pk_un (by omega), pk_un (by omega), pk_us]; exact hxa.trans ea.symm
      · rw [pk_un (by omega), pk_un (by omega), pk_un (by omega), pk_us]; exact hxc.trans ec.symm
      · rw [pk_un (by omega), pk_un (by omega), pk_us]; rfl
      · rw [pk_un (by omega), pk_us]; rfl
      · rw [pk_us]; rfl)
  have lv : ∀ j, Lv j = true → ss_set Lv x true j = true := by
    intro j hj
    rw [ss_set_n (fun e => by rw [e, hx] at hj; exact nomatch hj)]; exact hj
  refine ss_x_addF hxf R ht hf ?_
  intro s1 R1
  refine ss_x_addE (o := ac) (hxa.trans ea.symm) R1 ht (fun j hj => lv j (hac j hj)) ?_
  intro s2 R2
  refine ss_x_addE (o := co) (hxc.trans ec.symm) R2 ht (fun j hj => lv j (hco j hj)) ?_
  intro s3 R3
  exact hp s3 R3
end
end
section
/-! the compaction: planMoves, redirectBlocks, redirectRoots, slideBlocks, reserve -/
section
variable {k1 k2 k3 k4 k5 k6 k7 k8 k9 k10 k11 k12 k13 kc kp kt ku ke : Int32} {st fw pn ah : Nat → Int32}
variable {L : List Nat} {z E F E' F' : Nat → Nat} {Lv Fv : Nat → Bool} {Xd : Nat → ss_ER} {Fd : Nat → ss_FR} {cu fu : Nat → Nat} {t : Nat} {al : Nat → Bool} {hd : Nat → Option Nat} {cur : Option Nat}
theorem ss_x_planL {post : SX → Prop} (ht : t ≤ 240) (h1 : ss_Lay z L 0 t) (h2 : ss_Hd L z st) (hal : ∀ a, a ∈ L → (al a = true ↔ ¬ st (a + 1) ≤ 0))
    (hp : ∀ fw', (∀ a, a ∈ L → al a = true → fw' a = nI (ss_fw z al L a)) → post (k1, k2, k3, k4, k5, k6, k7, k8, k9, k10, k11, k12, k13, kc, kp, nI t, ku, ke, st, fw', pn, ah)) :
    ∀ (n c b : Nat) (fw : Nat → Int32), t - b < n → 3 * c ≤ b → (b ∈ L ∨ b = t) → (∀ a, a ∈ L → a < b → al a = true → fw a = nI (ss_fw z al L a)) →
      wX_planMoves_6 post k1 k2 k3 k4 k5 k6 k7 k8 k9 k10 k11 k12 k13 kc kp (nI t) ku ke n (nI b) (nI (ss_fw z al L b)) (nI c) st fw pn ah := by
  intro n
  induction n with
  | zero => intro c b fw hn; omega
  | succ n ih =>
    intro c b fw hn hc hb hf
    have bt : b ≤ t := by
      rcases hb with g | g
      · have := (ss_Lay_in h1 b g).2.1; omega
      · omega
    have exit : b = t → post (k1, k2, k3, k4, k5, k6, k7, k8, k9, k10, k11, k12, k13, kc, kp, nI t, ku, ke, st, fw, pn, ah) := by
      intro e
      exact hp fw (fun a ha hl => hf a ha (by have q := ss_Lay_in h1 a ha; have q1 := q.2.1; have q2 := q.2.2.1; omega) hl)
    refine pk_le 80 c (fun g => exit (by omega)) (fun g => pk_le t b (fun g2 => exit (by omega)) (fun g2 => ?_))
    have bL : b ∈ L := by
      rcases hb with k | k
      · exact k
      · omega
    obtain ⟨_, lb, l3, l12, lnext⟩ := ss_Lay_in h1 b bL
    refine ss_x_sizeAt rfl (by omega) (h2 b bL) ?_
    refine And.intro (ss_ix (k := 1) (by omega) (by decide)) ?_
    rw [ss_cl (a := b) (k := 1) (by omega)]
    have st' := ss_fw_step (al := al) h1 bL
    have lo : ∀ a, a ∈ L → a < b + z b → a ≠ b → a < b := by
      intro a ha hab k
      by_cases q : a < b
      · exact q
      · have := ss_Lay_dis h1 b a bL ha (by omega); omega
    by_cases e : al b = true
    · refine br_f ((hal b bL).mp e) (And.intro (vp_in_nI (by omega) (by decide)) (nm_r (e' := upd fw b (nI (ss_fw z al L b))) (by rw [nI_clamp (by omega)]) (nm_r (e' := nI (ss_fw z al L (b + z b))) (by rw [nI_add, st', if_pos e]) (nm_r (nI_add b (z b)) (nm_r (nI_1 c) ?_)))))
      refine ih (c + 1) (b + z b) _ (by omega) (by omega) lnext ?_
      intro a ha hab hl
      by_cases k : a = b
      · subst k; exact pk_us
      · rw [pk_un k]
        exact hf a ha (lo a ha hab k) hl
    · refine br_t (by
        by_cases q : st (b + 1) ≤ 0
        · exact q
        · exact absurd ((hal b bL).mpr q) e) (nm_r (nI_add b (z b)) (nm_r (nI_1 c) ?_))
      have e2 : ss_fw z al L b = ss_fw z al L (b + z b) := by rw [st', if_neg e]; rfl
      rw [e2]
      refine ih (c + 1) (b + z b) _ (by omega) (by omega) lnext ?_
      intro a ha hab hl
      by_cases k : a = b
      · subst k; exact absurd hl e
      · exact hf a ha (lo a ha hab k) hl
theorem ss_x_moved {post : Int32 → Prop} {x : Int32} {o : Option Nat} (hx : x = ss_oE E o) (hb : ∀ j, o = some j → E j < 240 ∧ fw (E j) = nI (E' j)) (hp : post (ss_oE E' o)) : wpX_moved post (k1, k2, k3, k4, k5, k6, k7, k8, k9, k10, k11, k12, k13, kc, kp, kt, ku, ke, st, fw, pn, ah) x := by
  subst hx
  cases o with
  | none => exact br_f (show ¬ (0 : Int32) ≤ -1 by decide) hp
  | some j =>
    obtain ⟨a, b⟩ := hb j rfl
    refine br_t (nI_pos' (n := E j) (by omega)) (And.intro (vp_in_nI (n := E j) a (by decide)) ?_)
    show post (fw (nI (E j)).toNatClampNeg)
    rw [nI_clamp (by omega), b]
    exact hp
theorem ss_x_redirL {post : SX → Prop} (ht : t ≤ 240) (h1 : ss_Lay z L 0 t)
    (hE : ∀ i, Lv i = true → E i ∈ L ∧ z (E i) = 8 + ss_rm (Xd i) ∧ ss_EW (Xd i) ∧ al (E i) = true) (hF : ∀ f, Fv f = true → F f ∈ L ∧ z (F f) = 3 + 2 * ss_br (Fd f) ∧ ss_FW (Fd f)) (hI : ss_RI E F Lv Fv)
    (hfe : ∀ i, Lv i = true → fw (E i) = nI (E' i)) (hff : ∀ f, Fv f = true → fw (F f) = nI (F' f))
    (hcl : ∀ i, Lv i = true → Fv (ss_fr (Xd i)) = true ∧ (∀ j, ss_ac (Xd i) = some j → Lv j = true) ∧ (∀ j, ss_co (Xd i) = some j → Lv j = true))
    (hal : ∀ a, a ∈ L → al a = true → (∃ i, Lv i = true ∧ a = E i) ∨ (∃ f, Fv f = true ∧ a = F f))
    (u0 : Nat → Int32) (hu0 : ∀ a, a ∈ L → (al a = true ↔ ¬ u0 a ≤ 0))
    (hp : ∀ s', ss_Hd L z s' → (∀ a, a ∈ L → s' (a + 1) = u0 a) → (∀ i, Lv i = true → ss_XC s' E' F' (E i) (Xd i) (cu i)) → (∀ f, Fv f = true → ss_FC s' (F f) (Fd f) (fu f)) → post (k1, k2, k3, k4, k5, k6, k7, k8, k9, k10, k11, k12, k13, kc, kp, nI t, ku, ke, s', fw, pn, ah)) :
    ∀ (n c b : Nat) (s : Nat → Int32), t - b < n → 3 * c ≤ b → (b ∈ L ∨ b = t) → ss_Hd L z s → (∀ a, a ∈ L → s (a + 1) = u0 a) →
      (∀ i, Lv i = true → (E i < b → ss_XC s E' F' (E i) (Xd i) (cu i)) ∧ (b ≤ E i → ss_XC s E F (E i) (Xd i) (cu i))) → (∀ f, Fv f = true → ss_FC s (F f) (Fd f) (fu f)) →
      wX_redirectBlocks_4 post k1 k2 k3 k4 k5 k6 k7 k8 k9 k10 k11 k12 k13 kc kp (nI t) ku ke n (nI b) (nI c) s fw pn ah := by
  intro n
  induction n with
  | zero => intro c b s hn; omega
  | succ n ih =>
    intro c b s hn hc hb hh hu hx hf
    have bt : b ≤ t := by
      rcases hb with g | g
      · have := (ss_Lay_in h1 b g).2.1; omega
      · omega
    have exit : b = t → post (k1, k2, k3, k4, k5, k6, k7, k8, k9, k10, k11, k12, k13, kc, kp, nI t, ku, ke, s, fw, pn, ah) := by
      intro e
      refine hp s hh hu (fun i hi => (hx i hi).1 ?_) hf
      have q := ss_Lay_in h1 _ (hE i hi).1
      have q1 := q.2.1
      have q2 := q.2.2.1
      omega
    refine pk_le 80 c (fun g => exit (by omega)) (fun g => pk_le t b (fun g2 => exit (by omega)) (fun g2 => ?_))
    have bL : b ∈ L := by
      rcases hb with k | k
      · exact k
      · omega
    obtain ⟨_, lb, l3, l12, lnext⟩ := ss_Lay_in h1 b bL
    have lo : ∀ a, a ∈ L → a < b + z b → a ≠ b → a < b := by
      intro a ha hab k
      by_cases q : a < b
      · exact q
      · have := ss_Lay_dis h1 b a bL ha (by omega); omega
    have nx : ∀ s', ss_Hd L z s' → (∀ a, a ∈ L → s' (a + 1) = u0 a) →
        (∀ i, Lv i = true → (E i < b + z b → ss_XC s' E' F' (E i) (Xd i) (cu i)) ∧ (b + z b ≤ E i → ss_XC s' E F (E i) (Xd i) (cu i))) → (∀ f, Fv f = true → ss_FC s' (F f) (Fd f) (fu f)) →
        wX_redirectBlocks_100 post (wX_redirectBlocks_4 post k1 k2 k3 k4 k5 k6 k7 k8 k9 k10 k11 k12 k13 kc kp (nI t) ku ke n) (nI b) (nI c) k1 k2 k3 k4 k5 k6 k7 k8 k9 k10 k11 k12 k13 kc kp (nI t) ku ke s' fw pn ah := by
      intro s' q1 q2 q3 q4
      unfold wX_redirectBlocks_100
      refine ss_x_sizeAt rfl (by omega) (q1 b bL) ?_
      refine nm_r (nI_add b (z b)) (nm_r (nI_1 c) ?_)
      exact ih (c + 1) (b + z b) s' (by omega) (by omega) lnext q1 q2 q3 q4
    have skip : (∀ i, Lv i = true → E i ≠ b) → wX_redirectBlocks_100 post (wX_redirectBlocks_4 post k1 k2 k3 k4 k5 k6 k7 k8 k9 k10 k11 k12 k13 kc kp (nI t) ku ke n) (nI b) (nI c) k1 k2 k3 k4 k5 k6 k7 k8 k9 k10 k11 k12 k13 kc kp (nI t) ku ke s fw pn ah := by
      intro q
      refine nx s hh hu (fun i hi => ⟨fun k => (hx i hi).1 (lo _ (hE i hi).1 k (q i hi)), fun k => (hx i hi).2 (by omega)⟩) hf
    have hdE : ∀ i, Lv i = true → E i = b → s b = nI (8 + ss_rm (Xd i)) := by
      intro i hi e
      have q := ((hx i hi).2 (by omega)).1
      rw [e] at q
      exact q
    refine And.intro (vp_in_nI (by omega) (by decide)) ?_
    rw [nI_clamp (n := b) (by omega)]
    rcases hh b bL with ⟨m, hm, e, en⟩ | ⟨m, hm, e, en⟩
    · rw [e]
      refine br_t (nI_lt (a := m) (b := 8) (by omega) (by decide)) (skip ?_)
      intro i hi k
      have q := hdE i hi k
      rw [e] at q
      have q' := (nI_eq (by omega) (by have := (hE i hi).2.2.1.2; omega)).mp q
      omega
    · rw [e]
      refine br_f (nI_nlt (a := 8 + m) (b := 8) (by omega) (by omega)) (And.intro (ss_ix (k := 1) (by omega) (by decide)) ?_)
      rw [ss_cl (a := b) (k := 1) (by omega), hu b bL]
      by_cases g3 : al b = true
      · refine br_f ((hu0 b bL).mp g3) ?_
        obtain ⟨i, hi, ei⟩ : ∃ i, Lv i = true ∧ b = E i := by
          rcases hal b bL g3 with k | ⟨f, hfv, k⟩
          · exact k
          · have q := (hf f hfv).1
            rw [← k, e] at q
            have q2 := (hF f hfv).2.2.2.1
            have q' := (nI_eq (by omega) (by omega)).mp q
            omega
        obtain ⟨v0, v1, v2, v3, v4, v5, v6, v7, v8⟩ := (hx i hi).2 (by omega)
        obtain ⟨c1, c2, c3⟩ := hcl i hi
        obtain ⟨e1, e2, e3, e4⟩ := hE i hi
        have e3a := e3.1
        have e3b := e3.2
        rw [← ei] at v0 v1 v2 v3 v4 v5 v6 v7 v8 e2
        have bnd : ∀ j, Lv j = true → E j < 240 := by
          intro j hj
          have q := ss_Lay_in h1 _ (hE j hj).1
          have q1 := q.2.1
          have q2 := q.2.2.1
          omega
        have bndF : ∀ j, Fv j = true → F j < 240 := by
          intro j hj
          have q := ss_Lay_in h1 _ (hF j hj).1
          have q1 := q.2.1
          have q2 := q.2.2.1
          omega
        refine And.intro (ss_ix (k := 2) (by omega) (by decide)) (ss_x_moved (E := F) (E' := F') (o := some (ss_fr (Xd i))) (ss_rd (k := 2) v2 (by omega)) (fun j hj => by rw [← Option.some.inj hj]; exact ⟨bndF _ c1, hff _ c1⟩) ?_)
        refine And.intro (ss_ix (k := 2) (by omega) (by decide)) (nm_r (e' := upd s (b + 2) (nI (F' (ss_fr (Xd i))))) (by rw [ss_cl (k := 2) (by omega)]; rfl) ?_)
        refine And.intro (ss_ix (k := 3) (by omega) (by decide)) (ss_x_moved (E := E) (E' := E') (o := ss_ac (Xd i)) (ss_rd (k := 3) (by rw [pk_un (by omega)]; exact v3) (by omega)) (fun j hj => ⟨bnd _ (c2 j hj), hfe _ (c2 j hj)⟩) ?_)
        refine And.intro (ss_ix (k := 3) (by omega) (by decide)) (nm_r (e' := upd (upd s (b + 2) (nI (F' (ss_fr (Xd i))))) (b + 3) (ss_oE E' (ss_ac (Xd i)))) (by rw [ss_cl (k := 3) (by omega)]) ?_)
        refine And.intro (ss_ix (k := 4) (by omega) (by decide)) (ss_x_moved (E := E) (E' := E') (o := ss_co (Xd i)) (ss_rd (k := 4) (by rw [pk_un (by omega), pk_un (by omega)]; exact v4) (by omega)) (fun j hj => ⟨bnd _ (c3 j hj), hfe _ (c3 j hj)⟩) ?_)
        refine And.intro (ss_ix (k := 4) (by omega) (by decide)) (nm_r (e' := upd (upd (upd s (b + 2) (nI (F' (ss_fr (Xd i))))) (b + 3) (ss_oE E' (ss_ac (Xd i)))) (b + 4) (ss_oE E' (ss_co (Xd i)))) (by rw [ss_cl (k := 4) (by omega)]) ?_)
        have same : ∀ p, p ≠ b + 2 → p ≠ b + 3 → p ≠ b + 4 → upd (upd (upd s (b + 2) (nI (F' (ss_fr (Xd i))))) (b + 3) (ss_oE E' (ss_ac (Xd i)))) (b + 4) (ss_oE E' (ss_co (Xd i))) p = s p := by
          intro p p2 p3 p4
          rw [pk_un p4, pk_un p3, pk_un p2]
        have far : ∀ a, a ∈ L → a ≠ b → ∀ p, a ≤ p → p < a + z a → upd (upd (upd s (b + 2) (nI (F' (ss_fr (Xd i))))) (b + 3) (ss_oE E' (ss_ac (Xd i)))) (b + 4) (ss_oE E' (ss_co (Xd i))) p = s p := by
          intro a ha hab p hp1 hp2
          have q : a + z a ≤ b ∨ b + z b ≤ a := by
            by_cases k : a < b
            · exact Or.inl (ss_Lay_dis h1 a b ha bL k)
            · exact Or.inr (ss_Lay_dis h1 b a bL ha (by omega))
          apply same <;> omega
        refine nx _ ?_ ?_ ?_ ?_
        · intro a ha
          by_cases k : a = b
          · rw [k, same b (by omega) (by omega) (by omega)]; exact hh b bL
          · have q := (ss_Lay_in h1 a ha).2.2.1
            rw [far a ha k a (by omega) (by omega)]; exact hh a ha
        · intro a ha
          by_cases k : a = b
          · rw [k, same (b + 1) (by omega) (by omega) (by omega)]; exact hu b bL
          · have q := (ss_Lay_in h1 a ha).2.2.1
            rw [far a ha k (a + 1) (by omega) (by omega)]; exact hu a ha
        · intro j hj
          by_cases k : j = i
          · subst k
            refine ⟨fun _ => ?_, fun q => by omega⟩
            rw [← ei]
            refine ⟨?_, ?_, ?_, ?_, ?_, ?_, ?_, ?_, ?_⟩
            · rw [same b (by omega) (by omega) (by omega)]; exact v0
            · rw [same _ (by omega) (by omega) (by omega)]; exact v1
            · rw [pk_un (by omega), pk_un (by omega), pk_us]
            · rw [pk_un (by omega), pk_us]
            · rw [pk_us]
            · rw [same _ (by omega) (by omega) (by omega)]; exact v5
            · rw [same _ (by omega) (by omega) (by omega)]; exact v6
            · rw [same _ (by omega) (by omega) (by omega)]; exact v7
            · intro l hl
              rw [same _ (by omega) (by omega) (by omega)]; exact v8 l hl
          · have ne : E j ≠ b := fun q => k (hI.1 j i hj hi (by rw [q, ei]))
            obtain ⟨w1, w2, w3, w4⟩ := hE j hj
            have ff : ∀ p, E j ≤ p → p < E j + (8 + ss_rm (Xd j)) → upd (upd (upd s (b + 2) (nI (F' (ss_fr (Xd i))))) (b + 3) (ss_oE E' (ss_ac (Xd i)))) (b + 4) (ss_oE E' (ss_co (Xd i))) p = s p := fun p a1 a2 => far (E j) w1 ne p a1 (by omega)
            refine ⟨fun q => ss_XC_f ((hx j hj).1 (lo _ w1 q ne)) w3 ff, fun q => ss_XC_f ((hx j hj).2 (by omega)) w3 ff⟩
        · intro f hfv
          obtain ⟨w1, w2, w3⟩ := hF f hfv
          refine ss_FC_f (hf f hfv) w3 (fun p a1 a2 => far (F f) w1 ?_ p a1 (by omega))
          intro q
          exact hI.2.2 i f hi hfv (by rw [q, ei])
      · refine br_t (by
          by_cases q : u0 b ≤ 0
          · exact q
          · exact absurd ((hu0 b bL).mpr q) g3) (skip ?_)
        intro i hi k
        apply g3
        rw [← k]
        exact (hE i hi).2.2.2
theorem ss_x_rootsL {post : SX → Prop} (hbnd : ∀ i, Lv i = true → E i < 240 ∧ fw (E i) = nI (E' i)) (hcur : ∀ j, cur = some j → Lv j = true) (hhd : ∀ h j, h < 8 → hd h = some j → Lv j = true) (hke : ke = ss_oE E cur)
    (hp : ∀ ah', (∀ k, k < 8 → ah' k = ss_oE E' (hd k)) → post (k1, k2, k3, k4, k5, k6, k7, k8, k9, k10, k11, k12, k13, kc, kp, kt, ku, ss_oE E' cur, st, fw, pn, ah')) :
    ∀ (n h : Nat) (ah : Nat → Int32), 8 < n + h → h ≤ 8 → (∀ k, k < h → ah k = ss_oE E' (hd k)) → (∀ k, h ≤ k → k < 8 → ah k = ss_oE E (hd k)) →
      wX_redirectRoots_2 post k1 k2 k3 k4 k5 k6 k7 k8 k9 k10 k11 k12 k13 kc kp kt ku ke n (nI h) st fw pn ah := by
  intro n
  induction n with
  | zero => intro h ah hn; omega
  | succ n ih =>
    intro h ah hn h8 q1 q2
    refine pk_le 8 h (fun g => ?_) (fun g => ?_)
    · refine ss_x_moved (E' := E') (o := cur) hke (fun j hj => hbnd j (hcur j hj)) ?_
      exact hp ah (fun k hk => q1 k (by omega))
    · refine And.intro (vp_in_nI (by omega) (by decide)) (ss_x_moved (E' := E') (o := hd h) (ss_rd0 (q2 h (by omega) (by omega)) (by omega)) (fun j hj => hbnd j (hhd h j (by omega) hj)) ?_)
      refine And.intro (vp_in_nI (by omega) (by decide)) (nm_r (e' := upd ah h (ss_oE E' (hd h))) (by rw [nI_clamp (by omega)]) (nm_r (nI_1 h) ?_))
      refine ih (h + 1) _ (by omega) (by omega) ?_ ?_
      · intro k hk
        by_cases e : k = h
        · subst e; exact pk_us
        · rw [pk_un e]; exact q1 k (by omega)
      · intro k hk hk8
        rw [pk_un (by omega)]; exact q2 k (by omega) hk8
theorem ss_x_mvL {post : SX → Prop} {a b sz : Nat} {s0 : Nat → Int32} (hab : b ≤ a) (ha : a + sz ≤ 240)
    (hp : ∀ s', (∀ k, k < sz → s' (b + k) = s0 (a + k)) → (∀ p, (p < b ∨ b + sz ≤ p) → s' p = s0 p) → post (k1, k2, k3, k4, k5, k6, k7, k8, k9, k10, k11, k12, k13, kc, kp, kt, ku, ke, s', fw, pn, ah)) :
    ∀ (n i : Nat) (s : Nat → Int32), sz < n + i → i ≤ sz → (∀ k, k < i → s (b + k) = s0 (a + k)) → (∀ p, (p < b ∨ b + i ≤ p) → s p = s0 p) →
      wX_moveCells_3 post (nI a) (nI b) (nI sz) k1 k2 k3 k4 k5 k6 k7 k8 k9 k10 k11 k12 k13 kc kp kt ku ke n (nI i) s fw pn ah := by
  intro n
  induction n with
  | zero => intro i s hn; omega
  | succ n ih =>
    intro i s hn hi q1 q2
    refine pk_le sz i (fun g => ?_) (fun g => ?_)
    · have e : i = sz := by omega
      subst e
      exact hp s q1 q2
    · refine And.intro (ss_ix (k := i) (by omega) (by decide)) (And.intro (ss_ix (k := i) (by omega) (by decide)) (nm_r (e' := upd s (b + i) (s0 (a + i))) (by rw [ss_cl (k := i) (by omega), ss_cl (k := i) (by omega), q2 (a + i) (by omega)]) (nm_r (nI_1 i) ?_)))
      refine ih (i + 1) _ (by omega) (by omega) ?_ ?_
      · intro k hk
        by_cases e : k = i
        · subst e; exact pk_us
        · rw [pk_un (by omega)]; exact q1 k (by omega)
      · intro p hp
        rw [pk_un (by omega)]; exact q2 p (by omega)
theorem ss_x_slideL {post : SX → Prop} {s0 : Nat → Int32} (ht : t ≤ 240) (h1 : ss_Lay z L 0 t) (h2 : ss_Hd L z s0) (hal : ∀ a, a ∈ L → (al a = true ↔ ¬ s0 (a + 1) ≤ 0)) (hfw : ∀ a, a ∈ L → al a = true → fw a = nI (ss_fw z al L a))
    (hp : ∀ s', (∀ a, a ∈ L → al a = true → ∀ k, k < z a → s' (ss_fw z al L a + k) = s0 (a + k)) → post (k1, k2, k3, k4, k5, k6, k7, k8, k9, k10, k11, k12, k13, kc, kp, nI (ss_fw z al L t), ku, ke, s', fw, pn, ah)) :
    ∀ (n c b : Nat) (s : Nat → Int32), t - b < n → 3 * c ≤ b → (b ∈ L ∨ b = t) → (∀ p, b ≤ p → s p = s0 p) → (∀ a, a ∈ L → a < b → al a = true → ∀ k, k < z a → s (ss_fw z al L a + k) = s0 (a + k)) →
      wX_slideBlocks_6 post n (nI b) (nI (ss_fw z al L b)) (nI c) k1 k2 k3 k4 k5 k6 k7 k8 k9 k10 k11 k12 k13 kc kp (nI t) ku ke s fw pn ah := by
  intro n
  induction n with
  | zero => intro c b s hn; omega
  | succ n ih =>
    intro c b s hn hc hb q1 q2
    have bt : b ≤ t := by
      rcases hb with g | g
      · have := (ss_Lay_in h1 b g).2.1; omega
      · omega
    have exit : b = t → post (k1, k2, k3, k4, k5, k6, k7, k8, k9, k10, k11, k12, k13, kc, kp, nI (ss_fw z al L b), ku, ke, s, fw, pn, ah) := by
      intro e
      rw [e]
      exact hp s (fun a ha hl => q2 a ha (by have q := ss_Lay_in h1 a ha; have q1 := q.2.1; have q2 := q.2.2.1; omega) hl)
    refine pk_le 80 c (fun g => exit (by omega)) (fun g => pk_le t b (fun g2 => exit (by omega)) (fun g2 => ?_))
    have bL : b ∈ L := by
      rcases hb with k | k
      · exact k
      · omega
    obtain ⟨_, lb, l3, l12, lnext⟩ := ss_Lay_in h1 b bL
    have st' := ss_fw_step (al := al) h1 bL
    have fle := ss_fw_le (al := al) h1 b (Or.inl bL)
    have lo : ∀ a, a ∈ L → a < b + z b → a ≠ b → a < b := by
      intro a ha hab k
      by_cases q : a < b
      · exact q
      · have := ss_Lay_dis h1 b a bL ha (by omega); omega
    refine ss_x_sizeAt rfl (by omega) (by rw [q1 b (by omega)]; exact h2 b bL) ?_
    refine And.intro (ss_ix (k := 1) (by omega) (by decide)) ?_
    rw [ss_cl (a := b) (k := 1) (by omega), q1 (b + 1) (by omega)]
    by_cases e : al b = true
    · refine br_f ((hal b bL).mp e) (And.intro (vp_in_nI (by omega) (by decide)) ?_)
      rw [ss_rd0 (hfw b bL e) (by omega)]
      unfold wpX_moveCells
      refine ⟨z b + 1, ss_x_mvL (s0 := s) (a := b) (b := ss_fw z al L b) (sz := z b) fle (by omega) ?_ (z b + 1) 0 s (by omega) (by omega) (fun k hk => by omega) (fun p _ => rfl)⟩
      intro s' r1 r2
      refine And.intro (vp_in_nI (by omega) (by decide)) (nm_r (e' := nI (ss_fw z al L (b + z b))) (by rw [ss_rd0 (hfw b bL e) (by omega), nI_add, st', if_pos e]) (nm_r (nI_add b (z b)) (nm_r (nI_1 c) ?_)))
      refine ih (c + 1) (b + z b) s' (by omega) (by omega) lnext ?_ ?_
      · intro p hp
        rw [r2 p (by omega)]; exact q1 p (by omega)
      · intro a ha hab hl k hk
        by_cases g3 : a = b
        · subst g3
          rw [r1 k hk]; exact q1 _ (by omega)
        · have al' := lo a ha hab g3
          have := ss_fw_lt h1 ha hl (ss_Lay_dis h1 a b ha bL al')
          rw [r2 _ (by omega)]; exact q2 a ha al' hl k hk
    · refine br_t (by
        by_cases q : s0 (b + 1) ≤ 0
        · exact q
        · exact absurd ((hal b bL).mpr q) e) (nm_r (nI_add b (z b)) (nm_r (nI_1 c) ?_))
      have e2 : ss_fw z al L b = ss_fw z al L (b + z b) := by rw [st', if_neg e]; rfl
      rw [e2]
      refine ih (c + 1) (b + z b) s (by omega) (by omega) lnext (fun p hp => q1 p (by omega)) ?_
      intro a ha hab hl k hk
      by_cases g3 : a = b
      · subst g3; exact absurd hl e
      · exact q2 a ha (lo a ha hab g3) hl k hk
end
end
section
/-! reserve: the good state, perhaps at other addresses, with room at the top -/
/-- the size that a header tells -/
def ss_hz (x : Int32) : Nat := if x < 8 then 3 + 2 * x.toNatClampNeg else x.toNatClampNeg
theorem ss_hz_ok {x : Int32} {n : Nat} (h : ss_hd x n) : ss_hz x = n := by
  rcases h with ⟨m, hm, e, en⟩ | ⟨m, hm, e, en⟩
  · rw [e, en]
    unfold ss_hz
    rw [if_pos (show nI m < 8 from nI_lt (a := m) (b := 8) (by omega) (by decide)), nI_clamp (by omega)]
  · rw [e, en]
    unfold ss_hz
    rw [if_neg (show ¬ nI (8 + m) < 8 from nI_nlt (a := 8 + m) (b := 8) (by omega) (by omega)), nI_clamp (by omega)]
section
variable {L : List Nat} {z E F : Nat → Nat} {Lv Fv : Nat → Bool} {Xd : Nat → ss_ER} {Fd : Nat → ss_FR} {cu fu : Nat → Nat} {t : Nat} {s s1 s2 : Nat → Int32} {al : Nat → Bool}
theorem ss_XC_m {E F : Nat → Nat} {a b u : Nat} {r : ss_ER} (h : ss_XC s1 E F a r u) (w : ss_EW r) (hs : ∀ k, k < 8 + ss_rm r → s2 (b + k) = s1 (a + k)) : ss_XC s2 E F b r u := by
  obtain ⟨h0, h1, h2, h3, h4, h5, h6, h7, h8⟩ := h
  have w1 := w.1
  refine ⟨?_, ?_, ?_, ?_, ?_, ?_, ?_, ?_, ?_⟩
  · have := hs 0 (by omega); rw [Nat.add_zero, Nat.add_zero] at this; rw [this]; exact h0
  · rw [hs _ (by omega)]; exact h1
  · rw [hs _ (by omega)]; exact h2
  · rw [hs _ (by omega)]; exact h3
  · rw [hs _ (by omega)]; exact h4
  · rw [hs _ (by omega)]; exact h5
  · rw [hs _ (by omega)]; exact h6
  · rw [hs _ (by omega)]; exact h7
  · intro k hk
    have e := h8 k hk
    rw [Nat.add_assoc] at e ⊢
    rw [hs _ (by omega)]; exact e
theorem ss_FC_m {a b u : Nat} {r : ss_FR} (h : ss_FC s1 a r u) (w : ss_FW r) (hs : ∀ k, k < 3 + 2 * ss_br r → s2 (b + k) = s1 (a + k)) : ss_FC s2 b r u := by
  obtain ⟨h0, h1, h2, h8⟩ := h
  have w1 := w.1
  refine ⟨?_, ?_, ?_, ?_⟩
  · have := hs 0 (by omega); rw [Nat.add_zero, Nat.add_zero] at this; rw [this]; exact h0
  · rw [hs _ (by omega)]; exact h1
  · rw [hs _ (by omega)]; exact h2
  · intro k hk
    have e := h8 k hk
    have q1 := hs (3 + 2 * k) (by omega)
    have q2 := hs (3 + 2 * k + 1) (by omega)
    rw [show b + 3 + 2 * k = b + (3 + 2 * k) by omega, show b + (3 + 2 * k) + 1 = b + (3 + 2 * k + 1) by omega, q1, q2, show a + (3 + 2 * k) = a + 3 + 2 * k by omega, show a + (3 + 2 * k + 1) = a + 3 + 2 * k + 1 by omega]
    exact e
/-- the picture after the slide -/
theorem ss_RS_mv (h : ss_RS L z E F Lv Fv Xd Fd cu fu t s) (hE : ∀ i, Lv i = true → al (E i) = true) (hF : ∀ f, Fv f = true → al (F f) = true)
    (hal : ∀ a, a ∈ L → al a = true → (∃ i, Lv i = true ∧ a = E i) ∨ (∃ f, Fv f = true ∧ a = F f))
    (hh : ss_Hd L z s1) (hx : ∀ i, Lv i = true → ss_XC s1 (fun i => ss_fw z al L (E i)) (fun i => ss_fw z al L (F i)) (E i) (Xd i) (cu i)) (hf : ∀ f, Fv f = true → ss_FC s1 (F f) (Fd f) (fu f))
    (hm : ∀ a, a ∈ L → al a = true → ∀ k, k < z a → s2 (ss_fw z al L a + k) = s1 (a + k)) :
    ss_RS ((L.filter al).map (ss_fw z al L)) (fun p => ss_hz (s2 p)) (fun i => ss_fw z al L (E i)) (fun i => ss_fw z al L (F i)) Lv Fv Xd Fd cu fu (ss_fw z al L t) s2 := by
  obtain ⟨h1, h2, h3, h4, h5, h6⟩ := h
  have hdr : ∀ a, a ∈ L → al a = true → ss_hd (s2 (ss_fw z al L a)) (z a) := by
    intro a ha hl
    have q := hm a ha hl 0 (by have := (ss_Lay_in h1 a ha).2.2.1; omega)
    rw [Nat.add_zero, Nat.add_zero] at q
    rw [q]
    exact hh a ha
  have hz : ∀ a, a ∈ L → al a = true → (fun p => ss_hz (s2 p)) (ss_fw z al L a) = z a := fun a ha hl => ss_hz_ok (hdr a ha hl)
  have inj : ∀ a b, a ∈ L → b ∈ L → al a = true → al b = true → ss_fw z al L a = ss_fw z al L b → a = b := by
    intro a b ha hb la lb e
    by_cases g : a < b
    · have q := ss_fw_lt h1 ha la (ss_Lay_dis h1 a b ha hb g)
      have := (ss_Lay_in h1 a ha).2.2.1
      omega
    · by_cases g2 : b < a
      · have q := ss_fw_lt h1 hb lb (ss_Lay_dis h1 b a hb ha g2)
        have := (ss_Lay_in h1 b hb).2.2.1
        omega
      · omega
  have mem : ∀ a, a ∈ L → al a = true → ss_fw z al L a ∈ (L.filter al).map (ss_fw z al L) := fun a ha hl => List.mem_map_of_mem (List.mem_filter.mpr ⟨ha, hl⟩)
  refine ⟨?_, ?_, ?_, ?_, ⟨?_, ?_, ?_⟩, ?_⟩
  · have k := ss_Lay_mv (al := al) (z' := fun p => ss_hz (s2 p)) h1 hz (fun c hc => hc) h1
    rw [ss_fw_0] at k
    exact k
  · intro a' ha'
    obtain ⟨a, ha, e⟩ := List.mem_map.mp ha'
    obtain ⟨ha, hl⟩ := List.mem_filter.mp ha
    rw [← e]
    show ss_hd (s2 (ss_fw z al L a)) (ss_hz (s2 (ss_fw z al L a)))
    rw [ss_hz_ok (hdr a ha hl)]
    exact hdr a ha hl
  · intro i hi
    obtain ⟨i1, i2, i3, i4⟩ := h3 i hi
    refine ⟨mem _ i1 (hE i hi), (hz _ i1 (hE i hi)).trans i2, i3, ss_XC_m (hx i hi) i3 ?_⟩
    intro k hk
    exact hm _ i1 (hE i hi) k (by omega)
  · intro i hi
    obtain ⟨i1, i2, i3, i4⟩ := h4 i hi
    refine ⟨mem _ i1 (hF i hi), (hz _ i1 (hF i hi)).trans i2, i3, ss_FC_m (hf i hi) i3 ?_⟩
    intro k hk
    exact hm _ i1 (hF i hi) k (by omega)
  · intro i j hi hj e
    exact h5.1 i j hi hj (inj _ _ (h3 i hi).1 (h3 j hj).1 (hE i hi) (hE j hj) e)
  · intro i j hi hj e
    exact h5.2.1 i j hi hj (inj _ _ (h4 i hi).1 (h4 j hj).1 (hF i hi) (hF j hj) e)
  · intro i f hi hfv e
    exact h5.2.2 i f hi hfv (inj _ _ (h3 i hi).1 (h4 f hfv).1 (hE i hi) (hF f hfv) e)
  · intro a' ha'
    obtain ⟨a, ha, e⟩ := List.mem_map.mp ha'
    obtain ⟨ha, hl⟩ := List.mem_filter.mp ha
    rcases hal a ha hl with ⟨i, hi, k⟩ | ⟨f, hfv, k⟩
    · exact Or.inr (Or.inl ⟨i, hi, by rw [← e, k]⟩)
    · exact Or.inr (Or.inr ⟨f, hfv, by rw [← e, k]⟩)
end
section
variable {k1 k2 k3 k4 k5 k6 k7 k8 k9 k10 k11 k12 k13 kc kp kt ku ke : Int32} {st fw pn ah : Nat → Int32}
variable {L : List Nat} {z E F : Nat → Nat} {Lv Fv : Nat → Bool} {Xd : Nat → ss_ER} {Fd : Nat → ss_FR} {t : Nat} {hd : Nat → Option Nat} {cur : Option Nat}
theorem ss_x_reserve {post : SX → Prop} {x : Int32} {n cap : Nat} (hx : x = nI n) (hkc : kc = nI cap) (hkt : kt = nI t) (hke : ke = ss_oE E cur) (hah : ∀ h, h < 8 → ah h = ss_oE E (hd h)) (hcap : cap ≤ 240) (ht : t ≤ cap) (hn : n ≤ cap)
    (G : ss_GS L z E F Lv Fv Xd Fd hd cur t st) (hu : ss_us Lv Fv Xd Fd + n ≤ cap)
    (hp : ∀ L' z' E' F' t' s' fw' ah', ss_GS L' z' E' F' Lv Fv Xd Fd hd cur t' s' → t' + n ≤ cap → (∀ h, h < 8 → ah' h = ss_oE E' (hd h)) → post (k1, k2, k3, k4, k5, k6, k7, k8, k9, k10, k11, k12, k13, kc, kp, nI t', ku, ss_oE E' cur, s', fw', pn, ah')) : wpX_reserve post (k1, k2, k3, k4, k5, k6, k7, k8, k9, k10, k11, k12, k13, kc, kp, kt, ku, ke, st, fw, pn, ah) x := by
  subst hx hkc hkt hke
  unfold wpX_reserve
  refine pk_le n (cap - t) (fun g => hp L z E F t st fw ah G (by omega) hah) (fun g => ?_) rfl (pk_sub ht)
  obtain ⟨R, C, Pz⟩ := G
  have R' := R
  obtain ⟨h1, h2, h3, h4, h5, h6⟩ := R'
  have t240 : t ≤ 240 := by omega
  have hal : ∀ a, a ∈ L → ((fun a => decide (¬ st (a + 1) ≤ 0)) a = true ↔ ¬ st (a + 1) ≤ 0) := fun a _ => decide_eq_true_iff
  generalize hdef : (fun a => decide (¬ st (a + 1) ≤ 0)) = al at hal
  have hE : ∀ i, Lv i = true → al (E i) = true := by
    intro i hi
    obtain ⟨i1, i2, i3, i4⟩ := h3 i hi
    rw [hal _ i1, i4.2.1]
    have := ss_cnt_le (hd := hd) (cur := cur) (Lv := Lv) (Xd := Xd) i
    exact nI_nle (Pz i hi) (by omega)
  have hF : ∀ f, Fv f = true → al (F f) = true := by
    intro f hf
    obtain ⟨i1, i2, i3, i4⟩ := h4 f hf
    rw [hal _ i1, i4.2.1]
    have := ss_shr_le (Lv := Lv) (Xd := Xd) f
    exact nI_nle (C.2.1 f hf).2 (by omega)
  have hal2 : ∀ a, a ∈ L → al a = true → (∃ i, Lv i = true ∧ a = E i) ∨ (∃ f, Fv f = true ∧ a = F f) := by
    intro a ha hl
    rcases h6 a ha with k | k
    · rw [hal a ha, k] at hl
      exact absurd (by decide : (0 : Int32) ≤ 0) hl
    · exact k
  have bnd : ∀ a, a ∈ L → a < 240 := by
    intro a ha
    have q := ss_Lay_in h1 a ha
    have q1 := q.2.1
    have q2 := q.2.2.1
    omega
  have used : ss_fw z al L t ≤ ss_us Lv Fv Xd Fd := by
    refine ss_fw_us (E := E) (F := F) h1 ?_
    intro b hb hl
    rcases hal2 b hb hl with ⟨i, hi, e⟩ | ⟨f, hf, e⟩
    · exact Or.inl ⟨i, (C.1 i hi).1, hi, e, by rw [e]; exact (h3 i hi).2.1⟩
    · exact Or.inr ⟨f, (C.2.1 f hf).1, hf, e, by rw [e]; exact (h4 f hf).2.1⟩
  unfold wpX_planMoves
  refine ⟨t + 1, ?_⟩
  have e0 : (0 : Int32) = nI (ss_fw z al L 0) := by rw [ss_fw_0]; rfl
  have plan := ss_x_planL (k1 := k1) (k2 := k2) (k3 := k3) (k4 := k4) (k5 := k5) (k6 := k6) (k7 := k7) (k8 := k8) (k9 := k9) (k10 := k10) (k11 := k11) (k12 := k12) (k13 := k13) (kc := nI cap) (kp := kp) (ku := ku) (ke := ss_oE E cur) (pn := pn) (ah := ah)
    (post := fun u => match u with | (k1, k2, k3, k4, k5, k6, k7, k8, k9, k10, k11, k12, k13, kc, kp, kt, ku, ke, st, fw, pn, ah) => (wpX_redirectBlocks (fun u => match u with | (k1, k2, k3, k4, k5, k6, k7, k8, k9, k10, k11, k12, k13, kc, kp, kt, ku, ke, st, fw, pn, ah) => (wpX_redirectRoots (fun u => match u with | (k1, k2, k3, k4, k5, k6, k7, k8, k9, k10, k11, k12, k13, kc, kp, kt, ku, ke, st, fw, pn, ah) => (wpX_slideBlocks (fun u => match u with | (k1, k2, k3, k4, k5, k6, k7, k8, k9, k10, k11, k12, k13, kc, kp, kt, ku, ke, st, fw, pn, ah) => (post (k1, k2, k3, k4, k5, k6, k7, k8, k9, k10, k11, k12, k13, kc, kp, kt, ku, ke, st, fw, pn, ah))) (k1, k2, k3, k4, k5, k6, k7, k8, k9, k10, k11, k12, k13, kc, kp, kt, ku, ke, st, fw, pn, ah))) (k1, k2, k3, k4, k5, k6, k7, k8, k9, k10, k11, k12, k13, kc, kp, kt, ku, ke, st, fw, pn, ah))) (k1, k2, k3, k4, k5, k6, k7, k8, k9, k10, k11, k12, k13, kc, kp, kt, ku, ke, st, fw, pn, ah))) t240 h1 h2 hal ?_ (t + 1) 0 0 fw (by omega) (by omega) (ss_Lay_0 h1) (fun a ha hlt => by omega)
  · rw [ss_fw_0] at plan
    exact plan
  intro fw' hfw
  have hfe : ∀ i, Lv i = true → fw' (E i) = nI ((fun i => ss_fw z al L (E i)) i) := fun i hi => hfw _ (h3 i hi).1 (hE i hi)
  have hff : ∀ i, Fv i = true → fw' (F i) = nI ((fun i => ss_fw z al L (F i)) i) := fun i hi => hfw _ (h4 i hi).1 (hF i hi)
  show wpX_redirectBlocks _ (k1, k2, k3, k4, k5, k6, k7, k8, k9, k10, k11, k12, k13, nI cap, kp, nI t, ku, ss_oE E cur, st, fw', pn, ah)
  unfold wpX_redirectBlocks
  refine ⟨t + 1, ss_x_redirL (E' := fun i => ss_fw z al L (E i)) (F' := fun i => ss_fw z al L (F i)) (cu := ss_cnt hd cur Lv Xd) (fu := ss_shr Lv Xd) (Lv := Lv) (Fv := Fv) (E := E) (F := F) (Xd := Xd) (Fd := Fd) (al := al) t240 h1 (fun i hi => ⟨(h3 i hi).1, (h3 i hi).2.1, (h3 i hi).2.2.1, hE i hi⟩) (fun i hi => ⟨(h4 i hi).1, (h4 i hi).2.1, (h4 i hi).2.2.1⟩) h5 hfe hff (fun i hi => ⟨(C.1 i hi).2.1, fun j hj => ((C.1 i hi).2.2.1 j hj).1, fun j hj => ((C.1 i hi).2.2.2 j hj).1⟩) hal2 (fun a => st (a + 1)) hal ?_ (t + 1) 0 0 st (by omega) (by omega) (ss_Lay_0 h1) h2 (fun a ha => rfl) (fun i hi => ⟨fun q => by omega, fun q => (h3 i hi).2.2.2⟩) (fun i hi => (h4 i hi).2.2.2)⟩
  intro s1 r1 r2 r3 r4
  show wpX_redirectRoots _ (k1, k2, k3, k4, k5, k6, k7, k8, k9, k10, k11, k12, k13, nI cap, kp, nI t, ku, ss_oE E cur, s1, fw', pn, ah)
  unfold wpX_redirectRoots
  refine ⟨9, ss_x_rootsL (E := E) (E' := fun i => ss_fw z al L (E i)) (Lv := Lv) (hd := hd) (cur := cur) (fun i hi => ⟨bnd _ (h3 i hi).1, hfe i hi⟩) C.2.2.1 C.2.2.2 rfl ?_ 9 0 ah (by omega) (by omega) (fun k hk => by omega) (fun k _ hk => hah k hk)⟩
  intro ah' hah'
  show wpX_slideBlocks _ (k1, k2, k3, k4, k5, k6, k7, k8, k9, k10, k11, k12, k13, nI cap, kp, nI t, ku, ss_oE (fun i => ss_fw z al L (E i)) cur, s1, fw', pn, ah')
  unfold wpX_slideBlocks
  have slide := ss_x_slideL (k1 := k1) (k2 := k2) (k3 := k3) (k4 := k4) (k5 := k5) (k6 := k6) (k7 := k7) (k8 := k8) (k9 := k9) (k10 := k10) (k11 := k11) (k12 := k12) (k13 := k13) (kc := nI cap) (kp := kp) (ku := ku) (ke := ss_oE (fun i => ss_fw z al L (E i)) cur) (pn := pn) (ah := ah') (fw := fw')
    (post := fun u => match u with | (k1, k2, k3, k4, k5, k6, k7, k8, k9, k10, k11, k12, k13, kc, kp, kt, ku, ke, st, fw, pn, ah) => (post (k1, k2, k3, k4, k5, k6, k7, k8, k9, k10, k11, k12, k13, kc, kp, kt, ku, ke, st, fw, pn, ah))) t240 h1 r1 (fun a ha => by rw [r2 a ha]; exact hal a ha) hfw ?_ (t + 1) 0 0 s1 (by omega) (by omega) (ss_Lay_0 h1) (fun p _ => rfl) (fun a ha hlt => by omega)
  · refine ⟨t + 1, ?_⟩
    rw [ss_fw_0] at slide
    exact slide
  intro s2 hm
  refine hp _ _ _ _ _ s2 fw' ah' ⟨ss_RS_mv R hE hF hal2 r1 r3 r4 hm, ⟨?_, C.2.1, C.2.2.1, C.2.2.2⟩, Pz⟩ (by omega) hah'
  intro i hi
  obtain ⟨c1, c2, c3, c4⟩ := C.1 i hi
  have down : ∀ j, Lv j = true → E j < E i → ss_fw z al L (E j) < ss_fw z al L (E i) := by
    intro j hj hlt
    have q := ss_fw_lt h1 (h3 j hj).1 (hE j hj) (ss_Lay_dis h1 _ _ (h3 j hj).1 (h3 i hi).1 hlt)
    have := (ss_Lay_in h1 _ (h3 j hj).1).2.2.1
    omega
  exact ⟨c1, c2, fun j hj => ⟨(c3 j hj).1, down j (c3 j hj).1 (c3 j hj).2⟩, fun j hj => ⟨(c4 j hj).1, down j (c4 j hj).1 (c4 j hj).2⟩⟩
end
end
section
/-! Y: findLive marks the live ones -/
theorem ss_b1 : vp_nar .boolean 1 = 1 := rfl
theorem ss_b0 : vp_nar .boolean 0 = 0 := rfl
def ss_RK (Lv : Nat → Bool) (Xd : Nat → ss_ER) (rk : Nat → Nat) : Prop :=
  ∀ i, Lv i = true → rk i < 30 ∧ (∀ j, ss_ac (Xd i) = some j → rk j < rk i) ∧ (∀ j, ss_co (Xd i) = some j → rk j < rk i)
/-- the marks are right -/
def ss_LV (Lv : Nat → Bool) (lv : Nat → Int32) : Prop := ∀ i, i < 32 → lv i = if Lv i = true then 1 else 0
/-- no mark is wrong -/
def ss_SN (Lv : Nat → Bool) (lv : Nat → Int32) : Prop := ∀ i, i < 32 → lv i = 0 ∨ (lv i = 1 ∧ Lv i = true)
/-- Y's links and roots -/
def ss_YL (Lv : Nat → Bool) (Xd : Nat → ss_ER) (hd : Nat → Option Nat) (ya yo yh : Nat → Int32) : Prop :=
  (∀ i, Lv i = true → i < 32 ∧ ya i = ss_oE id (ss_ac (Xd i)) ∧ yo i = ss_oE id (ss_co (Xd i)) ∧ (∀ j, ss_ac (Xd i) = some j → Lv j = true) ∧ (∀ j, ss_co (Xd i) = some j → Lv j = true)) ∧
  (∀ h, h < 8 → yh h = ss_oE id (hd h) ∧ ∀ j, hd h = some j → Lv j = true)
theorem ss_SN_u {Lv : Nat → Bool} {lv : Nat → Int32} {j : Nat} (h : ss_SN Lv lv) (hj : Lv j = true) : ss_SN Lv (upd lv j 1) := by
  intro i hi
  by_cases e : i = j
  · subst e; exact Or.inr ⟨pk_us, hj⟩
  · rw [pk_un e]; exact h i hi
theorem ss_mk {lv : Nat → Int32} {j : Nat} : ∀ i, lv i = 1 → upd lv j 1 i = 1 := by
  intro i h
  by_cases e : i = j
  · subst e; exact pk_us
  · rw [pk_un e]; exact h
section
variable {ye yc : Int32} {yf ya yo yl yi yr yn yt yv yb yd yw yh : Nat → Int32}
variable {Lv : Nat → Bool} {Xd : Nat → ss_ER} {hd : Nat → Option Nat} {c : Nat}
theorem ss_y_114 {post : SY → Prop} {J70 J78 : Int32 → (Nat → Int32) → (Nat → Int32) → (Nat → Int32) → (Nat → Int32) → (Nat → Int32) → (Nat → Int32) → (Nat → Int32) → (Nat → Int32) → (Nat → Int32) → (Nat → Int32) → (Nat → Int32) → (Nat → Int32) → (Nat → Int32) → Prop} {x1 : Int32} {i : Nat} {lv : Nat → Int32} (Y : ss_YL Lv Xd hd ya yo yh) (hi : i < 32) (sn : ss_SN Lv lv)
    (K : ∀ lv', ss_SN Lv lv' → (∀ k, lv k = 1 → lv' k = 1) → (lv i = 1 → ∀ j, ss_co (Xd i) = some j → lv' j = 1) → J78 (nI (i + 1)) yf ya yo yl yi yr yn yt lv' yb yd yw yh) :
    wY_findLive_114 post J70 J78 x1 (nI i) ye yc yf ya yo yl yi yr yn yt lv yb yd yw yh := by
  refine And.intro (vp_in_nI hi (by decide)) ?_
  rw [nI_clamp (n := i) (by omega)]
  rcases sn i hi with e | ⟨e, el⟩
  · exact br_t e (nm_r (nI_1 i) (K lv sn (fun _ h => h) (fun h => by rw [e] at h; exact absurd h (by decide))))
  · obtain ⟨_, _, q, _, q2⟩ := Y.1 i el
    refine br_f (by rw [e]; decide) (And.intro (vp_in_nI hi (by decide)) ?_)
    cases h : ss_co (Xd i) with
    | none =>
      rw [h] at q
      exact br_t (by rw [q]; decide) (nm_r (nI_1 i) (K lv sn (fun _ h => h) (fun _ j hj => by rw [h] at hj; exact nomatch hj)))
    | some j =>
      rw [h] at q
      have hjl := q2 j h
      have hj := (Y.1 j hjl).1
      have q' : yo i = nI j := q
      rw [q']
      refine br_f (nI_pos (by omega)) (And.intro (vp_in_nI hi (by decide)) (And.intro (vp_in_nI hj (by decide)) (nm_r (e' := upd lv j 1) (by rw [nI_clamp (by omega), ss_b1]) (nm_r (nI_1 i) (K _ (ss_SN_u sn hjl) ss_mk ?_)))))
      intro _ k hk
      rw [h] at hk
      rw [← Option.some.inj hk]
      exact pk_us
theorem ss_y_78 {post : SY → Prop} {J70 : Int32 → (Nat → Int32) → (Nat → Int32) → (Nat → Int32) → (Nat → Int32) → (Nat → Int32) → (Nat → Int32) → (Nat → Int32) → (Nat → Int32) → (Nat → Int32) → (Nat → Int32) → (Nat → Int32) → (Nat → Int32) → (Nat → Int32) → Prop} {x1 : Int32} {lv0 : Nat → Int32} (Y : ss_YL Lv Xd hd ya yo yh)
    (K : ∀ lv', ss_SN Lv lv' → (∀ k, lv0 k = 1 → lv' k = 1) → (∀ i, i < 32 → lv0 i = 1 → (∀ j, ss_ac (Xd i) = some j → lv' j = 1) ∧ (∀ j, ss_co (Xd i) = some j → lv' j = 1)) → J70 (x1 + 1) yf ya yo yl yi yr yn yt lv' yb yd yw yh) :
    ∀ (n i : Nat) (lv : Nat → Int32), 32 < n + i → i ≤ 32 → ss_SN Lv lv → (∀ k, lv0 k = 1 → lv k = 1) → (∀ i', i' < i → lv0 i' = 1 → (∀ j, ss_ac (Xd i') = some j → lv j = 1) ∧ (∀ j, ss_co (Xd i') = some j → lv j = 1)) →
      wY_findLive_78 post J70 x1 ye yc n (nI i) yf ya yo yl yi yr yn yt lv yb yd yw yh := by
  intro n
  induction n with
  | zero => intro i lv hn; omega
  | succ n ih =>
    intro i lv hn hi sn mo dn
    refine pk_le 32 i (fun g => nm_e (K lv sn mo (fun i' hi' => dn i' (by omega)))) (fun g => ?_)
    refine And.intro (vp_in_nI g (by decide)) ?_
    rw [nI_clamp (n := i) (by omega)]
    have go : ∀ lv2, ss_SN Lv lv2 → (∀ k, lv k = 1 → lv2 k = 1) → (lv i = 1 → ∀ j, ss_ac (Xd i) = some j → lv2 j = 1) → wY_findLive_114 post J70 (wY_findLive_78 post J70 x1 ye yc n) x1 (nI i) ye yc yf ya yo yl yi yr yn yt lv2 yb yd yw yh := by
      intro lv2 sn2 mo2 ac2
      refine ss_y_114 Y g sn2 ?_
      intro lv3 sn3 mo3 co3
      refine ih (i + 1) lv3 (by omega) (by omega) sn3 (fun k hk => mo3 k (mo2 k (mo k hk))) ?_
      intro i' hi' h1
      by_cases e : i' = i
      · subst e
        have m1 := mo i' h1
        exact ⟨fun j hj => mo3 j (ac2 m1 j hj), co3 (mo2 i' m1)⟩
      · obtain ⟨a, b⟩ := dn i' (by omega) h1
        exact ⟨fun j hj => mo3 j (mo2 j (a j hj)), fun j hj => mo3 j (mo2 j (b j hj))⟩
    rcases sn i g with e | ⟨e, el⟩
    · exact br_t e (go lv sn (fun _ h => h) (fun h => by rw [e] at h; exact absurd h (by decide)))
    · obtain ⟨_, q, _, q2, _⟩ := Y.1 i el
      refine br_f (by rw [e]; decide) (And.intro (vp_in_nI g (by decide)) ?_)
      cases h : ss_ac (Xd i) with
      | none =>
        rw [h] at q
        exact br_t (by rw [q]; decide) (go lv sn (fun _ h => h) (fun _ j hj => by rw [h] at hj; exact nomatch hj))
      | some j =>
        rw [h] at q
        have hjl := q2 j h
        have hj := (Y.1 j hjl).1
        have q' : ya i = nI j := q
        rw [q']
        refine br_f (nI_pos (by omega)) (And.intro (vp_in_nI g (by decide)) (And.intro (vp_in_nI hj (by decide)) (nm_r (e' := upd lv j 1) (by rw [nI_clamp (by omega), ss_b1]) (go _ (ss_SN_u sn hjl) ss_mk ?_))))
        intro _ k hk
        rw [h] at hk
        rw [← Option.some.inj hk]
        exact pk_us
theorem ss_y_70 {post : SY → Prop} {rk : Nat → Nat} (Y : ss_YL Lv Xd hd ya yo yh) (RK : ss_RK Lv Xd rk) (sup : ∀ i, Lv i = true → 0 < ss_cnt hd (some c) Lv Xd i)
    (hp : ∀ lv', ss_LV Lv lv' → post (ye, yc, yf, ya, yo, yl, yi, yr, yn, yt, lv', yb, yd, yw, yh)) :
    ∀ (n p : Nat) (lv : Nat → Int32), 32 < n + p → p ≤ 32 → ss_SN Lv lv → lv c = 1 → (∀ h j, h < 8 → hd h = some j → lv j = 1) → (∀ i, Lv i = true → 30 ≤ rk i + p → lv i = 1) →
      wY_findLive_70 post ye yc n (nI p) yf ya yo yl yi yr yn yt lv yb yd yw yh := by
  intro n
  induction n with
  | zero => intro p lv hn; omega
  | succ n ih =>
    intro p lv hn hpp sn rc rh dn
    refine pk_le 32 p (fun g => hp lv ?_) (fun g => ?_)
    · intro i hi
      by_cases e : Lv i = true
      · rw [if_pos e]; exact dn i e (by omega)
      · rw [if_neg e]
        rcases sn i hi with k | ⟨k, k2⟩
        · exact k
        · exact absurd k2 e
    · refine ⟨33, ss_y_78 (lv0 := lv) Y ?_ 33 0 lv (by omega) (by omega) sn (fun _ h => h) (fun i' hi' => by omega)⟩
      intro lv2 sn2 mo2 dn2
      rw [nI_1]
      refine ih (p + 1) lv2 (by omega) (by omega) sn2 (mo2 c rc) (fun h j h8 hj => mo2 j (rh h j h8 hj)) ?_
      intro i hi hr
      rcases ss_cnt_pos (sup i hi) with k | ⟨h, h8, k⟩ | ⟨j, hj, hjl, k⟩
      · rw [← Option.some.inj k]; exact mo2 c rc
      · exact mo2 i (rh h i h8 k)
      · obtain ⟨r1, r2, r3⟩ := RK j hjl
        rcases k with k | k
        · have := r2 i k
          exact (dn2 j hj (dn j hjl (by omega))).1 i k
        · have := r3 i k
          exact (dn2 j hj (dn j hjl (by omega))).2 i k
theorem ss_y_35 {post : SY → Prop} (Y : ss_YL Lv Xd hd ya yo yh)
    (K : ∀ lv', ss_SN Lv lv' → lv' c = 1 → (∀ h j, h < 8 → hd h = some j → lv' j = 1) → ∃ n70 : Nat, wY_findLive_70 post ye yc n70 0 yf ya yo yl yi yr yn yt lv' yb yd yw yh) :
    ∀ (n h : Nat) (lv : Nat → Int32), 8 < n + h → h ≤ 8 → ss_SN Lv lv → lv c = 1 → (∀ h' j, h' < h → hd h' = some j → lv j = 1) → wY_findLive_35 post ye yc n (nI h) yf ya yo yl yi yr yn yt lv yb yd yw yh := by
  intro n
  induction n with
  | zero => intro p lv hn; omega
  | succ n ih =>
    intro h lv hn h8 sn rc rh
    refine pk_le 8 h (fun g => K lv sn rc (fun h' j q => rh h' j (by omega))) (fun g => ?_)
    refine And.intro (vp_in_nI g (by decide)) ?_
    rw [nI_clamp (n := h) (by omega)]
    obtain ⟨q, q2⟩ := Y.2 h g
    cases e : hd h with
    | none =>
      rw [e] at q
      refine br_t (by rw [q]; decide) (nm_r (nI_1 h) (ih (h + 1) lv (by omega) (by omega) sn rc ?_))
      intro h' j hh hj
      by_cases k : h' = h
      · rw [k, e] at hj; exact nomatch hj
      · exact rh h' j (by omega) hj
    | some j =>
      rw [e] at q
      have hjl := q2 j e
      have hj := (Y.1 j hjl).1
      have q' : yh h = nI j := q
      rw [q']
      refine br_f (nI_pos (by omega)) (And.intro (vp_in_nI g (by decide)) (And.intro (vp_in_nI hj (by decide)) (nm_r (e' := upd lv j 1) (by rw [nI_clamp (by omega), ss_b1]) (nm_r (nI_1 h) (ih (h + 1) _ (by omega) (by omega) (ss_SN_u sn hjl) (ss_mk c rc) ?_)))))
      intro h' j' hh hj'
      by_cases k : h' = h
      · rw [k, e] at hj'
        rw [← Option.some.inj hj']
        exact pk_us
      · exact ss_mk j' (rh h' j' (by omega) hj')
theorem ss_y_2 {post : SY → Prop} (hye : ye = nI c) (hc : c < 32)
    (K : ∀ lv', (∀ k, k < 32 → lv' k = if k = c then 1 else 0) → ∃ n35 : Nat, wY_findLive_35 post ye yc n35 0 yf ya yo yl yi yr yn yt lv' yb yd yw yh) :
    ∀ (n i : Nat) (lv : Nat → Int32), 32 < n + i → i ≤ 32 → (∀ k, k < i → lv k = if k = c then 1 else 0) → wY_findLive_2 post ye yc n (nI i) yf ya yo yl yi yr yn yt lv yb yd yw yh := by
  subst hye
  intro n
  induction n with
  | zero => intro p lv hn; omega
  | succ n ih =>
    intro i lv hn hi dn
    refine pk_le 32 i (fun g => K lv (fun k hk => dn k (by omega))) (fun g => ?_)
    refine pk_eq i c (fun e => ?_) (fun e => ?_)
    · refine And.intro (vp_in_nI g (by decide)) (nm_r (e' := upd lv i 1) (by rw [nI_clamp (by omega), ss_b1]) (nm_r (nI_1 i) (ih (i + 1) _ (by omega) (by omega) ?_)))
      intro k hk
      by_cases q : k = i
      · rw [q, pk_us, if_pos e]
      · rw [pk_un q]; exact dn k (by omega)
    · refine And.intro (vp_in_nI g (by decide)) (nm_r (e' := upd lv i 0) (by rw [nI_clamp (by omega), ss_b0]) (nm_r (nI_1 i) (ih (i + 1) _ (by omega) (by omega) ?_)))
      intro k hk
      by_cases q : k = i
      · rw [q, pk_us, if_neg e]
      · rw [pk_un q]; exact dn k (by omega)
/-- findLive -/
theorem ss_y_findLive {post : SY → Prop} {rk : Nat → Nat} (hye : ye = nI c) (hcl : Lv c = true) (Y : ss_YL Lv Xd hd ya yo yh) (RK : ss_RK Lv Xd rk) (sup : ∀ i, Lv i = true → 0 < ss_cnt hd (some c) Lv Xd i)
    (hp : ∀ lv', ss_LV Lv lv' → post (ye, yc, yf, ya, yo, yl, yi, yr, yn, yt, lv', yb, yd, yw, yh)) : wpY_findLive post (ye, yc, yf, ya, yo, yl, yi, yr, yn, yt, yv, yb, yd, yw, yh) := by
  refine ⟨33, ss_y_2 hye (Y.1 c hcl).1 ?_ 33 0 yv (by omega) (by omega) (fun k hk => by omega)⟩
  intro lv1 l1
  refine ⟨9, ss_y_35 (c := c) Y ?_ 9 0 lv1 (by omega) (by omega) ?_ ?_ (fun h' j q => by omega)⟩
  · intro lv2 sn rc rh
    exact ⟨33, ss_y_70 (c := c) Y RK sup hp 33 0 lv2 (by omega) (by omega) sn rc rh (fun i hi hr => by have := (RK i hi).1; omega)⟩
  · intro i hi
    rw [l1 i hi]
    by_cases e : i = c
    · rw [if_pos e]; exact Or.inr ⟨rfl, by rw [e]; exact hcl⟩
    · rw [if_neg e]; exact Or.inl rfl
  · rw [l1 c (Y.1 c hcl).1, if_pos rfl]
end
end
section
/-! Y: sharers, users, free places, used cells -/
theorem ss_oI_eq {o : Option Nat} {x : Nat} (ho : ∀ j, o = some j → j < 32) (hx : x < 32) : ss_oE id o = nI x ↔ o = some x := by
  cases o with
  | none =>
    constructor
    · intro h
      have h' : (-1 : Int32) = nI x := h
      have p := nI_pos (n := x) (by omega)
      rw [← h'] at p
      exact absurd (by decide) p
    · intro h; exact nomatch h
  | some j =>
    have hj := ho j rfl
    constructor
    · intro h
      rw [(nI_eq (a := j) (b := x) (by omega) (by omega)).mp h]
    · intro h
      rw [Option.some.inj h]; rfl
/-- Y's tables of extensions and frames -/
def ss_YE (Lv : Nat → Bool) (Xd : Nat → ss_ER) (yf yl yi yr yn yt : Nat → Int32) : Prop :=
  ∀ i, Lv i = true → yf i = nI (ss_fr (Xd i)) ∧ yl i = ss_lb (Xd i) ∧ yi i = ss_in (Xd i) ∧ yr i = nI (ss_rm (Xd i)) ∧ yn i = nI (ss_tn (Xd i)) ∧ ∀ k, k < ss_tn (Xd i) → yt (i * 4 + k) = ss_tp (Xd i) k
def ss_YF (Fv : Nat → Bool) (Fd : Nat → ss_FR) (yb yd yw : Nat → Int32) : Prop :=
  ∀ f, Fv f = true → yb f = nI (ss_br (Fd f)) ∧ (∀ x, x < 32 → yd (f * 32 + x) = if ss_has (ss_nm (Fd f)) x (ss_nn (Fd f)) = true then 1 else 0) ∧ ∀ k, k < ss_nn (Fd f) → yw (f * 32 + ss_nm (Fd f) k) = ss_vl (Fd f) k
section
variable {ye yc : Int32} {yf ya yo yl yi yr yn yt yv yb yd yw yh : Nat → Int32}
variable {Lv Fv : Nat → Bool} {Xd : Nat → ss_ER} {Fd : Nat → ss_FR} {hd : Nat → Option Nat} {c : Nat} {lv : Nat → Int32}
theorem ss_LV_c {i : Nat} (h : ss_LV Lv lv) (hi : i < 32) : (lv i = 0 ∧ Lv i = false) ∨ (¬ lv i = 0 ∧ Lv i = true) := by
  have e := h i hi
  cases g : Lv i with
  | true => rw [g, if_pos rfl] at e; exact Or.inr ⟨by rw [e]; decide, rfl⟩
  | false => rw [g, if_neg (by decide)] at e; exact Or.inl ⟨e, rfl⟩
theorem ss_y_sharersL {post : Int32 → Prop} {f : Nat} (hf : f < 32) (V : ss_LV Lv lv) (hyf : ∀ i, Lv i = true → yf i = nI (ss_fr (Xd i)) ∧ ss_fr (Xd i) < 32) (hp : post (nI (ss_shr Lv Xd f))) :
    ∀ (n i : Nat), 32 < n + i → i ≤ 32 → wY_sharers_4 post (nI f) ye yc yf ya yo yl yi yr yn yt lv yb yd yw yh n (nI (ss_sm (ss_sh Lv Xd f) i)) (nI i) := by
  intro n
  induction n with
  | zero => intro i hn; omega
  | succ n ih =>
    intro i hn hi
    refine pk_le 32 i (fun g => ?_) (fun g => ?_)
    · have e : i = 32 := by omega
      subst e
      exact hp
    · refine And.intro (vp_in_nI g (by decide)) ?_
      rw [nI_clamp (n := i) (by omega)]
      have nx : ss_sm (ss_sh Lv Xd f) (i + 1) = ss_sm (ss_sh Lv Xd f) i + ss_sh Lv Xd f i := rfl
      have k := ih (i + 1) (by omega) (by omega)
      rcases ss_LV_c V g with ⟨e, el⟩ | ⟨e, el⟩
      · have z0 : ss_sh Lv Xd f i = 0 := if_neg (by rw [el]; decide)
        rw [nx, z0, Nat.add_zero] at k
        exact br_t e (nm_r (nI_1 i) k)
      · refine br_f e (And.intro (vp_in_nI g (by decide)) ?_)
        obtain ⟨q1, q2⟩ := hyf i el
        rw [q1]
        refine pk_eq (ss_fr (Xd i)) f (fun e2 => ?_) (fun e2 => ?_)
        · have z0 : ss_sh Lv Xd f i = 1 := by unfold ss_sh; rw [if_pos el, if_pos e2]
          rw [nx, z0] at k
          exact nm_r (nI_1 _) (nm_r (nI_1 i) k)
        · have z0 : ss_sh Lv Xd f i = 0 := by unfold ss_sh; rw [if_pos el, if_neg e2]
          rw [nx, z0, Nat.add_zero] at k
          exact nm_r (nI_1 i) k
theorem ss_y_sharers {post : Int32 → Prop} {x : Int32} {f : Nat} (hx : x = nI f) (hf : f < 32) (V : ss_LV Lv lv) (hyf : ∀ i, Lv i = true → yf i = nI (ss_fr (Xd i)) ∧ ss_fr (Xd i) < 32) (hp : post (nI (ss_shr Lv Xd f))) : wpY_sharers post (ye, yc, yf, ya, yo, yl, yi, yr, yn, yt, lv, yb, yd, yw, yh) x := by
  subst hx
  exact ⟨33, ss_y_sharersL hf V hyf hp 33 0 (by omega) (by omega)⟩
theorem ss_y_users75 {post : Int32 → SY → Prop} {J47 : Int32 → Int32 → Prop} {x i a : Nat} (hx : x < 32) (hi : i < 32) (V : ss_LV Lv lv) (Y : ss_YL Lv Xd hd ya yo yh)
    (hp : J47 (nI (a + (if Lv i = true then ss_q (ss_co (Xd i)) x else 0))) (nI (i + 1))) : wY_users_75 post J47 (nI x) (nI a) (nI i) ye yc yf ya yo yl yi yr yn yt lv yb yd yw yh := by
  refine And.intro (vp_in_nI hi (by decide)) ?_
  rw [nI_clamp (n := i) (by omega)]
  rcases ss_LV_c V hi with ⟨e, el⟩ | ⟨e, el⟩
  · rw [if_neg (by rw [el]; decide), Nat.add_zero] at hp
    exact br_t e (nm_r (nI_1 i) hp)
  · refine br_f e (And.intro (vp_in_nI hi (by decide)) ?_)
    obtain ⟨_, _, q, _, q2⟩ := Y.1 i el
    rw [if_pos el] at hp
    have iff := ss_oI_eq (o := ss_co (Xd i)) (fun j hj => (Y.1 j (q2 j hj)).1) hx
    rw [← q] at iff
    by_cases g : ss_co (Xd i) = some x
    · rw [g, ss_q_s] at hp
      exact br_t (iff.mpr g) (nm_r (nI_1 a) (nm_r (nI_1 i) hp))
    · rw [ss_q_n g, Nat.add_zero] at hp
      exact br_f (fun k => g (iff.mp k)) (nm_r (nI_1 i) hp)
theorem ss_y_users47 {post : Int32 → SY → Prop} {x b : Nat} (hx : x < 32) (V : ss_LV Lv lv) (Y : ss_YL Lv Xd hd ya yo yh) (hp : post (nI (b + ss_sm (ss_lk Lv Xd x) 32)) (ye, yc, yf, ya, yo, yl, yi, yr, yn, yt, lv, yb, yd, yw, yh)) :
    ∀ (n i : Nat), 32 < n + i → i ≤ 32 → wY_users_47 post (nI x) ye yc yf ya yo yl yi yr yn yt lv yb yd yw yh n (nI (b + ss_sm (ss_lk Lv Xd x) i)) (nI i) := by
  intro n
  induction n with
  | zero => intro i hn; omega
  | succ n ih =>
    intro i hn hi
    refine pk_le 32 i (fun g => ?_) (fun g => ?_)
    · have e : i = 32 := by omega
      subst e
      exact hp
    · refine And.intro (vp_in_nI g (by decide)) ?_
      rw [nI_clamp (n := i) (by omega)]
      have nx : ss_sm (ss_lk Lv Xd x) (i + 1) = ss_sm (ss_lk Lv Xd x) i + ss_lk Lv Xd x i := rfl
      have k := ih (i + 1) (by omega) (by omega)
      rcases ss_LV_c V g with ⟨e, el⟩ | ⟨e, el⟩
      · have z0 : ss_lk Lv Xd x i = 0 := if_neg (by rw [el]; decide)
        refine br_t e (ss_y_users75 hx g V Y ?_)
        rw [nx, z0] at k
        rw [if_neg (by rw [el]; decide)]
        exact k
      · refine br_f e (And.intro (vp_in_nI g (by decide)) ?_)
        obtain ⟨_, q, _, q2, _⟩ := Y.1 i el
        have iff := ss_oI_eq (o := ss_ac (Xd i)) (fun j hj => (Y.1 j (q2 j hj)).1) hx
        rw [← q] at iff
        have z0 : ss_lk Lv Xd x i = ss_q (ss_ac (Xd i)) x + ss_q (ss_co (Xd i)) x := if_pos el
        by_cases g2 : ss_ac (Xd i) = some x
        · refine br_t (iff.mpr g2) (nm_r (nI_1 _) (ss_y_users75 hx g V Y ?_))
          rw [g2, ss_q_s] at z0
          rw [nx, z0, ← Nat.add_assoc, ← Nat.add_assoc] at k
          rw [if_pos el]
          exact k
        · refine br_f (fun k => g2 (iff.mp k)) (ss_y_users75 hx g V Y ?_)
          rw [ss_q_n g2, Nat.zero_add] at z0
          rw [nx, z0, ← Nat.add_assoc] at k
          rw [if_pos el]
          exact k
theorem ss_y_users20 {post : Int32 → SY → Prop} {x b : Nat} (hx : x < 32) (V : ss_LV Lv lv) (Y : ss_YL Lv Xd hd ya yo yh) (hp : post (nI (b + ss_sm (fun h => ss_q (hd h) x) 8 + ss_sm (ss_lk Lv Xd x) 32)) (ye, yc, yf, ya, yo, yl, yi, yr, yn, yt, lv, yb, yd, yw, yh)) :
    ∀ (n i : Nat), 8 < n + i → i ≤ 8 → wY_users_20 post (nI x) ye yc yf ya yo yl yi yr yn yt lv yb yd yw yh n (nI (b + ss_sm (fun h => ss_q (hd h) x) i)) (nI i) := by
  intro n
  induction n with
  | zero => intro i hn; omega
  | succ n ih =>
    intro i hn hi
    refine pk_le 8 i (fun g => ?_) (fun g => ?_)
    · have e : i = 8 := by omega
      subst e
      exact ⟨33, ss_y_users47 hx V Y hp 33 0 (by omega) (by omega)⟩
    · refine And.intro (vp_in_nI g (by decide)) ?_
      rw [nI_clamp (n := i) (by omega)]
      have nx : ss_sm (fun h => ss_q (hd h) x) (i + 1) = ss_sm (fun h => ss_q (hd h) x) i + ss_q (hd i) x := rfl
      have k := ih (i + 1) (by omega) (by omega)
      obtain ⟨q, q2⟩ := Y.2 i g
      have iff := ss_oI_eq (o := hd i) (fun j hj => (Y.1 j (q2 j hj)).1) hx
      rw [← q] at iff
      by_cases g2 : hd i = some x
      · rw [nx, g2, ss_q_s, ← Nat.add_assoc] at k
        exact br_t (iff.mpr g2) (nm_r (nI_1 _) (nm_r (nI_1 i) k))
      · rw [nx, ss_q_n g2, Nat.add_zero] at k
        exact br_f (fun k => g2 (iff.mp k)) (nm_r (nI_1 i) k)
theorem ss_y_users {post : Int32 → SY → Prop} {rk : Nat → Nat} {xx : Int32} {x : Nat} (hxx : xx = nI x) (hye : ye = nI c) (hcl : Lv c = true) (Y : ss_YL Lv Xd hd ya yo yh) (RK : ss_RK Lv Xd rk) (sup : ∀ i, Lv i = true → 0 < ss_cnt hd (some c) Lv Xd i) (hx : x < 32)
    (hp : ∀ lv', ss_LV Lv lv' → post (nI (ss_cnt hd (some c) Lv Xd x)) (ye, yc, yf, ya, yo, yl, yi, yr, yn, yt, lv', yb, yd, yw, yh)) : wpY_users post (ye, yc, yf, ya, yo, yl, yi, yr, yn, yt, yv, yb, yd, yw, yh) xx := by
  subst hxx
  unfold wpY_users
  refine ss_y_findLive hye hcl Y RK sup ?_
  intro lv V
  subst hye
  have c32 := (Y.1 c hcl).1
  have k := hp lv V
  unfold ss_cnt at k
  refine pk_eq x c (fun e => ?_) (fun e => ?_)
  · subst e
    rw [ss_q_s] at k
    exact ⟨9, ss_y_users20 (b := 1) hx V Y k 9 0 (by omega) (by omega)⟩
  · rw [ss_q_n (fun h => e (Option.some.inj h).symm)] at k
    exact ⟨9, ss_y_users20 (b := 0) hx V Y k 9 0 (by omega) (by omega)⟩
theorem ss_y_freeEL {post : Int32 → SY → Prop} (V : ss_LV Lv lv) (hp : post (nI (ss_last Lv 32)) (ye, yc, yf, ya, yo, yl, yi, yr, yn, yt, lv, yb, yd, yw, yh)) :
    ∀ (n i : Nat), 32 < n + i → i ≤ 32 → wY_freeExtension_8 post ye yc yf ya yo yl yi yr yn yt lv yb yd yw yh n (nI (ss_last Lv i)) (nI i) := by
  intro n
  induction n with
  | zero => intro i hn; omega
  | succ n ih =>
    intro i hn hi
    refine pk_le 32 i (fun g => ?_) (fun g => ?_)
    · have e : i = 32 := by omega
      subst e
      exact hp
    · refine And.intro (vp_in_nI g (by decide)) ?_
      rw [nI_clamp (n := i) (by omega)]
      have k := ih (i + 1) (by omega) (by omega)
      rcases ss_LV_c V g with ⟨e, el⟩ | ⟨e, el⟩
      · have z0 : ss_last Lv (i + 1) = i := if_neg (by rw [el]; decide)
        rw [z0] at k
        exact br_t e (nm_r (nI_1 i) k)
      · have z0 : ss_last Lv (i + 1) = ss_last Lv i := if_pos el
        rw [z0] at k
        exact br_f e (nm_r (nI_1 i) k)
theorem ss_y_freeE {post : Int32 → SY → Prop} {rk : Nat → Nat} (hye : ye = nI c) (hcl : Lv c = true) (Y : ss_YL Lv Xd hd ya yo yh) (RK : ss_RK Lv Xd rk) (sup : ∀ i, Lv i = true → 0 < ss_cnt hd (some c) Lv Xd i)
    (hp : ∀ lv', ss_LV Lv lv' → post (nI (ss_last Lv 32)) (ye, yc, yf, ya, yo, yl, yi, yr, yn, yt, lv', yb, yd, yw, yh)) : wpY_freeExtension post (ye, yc, yf, ya, yo, yl, yi, yr, yn, yt, yv, yb, yd, yw, yh) := by
  unfold wpY_freeExtension
  refine ss_y_findLive hye hcl Y RK sup ?_
  intro lv V
  exact ⟨33, ss_y_freeEL V (hp lv V) 33 0 (by omega) (by omega)⟩
theorem ss_y_freeFL {post : Int32 → SY → Prop} (V : ss_LV Lv lv) (hyf : ∀ i, Lv i = true → yf i = nI (ss_fr (Xd i)) ∧ ss_fr (Xd i) < 32) (hfv : ∀ f, f < 32 → (Fv f = true ↔ 0 < ss_shr Lv Xd f)) (hp : post (nI (ss_last Fv 32)) (ye, yc, yf, ya, yo, yl, yi, yr, yn, yt, lv, yb, yd, yw, yh)) :
    ∀ (n i : Nat), 32 < n + i → i ≤ 32 → wY_freeFrame_8 post ye yc yf ya yo yl yi yr yn yt lv yb yd yw yh n (nI (ss_last Fv i)) (nI i) := by
  intro n
  induction n with
  | zero => intro i hn; omega
  | succ n ih =>
    intro i hn hi
    refine pk_le 32 i (fun g => ?_) (fun g => ?_)
    · have e : i = 32 := by omega
      subst e
      exact hp
    · refine ss_y_sharers rfl g V hyf ?_
      have k := ih (i + 1) (by omega) (by omega)
      have le := ss_shr_le (Lv := Lv) (Xd := Xd) i
      refine pk_eq (ss_shr Lv Xd i) 0 (fun e => ?_) (fun e => ?_)
      · have z0 : ss_last Fv (i + 1) = i := if_neg (by rw [hfv i g]; omega)
        rw [z0] at k
        exact nm_r (nI_1 i) k
      · have z0 : ss_last Fv (i + 1) = ss_last Fv i := if_pos ((hfv i g).mpr (by omega))
        rw [z0] at k
        exact nm_r (nI_1 i) k
theorem ss_y_freeF {post : Int32 → SY → Prop} {rk : Nat → Nat} (hye : ye = nI c) (hcl : Lv c = true) (Y : ss_YL Lv Xd hd ya yo yh) (RK : ss_RK Lv Xd rk) (sup : ∀ i, Lv i = true → 0 < ss_cnt hd (some c) Lv Xd i) (hyf : ∀ i, Lv i = true → yf i = nI (ss_fr (Xd i)) ∧ ss_fr (Xd i) < 32) (hfv : ∀ f, f < 32 → (Fv f = true ↔ 0 < ss_shr Lv Xd f))
    (hp : ∀ lv', ss_LV Lv lv' → post (nI (ss_last Fv 32)) (ye, yc, yf, ya, yo, yl, yi, yr, yn, yt, lv', yb, yd, yw, yh)) : wpY_freeFrame post (ye, yc, yf, ya, yo, yl, yi, yr, yn, yt, yv, yb, yd, yw, yh) := by
  unfold wpY_freeFrame
  refine ss_y_findLive hye hcl Y RK sup ?_
  intro lv V
  exact ⟨33, ss_y_freeFL V hyf hfv (hp lv V) 33 0 (by omega) (by omega)⟩
theorem ss_y_used43 {post : Int32 → SY → Prop} {b : Nat} (V : ss_LV Lv lv) (hyf : ∀ i, Lv i = true → yf i = nI (ss_fr (Xd i)) ∧ ss_fr (Xd i) < 32) (hfv : ∀ f, f < 32 → (Fv f = true ↔ 0 < ss_shr Lv Xd f)) (hyb : ∀ f, Fv f = true → yb f = nI (ss_br (Fd f))) (hp : post (nI (b + ss_sm (ss_uf Fv Fd) 32)) (ye, yc, yf, ya, yo, yl, yi, yr, yn, yt, lv, yb, yd, yw, yh)) :
    ∀ (n i : Nat), 32 < n + i → i ≤ 32 → wY_used_43 post ye yc yf ya yo yl yi yr yn yt lv yb yd yw yh n (nI (b + ss_sm (ss_uf Fv Fd) i)) (nI i) := by
  intro n
  induction n with
  | zero => intro i hn; omega
  | succ n ih =>
    intro i hn hi
    refine pk_le 32 i (fun g => ?_) (fun g => ?_)
    · have e : i = 32 := by omega
      subst e
      exact hp
    · refine ss_y_sharers rfl g V hyf ?_
      have k := ih (i + 1) (by omega) (by omega)
      have le := ss_shr_le (Lv := Lv) (Xd := Xd) i
      have nx : ss_sm (ss_uf Fv Fd) (i + 1) = ss_sm (ss_uf Fv Fd) i + ss_uf Fv Fd i := rfl
      refine pk_le (ss_shr Lv Xd i) 0 (fun e => ?_) (fun e => ?_)
      · have z0 : ss_uf Fv Fd i = 0 := if_neg (by rw [hfv i g]; omega)
        rw [nx, z0, Nat.add_zero] at k
        exact nm_r (nI_1 i) k
      · have hv := (hfv i g).mpr e
        have z0 : ss_uf Fv Fd i = 3 + 2 * ss_br (Fd i) := if_pos hv
        rw [nx, z0, ← Nat.add_assoc] at k
        refine And.intro (vp_in_nI g (by decide)) (nm_r (e' := nI (b + ss_sm (ss_uf Fv Fd) i + (3 + 2 * ss_br (Fd i)))) ?_ (nm_r (nI_1 i) k))
        rw [nI_clamp (by omega), hyb i hv, ss_c32, nI_add]
theorem ss_y_used8 {post : Int32 → SY → Prop} (V : ss_LV Lv lv) (hyf : ∀ i, Lv i = true → yf i = nI (ss_fr (Xd i)) ∧ ss_fr (Xd i) < 32) (hyr : ∀ i, Lv i = true → yr i = nI (ss_rm (Xd i))) (hfv : ∀ f, f < 32 → (Fv f = true ↔ 0 < ss_shr Lv Xd f)) (hyb : ∀ f, Fv f = true → yb f = nI (ss_br (Fd f))) (hp : post (nI (ss_us Lv Fv Xd Fd)) (ye, yc, yf, ya, yo, yl, yi, yr, yn, yt, lv, yb, yd, yw, yh)) :
    ∀ (n i : Nat), 32 < n + i → i ≤ 32 → wY_used_8 post ye yc yf ya yo yl yi yr yn yt lv yb yd yw yh n (nI (ss_sm (ss_ue Lv Xd) i)) (nI i) := by
  intro n
  induction n with
  | zero => intro i hn; omega
  | succ n ih =>
    intro i hn hi
    refine pk_le 32 i (fun g => ?_) (fun g => ?_)
    · have e : i = 32 := by omega
      subst e
      exact ⟨33, ss_y_used43 V hyf hfv hyb hp 33 0 (by omega) (by omega)⟩
    · refine And.intro (vp_in_nI g (by decide)) ?_
      rw [nI_clamp (n := i) (by omega)]
      have k := ih (i + 1) (by omega) (by omega)
      have nx : ss_sm (ss_ue Lv Xd) (i + 1) = ss_sm (ss_ue Lv Xd) i + ss_ue Lv Xd i := rfl
      rcases ss_LV_c V g with ⟨e, el⟩ | ⟨e, el⟩
      · have z0 : ss_ue Lv Xd i = 0 := if_neg (by rw [el]; decide)
        rw [nx, z0, Nat.add_zero] at k
        exact br_t e (nm_r (nI_1 i) k)
      · have z0 : ss_ue Lv Xd i = 8 + ss_rm (Xd i) := if_pos el
        rw [nx, z0] at k
        refine br_f e (And.intro (vp_in_nI g (by decide)) (nm_r (e' := nI (ss_sm (ss_ue Lv Xd) i + (8 + ss_rm (Xd i)))) ?_ (nm_r (nI_1 i) k)))
        rw [hyr i el, ss_c8, nI_add]
theorem ss_y_used {post : Int32 → SY → Prop} {rk : Nat → Nat} (hye : ye = nI c) (hcl : Lv c = true) (Y : ss_YL Lv Xd hd ya yo yh) (RK : ss_RK Lv Xd rk) (sup : ∀ i, Lv i = true → 0 < ss_cnt hd (some c) Lv Xd i) (hyf : ∀ i, Lv i = true → yf i = nI (ss_fr (Xd i)) ∧ ss_fr (Xd i) < 32) (hyr : ∀ i, Lv i = true → yr i = nI (ss_rm (Xd i))) (hfv : ∀ f, f < 32 → (Fv f = true ↔ 0 < ss_shr Lv Xd f)) (hyb : ∀ f, Fv f = true → yb f = nI (ss_br (Fd f)))
    (hp : ∀ lv', ss_LV Lv lv' → post (nI (ss_us Lv Fv Xd Fd)) (ye, yc, yf, ya, yo, yl, yi, yr, yn, yt, lv', yb, yd, yw, yh)) : wpY_used post (ye, yc, yf, ya, yo, yl, yi, yr, yn, yt, yv, yb, yd, yw, yh) := by
  unfold wpY_used
  refine ss_y_findLive hye hcl Y RK sup ?_
  intro lv V
  exact ⟨33, ss_y_used8 V hyf hyr hfv hyb (hp lv V) 33 0 (by omega) (by omega)⟩
end
end
section
/-! the relation, its elimination, data changes in the good state, environments -/
def ss_GX (L : List Nat) (z E F : Nat → Nat) (Lv Fv : Nat → Bool) (Xd : Nat → ss_ER) (Fd : Nat → ss_FR) (hd : Nat → Option Nat) (c t cap : Nat) (st ah : Nat → Int32) : Prop :=
  ss_GS L z E F Lv Fv Xd Fd hd (some c) t st ∧ (∀ h, h < 8 → ah h = ss_oE E (hd h)) ∧ ss_us Lv Fv Xd Fd ≤ cap ∧ t ≤ cap ∧ cap ≤ 240
def ss_GY (Lv Fv : Nat → Bool) (Xd : Nat → ss_ER) (Fd : Nat → ss_FR) (hd : Nat → Option Nat) (yf ya yo yl yi yr yn yt yb yd yw yh : Nat → Int32) : Prop :=
  ss_YE Lv Xd yf yl yi yr yn yt ∧ ss_YF Fv Fd yb yd yw ∧ (∀ i, Lv i = true → ya i = ss_oE id (ss_ac (Xd i)) ∧ yo i = ss_oE id (ss_co (Xd i))) ∧ (∀ h, h < 8 → yh h = ss_oE id (hd h))
def ss_RX (L : List Nat) (z E F : Nat → Nat) (Lv Fv : Nat → Bool) (Xd : Nat → ss_ER) (Fd : Nat → ss_FR) (hd : Nat → Option Nat) (c t cap : Nat) (u : SX) : Prop := match u with
  | (k1, k2, k3, k4, k5, k6, k7, k8, k9, k10, k11, k12, k13, kc, kp, kt, ku, ke, st, fw, pn, ah) => kc = nI cap ∧ kt = nI t ∧ ku = nI (ss_us Lv Fv Xd Fd) ∧ ke = nI (E c) ∧ ss_GX L z E F Lv Fv Xd Fd hd c t cap st ah
def ss_RY (Lv Fv : Nat → Bool) (Xd : Nat → ss_ER) (Fd : Nat → ss_FR) (hd : Nat → Option Nat) (c cap : Nat) (v : SY) : Prop := match v with
  | (ye, yc, yf, ya, yo, yl, yi, yr, yn, yt, yv, yb, yd, yw, yh) => ye = nI c ∧ yc = nI cap ∧ ss_GY Lv Fv Xd Fd hd yf ya yo yl yi yr yn yt yb yd yw yh
/-- the relation -/
def i_Rel (_ : Nat) (u : SX) (v : SY) : Prop :=
  ∃ (L : List Nat) (z E F : Nat → Nat) (Lv Fv : Nat → Bool) (Xd : Nat → ss_ER) (Fd : Nat → ss_FR) (hd : Nat → Option Nat) (c t cap : Nat), ss_RX L z E F Lv Fv Xd Fd hd c t cap u ∧ ss_RY Lv Fv Xd Fd hd c cap v
theorem i_up {k : Nat} {u : SX} {v : SY} (h : i_Rel k u v) : i_Rel (k + 5) u v := h
section
variable {k1 k2 k3 k4 k5 k6 k7 k8 k9 k10 k11 k12 k13 kc kp kt ku ke : Int32} {st fw pn ah : Nat → Int32}
variable {ye yc : Int32} {yf ya yo yl yi yr yn yt yv yb yd yw yh : Nat → Int32}
variable {L : List Nat} {z E F : Nat → Nat} {Lv Fv : Nat → Bool} {Xd : Nat → ss_ER} {Fd : Nat → ss_FR} {hd : Nat → Option Nat} {c t cap : Nat}
theorem ss_intro {k : Nat} (hX : ss_GX L z E F Lv Fv Xd Fd hd c t cap st ah) (hY : ss_GY Lv Fv Xd Fd hd yf ya yo yl yi yr yn yt yb yd yw yh) : i_Rel k (k1, k2, k3, k4, k5, k6, k7, k8, k9, k10, k11, k12, k13, nI cap, kp, nI t, nI (ss_us Lv Fv Xd Fd), nI (E c), st, fw, pn, ah) (nI c, nI cap, yf, ya, yo, yl, yi, yr, yn, yt, yv, yb, yd, yw, yh) :=
  ⟨L, z, E, F, Lv, Fv, Xd, Fd, hd, c, t, cap, ⟨rfl, rfl, rfl, rfl, hX⟩, ⟨rfl, rfl, hY⟩⟩
end
theorem ss_elim {P : SX → SY → Prop} (h : ∀ (L : List Nat) (z E F : Nat → Nat) (Lv Fv : Nat → Bool) (Xd : Nat → ss_ER) (Fd : Nat → ss_FR) (hd : Nat → Option Nat) (c t cap : Nat) (k1 k2 k3 k4 k5 k6 k7 k8 k9 k10 k11 k12 k13 kp : Int32) (st fw pn ah yf ya yo yl yi yr yn yt yv yb yd yw yh : Nat → Int32),
    ss_GX L z E F Lv Fv Xd Fd hd c t cap st ah → ss_GY Lv Fv Xd Fd hd yf ya yo yl yi yr yn yt yb yd yw yh → P (k1, k2, k3, k4, k5, k6, k7, k8, k9, k10, k11, k12, k13, nI cap, kp, nI t, nI (ss_us Lv Fv Xd Fd), nI (E c), st, fw, pn, ah) (nI c, nI cap, yf, ya, yo, yl, yi, yr, yn, yt, yv, yb, yd, yw, yh)) {k : Nat} {u : SX} {v : SY} (I : i_Rel k u v) : P u v := by
  obtain ⟨L, z, E, F, Lv, Fv, Xd, Fd, hd, c, t, cap, hX, hY⟩ := I
  obtain ⟨k1, k2, k3, k4, k5, k6, k7, k8, k9, k10, k11, k12, k13, kc, kp, kt, ku, ke, st, fw, pn, ah⟩ := u
  obtain ⟨ye, yc, yf, ya, yo, yl, yi, yr, yn, yt, yv, yb, yd, yw, yh⟩ := v
  obtain ⟨e1, e2, e3, e4, hX⟩ := hX
  obtain ⟨e5, e6, hY⟩ := hY
  rw [e1, e2, e3, e4, e5, e6]
  exact h L z E F Lv Fv Xd Fd hd c t cap k1 k2 k3 k4 k5 k6 k7 k8 k9 k10 k11 k12 k13 kp st fw pn ah yf ya yo yl yi yr yn yt yv yb yd yw yh hX hY
section
variable {L : List Nat} {z E F : Nat → Nat} {Lv Fv : Nat → Bool} {Xd : Nat → ss_ER} {Fd : Nat → ss_FR} {hd : Nat → Option Nat} {cur : Option Nat} {c t cap : Nat} {s s' st ah yf ya yo yl yi yr yn yt yb yd yw yh : Nat → Int32}
theorem ss_CL_dat {j : Nat} {r' : ss_ER} (C : ss_CL E Lv Fv Xd hd cur) (hf : ss_fr r' = ss_fr (Xd j)) (ha : ss_ac r' = ss_ac (Xd j)) (hc : ss_co r' = ss_co (Xd j)) : ss_CL E Lv Fv (ss_set Xd j r') hd cur := by
  refine ⟨?_, ?_, C.2.2⟩
  · intro i hi
    obtain ⟨a, b, d, e⟩ := C.1 i hi
    by_cases g : i = j
    · subst g
      rw [ss_set_s, hf, ha, hc]
      exact ⟨a, b, d, e⟩
    · rw [ss_set_n g]
      exact ⟨a, b, d, e⟩
  · intro f hfv
    rw [ss_shr_dat hf]
    exact C.2.1 f hfv
theorem ss_GS_dat {j : Nat} {r' : ss_ER} (G : ss_GS L z E F Lv Fv Xd Fd hd cur t s) (hj : Lv j = true) (hs : ∀ p, (p < E j ∨ E j + z (E j) ≤ p) → s' p = s p) (hx : ss_XC s' E F (E j) r' (ss_cnt hd cur Lv Xd j)) (hw : ss_EW r')
    (hr : ss_rm r' = ss_rm (Xd j)) (hf : ss_fr r' = ss_fr (Xd j)) (ha : ss_ac r' = ss_ac (Xd j)) (hc : ss_co r' = ss_co (Xd j)) : ss_GS L z E F Lv Fv (ss_set Xd j r') Fd hd cur t s' := by
  obtain ⟨R, C, Pz⟩ := G
  have k := ss_RS_ext R hj hs hx hw hr
  rw [ss_set_id (f := ss_cnt hd cur Lv Xd) rfl] at k
  refine ⟨ss_RS_cu k (fun i _ => ss_cnt_dat ha hc i) (fun f _ => ss_shr_dat hf f), ss_CL_dat C hf ha hc, ?_⟩
  intro i hi
  rw [ss_cnt_dat ha hc]
  exact Pz i hi
theorem ss_GS_frm {j : Nat} {r' : ss_FR} (G : ss_GS L z E F Lv Fv Xd Fd hd cur t s) (hj : Fv j = true) (hs : ∀ p, (p < F j ∨ F j + z (F j) ≤ p) → s' p = s p) (hx : ss_FC s' (F j) r' (ss_shr Lv Xd j)) (hw : ss_FW r')
    (hr : ss_br r' = ss_br (Fd j)) : ss_GS L z E F Lv Fv Xd (ss_set Fd j r') hd cur t s' := by
  obtain ⟨R, C, Pz⟩ := G
  have k := ss_RS_frm R hj hs hx hw hr
  rw [ss_set_id (f := ss_shr Lv Xd) rfl] at k
  exact ⟨k, C, Pz⟩
/-- the rank: the address by eights -/
theorem ss_rank (G : ss_GS L z E F Lv Fv Xd Fd hd cur t s) (ht : t ≤ 240) : ss_RK Lv Xd (fun i => E i / 8) := by
  obtain ⟨R, C, Pz⟩ := G
  intro i hi
  have lim := ss_RS_in R hi
  have down : ∀ j, Lv j = true → E j < E i → E j / 8 < E i / 8 := by
    intro j hj hlt
    have q := ss_Lay_dis R.1 _ _ (R.2.2.1 j hj).1 (R.2.2.1 i hi).1 hlt
    have q2 := (R.2.2.1 j hj).2.1
    omega
  obtain ⟨_, _, c3, c4⟩ := C.1 i hi
  refine ⟨by show E i / 8 < 30; omega, fun j hj => down j (c3 j hj).1 (c3 j hj).2, fun j hj => down j (c4 j hj).1 (c4 j hj).2⟩
theorem ss_links (C : ss_CL E Lv Fv Xd hd cur) (hY : ss_GY Lv Fv Xd Fd hd yf ya yo yl yi yr yn yt yb yd yw yh) : ss_YL Lv Xd hd ya yo yh := by
  refine ⟨fun i hi => ?_, fun h h8 => ⟨hY.2.2.2 h h8, fun j hj => C.2.2.2 h j h8 hj⟩⟩
  obtain ⟨a, b, d, e⟩ := C.1 i hi
  exact ⟨a, (hY.2.2.1 i hi).1, (hY.2.2.1 i hi).2, fun j hj => (d j hj).1, fun j hj => (e j hj).1⟩
theorem ss_fvs (C : ss_CL E Lv Fv Xd hd cur) : ∀ f, f < 32 → (Fv f = true ↔ 0 < ss_shr Lv Xd f) := by
  intro f hf
  refine ⟨fun h => (C.2.1 f h).2, fun h => ?_⟩
  obtain ⟨j, hj, hl, e⟩ := ss_shr_pos h
  rw [← e]
  exact (C.1 j hl).2.1
theorem ss_yfs (C : ss_CL E Lv Fv Xd hd cur) (hY : ss_YE Lv Xd yf yl yi yr yn yt) : ∀ i, Lv i = true → yf i = nI (ss_fr (Xd i)) ∧ ss_fr (Xd i) < 32 := by
  intro i hi
  exact ⟨(hY i hi).1, (C.2.1 _ (C.1 i hi).2.1).1⟩
end
/-- what an environment argument means -/
def ss_ev (hd : Nat → Option Nat) (c : Nat) (p : Int32) : Option Nat := if p = -1 then some c else if p < 0 then none else if 8 ≤ p then none else hd p.toNatClampNeg
theorem ss_slot (p : Int32) : p < 0 ∨ (¬ p < 0 ∧ 8 ≤ p) ∨ ∃ h, h < 8 ∧ p = nI h := by
  rcases pk_ix p (n := 8) (by decide) with h | h | h
  · exact Or.inl h
  · by_cases g : p < 0
    · exact Or.inl g
    · exact Or.inr (Or.inl ⟨g, h⟩)
  · exact Or.inr (Or.inr h)
section
variable {k1 k2 k3 k4 k5 k6 k7 k8 k9 k10 k11 k12 k13 kc kp kt ku ke : Int32} {st fw pn ah : Nat → Int32}
variable {ye yc : Int32} {yf ya yo yl yi yr yn yt yv yb yd yw yh : Nat → Int32}
variable {L : List Nat} {z E F : Nat → Nat} {Lv Fv : Nat → Bool} {Xd : Nat → ss_ER} {Fd : Nat → ss_FR} {hd : Nat → Option Nat} {c t cap : Nat}
theorem ss_ev_live {p : Int32} {j : Nat} (C : ss_CL E Lv Fv Xd hd (some c)) (h : ss_ev hd c p = some j) : Lv j = true := by
  unfold ss_ev at h
  split at h
  · exact C.2.2.1 j h
  · rcases ss_slot p with g | ⟨g, g2⟩ | ⟨k, k8, e⟩
    · rw [if_pos g] at h; exact nomatch h
    · rw [if_neg g, if_pos g2] at h; exact nomatch h
    · subst e
      rw [if_neg (nI_pos (by omega)), if_neg (show ¬ (8 : Int32) ≤ nI k from nI_ge (b := 8) k8 (by decide)), nI_clamp (by omega)] at h
      exact C.2.2.2 k j k8 h
theorem ss_x_isHeld0 {post : Int32 → Prop} {p : Int32} (h : p < 0 ∨ (¬ p < 0 ∧ 8 ≤ p)) (hp : post 0) : wpX_isHeld post (k1, k2, k3, k4, k5, k6, k7, k8, k9, k10, k11, k12, k13, kc, kp, kt, ku, ke, st, fw, pn, ah) p := by
  rcases h with g | ⟨g, g2⟩
  · exact br_t g hp
  · exact br_f g (br_t g2 hp)
theorem ss_x_isHeldN {post : Int32 → Prop} {h : Nat} (h8 : h < 8) (e : ah h = -1) (hp : post 0) : wpX_isHeld post (k1, k2, k3, k4, k5, k6, k7, k8, k9, k10, k11, k12, k13, kc, kp, kt, ku, ke, st, fw, pn, ah) (nI h) := by
  refine br_f (nI_pos (by omega)) (br_f (nI_ge (b := 8) h8 (by decide)) (And.intro (vp_in_nI h8 (by decide)) (br_t ?_ hp)))
  rw [nI_clamp (by omega), e]; decide
theorem ss_x_isHeldS {post : Int32 → Prop} {h a : Nat} (h8 : h < 8) (e : ah h = nI a) (ha : a < 240) (hp : post 1) : wpX_isHeld post (k1, k2, k3, k4, k5, k6, k7, k8, k9, k10, k11, k12, k13, kc, kp, kt, ku, ke, st, fw, pn, ah) (nI h) := by
  refine br_f (nI_pos (by omega)) (br_f (nI_ge (b := 8) h8 (by decide)) (And.intro (vp_in_nI h8 (by decide)) (br_f ?_ hp)))
  rw [nI_clamp (by omega), e]; exact nI_pos (by omega)
theorem ss_x_envOf {post : Int32 → Prop} {p : Int32} (hke : ke = nI (E c)) (hah : ∀ h, h < 8 → ah h = ss_oE E (hd h)) (hb : ∀ h j, h < 8 → hd h = some j → E j < 240) (hp : post (ss_oE E (ss_ev hd c p))) : wpX_envOf post (k1, k2, k3, k4, k5, k6, k7, k8, k9, k10, k11, k12, k13, kc, kp, kt, ku, ke, st, fw, pn, ah) p := by
  subst hke
  unfold ss_ev at hp
  by_cases g : p = -1
  · rw [if_pos g] at hp
    exact br_t g hp
  · rw [if_neg g] at hp
    refine br_f g ?_
    rcases ss_slot p with k | ⟨k, k2⟩ | ⟨k, k8, e⟩
    · rw [if_pos k] at hp
      exact ss_x_isHeld0 (Or.inl k) (br_t rfl hp)
    · rw [if_neg k, if_pos k2] at hp
      exact ss_x_isHeld0 (Or.inr ⟨k, k2⟩) (br_t rfl hp)
    · subst e
      rw [if_neg (nI_pos (by omega)), if_neg (show ¬ (8 : Int32) ≤ nI k from nI_ge (b := 8) k8 (by decide)), nI_clamp (by omega)] at hp
      have q := hah k k8
      cases e : hd k with
      | none =>
        rw [e] at q hp
        exact ss_x_isHeldN k8 q (br_t rfl hp)
      | some j =>
        rw [e] at q hp
        refine ss_x_isHeldS k8 q (hb k j k8 e) (br_f (by decide) (And.intro (vp_in_nI k8 (by decide)) ?_))
        rw [nI_clamp (by omega), q]
        exact hp
theorem ss_y_resolve {post : Int32 → Prop} {p : Int32} (hye : ye = nI c) (hyh : ∀ h, h < 8 → yh h = ss_oE id (hd h)) (hp : post (ss_oE id (ss_ev hd c p))) : wpY_resolve post (ye, yc, yf, ya, yo, yl, yi, yr, yn, yt, yv, yb, yd, yw, yh) p := by
  subst hye
  unfold ss_ev at hp
  by_cases g : p = -1
  · rw [if_pos g] at hp
    exact br_t g hp
  · rw [if_neg g] at hp
    refine br_f g ?_
    rcases ss_slot p with k | ⟨k, k2⟩ | ⟨k, k8, e⟩
    · rw [if_pos k] at hp
      exact br_t k hp
    · rw [if_neg k, if_pos k2] at hp
      refine br_f k (br_f ?_ hp)
      obtain ⟨j, hj, e⟩ := nI_of k
      subst e
      have k3 : nI 8 ≤ nI j := k2
      rw [nI_leI (by decide) hj] at k3
      exact nI_ge (b := j) (a := 7) (by omega) hj
    · subst e
      rw [if_neg (nI_pos (by omega)), if_neg (show ¬ (8 : Int32) ≤ nI k from nI_ge (b := 8) k8 (by decide)), nI_clamp (by omega)] at hp
      refine br_f (nI_pos (by omega)) (br_t (nI_le (a := k) (b := 7) (by omega) (by decide)) (And.intro (vp_in_nI k8 (by decide)) ?_))
      rw [nI_clamp (by omega), hyh k k8]
      exact hp
end
end
section
/-! mark, push, pop, used, spare, same -/
def ss_sLb (r : ss_ER) (v : Int32) : ss_ER := (ss_fr r, ss_ac r, ss_co r, v, ss_in r, ss_rm r, ss_tn r, ss_tp r)
def ss_sIn (r : ss_ER) (v : Int32) : ss_ER := (ss_fr r, ss_ac r, ss_co r, ss_lb r, v, ss_rm r, ss_tn r, ss_tp r)
def ss_sTp (r : ss_ER) (n : Nat) (f : Nat → Int32) : ss_ER := (ss_fr r, ss_ac r, ss_co r, ss_lb r, ss_in r, ss_rm r, n, f)
theorem ss_neg : (-1 : Int32) < 0 := by decide
theorem ss_neg' : ¬ (0 : Int32) ≤ -1 := by decide
section
variable {k1 k2 k3 k4 k5 k6 k7 k8 k9 k10 k11 k12 k13 kc kp kt ku ke : Int32} {st fw pn ah : Nat → Int32}
variable {ye yc : Int32} {yf ya yo yl yi yr yn yt yv yb yd yw yh : Nat → Int32}
variable {L : List Nat} {z E F : Nat → Nat} {Lv Fv : Nat → Bool} {Xd : Nat → ss_ER} {Fd : Nat → ss_FR} {hd : Nat → Option Nat} {c t cap : Nat} {yl' yi' yn' yt' : Nat → Int32}
theorem ss_intro2 {k : Nat} (e1 : kc = nI cap) (e2 : kt = nI t) (e3 : ku = nI (ss_us Lv Fv Xd Fd)) (e4 : ke = nI (E c)) (e5 : ye = nI c) (e6 : yc = nI cap) (hX : ss_GX L z E F Lv Fv Xd Fd hd c t cap st ah) (hY : ss_GY Lv Fv Xd Fd hd yf ya yo yl yi yr yn yt yb yd yw yh) : i_Rel k (k1, k2, k3, k4, k5, k6, k7, k8, k9, k10, k11, k12, k13, kc, kp, kt, ku, ke, st, fw, pn, ah) (ye, yc, yf, ya, yo, yl, yi, yr, yn, yt, yv, yb, yd, yw, yh) :=
  ⟨L, z, E, F, Lv, Fv, Xd, Fd, hd, c, t, cap, ⟨e1, e2, e3, e4, hX⟩, ⟨e5, e6, hY⟩⟩
theorem ss_YE_dat {j : Nat} {r' : ss_ER} (h : ss_YE Lv Xd yf yl yi yr yn yt)
    (ho : ∀ i, Lv i = true → i ≠ j → yl' i = yl i ∧ yi' i = yi i ∧ yn' i = yn i ∧ ∀ k, k < ss_tn (Xd i) → yt' (i * 4 + k) = yt (i * 4 + k))
    (hj : yf j = nI (ss_fr r') ∧ yl' j = ss_lb r' ∧ yi' j = ss_in r' ∧ yr j = nI (ss_rm r') ∧ yn' j = nI (ss_tn r') ∧ ∀ k, k < ss_tn r' → yt' (j * 4 + k) = ss_tp r' k) : ss_YE Lv (ss_set Xd j r') yf yl' yi' yr yn' yt' := by
  intro i hi
  by_cases e : i = j
  · subst e; rw [ss_set_s]; exact hj
  · rw [ss_set_n e]
    obtain ⟨a1, a2, a3, a4⟩ := ho i hi e
    obtain ⟨b1, b2, b3, b4, b5, b6⟩ := h i hi
    exact ⟨b1, by rw [a1]; exact b2, by rw [a2]; exact b3, b4, by rw [a3]; exact b5, fun k hk => by rw [a4 k hk]; exact b6 k hk⟩
theorem ss_GY_dat {j : Nat} {r' : ss_ER} (h : ss_GY Lv Fv Xd Fd hd yf ya yo yl yi yr yn yt yb yd yw yh) (ha : ss_ac r' = ss_ac (Xd j)) (hc : ss_co r' = ss_co (Xd j)) (hy : ss_YE Lv (ss_set Xd j r') yf yl' yi' yr yn' yt') : ss_GY Lv Fv (ss_set Xd j r') Fd hd yf ya yo yl' yi' yr yn' yt' yb yd yw yh := by
  refine ⟨hy, h.2.1, ?_, h.2.2.2⟩
  intro i hi
  by_cases e : i = j
  · subst e; rw [ss_set_s, ha, hc]; exact h.2.2.1 i hi
  · rw [ss_set_n e]; exact h.2.2.1 i hi
theorem ss_GX_dat {j : Nat} {r' : ss_ER} {s' : Nat → Int32} (h : ss_GX L z E F Lv Fv Xd Fd hd c t cap st ah) (hj : Lv j = true) (hs : ∀ p, (p < E j ∨ E j + z (E j) ≤ p) → s' p = st p) (hx : ss_XC s' E F (E j) r' (ss_cnt hd (some c) Lv Xd j)) (hw : ss_EW r')
    (hr : ss_rm r' = ss_rm (Xd j)) (hf : ss_fr r' = ss_fr (Xd j)) (ha : ss_ac r' = ss_ac (Xd j)) (hc : ss_co r' = ss_co (Xd j)) : ss_GX L z E F Lv Fv (ss_set Xd j r') Fd hd c t cap s' ah := by
  obtain ⟨G, h2, h3, h4, h5⟩ := h
  exact ⟨ss_GS_dat G hj hs hx hw hr hf ha hc, h2, by rw [ss_us_datE hr]; exact h3, h4, h5⟩
end
theorem i_vc_mark {k : Nat} {u : SX} {v : SY} (I : i_Rel k u v) (hk : k + 5 ≤ 2563) (v1 : Int32) : wpX_mark (fun u' => wpY_mark (fun v' => i_Rel (k + 5) u' v') v v1) u v1 := by
  refine ss_elim (P := fun u v => wpX_mark (fun u' => wpY_mark (fun v' => i_Rel (k + 5) u' v') v v1) u v1) ?_ I
  intro L z E F Lv Fv Xd Fd hd c t cap k1 k2 k3 k4 k5 k6 k7 k8 k9 k10 k11 k12 k13 kp st fw pn ah yf ya yo yl yi yr yn yt yv yb yd yw yh hX hY
  have G := hX.1
  have h240 : t ≤ 240 := Nat.le_trans hX.2.2.2.1 hX.2.2.2.2
  have hc : Lv c = true := G.2.1.2.2.1 c rfl
  have c32 := (G.2.1.1 c hc).1
  have lim := ss_RS_in G.1 hc
  obtain ⟨i1, i2, i3, i4⟩ := G.1.2.2.1 c hc
  obtain ⟨x0, x1, x2, x3, x4, x5, x6, x7, x8⟩ := i4
  obtain ⟨y0, y1, y2, y3, y4, y5⟩ := hY.1 c hc
  refine And.intro (ss_ix (k := 5) (by omega) (by decide)) (nm_r (e' := upd st (E c + 5) v1) (by rw [ss_cl (k := 5) (by omega)]) ?_)
  refine And.intro (vp_in_nI c32 (by decide)) (nm_r (e' := upd yl c v1) (by rw [nI_clamp (by omega)]) ?_)
  have us' : ss_us Lv Fv (ss_set Xd c (ss_sLb (Xd c) v1)) Fd = ss_us Lv Fv Xd Fd := ss_us_datE (r := ss_sLb (Xd c) v1) (show ss_rm (ss_sLb (Xd c) v1) = ss_rm (Xd c) from rfl)
  have hX' : ss_GX L z E F Lv Fv (ss_set Xd c (ss_sLb (Xd c) v1)) Fd hd c t cap (upd st (E c + 5) v1) ah := by
    refine ss_GX_dat (r' := ss_sLb (Xd c) v1) hX hc (fun p hp => pk_un (by omega)) ⟨?_, ?_, ?_, ?_, ?_, pk_us, ?_, ?_, ?_⟩ i3 rfl rfl rfl rfl
    · rw [pk_un (by omega)]; exact x0
    · rw [pk_un (by omega)]; exact x1
    · rw [pk_un (by omega)]; exact x2
    · rw [pk_un (by omega)]; exact x3
    · rw [pk_un (by omega)]; exact x4
    · rw [pk_un (by omega)]; exact x6
    · rw [pk_un (by omega)]; exact x7
    · intro j hj
      rw [pk_un (by omega)]; exact x8 j hj
  have hY' : ss_GY Lv Fv (ss_set Xd c (ss_sLb (Xd c) v1)) Fd hd yf ya yo (upd yl c v1) yi yr yn yt yb yd yw yh := by
    refine ss_GY_dat (r' := ss_sLb (Xd c) v1) hY rfl rfl (ss_YE_dat hY.1 ?_ ⟨y0, pk_us, y2, y3, y4, y5⟩)
    · intro i hi hn
      exact ⟨pk_un hn, rfl, rfl, fun _ _ => rfl⟩
  exact ss_intro2 rfl rfl (by rw [us']) rfl rfl rfl hX' hY'
theorem i_vc_push {k : Nat} {u : SX} {v : SY} (I : i_Rel k u v) (hk : k + 5 ≤ 2563) (v1 : Int32) : wpX_push (fun r u' => wpY_push (fun r' v' => r' = r ∧ i_Rel (k + 5) u' v') v v1) u v1 := by
  refine ss_elim (P := fun u v => wpX_push (fun r u' => wpY_push (fun r' v' => r' = r ∧ i_Rel (k + 5) u' v') v v1) u v1) ?_ I
  intro L z E F Lv Fv Xd Fd hd c t cap k1 k2 k3 k4 k5 k6 k7 k8 k9 k10 k11 k12 k13 kp st fw pn ah yf ya yo yl yi yr yn yt yv yb yd yw yh hX hY
  have G := hX.1
  have h240 : t ≤ 240 := Nat.le_trans hX.2.2.2.1 hX.2.2.2.2
  have hc : Lv c = true := G.2.1.2.2.1 c rfl
  have c32 := (G.2.1.1 c hc).1
  have lim := ss_RS_in G.1 hc
  obtain ⟨i1, i2, i3, i4⟩ := G.1.2.2.1 c hc
  obtain ⟨x0, x1, x2, x3, x4, x5, x6, x7, x8⟩ := i4
  obtain ⟨y0, y1, y2, y3, y4, y5⟩ := hY.1 c hc
  have e8 : (nI (E c) + 8) + nI (ss_tn (Xd c)) = nI (E c + 8 + ss_tn (Xd c)) := by rw [ss_p8, nI_add]
  have e4 : nI c * 4 + nI (ss_tn (Xd c)) = nI (c * 4 + ss_tn (Xd c)) := by
    rw [show nI c * 4 = nI (c * 4) from pk_mul c 4, nI_add]
  refine And.intro (ss_ix (k := 7) (by omega) (by decide)) (nm_r (ss_rd (k := 7) x7 (by omega)) ?_)
  refine And.intro (vp_in_nI (by omega) (by decide)) ?_
  rw [ss_rd0 x0 (by omega), show nI (8 + ss_rm (Xd c)) - 8 = nI (8 + ss_rm (Xd c) - 8) from pk_sub (b := 8) (by omega)]
  refine pk_lt (ss_tn (Xd c)) (8 + ss_rm (Xd c) - 8) (fun g => ?_) (fun g => ?_)
  · refine And.intro (by rw [e8]; exact vp_in_nI (by omega) (by decide)) (nm_r (e' := upd st (E c + 8 + ss_tn (Xd c)) v1) (by rw [e8, nI_clamp (by omega)]) ?_)
    refine And.intro (ss_ix (k := 7) (by omega) (by decide)) (nm_r (e' := upd (upd st (E c + 8 + ss_tn (Xd c)) v1) (E c + 7) (nI (ss_tn (Xd c) + 1))) (by rw [ss_cl (k := 7) (by omega), nI_1]) ?_)
    refine And.intro (vp_in_nI c32 (by decide)) (And.intro (vp_in_nI c32 (by decide)) ?_)
    rw [nI_clamp (n := c) (by omega), y4, y3]
    refine br_t (nI_lt (by omega) (by omega)) ?_
    refine And.intro (vp_in_nI c32 (by decide)) (And.intro (by rw [e4]; exact vp_in_nI (by omega) (by decide)) (nm_r (e' := upd yt (c * 4 + ss_tn (Xd c)) v1) (by rw [e4, nI_clamp (by omega)]) ?_))
    refine And.intro (vp_in_nI c32 (by decide)) (And.intro (vp_in_nI c32 (by decide)) (nm_r (e' := upd yn c (nI (ss_tn (Xd c) + 1))) (by rw [nI_1]) ⟨rfl, ?_⟩))
    have us' : ss_us Lv Fv (ss_set Xd c (ss_sTp (Xd c) (ss_tn (Xd c) + 1) (ss_set (ss_tp (Xd c)) (ss_tn (Xd c)) v1))) Fd = ss_us Lv Fv Xd Fd := ss_us_datE (r := ss_sTp (Xd c) (ss_tn (Xd c) + 1) (ss_set (ss_tp (Xd c)) (ss_tn (Xd c)) v1)) (show ss_rm (ss_sTp (Xd c) (ss_tn (Xd c) + 1) (ss_set (ss_tp (Xd c)) (ss_tn (Xd c)) v1)) = ss_rm (Xd c) from rfl)
    have hX' : ss_GX L z E F Lv Fv (ss_set Xd c (ss_sTp (Xd c) (ss_tn (Xd c) + 1) (ss_set (ss_tp (Xd c)) (ss_tn (Xd c)) v1))) Fd hd c t cap (upd (upd st (E c + 8 + ss_tn (Xd c)) v1) (E c + 7) (nI (ss_tn (Xd c) + 1))) ah := by
      refine ss_GX_dat (r' := ss_sTp (Xd c) (ss_tn (Xd c) + 1) (ss_set (ss_tp (Xd c)) (ss_tn (Xd c)) v1)) hX hc (fun p hp => by rw [pk_un (by omega), pk_un (by omega)]) ⟨?_, ?_, ?_, ?_, ?_, ?_, ?_, pk_us, ?_⟩ ⟨by show ss_tn (Xd c) + 1 ≤ ss_rm (Xd c); omega, i3.2⟩ rfl rfl rfl rfl
      · rw [pk_un (by omega), pk_un (by omega)]; exact x0
      · rw [pk_un (by omega), pk_un (by omega)]; exact x1
      · rw [pk_un (by omega), pk_un (by omega)]; exact x2
      · rw [pk_un (by omega), pk_un (by omega)]; exact x3
      · rw [pk_un (by omega), pk_un (by omega)]; exact x4
      · rw [pk_un (by omega), pk_un (by omega)]; exact x5
      · rw [pk_un (by omega), pk_un (by omega)]; exact x6
      · intro j hj
        have hj' : j < ss_tn (Xd c) + 1 := hj
        show _ = ss_set (ss_tp (Xd c)) (ss_tn (Xd c)) v1 j
        rw [pk_un (by omega)]
        by_cases e : j = ss_tn (Xd c)
        · subst e; rw [pk_us, ss_set_s]
        · rw [pk_un (by omega), ss_set_n e]; exact x8 j (by omega)
    have hY' : ss_GY Lv Fv (ss_set Xd c (ss_sTp (Xd c) (ss_tn (Xd c) + 1) (ss_set (ss_tp (Xd c)) (ss_tn (Xd c)) v1))) Fd hd yf ya yo yl yi yr (upd yn c (nI (ss_tn (Xd c) + 1))) (upd yt (c * 4 + ss_tn (Xd c)) v1) yb yd yw yh := by
      refine ss_GY_dat (r' := ss_sTp (Xd c) (ss_tn (Xd c) + 1) (ss_set (ss_tp (Xd c)) (ss_tn (Xd c)) v1)) hY rfl rfl (ss_YE_dat hY.1 ?_ ⟨y0, y1, y2, y3, pk_us, ?_⟩)
      · intro i hi hn
        have lim2 := ss_RS_in G.1 hi
        exact ⟨rfl, rfl, pk_un hn, fun j hj => pk_un (by omega)⟩
      · intro j hj
        have hj' : j < ss_tn (Xd c) + 1 := hj
        show _ = ss_set (ss_tp (Xd c)) (ss_tn (Xd c)) v1 j
        by_cases e : j = ss_tn (Xd c)
        · subst e; rw [pk_us, ss_set_s]
        · rw [pk_un (by omega), ss_set_n e]; exact y5 j (by omega)
    exact ss_intro2 rfl rfl (by rw [us']) rfl rfl rfl hX' hY'
  · refine And.intro (vp_in_nI c32 (by decide)) (And.intro (vp_in_nI c32 (by decide)) ?_)
    rw [nI_clamp (n := c) (by omega), y4, y3]
    exact br_f (nI_nlt (by omega) (by omega)) ⟨rfl, ss_intro hX hY⟩
theorem i_vc_pop {k : Nat} {u : SX} {v : SY} (I : i_Rel k u v) (hk : k + 5 ≤ 2563) : wpX_pop (fun r u' => wpY_pop (fun r' v' => r' = r ∧ i_Rel (k + 5) u' v') v) u := by
  refine ss_elim (P := fun u v => wpX_pop (fun r u' => wpY_pop (fun r' v' => r' = r ∧ i_Rel (k + 5) u' v') v) u) ?_ I
  intro L z E F Lv Fv Xd Fd hd c t cap k1 k2 k3 k4 k5 k6 k7 k8 k9 k10 k11 k12 k13 kp st fw pn ah yf ya yo yl yi yr yn yt yv yb yd yw yh hX hY
  have G := hX.1
  have h240 : t ≤ 240 := Nat.le_trans hX.2.2.2.1 hX.2.2.2.2
  have hc : Lv c = true := G.2.1.2.2.1 c rfl
  have c32 := (G.2.1.1 c hc).1
  have lim := ss_RS_in G.1 hc
  obtain ⟨i1, i2, i3, i4⟩ := G.1.2.2.1 c hc
  obtain ⟨x0, x1, x2, x3, x4, x5, x6, x7, x8⟩ := i4
  obtain ⟨y0, y1, y2, y3, y4, y5⟩ := hY.1 c hc
  refine And.intro (ss_ix (k := 7) (by omega) (by decide)) (nm_r (ss_rd (k := 7) x7 (by omega)) ?_)
  refine pk_lt 0 (ss_tn (Xd c)) (fun g => ?_) (fun g => ?_)
  · have em : nI (ss_tn (Xd c)) - 1 = nI (ss_tn (Xd c) - 1) := pk_sub (b := 1) (by omega)
    refine And.intro (ss_ix (k := 7) (by omega) (by decide)) (nm_r (e' := upd st (E c + 7) (nI (ss_tn (Xd c) - 1))) (by rw [ss_cl (k := 7) (by omega), em]) ?_)
    refine And.intro (vp_in_nI c32 (by decide)) ?_
    rw [nI_clamp (n := c) (by omega), y4]
    refine br_f (nI_ne0 (by omega) (by omega)) (And.intro (vp_in_nI c32 (by decide)) (And.intro (vp_in_nI c32 (by decide)) (nm_r (e' := upd yn c (nI (ss_tn (Xd c) - 1))) (by rw [em]) ⟨rfl, ?_⟩)))
    have us' : ss_us Lv Fv (ss_set Xd c (ss_sTp (Xd c) (ss_tn (Xd c) - 1) (ss_tp (Xd c)))) Fd = ss_us Lv Fv Xd Fd := ss_us_datE (r := ss_sTp (Xd c) (ss_tn (Xd c) - 1) (ss_tp (Xd c))) (show ss_rm (ss_sTp (Xd c) (ss_tn (Xd c) - 1) (ss_tp (Xd c))) = ss_rm (Xd c) from rfl)
    have hX' : ss_GX L z E F Lv Fv (ss_set Xd c (ss_sTp (Xd c) (ss_tn (Xd c) - 1) (ss_tp (Xd c)))) Fd hd c t cap (upd st (E c + 7) (nI (ss_tn (Xd c) - 1))) ah := by
      refine ss_GX_dat (r' := ss_sTp (Xd c) (ss_tn (Xd c) - 1) (ss_tp (Xd c))) hX hc (fun p hp => by rw [pk_un (by omega)]) ⟨?_, ?_, ?_, ?_, ?_, ?_, ?_, pk_us, ?_⟩ ⟨by show ss_tn (Xd c) - 1 ≤ ss_rm (Xd c); omega, i3.2⟩ rfl rfl rfl rfl
      · rw [pk_un (by omega)]; exact x0
      · rw [pk_un (by omega)]; exact x1
      · rw [pk_un (by omega)]; exact x2
      · rw [pk_un (by omega)]; exact x3
      · rw [pk_un (by omega)]; exact x4
      · rw [pk_un (by omega)]; exact x5
      · rw [pk_un (by omega)]; exact x6
      · intro j hj
        have hj' : j < ss_tn (Xd c) - 1 := hj
        rw [pk_un (by omega)]
        exact x8 j (by omega)
    have hY' : ss_GY Lv Fv (ss_set Xd c (ss_sTp (Xd c) (ss_tn (Xd c) - 1) (ss_tp (Xd c)))) Fd hd yf ya yo yl yi yr (upd yn c (nI (ss_tn (Xd c) - 1))) yt yb yd yw yh := by
      refine ss_GY_dat (r' := ss_sTp (Xd c) (ss_tn (Xd c) - 1) (ss_tp (Xd c))) hY rfl rfl (ss_YE_dat hY.1 ?_ ⟨y0, y1, y2, y3, pk_us, ?_⟩)
      · intro i hi hn
        exact ⟨rfl, rfl, pk_un hn, fun j hj => rfl⟩
      · intro j hj
        have hj' : j < ss_tn (Xd c) - 1 := hj
        exact y5 j (by omega)
    exact ss_intro2 rfl rfl (by rw [us']) rfl rfl rfl hX' hY'
  · refine And.intro (vp_in_nI c32 (by decide)) ?_
    rw [nI_clamp (n := c) (by omega), y4]
    have e0 : ss_tn (Xd c) = 0 := by omega
    exact br_t (by rw [e0]; rfl) ⟨rfl, ss_intro hX hY⟩
theorem i_vc_used {k : Nat} {u : SX} {v : SY} (I : i_Rel k u v) (hk : k + 5 ≤ 2563) : wpX_used (fun r => wpY_used (fun r' v' => r' = r ∧ i_Rel (k + 5) u v') v) u := by
  refine ss_elim (P := fun u v => wpX_used (fun r => wpY_used (fun r' v' => r' = r ∧ i_Rel (k + 5) u v') v) u) ?_ I
  intro L z E F Lv Fv Xd Fd hd c t cap k1 k2 k3 k4 k5 k6 k7 k8 k9 k10 k11 k12 k13 kp st fw pn ah yf ya yo yl yi yr yn yt yv yb yd yw yh hX hY
  have G := hX.1
  have h240 : t ≤ 240 := Nat.le_trans hX.2.2.2.1 hX.2.2.2.2
  unfold wpX_used
  dsimp only
  refine ss_y_used rfl (G.2.1.2.2.1 c rfl) (ss_links G.2.1 hY) (ss_rank G h240) G.2.2 (ss_yfs G.2.1 hY.1) (fun i hi => (hY.1 i hi).2.2.2.1) (ss_fvs G.2.1) (fun f hf => (hY.2.1 f hf).1) ?_
  intro lv V
  exact ⟨rfl, ss_intro hX hY⟩
theorem i_vc_spare {k : Nat} {u : SX} {v : SY} (I : i_Rel k u v) (hk : k + 5 ≤ 2563) : wpX_spare (fun r => wpY_spare (fun r' v' => r' = r ∧ i_Rel (k + 5) u v') v) u := by
  refine ss_elim (P := fun u v => wpX_spare (fun r => wpY_spare (fun r' v' => r' = r ∧ i_Rel (k + 5) u v') v) u) ?_ I
  intro L z E F Lv Fv Xd Fd hd c t cap k1 k2 k3 k4 k5 k6 k7 k8 k9 k10 k11 k12 k13 kp st fw pn ah yf ya yo yl yi yr yn yt yv yb yd yw yh hX hY
  have G := hX.1
  have h240 : t ≤ 240 := Nat.le_trans hX.2.2.2.1 hX.2.2.2.2
  unfold wpX_spare
  dsimp only
  unfold wpY_spare
  refine ss_y_used rfl (G.2.1.2.2.1 c rfl) (ss_links G.2.1 hY) (ss_rank G h240) G.2.2 (ss_yfs G.2.1 hY.1) (fun i hi => (hY.1 i hi).2.2.2.1) (ss_fvs G.2.1) (fun f hf => (hY.2.1 f hf).1) ?_
  intro lv V
  exact ⟨rfl, ss_intro hX hY⟩
theorem i_vc_same {k : Nat} {u : SX} {v : SY} (I : i_Rel k u v) (hk : k + 5 ≤ 2563) (v1 : Int32) (v2 : Int32) : wpX_same (fun r => wpY_same (fun r' => r' = r ∧ i_Rel (k + 5) u v) v v1 v2) u v1 v2 := by
  refine ss_elim (P := fun u v => wpX_same (fun r => wpY_same (fun r' => r' = r ∧ i_Rel (k + 5) u v) v v1 v2) u v1 v2) ?_ I
  intro L z E F Lv Fv Xd Fd hd c t cap k1 k2 k3 k4 k5 k6 k7 k8 k9 k10 k11 k12 k13 kp st fw pn ah yf ya yo yl yi yr yn yt yv yb yd yw yh hX hY
  have G := hX.1
  have h240 : t ≤ 240 := Nat.le_trans hX.2.2.2.1 hX.2.2.2.2
  have bnd : ∀ j, Lv j = true → E j + 8 ≤ 240 := by
    intro j hj
    have := ss_RS_in G.1 hj
    omega
  have bh : ∀ h j, h < 8 → hd h = some j → E j < 240 := fun h j h8 hj => by have := bnd j (G.2.1.2.2.2 h j h8 hj); omega
  unfold wpX_same
  refine ss_x_envOf rfl hX.2.1 bh (ss_x_envOf rfl hX.2.1 bh ?_)
  have yy : ∀ {q : Int32 → Int32 → Prop}, q (ss_oE id (ss_ev hd c v1)) (ss_oE id (ss_ev hd c v2)) → wpY_resolve (fun r1 => wpY_resolve (fun r2 => q r1 r2) (nI c, nI cap, yf, ya, yo, yl, yi, yr, yn, yt, yv, yb, yd, yw, yh) v2) (nI c, nI cap, yf, ya, yo, yl, yi, yr, yn, yt, yv, yb, yd, yw, yh) v1 := fun h => ss_y_resolve rfl hY.2.2.2 (ss_y_resolve rfl hY.2.2.2 h)
  have I' : i_Rel (k + 5) (k1, k2, k3, k4, k5, k6, k7, k8, k9, k10, k11, k12, k13, nI cap, kp, nI t, nI (ss_us Lv Fv Xd Fd), nI (E c), st, fw, pn, ah) (nI c, nI cap, yf, ya, yo, yl, yi, yr, yn, yt, yv, yb, yd, yw, yh) := ss_intro hX hY
  cases e1 : ss_ev hd c v1 with
  | none =>
    rw [e1] at yy
    refine br_t ss_neg ?_
    unfold wpY_same
    exact yy (br_t ss_neg ⟨rfl, I'⟩)
  | some i =>
    have li := ss_ev_live G.2.1 e1
    have bi := bnd i li
    have i32 := (G.2.1.1 i li).1
    rw [e1] at yy
    refine br_f (nI_pos (n := E i) (by omega)) ?_
    cases e2 : ss_ev hd c v2 with
    | none =>
      rw [e2] at yy
      refine br_f ss_neg' ?_
      unfold wpY_same
      exact yy (br_f (nI_pos (n := i) (by omega)) (br_f ss_neg' ⟨rfl, I'⟩))
    | some j =>
      have lj := ss_ev_live G.2.1 e2
      have bj := bnd j lj
      have j32 := (G.2.1.1 j lj).1
      rw [e2] at yy
      refine br_t (nI_pos' (n := E j) (by omega)) (pk_eq (E i) (E j) (fun e => ?_) (fun e => ?_))
      · have eij : i = j := G.1.2.2.2.2.1.1 i j li lj e
        unfold wpY_same
        exact yy (br_f (nI_pos (n := i) (by omega)) (br_t (nI_pos' (n := j) (by omega)) (br_t (by rw [eij]) ⟨rfl, I'⟩)))
      · have nij : i ≠ j := fun h => e (by rw [h])
        have fi := (G.2.1.1 i li).2.1
        have fj := (G.2.1.1 j lj).2.1
        have xi := (G.1.2.2.1 i li).2.2.2.2.2.1
        have xj := (G.1.2.2.1 j lj).2.2.2.2.2.1
        have li1 := ss_RS_inF G.1 fi
        have lj1 := ss_RS_inF G.1 fj
        have fi32 := (G.2.1.2.1 _ fi).1
        have fj32 := (G.2.1.2.1 _ fj).1
        refine And.intro (ss_ix (a := E i) (k := 2) (by omega) (by decide)) (And.intro (ss_ix (a := E j) (k := 2) (by omega) (by decide)) ?_)
        have ri : st (ss_oE E (some i) + 2).toNatClampNeg = nI (F (ss_fr (Xd i))) := ss_rd (a := E i) (k := 2) xi (by omega)
        have rj : st (ss_oE E (some j) + 2).toNatClampNeg = nI (F (ss_fr (Xd j))) := ss_rd (a := E j) (k := 2) xj (by omega)
        rw [ri, rj]
        have yi' : yf (ss_oE id (some i)).toNatClampNeg = nI (ss_fr (Xd i)) := ss_rd0 (a := i) (hY.1 i li).1 (by omega)
        have yj' : yf (ss_oE id (some j)).toNatClampNeg = nI (ss_fr (Xd j)) := ss_rd0 (a := j) (hY.1 j lj).1 (by omega)
        have ne : ¬ (ss_oE id (some i) = ss_oE id (some j)) := fun h => nij ((nI_eq (a := i) (b := j) (by omega) (by omega)).mp h)
        refine pk_eq (F (ss_fr (Xd i))) (F (ss_fr (Xd j))) (fun g => ?_) (fun g => ?_)
        · have gg : ss_fr (Xd i) = ss_fr (Xd j) := G.1.2.2.2.2.1.2.1 _ _ fi fj g
          unfold wpY_same
          refine yy (br_f (nI_pos (n := i) (by omega)) (br_t (nI_pos' (n := j) (by omega)) (br_f ne (And.intro (vp_in_nI (n := i) i32 (by decide)) (And.intro (vp_in_nI (n := j) j32 (by decide)) (br_t ?_ ⟨rfl, I'⟩))))))
          rw [yi', yj', gg]
        · unfold wpY_same
          refine yy (br_f (nI_pos (n := i) (by omega)) (br_t (nI_pos' (n := j) (by omega)) (br_f ne (And.intro (vp_in_nI (n := i) i32 (by decide)) (And.intro (vp_in_nI (n := j) j32 (by decide)) (br_f ?_ ⟨rfl, I'⟩))))))
          rw [yi', yj']
          intro h
          exact g (by rw [(nI_eq (by omega) (by omega)).mp h])
end
section
/-! chains: bindings in a frame, the giver of a name, links -/
/-- the giver of a name from i, and how many links away -/
def ss_gv (Xd : Nat → ss_ER) (Fd : Nat → ss_FR) (m : Nat) : Nat → Nat → Option (Nat × Nat)
  | 0, _ => none
  | n + 1, i => if ss_has (ss_nm (Fd (ss_fr (Xd i)))) m (ss_nn (Fd (ss_fr (Xd i)))) = true then some (i, 0) else
      match ss_ac (Xd i) with
      | none => none
      | some j => match ss_gv Xd Fd m n j with
        | none => none
        | some (g, d) => some (g, d + 1)
/-- how many links can be followed -/
def ss_ch (nx : Nat → Option Nat) : Nat → Nat → Nat
  | 0, _ => 0
  | n + 1, i => match nx i with
    | none => 0
    | some j => ss_ch nx n j + 1
section
variable {Lv Fv : Nat → Bool} {Xd : Nat → ss_ER} {Fd : Nat → ss_FR} {rk : Nat → Nat} {nx : Nat → Option Nat}
theorem ss_gv_h {m n i : Nat} (h : ss_has (ss_nm (Fd (ss_fr (Xd i)))) m (ss_nn (Fd (ss_fr (Xd i)))) = true) : ss_gv Xd Fd m (n + 1) i = some (i, 0) := if_pos h
theorem ss_gv_n {m n i : Nat} (h : ¬ ss_has (ss_nm (Fd (ss_fr (Xd i)))) m (ss_nn (Fd (ss_fr (Xd i)))) = true) (e : ss_ac (Xd i) = none) : ss_gv Xd Fd m (n + 1) i = none := by
  rw [ss_gv, if_neg h, e]
theorem ss_gv_s {m n i j : Nat} (h : ¬ ss_has (ss_nm (Fd (ss_fr (Xd i)))) m (ss_nn (Fd (ss_fr (Xd i)))) = true) (e : ss_ac (Xd i) = some j) : ss_gv Xd Fd m (n + 1) i = (match ss_gv Xd Fd m n j with | none => none | some (g, d) => some (g, d + 1)) := by
  rw [ss_gv, if_neg h, e]
theorem ss_gv_s0 {m n i j : Nat} (h : ¬ ss_has (ss_nm (Fd (ss_fr (Xd i)))) m (ss_nn (Fd (ss_fr (Xd i)))) = true) (e : ss_ac (Xd i) = some j) (e2 : ss_gv Xd Fd m n j = none) : ss_gv Xd Fd m (n + 1) i = none := by
  rw [ss_gv_s h e, e2]
theorem ss_gv_s1 {m n i j g d : Nat} (h : ¬ ss_has (ss_nm (Fd (ss_fr (Xd i)))) m (ss_nn (Fd (ss_fr (Xd i)))) = true) (e : ss_ac (Xd i) = some j) (e2 : ss_gv Xd Fd m n j = some (g, d)) : ss_gv Xd Fd m (n + 1) i = some (g, d + 1) := by
  rw [ss_gv_s h e, e2]
theorem ss_ch_n {n i : Nat} (e : nx i = none) : ss_ch nx n i = 0 := by
  cases n with
  | zero => rfl
  | succ n => rw [ss_ch, e]
theorem ss_ch_s {n i j : Nat} (e : nx i = some j) : ss_ch nx (n + 1) i = ss_ch nx n j + 1 := by
  rw [ss_ch, e]
/-- the ranks bound the chain -/
def ss_NX (Lv : Nat → Bool) (rk : Nat → Nat) (nx : Nat → Option Nat) : Prop := ∀ i, Lv i = true → rk i < 30 ∧ ∀ j, nx i = some j → Lv j = true ∧ rk j < rk i
theorem ss_ch_e (N : ss_NX Lv rk nx) : ∀ n i, Lv i = true → rk i ≤ n → ss_ch nx (n + 1) i = ss_ch nx n i := by
  intro n
  induction n with
  | zero =>
    intro i hi hr
    cases e : nx i with
    | none => rw [ss_ch_n e, ss_ch_n e]
    | some j => have := ((N i hi).2 j e).2; omega
  | succ n ih =>
    intro i hi hr
    cases e : nx i with
    | none => rw [ss_ch_n e, ss_ch_n e]
    | some j =>
      obtain ⟨a, b⟩ := (N i hi).2 j e
      rw [ss_ch_s e, ss_ch_s e, ih j a (by omega)]
/-- the whole chain -/
theorem ss_ch_30 {i j : Nat} (N : ss_NX Lv rk nx) (hi : Lv i = true) (e : nx i = some j) : ss_ch nx 30 i = ss_ch nx 30 j + 1 := by
  obtain ⟨a, b⟩ := (N i hi).2 j e
  have := (N i hi).1
  rw [ss_ch_s e, ss_ch_e N 29 j a (by omega)]
theorem ss_ch_le (N : ss_NX Lv rk nx) : ∀ n i, Lv i = true → ss_ch nx n i ≤ rk i := by
  intro n
  induction n with
  | zero => intro i hi; exact Nat.zero_le _
  | succ n ih =>
    intro i hi
    cases e : nx i with
    | none => rw [ss_ch_n e]; omega
    | some j =>
      obtain ⟨a, b⟩ := (N i hi).2 j e
      have := ih j a
      rw [ss_ch_s e]; omega
theorem ss_gv_ok {m : Nat} (N : ss_NX Lv rk (fun i => ss_ac (Xd i))) : ∀ n i g d, Lv i = true → ss_gv Xd Fd m n i = some (g, d) → Lv g = true ∧ ss_has (ss_nm (Fd (ss_fr (Xd g)))) m (ss_nn (Fd (ss_fr (Xd g)))) = true ∧ ss_ch (fun i => ss_ac (Xd i)) 30 i = d + ss_ch (fun i => ss_ac (Xd i)) 30 g := by
  intro n
  induction n with
  | zero => intro i g d _ h; exact nomatch h
  | succ n ih =>
    intro i g d hi h
    by_cases q : ss_has (ss_nm (Fd (ss_fr (Xd i)))) m (ss_nn (Fd (ss_fr (Xd i)))) = true
    · rw [ss_gv_h q] at h
      have h' := Option.some.inj h
      have h1 := (Prod.mk.inj h').1
      have h2 := (Prod.mk.inj h').2
      subst h1 h2
      exact ⟨hi, q, (Nat.zero_add _).symm⟩
    · cases e : ss_ac (Xd i) with
      | none => rw [ss_gv_n q e] at h; exact nomatch h
      | some j =>
        have lj := ((N i hi).2 j e).1
        cases e2 : ss_gv Xd Fd m n j with
        | none => rw [ss_gv_s0 q e e2] at h; exact nomatch h
        | some p =>
          obtain ⟨g', d'⟩ := p
          rw [ss_gv_s1 q e e2] at h
          have h' := Option.some.inj h
          have h1 := (Prod.mk.inj h').1
          have h2 := (Prod.mk.inj h').2
          subst h1 h2
          obtain ⟨a, b, k⟩ := ih j g' d' lj e2
          refine ⟨a, b, ?_⟩
          have := ss_ch_30 (nx := fun i => ss_ac (Xd i)) N hi e
          omega
end
section
variable {k1 k2 k3 k4 k5 k6 k7 k8 k9 k10 k11 k12 k13 kc kp kt ku ke : Int32} {st fw pn ah : Nat → Int32}
variable {L : List Nat} {z E F : Nat → Nat} {Lv Fv : Nat → Bool} {Xd : Nat → ss_ER} {Fd : Nat → ss_FR} {rk : Nat → Nat} {nx : Nat → Option Nat}
theorem ss_x_cifL {post : Int32 → Prop} {a m u : Nat} {r : ss_FR} (hm : m < 32) (h : ss_FC st a r u) (w : ss_FW r) (ha : a + (3 + 2 * ss_br r) ≤ 240)
    (h0 : ¬ ss_has (ss_nm r) m (ss_nn r) = true → post (-1)) (h1 : ∀ k, k < ss_nn r → ss_nm r k = m → post (nI (a + 3 + 2 * k + 1))) :
    ∀ (n i : Nat), ss_nn r < n + i → i ≤ ss_nn r → (∀ k, k < i → ss_nm r k ≠ m) → wX_cellInFrame_12 post (nI a) (nI m) (nI (ss_nn r)) k1 k2 k3 k4 k5 k6 k7 k8 k9 k10 k11 k12 k13 kc kp kt ku ke st fw pn ah n (nI i) := by
  obtain ⟨f0, f1, f2, f3⟩ := h
  have w1 := w.1
  have w2 := w.2.1
  intro n
  induction n with
  | zero => intro i hn; omega
  | succ n ih =>
    intro i hn hi hno
    refine pk_le (ss_nn r) i (fun g => h0 ?_) (fun g => ?_)
    · rw [ss_has_iff]
      rintro ⟨k, hk, e⟩
      exact hno k (by omega) e
    · have e5 : (nI a + 3) + (2 * nI i) = nI (a + 3 + 2 * i) := by
        rw [ss_p3, show (2 : Int32) * nI i = nI (2 * i) from pk_mul 2 i, nI_add]
      refine nm_r e5 (And.intro (vp_in_nI (by omega) (by decide)) ?_)
      have w3 := w.2.2.1 i g
      rw [ss_rd0 (f3 i g).1 (by omega)]
      refine pk_eq (ss_nm r i) m (fun e => ?_) (fun e => ?_)
      · rw [ss_p1]
        exact h1 i g e
      · refine nm_r (nI_1 i) (ih (i + 1) (by omega) (by omega) ?_)
        intro k hk
        by_cases q : k = i
        · rw [q]; exact e
        · exact hno k (by omega)
theorem ss_x_cif {post : Int32 → Prop} {x y : Int32} {a m u : Nat} {r : ss_FR} (hx : x = nI a) (hy : y = nI m) (hm : m < 32) (h : ss_FC st a r u) (w : ss_FW r) (ha : a + (3 + 2 * ss_br r) ≤ 240)
    (h0 : ¬ ss_has (ss_nm r) m (ss_nn r) = true → post (-1)) (h1 : ∀ k, k < ss_nn r → ss_nm r k = m → post (nI (a + 3 + 2 * k + 1))) : wpX_cellInFrame post (k1, k2, k3, k4, k5, k6, k7, k8, k9, k10, k11, k12, k13, kc, kp, kt, ku, ke, st, fw, pn, ah) x y := by
  subst hx hy
  unfold wpX_cellInFrame
  refine And.intro (ss_ix (k := 2) (by omega) (by decide)) (nm_r (ss_rd (k := 2) h.2.2.1 (by omega)) ⟨ss_nn r + 1, ss_x_cifL hm h w ha h0 h1 (ss_nn r + 1) 0 (by omega) (by omega) (fun k hk => by omega)⟩)
/-- what X's chains read -/
def ss_XR (st : Nat → Int32) (E F : Nat → Nat) (Lv : Nat → Bool) (Xd : Nat → ss_ER) (Fd : Nat → ss_FR) : Prop :=
  ∀ i, Lv i = true → E i + 8 ≤ 240 ∧ st (E i + 2) = nI (F (ss_fr (Xd i))) ∧ st (E i + 3) = ss_oE E (ss_ac (Xd i)) ∧ st (E i + 4) = ss_oE E (ss_co (Xd i)) ∧
    ∃ u, ss_FC st (F (ss_fr (Xd i))) (Fd (ss_fr (Xd i))) u ∧ ss_FW (Fd (ss_fr (Xd i))) ∧ F (ss_fr (Xd i)) + (3 + 2 * ss_br (Fd (ss_fr (Xd i)))) ≤ 240
theorem ss_x_cellFromL {post : Int32 → Prop} {m : Nat} (hm : m < 32) (X : ss_XR st E F Lv Xd Fd) (N : ss_NX Lv rk (fun i => ss_ac (Xd i))) :
    ∀ (r n c i : Nat), Lv i = true → rk i ≤ r → r + c < 30 → r + 1 < n → (ss_gv Xd Fd m (r + 1) i = none → post (-1)) →
      (∀ g d k, ss_gv Xd Fd m (r + 1) i = some (g, d) → k < ss_nn (Fd (ss_fr (Xd g))) → ss_nm (Fd (ss_fr (Xd g))) k = m → post (nI (F (ss_fr (Xd g)) + 3 + 2 * k + 1))) →
      wX_cellFrom_5 post (nI m) k1 k2 k3 k4 k5 k6 k7 k8 k9 k10 k11 k12 k13 kc kp kt ku ke st fw pn ah n (nI (E i)) (nI c) := by
  intro r
  induction r with
  | zero =>
    intro n c i hi hr hc hn h0 h1
    obtain ⟨n, rfl⟩ : ∃ n', n = n' + 2 := ⟨n - 2, by omega⟩
    obtain ⟨b, x2, x3, x4, u, f1, f2, f3⟩ := X i hi
    refine pk_le 30 c (fun g => by omega) (fun g => br_f (nI_pos (by omega)) (And.intro (ss_ix (k := 2) (by omega) (by decide)) (ss_x_cif (ss_rd (k := 2) x2 (by omega)) rfl hm f1 f2 f3 (fun q => ?_) (fun k hk e => ?_))))
    · refine br_t ss_neg (And.intro (ss_ix (k := 3) (by omega) (by decide)) (nm_r (ss_rd (k := 3) x3 (by omega)) (nm_r (nI_1 c) ?_)))
      cases e : ss_ac (Xd i) with
      | none =>
        refine pk_le 30 (c + 1) (fun g => h0 (ss_gv_n q e)) (fun g => br_t ss_neg (h0 (ss_gv_n q e)))
      | some j => have := ((N i hi).2 j e).2; omega
    · have q : ss_has (ss_nm (Fd (ss_fr (Xd i)))) m (ss_nn (Fd (ss_fr (Xd i)))) = true := (ss_has_iff _).mpr ⟨k, hk, e⟩
      exact br_f (nI_pos (by have := f2.1; omega)) (h1 i 0 k (ss_gv_h q) hk e)
  | succ r ih =>
    intro n c i hi hr hc hn h0 h1
    obtain ⟨n, rfl⟩ : ∃ n', n = n' + 1 := ⟨n - 1, by omega⟩
    obtain ⟨b, x2, x3, x4, u, f1, f2, f3⟩ := X i hi
    refine pk_le 30 c (fun g => by omega) (fun g => br_f (nI_pos (by omega)) (And.intro (ss_ix (k := 2) (by omega) (by decide)) (ss_x_cif (ss_rd (k := 2) x2 (by omega)) rfl hm f1 f2 f3 (fun q => ?_) (fun k hk e => ?_))))
    · refine br_t ss_neg (And.intro (ss_ix (k := 3) (by omega) (by decide)) (nm_r (ss_rd (k := 3) x3 (by omega)) (nm_r (nI_1 c) ?_)))
      cases e : ss_ac (Xd i) with
      | none =>
        obtain ⟨n, rfl⟩ : ∃ n', n = n' + 1 := ⟨n - 1, by omega⟩
        refine pk_le 30 (c + 1) (fun g => h0 (ss_gv_n q e)) (fun g => br_t ss_neg (h0 (ss_gv_n q e)))
      | some j =>
        obtain ⟨lj, rj⟩ := (N i hi).2 j e
        exact ih n (c + 1) j lj (by omega) (by omega) (by omega) (fun k => h0 (ss_gv_s0 q e k)) (fun g d k e2 => h1 g (d + 1) k (ss_gv_s1 q e e2))
    · have q : ss_has (ss_nm (Fd (ss_fr (Xd i)))) m (ss_nn (Fd (ss_fr (Xd i)))) = true := (ss_has_iff _).mpr ⟨k, hk, e⟩
      exact br_f (nI_pos (by have := f2.1; omega)) (h1 i 0 k (ss_gv_h q) hk e)
theorem ss_x_cellFrom {post : Int32 → Prop} {x y : Int32} {m i : Nat} (hx : x = nI (E i)) (hy : y = nI m) (hm : m < 32) (X : ss_XR st E F Lv Xd Fd) (N : ss_NX Lv rk (fun i => ss_ac (Xd i))) (hi : Lv i = true)
    (h0 : ss_gv Xd Fd m 30 i = none → post (-1)) (h1 : ∀ g d k, ss_gv Xd Fd m 30 i = some (g, d) → k < ss_nn (Fd (ss_fr (Xd g))) → ss_nm (Fd (ss_fr (Xd g))) k = m → post (nI (F (ss_fr (Xd g)) + 3 + 2 * k + 1))) : wpX_cellFrom post (k1, k2, k3, k4, k5, k6, k7, k8, k9, k10, k11, k12, k13, kc, kp, kt, ku, ke, st, fw, pn, ah) x y := by
  subst hx hy
  have := (N i hi).1
  exact ⟨31, ss_x_cellFromL hm X N 29 31 0 i hi (by omega) (by omega) (by omega) h0 h1⟩
theorem ss_x_whereL {post : Int32 → Prop} {m : Nat} (hm : m < 32) (X : ss_XR st E F Lv Xd Fd) (N : ss_NX Lv rk (fun i => ss_ac (Xd i))) :
    ∀ (r n c i : Nat), Lv i = true → rk i ≤ r → r + c < 30 → r + 1 < n → (ss_gv Xd Fd m (r + 1) i = none → post (-6)) →
      (∀ g d, ss_gv Xd Fd m (r + 1) i = some (g, d) → post (nI (c + d))) → wX_where_23 post (nI m) k1 k2 k3 k4 k5 k6 k7 k8 k9 k10 k11 k12 k13 kc kp kt ku ke st fw pn ah n (nI (E i)) (nI c) := by
  intro r
  induction r with
  | zero =>
    intro n c i hi hr hc hn h0 h1
    obtain ⟨n, rfl⟩ : ∃ n', n = n' + 2 := ⟨n - 2, by omega⟩
    obtain ⟨b, x2, x3, x4, u, f1, f2, f3⟩ := X i hi
    refine pk_le 30 c (fun g => by omega) (fun g => br_f (nI_pos (by omega)) (And.intro (ss_ix (k := 2) (by omega) (by decide)) (ss_x_cif (ss_rd (k := 2) x2 (by omega)) rfl hm f1 f2 f3 (fun q => ?_) (fun k hk e => ?_))))
    · refine br_t ss_neg (And.intro (ss_ix (k := 3) (by omega) (by decide)) (nm_r (ss_rd (k := 3) x3 (by omega)) (nm_r (nI_1 c) ?_)))
      cases e : ss_ac (Xd i) with
      | none =>
        refine pk_le 30 (c + 1) (fun g => h0 (ss_gv_n q e)) (fun g => br_t ss_neg (h0 (ss_gv_n q e)))
      | some j => have := ((N i hi).2 j e).2; omega
    · have q : ss_has (ss_nm (Fd (ss_fr (Xd i)))) m (ss_nn (Fd (ss_fr (Xd i)))) = true := (ss_has_iff _).mpr ⟨k, hk, e⟩
      exact br_f (nI_pos (by have := f2.1; omega)) (h1 i 0 (ss_gv_h q))
  | succ r ih =>
    intro n c i hi hr hc hn h0 h1
    obtain ⟨n, rfl⟩ : ∃ n', n = n' + 1 := ⟨n - 1, by omega⟩
    obtain ⟨b, x2, x3, x4, u, f1, f2, f3⟩ := X i hi
    refine pk_le 30 c (fun g => by omega) (fun g => br_f (nI_pos (by omega)) (And.intro (ss_ix (k := 2) (by omega) (by decide)) (ss_x_cif (ss_rd (k := 2) x2 (by omega)) rfl hm f1 f2 f3 (fun q => ?_) (fun k hk e => ?_))))
    · refine br_t ss_neg (And.intro (ss_ix (k := 3) (by omega) (by decide)) (nm_r (ss_rd (k := 3) x3 (by omega)) (nm_r (nI_1 c) ?_)))
      cases e : ss_ac (Xd i) with
      | none =>
        obtain ⟨n, rfl⟩ : ∃ n', n = n' + 1 := ⟨n - 1, by omega⟩
        refine pk_le 30 (c + 1) (fun g => h0 (ss_gv_n q e)) (fun g => br_t ss_neg (h0 (ss_gv_n q e)))
      | some j =>
        obtain ⟨lj, rj⟩ := (N i hi).2 j e
        exact ih n (c + 1) j lj (by omega) (by omega) (by omega) (fun k => h0 (ss_gv_s0 q e k)) (fun g d e2 => by
          have k := h1 g (d + 1) (ss_gv_s1 q e e2)
          rw [show c + (d + 1) = c + 1 + d by omega] at k
          exact k)
    · have q : ss_has (ss_nm (Fd (ss_fr (Xd i)))) m (ss_nn (Fd (ss_fr (Xd i)))) = true := (ss_has_iff _).mpr ⟨k, hk, e⟩
      exact br_f (nI_pos (by have := f2.1; omega)) (h1 i 0 (ss_gv_h q))
theorem ss_x_clL {post : Int32 → Prop} {q : Int32} {qn : Nat} (hq : q = nI qn) (hq8 : qn < 8) (X : ∀ i, Lv i = true → E i + 8 ≤ 240 ∧ st (E i + qn) = ss_oE E (nx i)) (N : ss_NX Lv rk nx) :
    ∀ (r n c a i : Nat), Lv i = true → rk i ≤ r → r + c < 30 → r + 1 < n → post (nI (a + (ss_ch nx 30 i + 1))) → wX_chainLinks_15 post q k1 k2 k3 k4 k5 k6 k7 k8 k9 k10 k11 k12 k13 kc kp kt ku ke st fw pn ah n (nI a) (nI (E i)) (nI c) := by
  subst hq
  intro r
  induction r with
  | zero =>
    intro n c a i hi hr hc hn hp
    obtain ⟨n, rfl⟩ : ∃ n', n = n' + 2 := ⟨n - 2, by omega⟩
    obtain ⟨b, x2⟩ := X i hi
    refine pk_le 30 c (fun g => by omega) (fun g => br_f (nI_pos (by omega)) (nm_r (nI_1 a) (And.intro (ss_ix (k := qn) (by omega) (by decide)) (nm_r (ss_rd (k := qn) x2 (by omega)) (nm_r (nI_1 c) ?_)))))
    cases e : nx i with
    | none =>
      rw [ss_ch_n e] at hp
      refine pk_le 30 (c + 1) (fun g => hp) (fun g => br_t ss_neg hp)
    | some j => have := ((N i hi).2 j e).2; omega
  | succ r ih =>
    intro n c a i hi hr hc hn hp
    obtain ⟨n, rfl⟩ : ∃ n', n = n' + 1 := ⟨n - 1, by omega⟩
    obtain ⟨b, x2⟩ := X i hi
    refine pk_le 30 c (fun g => by omega) (fun g => br_f (nI_pos (by omega)) (nm_r (nI_1 a) (And.intro (ss_ix (k := qn) (by omega) (by decide)) (nm_r (ss_rd (k := qn) x2 (by omega)) (nm_r (nI_1 c) ?_)))))
    cases e : nx i with
    | none =>
      obtain ⟨n, rfl⟩ : ∃ n', n = n' + 1 := ⟨n - 1, by omega⟩
      rw [ss_ch_n e] at hp
      refine pk_le 30 (c + 1) (fun g => hp) (fun g => br_t ss_neg hp)
    | some j =>
      obtain ⟨lj, rj⟩ := (N i hi).2 j e
      refine ih n (c + 1) (a + 1) j lj (by omega) (by omega) (by omega) ?_
      rw [ss_ch_30 N hi e] at hp
      rw [show a + 1 + (ss_ch nx 30 j + 1) = a + (ss_ch nx 30 j + 1 + 1) by omega]
      exact hp
theorem ss_x_chainLinks {post : Int32 → Prop} {x q : Int32} {qn i : Nat} (hx : x = nI (E i)) (hq : q = nI qn) (hq8 : qn < 8) (X : ∀ i, Lv i = true → E i + 8 ≤ 240 ∧ st (E i + qn) = ss_oE E (nx i)) (N : ss_NX Lv rk nx) (hi : Lv i = true) (hp : post (nI (ss_ch nx 30 i))) : wpX_chainLinks post (k1, k2, k3, k4, k5, k6, k7, k8, k9, k10, k11, k12, k13, kc, kp, kt, ku, ke, st, fw, pn, ah) x q := by
  subst hx hq
  obtain ⟨b, x2⟩ := X i hi
  unfold wpX_chainLinks
  refine And.intro (ss_ix (k := qn) (by omega) (by decide)) (nm_r (ss_rd (k := qn) x2 (by omega)) ?_)
  cases e : nx i with
  | none =>
    rw [ss_ch_n e] at hp
    exact ⟨1, pk_le 30 0 (fun g => hp) (fun g => br_t ss_neg hp)⟩
  | some j =>
    obtain ⟨lj, rj⟩ := (N i hi).2 j e
    have := (N i hi).1
    rw [ss_ch_30 N hi e] at hp
    refine ⟨32, ss_x_clL rfl hq8 X N 29 32 0 0 j lj (by omega) (by omega) (by omega) ?_⟩
    rw [Nat.zero_add]
    exact hp
end
section
variable {ye yc : Int32} {yf ya yo yl yi yr yn yt yv yb yd yw yh : Nat → Int32}
variable {Lv Fv : Nat → Bool} {Xd : Nat → ss_ER} {Fd : Nat → ss_FR} {rk : Nat → Nat} {nx : Nat → Option Nat}
theorem ss_y_linksL {post : Int32 → Prop} {q : Int32} (Y : ∀ i, Lv i = true → i < 32 ∧ (q = 0 → ya i = ss_oE id (nx i)) ∧ (¬ q = 0 → yo i = ss_oE id (nx i))) (N : ss_NX Lv rk nx) :
    ∀ (n c a i : Nat), 32 < n + c → c ≤ 32 → Lv i = true → (nx i = none ∨ rk i + c ≤ 32) → post (nI (a + ss_ch nx 30 i)) → wY_links_8 post q ye yc yf ya yo yl yi yr yn yt yv yb yd yw yh n (nI a) (nI i) (nI c) := by
  intro n
  induction n with
  | zero => intro c a i hn; omega
  | succ n ih =>
    intro c a i hn hc hi hr hp
    obtain ⟨i32, y1, y2⟩ := Y i hi
    refine pk_le 32 c (fun g => ?_) (fun g => ?_)
    · have e : nx i = none := by
        rcases hr with k | k
        · exact k
        · cases e : nx i with
          | none => rfl
          | some j => have := ((N i hi).2 j e).2; omega
      rw [ss_ch_n e] at hp
      exact hp
    · have go : ∀ z0, z0 = ss_oE id (nx i) → wY_links_36 post (wY_links_8 post q ye yc yf ya yo yl yi yr yn yt yv yb yd yw yh n) q (nI a) (nI i) (nI c) z0 ye yc yf ya yo yl yi yr yn yt yv yb yd yw yh := by
        intro z0 hz
        subst hz
        cases e : nx i with
        | none => exact br_t ss_neg (nm_r (nI_1 c) (ih (c + 1) a i (by omega) (by omega) hi (Or.inl e) hp))
        | some j =>
          obtain ⟨lj, rj⟩ := (N i hi).2 j e
          have j32 := (Y j lj).1
          refine br_f (nI_pos (n := j) (by omega)) (nm_r (nI_1 a) (nm_r (nI_1 c) (ih (c + 1) (a + 1) j (by omega) (by omega) lj ?_ ?_)))
          · rcases hr with k | k
            · rw [e] at k; exact nomatch k
            · exact Or.inr (by omega)
          · rw [ss_ch_30 N hi e] at hp
            rw [show a + 1 + ss_ch nx 30 j = a + (ss_ch nx 30 j + 1) by omega]
            exact hp
      refine br_c (fun q0 => And.intro (vp_in_nI i32 (by decide)) (go _ ?_)) (fun q0 => And.intro (vp_in_nI i32 (by decide)) (go _ ?_))
      · rw [nI_clamp (by omega)]; exact y1 q0
      · rw [nI_clamp (by omega)]; exact y2 q0
theorem ss_y_links {post : Int32 → Prop} {x q : Int32} {i : Nat} (hx : x = nI i) (Y : ∀ i, Lv i = true → i < 32 ∧ (q = 0 → ya i = ss_oE id (nx i)) ∧ (¬ q = 0 → yo i = ss_oE id (nx i))) (N : ss_NX Lv rk nx) (hi : Lv i = true) (hp : post (nI (ss_ch nx 30 i))) : wpY_links post (ye, yc, yf, ya, yo, yl, yi, yr, yn, yt, yv, yb, yd, yw, yh) x q := by
  subst hx
  have := (N i hi).1
  exact ⟨33, ss_y_linksL Y N 33 0 0 i (by omega) (by omega) hi (Or.inr (by omega)) (by rw [Nat.zero_add]; exact hp)⟩
/-- what Y's giver reads -/
def ss_YR (Lv : Nat → Bool) (Xd : Nat → ss_ER) (Fd : Nat → ss_FR) (yf ya yd : Nat → Int32) : Prop :=
  ∀ i, Lv i = true → i < 32 ∧ ss_fr (Xd i) < 32 ∧ yf i = nI (ss_fr (Xd i)) ∧ ya i = ss_oE id (ss_ac (Xd i)) ∧ ∀ x, x < 32 → yd (ss_fr (Xd i) * 32 + x) = if ss_has (ss_nm (Fd (ss_fr (Xd i)))) x (ss_nn (Fd (ss_fr (Xd i)))) = true then 1 else 0
theorem ss_y_giver0 {post : Int32 → Prop} {m : Int32} (hp : post (-1)) : ∀ (n c : Nat), 32 < n + c → c ≤ 32 → wY_giver_5 post m ye yc yf ya yo yl yi yr yn yt yv yb yd yw yh n (-1) (nI c) := by
  intro n
  induction n with
  | zero => intro c hn; omega
  | succ n ih =>
    intro c hn hc
    exact pk_le 32 c (fun g => hp) (fun g => br_t ss_neg (nm_r (nI_1 c) (ih (c + 1) (by omega) (by omega))))
theorem ss_ix32 (f x : Nat) : (nI f * 32) + nI x = nI (f * 32 + x) := by
  rw [show nI f * 32 = nI (f * 32) from pk_mul f 32, nI_add]
theorem ss_y_giverL {post : Int32 → Prop} {m : Nat} (hm : m < 32) (Y : ss_YR Lv Xd Fd yf ya yd) (N : ss_NX Lv rk (fun i => ss_ac (Xd i))) :
    ∀ (r n c i : Nat), Lv i = true → rk i ≤ r → r + c < 32 → 32 < n + c → (ss_gv Xd Fd m (r + 1) i = none → post (-1)) → (∀ g d, ss_gv Xd Fd m (r + 1) i = some (g, d) → post (nI g)) → wY_giver_5 post (nI m) ye yc yf ya yo yl yi yr yn yt yv yb yd yw yh n (nI i) (nI c) := by
  intro r
  induction r with
  | zero =>
    intro n c i hi hr hc hn h0 h1
    obtain ⟨n, rfl⟩ : ∃ n', n = n' + 1 := ⟨n - 1, by omega⟩
    obtain ⟨i32, f32, y1, y2, y3⟩ := Y i hi
    refine pk_le 32 c (fun g => by omega) (fun g => br_f (nI_pos (by omega)) (And.intro (vp_in_nI i32 (by decide)) ?_))
    rw [nI_clamp (n := i) (by omega), y1, ss_ix32, nI_clamp (by omega), y3 m hm]
    refine And.intro (vp_in_nI (by omega) (by decide)) ?_
    by_cases q : ss_has (ss_nm (Fd (ss_fr (Xd i)))) m (ss_nn (Fd (ss_fr (Xd i)))) = true
    · rw [if_pos q]
      exact br_f (by decide) (h1 i 0 (ss_gv_h q))
    · rw [if_neg q]
      refine br_t rfl (And.intro (vp_in_nI i32 (by decide)) (nm_r y2 (nm_r (nI_1 c) ?_)))
      cases e : ss_ac (Xd i) with
      | none => exact ss_y_giver0 (h0 (ss_gv_n q e)) n (c + 1) (by omega) (by omega)
      | some j => have := ((N i hi).2 j e).2; omega
  | succ r ih =>
    intro n c i hi hr hc hn h0 h1
    obtain ⟨n, rfl⟩ : ∃ n', n = n' + 1 := ⟨n - 1, by omega⟩
    obtain ⟨i32, f32, y1, y2, y3⟩ := Y i hi
    refine pk_le 32 c (fun g => by omega) (fun g => br_f (nI_pos (by omega)) (And.intro (vp_in_nI i32 (by decide)) ?_))
    rw [nI_clamp (n := i) (by omega), y1, ss_ix32, nI_clamp (by omega), y3 m hm]
    refine And.intro (vp_in_nI (by omega) (by decide)) ?_
    by_cases q : ss_has (ss_nm (Fd (ss_fr (Xd i)))) m (ss_nn (Fd (ss_fr (Xd i)))) = true
    · rw [if_pos q]
      exact br_f (by decide) (h1 i 0 (ss_gv_h q))
    · rw [if_neg q]
      refine br_t rfl (And.intro (vp_in_nI i32 (by decide)) (nm_r y2 (nm_r (nI_1 c) ?_)))
      cases e : ss_ac (Xd i) with
      | none => exact ss_y_giver0 (h0 (ss_gv_n q e)) n (c + 1) (by omega) (by omega)
      | some j =>
        obtain ⟨lj, rj⟩ := (N i hi).2 j e
        exact ih n (c + 1) j lj (by omega) (by omega) (by omega) (fun k => h0 (ss_gv_s0 q e k)) (fun g d e2 => h1 g (d + 1) (ss_gv_s1 q e e2))
theorem ss_y_giver {post : Int32 → Prop} {x y : Int32} {m i : Nat} (hx : x = nI i) (hy : y = nI m) (hm : m < 32) (Y : ss_YR Lv Xd Fd yf ya yd) (N : ss_NX Lv rk (fun i => ss_ac (Xd i))) (hi : Lv i = true) (h0 : ss_gv Xd Fd m 30 i = none → post (-1)) (h1 : ∀ g d, ss_gv Xd Fd m 30 i = some (g, d) → post (nI g)) : wpY_giver post (ye, yc, yf, ya, yo, yl, yi, yr, yn, yt, yv, yb, yd, yw, yh) x y := by
  subst hx hy
  have := (N i hi).1
  exact ⟨33, ss_y_giverL hm Y N 29 33 0 i hi (by omega) (by omega) (by omega) h0 h1⟩
theorem ss_y_bindL {post : Int32 → Prop} {f : Nat} {r : ss_FR} (hf : f < 32) (w : ss_FW r) (hy : ∀ x, x < 32 → yd (f * 32 + x) = if ss_has (ss_nm r) x (ss_nn r) = true then 1 else 0) (hp : post (nI (ss_nn r))) :
    ∀ (n c : Nat), 32 < n + c → c ≤ 32 → wY_bindings_4 post (nI f) ye yc yf ya yo yl yi yr yn yt yv yb yd yw yh n (nI (ss_sm (fun x => if ss_has (ss_nm r) x (ss_nn r) = true then 1 else 0) c)) (nI c) := by
  intro n
  induction n with
  | zero => intro c hn; omega
  | succ n ih =>
    intro c hn hc
    refine pk_le 32 c (fun g => ?_) (fun g => ?_)
    · have e : c = 32 := by omega
      subst e
      rw [ss_has_cnt (ss_nn r) w.2.2.1 w.2.2.2]
      exact hp
    · rw [ss_ix32, nI_clamp (by omega), hy c g]
      refine And.intro (vp_in_nI (by omega) (by decide)) ?_
      have k := ih (c + 1) (by omega) (by omega)
      have nx : ss_sm (fun x => if ss_has (ss_nm r) x (ss_nn r) = true then 1 else 0) (c + 1) = ss_sm (fun x => if ss_has (ss_nm r) x (ss_nn r) = true then 1 else 0) c + (if ss_has (ss_nm r) c (ss_nn r) = true then 1 else 0) := rfl
      by_cases q : ss_has (ss_nm r) c (ss_nn r) = true
      · rw [if_pos q] at nx
        rw [nx] at k
        rw [if_pos q]
        exact br_f (by decide) (nm_r (nI_1 _) (nm_r (nI_1 c) k))
      · rw [if_neg q, Nat.add_zero] at nx
        rw [nx] at k
        rw [if_neg q]
        exact br_t rfl (nm_r (nI_1 c) k)
theorem ss_y_bindings {post : Int32 → Prop} {x : Int32} {f : Nat} {r : ss_FR} (hx : x = nI f) (hf : f < 32) (w : ss_FW r) (hy : ∀ x, x < 32 → yd (f * 32 + x) = if ss_has (ss_nm r) x (ss_nn r) = true then 1 else 0) (hp : post (nI (ss_nn r))) : wpY_bindings post (ye, yc, yf, ya, yo, yl, yi, yr, yn, yt, yv, yb, yd, yw, yh) x := by
  subst hx
  exact ⟨33, ss_y_bindL hf w hy hp 33 0 (by omega) (by omega)⟩
end
end
section
/-! lookup, where, assign, bind -/
theorem ss_name (p : Int32) : p < 0 ∨ (¬ p < 0 ∧ 31 < p) ∨ ∃ m, m < 32 ∧ p = nI m := by
  rcases pk_ix p (n := 32) (by decide) with h | h | h
  · exact Or.inl h
  · by_cases g : p < 0
    · exact Or.inl g
    · refine Or.inr (Or.inl ⟨g, ?_⟩)
      obtain ⟨j, hj, e⟩ := nI_of g
      subst e
      rw [nI_leI (by decide) hj] at h
      exact nI_lt (a := 31) (b := j) (by omega) hj
  · exact Or.inr (Or.inr h)
section
variable {k1 k2 k3 k4 k5 k6 k7 k8 k9 k10 k11 k12 k13 kc kp kt ku ke : Int32} {st fw pn ah : Nat → Int32}
variable {ye yc : Int32} {yf ya yo yl yi yr yn yt yv yb yd yw yh : Nat → Int32}
variable {L : List Nat} {z E F : Nat → Nat} {Lv Fv : Nat → Bool} {Xd : Nat → ss_ER} {Fd : Nat → ss_FR} {hd : Nat → Option Nat} {cur : Option Nat} {c t cap : Nat} {rk : Nat → Nat}
theorem ss_x_isName0 {post : Int32 → Prop} {p : Int32} (h : p < 0 ∨ (¬ p < 0 ∧ 31 < p)) (hp : post 0) : wpX_isName post (k1, k2, k3, k4, k5, k6, k7, k8, k9, k10, k11, k12, k13, kc, kp, kt, ku, ke, st, fw, pn, ah) p := by
  rcases h with g | ⟨g, g2⟩
  · exact br_t g hp
  · exact br_f g (br_t g2 hp)
theorem ss_x_isName1 {post : Int32 → Prop} {m : Nat} (h : m < 32) (hp : post 1) : wpX_isName post (k1, k2, k3, k4, k5, k6, k7, k8, k9, k10, k11, k12, k13, kc, kp, kt, ku, ke, st, fw, pn, ah) (nI m) :=
  br_f (nI_pos (by omega)) (br_f (nI_nlt (a := 31) (b := m) (by omega) (by decide)) hp)
theorem ss_getXR (G : ss_GS L z E F Lv Fv Xd Fd hd cur t st) (ht : t ≤ 240) : ss_XR st E F Lv Xd Fd := by
  intro i hi
  obtain ⟨R, C, Pz⟩ := G
  have lim := ss_RS_in R hi
  obtain ⟨i1, i2, i3, i4⟩ := R.2.2.1 i hi
  obtain ⟨x0, x1, x2, x3, x4, x5, x6, x7, x8⟩ := i4
  have hf := (C.1 i hi).2.1
  have limF := ss_RS_inF R hf
  obtain ⟨f1, f2, f3, f4⟩ := R.2.2.2.1 _ hf
  exact ⟨by omega, x2, x3, x4, _, f4, f3, by omega⟩
theorem ss_getNA (C : ss_CL E Lv Fv Xd hd cur) (K : ss_RK Lv Xd rk) : ss_NX Lv rk (fun i => ss_ac (Xd i)) := fun i hi => ⟨(K i hi).1, fun j hj => ⟨((C.1 i hi).2.2.1 j hj).1, (K i hi).2.1 j hj⟩⟩
theorem ss_getNC (C : ss_CL E Lv Fv Xd hd cur) (K : ss_RK Lv Xd rk) : ss_NX Lv rk (fun i => ss_co (Xd i)) := fun i hi => ⟨(K i hi).1, fun j hj => ⟨((C.1 i hi).2.2.2 j hj).1, (K i hi).2.2 j hj⟩⟩
theorem ss_getYR (C : ss_CL E Lv Fv Xd hd cur) (hY : ss_GY Lv Fv Xd Fd hd yf ya yo yl yi yr yn yt yb yd yw yh) : ss_YR Lv Xd Fd yf ya yd := by
  intro i hi
  have hf := (C.1 i hi).2.1
  exact ⟨(C.1 i hi).1, (C.2.1 _ hf).1, (hY.1 i hi).1, (hY.2.2.1 i hi).1, (hY.2.1 _ hf).2.1⟩
theorem ss_YF_dat {j : Nat} {r' : ss_FR} {yd' yw' : Nat → Int32} (h : ss_YF Fv Fd yb yd yw)
    (ho : ∀ f, f ≠ j → ∀ x, x < 32 → yd' (f * 32 + x) = yd (f * 32 + x) ∧ yw' (f * 32 + x) = yw (f * 32 + x)) (hw : ∀ f, Fv f = true → ss_FW (Fd f))
    (hj : yb j = nI (ss_br r') ∧ (∀ x, x < 32 → yd' (j * 32 + x) = if ss_has (ss_nm r') x (ss_nn r') = true then 1 else 0) ∧ ∀ k, k < ss_nn r' → yw' (j * 32 + ss_nm r' k) = ss_vl r' k) : ss_YF Fv (ss_set Fd j r') yb yd' yw' := by
  intro f hf
  by_cases e : f = j
  · subst e; rw [ss_set_s]; exact hj
  · rw [ss_set_n e]
    obtain ⟨a1, a2, a3⟩ := h f hf
    refine ⟨a1, fun x hx => by rw [(ho f e x hx).1]; exact a2 x hx, fun k hk => ?_⟩
    rw [(ho f e _ ((hw f hf).2.2.1 k hk)).2]
    exact a3 k hk
theorem ss_GX_frm {j : Nat} {r' : ss_FR} {s' : Nat → Int32} (h : ss_GX L z E F Lv Fv Xd Fd hd c t cap st ah) (hj : Fv j = true) (hs : ∀ p, (p < F j ∨ F j + z (F j) ≤ p) → s' p = st p) (hx : ss_FC s' (F j) r' (ss_shr Lv Xd j)) (hw : ss_FW r')
    (hr : ss_br r' = ss_br (Fd j)) : ss_GX L z E F Lv Fv Xd (ss_set Fd j r') hd c t cap s' ah := by
  obtain ⟨G, h2, h3, h4, h5⟩ := h
  exact ⟨ss_GS_frm G hj hs hx hw hr, h2, by rw [ss_us_datF hr]; exact h3, h4, h5⟩
end
def ss_sVl (r : ss_FR) (k : Nat) (v : Int32) : ss_FR := (ss_br r, ss_nn r, ss_nm r, ss_set (ss_vl r) k v)
def ss_sBd (r : ss_FR) (m : Nat) (v : Int32) : ss_FR := (ss_br r, ss_nn r + 1, ss_set (ss_nm r) (ss_nn r) m, ss_set (ss_vl r) (ss_nn r) v)
section
variable {s yd yw : Nat → Int32} {a u f m : Nat} {r : ss_FR}
theorem ss_FC_vl {k : Nat} {v : Int32} (h : ss_FC s a r u) (hk : k < ss_nn r) : ss_FC (upd s (a + 3 + 2 * k + 1) v) a (ss_sVl r k v) u := by
  obtain ⟨f0, f1, f2, f3⟩ := h
  refine ⟨?_, ?_, ?_, ?_⟩
  · rw [pk_un (by omega)]; exact f0
  · rw [pk_un (by omega)]; exact f1
  · rw [pk_un (by omega)]; exact f2
  · intro l hl
    show _ = nI (ss_nm r l) ∧ _ = ss_set (ss_vl r) k v l
    rw [pk_un (by omega)]
    refine ⟨(f3 l hl).1, ?_⟩
    by_cases e : l = k
    · subst e; rw [pk_us, ss_set_s]
    · rw [pk_un (by omega), ss_set_n e]; exact (f3 l hl).2
theorem ss_FC_bd {v : Int32} (h : ss_FC s a r u) : ss_FC (upd (upd (upd s (a + 3 + 2 * ss_nn r) (nI m)) (a + 3 + 2 * ss_nn r + 1) v) (a + 2) (nI (ss_nn r + 1))) a (ss_sBd r m v) u := by
  obtain ⟨f0, f1, f2, f3⟩ := h
  refine ⟨?_, ?_, pk_us, ?_⟩
  · rw [pk_un (by omega), pk_un (by omega), pk_un (by omega)]; exact f0
  · rw [pk_un (by omega), pk_un (by omega), pk_un (by omega)]; exact f1
  · intro l hl
    have hl' : l < ss_nn r + 1 := hl
    show _ = nI (ss_set (ss_nm r) (ss_nn r) m l) ∧ _ = ss_set (ss_vl r) (ss_nn r) v l
    by_cases e : l = ss_nn r
    · subst e
      rw [ss_set_s, ss_set_s, pk_un (by omega), pk_un (by omega), pk_us, pk_un (by omega), pk_us]
      exact ⟨rfl, rfl⟩
    · rw [ss_set_n e, ss_set_n e, pk_un (by omega), pk_un (by omega), pk_un (by omega), pk_un (by omega), pk_un (by omega), pk_un (by omega)]
      exact f3 l (by omega)
theorem ss_FW_vl {k : Nat} {v : Int32} (h : ss_FW r) : ss_FW (ss_sVl r k v) := h
theorem ss_FW_bd {v : Int32} (h : ss_FW r) (hm : m < 32) (hn : ss_nn r < ss_br r) (hh : ¬ ss_has (ss_nm r) m (ss_nn r) = true) : ss_FW (ss_sBd r m v) := by
  rw [ss_has_iff] at hh
  refine ⟨hn, h.2.1, ?_, ?_⟩
  · intro k hk
    have hk' : k < ss_nn r + 1 := hk
    show ss_set (ss_nm r) (ss_nn r) m k < 32
    by_cases e : k = ss_nn r
    · rw [e, ss_set_s]; exact hm
    · rw [ss_set_n e]; exact h.2.2.1 k (by omega)
  · intro k l hkl hl
    have hl' : l < ss_nn r + 1 := hl
    show ss_set (ss_nm r) (ss_nn r) m k ≠ ss_set (ss_nm r) (ss_nn r) m l
    rw [ss_set_n (j := k) (by omega)]
    by_cases e : l = ss_nn r
    · rw [e, ss_set_s]
      intro q
      exact hh ⟨k, by omega, q⟩
    · rw [ss_set_n e]; exact h.2.2.2 k l hkl (by omega)
theorem ss_has_bd {x : Nat} : ss_has (ss_set (ss_nm r) (ss_nn r) m) x (ss_nn r + 1) = true ↔ (m = x ∨ ss_has (ss_nm r) x (ss_nn r) = true) := by
  rw [ss_has_iff, ss_has_iff]
  constructor
  · rintro ⟨k, hk, e⟩
    by_cases q : k = ss_nn r
    · rw [q, ss_set_s] at e; exact Or.inl e
    · rw [ss_set_n q] at e; exact Or.inr ⟨k, by omega, e⟩
  · rintro (e | ⟨k, hk, e⟩)
    · exact ⟨ss_nn r, by omega, by rw [ss_set_s]; exact e⟩
    · exact ⟨k, by omega, by rw [ss_set_n (by omega)]; exact e⟩
end
theorem i_vc_lookup {k : Nat} {u : SX} {v : SY} (I : i_Rel k u v) (hk : k + 5 ≤ 2563) (v1 : Int32) (v2 : Int32) : wpX_lookup (fun r => wpY_lookup (fun r' => r' = r ∧ i_Rel (k + 5) u v) v v1 v2) u v1 v2 := by
  refine ss_elim (P := fun u v => wpX_lookup (fun r => wpY_lookup (fun r' => r' = r ∧ i_Rel (k + 5) u v) v v1 v2) u v1 v2) ?_ I
  intro L z E F Lv Fv Xd Fd hd c t cap k1 k2 k3 k4 k5 k6 k7 k8 k9 k10 k11 k12 k13 kp st fw pn ah yf ya yo yl yi yr yn yt yv yb yd yw yh hX hY
  have I' : i_Rel (k + 5) (k1, k2, k3, k4, k5, k6, k7, k8, k9, k10, k11, k12, k13, nI cap, kp, nI t, nI (ss_us Lv Fv Xd Fd), nI (E c), st, fw, pn, ah) (nI c, nI cap, yf, ya, yo, yl, yi, yr, yn, yt, yv, yb, yd, yw, yh) := ss_intro hX hY
  have G := hX.1
  have h240 : t ≤ 240 := Nat.le_trans hX.2.2.2.1 hX.2.2.2.2
  have xr := ss_getXR G h240
  have na := ss_getNA G.2.1 (ss_rank G h240)
  have yr' := ss_getYR G.2.1 hY
  have bh : ∀ h j, h < 8 → hd h = some j → E j < 240 := fun h j h8 hj => by have := (xr j (G.2.1.2.2.2 h j h8 hj)).1; omega
  unfold wpX_lookup
  refine ss_x_envOf rfl hX.2.1 bh ?_
  cases e1 : ss_ev hd c v1 with
  | none =>
    refine br_t ss_neg ?_
    unfold wpY_lookup
    refine ss_y_resolve rfl hY.2.2.2 ?_
    rw [e1]
    exact br_t ss_neg ⟨rfl, I'⟩
  | some i =>
    have li := ss_ev_live G.2.1 e1
    have i32 := (G.2.1.1 i li).1
    refine br_f (nI_pos (n := E i) (by have := (xr i li).1; omega)) ?_
    rcases ss_name v2 with g | g | ⟨m, hm, e⟩
    · refine ss_x_isName0 (Or.inl g) (br_t rfl ?_)
      unfold wpY_lookup
      refine ss_y_resolve rfl hY.2.2.2 ?_
      rw [e1]
      exact br_f (nI_pos (n := i) (by omega)) (br_t g ⟨rfl, I'⟩)
    · refine ss_x_isName0 (Or.inr g) (br_t rfl ?_)
      unfold wpY_lookup
      refine ss_y_resolve rfl hY.2.2.2 ?_
      rw [e1]
      exact br_f (nI_pos (n := i) (by omega)) (br_f g.1 (br_f (Int32.not_le.mpr g.2) ⟨rfl, I'⟩))
    · subst e
      have yy : ∀ {q : Int32 → Prop}, (ss_gv Xd Fd m 30 i = none → q 0) → (∀ g d, ss_gv Xd Fd m 30 i = some (g, d) → q (yw (ss_fr (Xd g) * 32 + m))) → wpY_lookup q (nI c, nI cap, yf, ya, yo, yl, yi, yr, yn, yt, yv, yb, yd, yw, yh) v1 (nI m) := by
        intro q q0 q1
        unfold wpY_lookup
        refine ss_y_resolve rfl hY.2.2.2 ?_
        rw [e1]
        refine br_f (nI_pos (n := i) (by omega)) (br_f (nI_pos (n := m) (by omega)) (br_t (nI_le (a := m) (b := 31) (by omega) (by decide)) ?_))
        refine ss_y_giver (i := i) rfl rfl hm yr' na li (fun h => br_f ss_neg' (q0 h)) (fun g d h => ?_)
        obtain ⟨lg, _, _⟩ := ss_gv_ok na 30 i g d li h
        obtain ⟨g32, f32, y1, _, _⟩ := yr' g lg
        refine br_t (nI_pos' (by omega)) (And.intro (vp_in_nI g32 (by decide)) ?_)
        rw [nI_clamp (n := g) (by omega), y1, ss_ix32, nI_clamp (by omega)]
        exact And.intro (vp_in_nI (by omega) (by decide)) (q1 g d h)
      refine ss_x_isName1 hm (br_f (by decide) (ss_x_cellFrom rfl rfl hm xr na li (fun h => ?_) (fun g d j h hj e => ?_)))
      · exact br_f ss_neg' (yy (fun _ => ⟨rfl, I'⟩) (fun g d h2 => by rw [h] at h2; exact nomatch h2))
      · obtain ⟨lg, _, _⟩ := ss_gv_ok na 30 i g d li h
        obtain ⟨b, _, _, _, u1, f1, f2, f3⟩ := xr g lg
        have w1 := f2.1
        refine br_t (nI_pos' (by omega)) (And.intro (vp_in_nI (by omega) (by decide)) ?_)
        rw [nI_clamp (by omega), (f1.2.2.2 j hj).2]
        refine yy (fun h2 => by rw [h] at h2; exact nomatch h2) (fun g2 d2 h2 => ⟨?_, I'⟩)
        rw [h] at h2
        have := (Prod.mk.inj (Option.some.inj h2)).1
        subst this
        have q := (hY.2.1 _ (G.2.1.1 g lg).2.1).2.2 j hj
        rw [e] at q
        exact q
theorem i_vc_where {k : Nat} {u : SX} {v : SY} (I : i_Rel k u v) (hk : k + 5 ≤ 2563) (v1 : Int32) (v2 : Int32) : wpX_where (fun r => wpY_where (fun r' => r' = r ∧ i_Rel (k + 5) u v) v v1 v2) u v1 v2 := by
  refine ss_elim (P := fun u v => wpX_where (fun r => wpY_where (fun r' => r' = r ∧ i_Rel (k + 5) u v) v v1 v2) u v1 v2) ?_ I
  intro L z E F Lv Fv Xd Fd hd c t cap k1 k2 k3 k4 k5 k6 k7 k8 k9 k10 k11 k12 k13 kp st fw pn ah yf ya yo yl yi yr yn yt yv yb yd yw yh hX hY
  have I' : i_Rel (k + 5) (k1, k2, k3, k4, k5, k6, k7, k8, k9, k10, k11, k12, k13, nI cap, kp, nI t, nI (ss_us Lv Fv Xd Fd), nI (E c), st, fw, pn, ah) (nI c, nI cap, yf, ya, yo, yl, yi, yr, yn, yt, yv, yb, yd, yw, yh) := ss_intro hX hY
  have G := hX.1
  have h240 : t ≤ 240 := Nat.le_trans hX.2.2.2.1 hX.2.2.2.2
  have xr := ss_getXR G h240
  have na := ss_getNA G.2.1 (ss_rank G h240)
  have yr' := ss_getYR G.2.1 hY
  have bh : ∀ h j, h < 8 → hd h = some j → E j < 240 := fun h j h8 hj => by have := (xr j (G.2.1.2.2.2 h j h8 hj)).1; omega
  unfold wpX_where
  refine ss_x_envOf rfl hX.2.1 bh ?_
  cases e1 : ss_ev hd c v1 with
  | none =>
    refine br_t ss_neg ?_
    unfold wpY_where
    refine ss_y_resolve rfl hY.2.2.2 ?_
    rw [e1]
    exact br_t ss_neg ⟨rfl, I'⟩
  | some i =>
    have li := ss_ev_live G.2.1 e1
    have i32 := (G.2.1.1 i li).1
    refine br_f (nI_pos (n := E i) (by have := (xr i li).1; omega)) ?_
    rcases ss_name v2 with g | g | ⟨m, hm, e⟩
    · refine ss_x_isName0 (Or.inl g) (br_t rfl ?_)
      unfold wpY_where
      refine ss_y_resolve rfl hY.2.2.2 ?_
      rw [e1]
      exact br_f (nI_pos (n := i) (by omega)) (br_t g ⟨rfl, I'⟩)
    · refine ss_x_isName0 (Or.inr g) (br_t rfl ?_)
      unfold wpY_where
      refine ss_y_resolve rfl hY.2.2.2 ?_
      rw [e1]
      exact br_f (nI_pos (n := i) (by omega)) (br_f g.1 (br_f (Int32.not_le.mpr g.2) ⟨rfl, I'⟩))
    · subst e
      have yl' : ∀ i, Lv i = true → i < 32 ∧ ((0 : Int32) = 0 → ya i = ss_oE id ((fun i => ss_ac (Xd i)) i)) ∧ (¬ (0 : Int32) = 0 → yo i = ss_oE id ((fun i => ss_ac (Xd i)) i)) := fun i hi => ⟨(G.2.1.1 i hi).1, fun _ => (hY.2.2.1 i hi).1, fun h => absurd rfl h⟩
      have yy : ∀ {q : Int32 → Prop}, (ss_gv Xd Fd m 30 i = none → q (-6)) → (∀ g d, ss_gv Xd Fd m 30 i = some (g, d) → q (nI d)) → wpY_where q (nI c, nI cap, yf, ya, yo, yl, yi, yr, yn, yt, yv, yb, yd, yw, yh) v1 (nI m) := by
        intro q q0 q1
        unfold wpY_where
        refine ss_y_resolve rfl hY.2.2.2 ?_
        rw [e1]
        refine br_f (nI_pos (n := i) (by omega)) (br_f (nI_pos (n := m) (by omega)) (br_t (nI_le (a := m) (b := 31) (by omega) (by decide)) ?_))
        refine ss_y_giver (i := i) rfl rfl hm yr' na li (fun h => br_f ss_neg' (q0 h)) (fun g d h => ?_)
        obtain ⟨lg, _, el⟩ := ss_gv_ok na 30 i g d li h
        obtain ⟨g32, f32, y1, _, _⟩ := yr' g lg
        refine br_t (nI_pos' (by omega)) (ss_y_links (i := i) rfl yl' na li (ss_y_links (i := g) rfl yl' na lg ?_))
        rw [el, pk_sub (by omega), Nat.add_sub_cancel]
        exact q1 g d h
      refine ss_x_isName1 hm (br_f (by decide) ⟨31, ss_x_whereL hm xr na 29 31 0 i li (Nat.le_of_lt_succ (na i li).1) (by omega) (by omega) (fun h => ?_) (fun g d h => ?_)⟩)
      · exact yy (fun _ => ⟨rfl, I'⟩) (fun g d h2 => by rw [h] at h2; exact nomatch h2)
      · refine yy (fun h2 => by rw [h] at h2; exact nomatch h2) (fun g2 d2 h2 => ⟨?_, I'⟩)
        rw [h] at h2
        have := (Prod.mk.inj (Option.some.inj h2)).2
        rw [this, Nat.zero_add]
end
section
/-! assign and bind -/
section
variable {k1 k2 k3 k4 k5 k6 k7 k8 k9 k10 k11 k12 k13 kc kp kt ku ke : Int32} {st fw pn ah : Nat → Int32}
variable {ye yc : Int32} {yf ya yo yl yi yr yn yt yv yb yd yw yh : Nat → Int32}
variable {L : List Nat} {z E F : Nat → Nat} {Lv Fv : Nat → Bool} {Xd : Nat → ss_ER} {Fd : Nat → ss_FR} {hd : Nat → Option Nat} {cur : Option Nat} {c t cap : Nat}
theorem ss_YF_vl {f m j : Nat} {v : Int32} (h : ss_YF Fv Fd yb yd yw) (hf : Fv f = true) (hw : ∀ f, Fv f = true → ss_FW (Fd f)) (hj : j < ss_nn (Fd f)) (e : ss_nm (Fd f) j = m) (hm : m < 32) : ss_YF Fv (ss_set Fd f (ss_sVl (Fd f) j v)) yb yd (upd yw (f * 32 + m) v) := by
  obtain ⟨a1, a2, a3⟩ := h f hf
  refine ss_YF_dat h ?_ hw ⟨a1, a2, ?_⟩
  · intro g hg x hx
    exact ⟨rfl, pk_un (by omega)⟩
  · intro l hl
    have hl' : l < ss_nn (Fd f) := hl
    show upd yw (f * 32 + m) v (f * 32 + ss_nm (Fd f) l) = ss_set (ss_vl (Fd f)) j v l
    by_cases q : l = j
    · subst q; rw [e, pk_us, ss_set_s]
    · have ne : ss_nm (Fd f) l ≠ m := by
        rw [← e]
        by_cases q2 : l < j
        · exact (hw f hf).2.2.2 l j q2 hj
        · exact fun k => (hw f hf).2.2.2 j l (by omega) hl' k.symm
      rw [pk_un (by omega), ss_set_n q]
      exact a3 l hl'
theorem ss_YF_bd {f m : Nat} {v : Int32} (h : ss_YF Fv Fd yb yd yw) (hf : Fv f = true) (hw : ∀ f, Fv f = true → ss_FW (Fd f)) (hh : ¬ ss_has (ss_nm (Fd f)) m (ss_nn (Fd f)) = true) (hm : m < 32) : ss_YF Fv (ss_set Fd f (ss_sBd (Fd f) m v)) yb (upd yd (f * 32 + m) 1) (upd yw (f * 32 + m) v) := by
  obtain ⟨a1, a2, a3⟩ := h f hf
  refine ss_YF_dat h ?_ hw ⟨a1, ?_, ?_⟩
  · intro g hg x hx
    exact ⟨pk_un (by omega), pk_un (by omega)⟩
  · intro x hx
    show _ = if ss_has (ss_set (ss_nm (Fd f)) (ss_nn (Fd f)) m) x (ss_nn (Fd f) + 1) = true then 1 else 0
    by_cases q : x = m
    · subst q
      rw [pk_us, if_pos (ss_has_bd.mpr (Or.inl rfl))]
    · rw [pk_un (by omega), a2 x hx]
      by_cases q2 : ss_has (ss_nm (Fd f)) x (ss_nn (Fd f)) = true
      · rw [if_pos q2, if_pos (ss_has_bd.mpr (Or.inr q2))]
      · rw [if_neg q2, if_neg (fun k => by
          rcases ss_has_bd.mp k with k | k
          · exact q k.symm
          · exact q2 k)]
  · intro l hl
    have hl' : l < ss_nn (Fd f) + 1 := hl
    show upd yw (f * 32 + m) v (f * 32 + ss_set (ss_nm (Fd f)) (ss_nn (Fd f)) m l) = ss_set (ss_vl (Fd f)) (ss_nn (Fd f)) v l
    by_cases q : l = ss_nn (Fd f)
    · subst q; rw [ss_set_s, pk_us, ss_set_s]
    · rw [ss_set_n q, ss_set_n q]
      have ne : ss_nm (Fd f) l ≠ m := by
        intro k
        exact hh ((ss_has_iff _).mpr ⟨l, by omega, k⟩)
      rw [pk_un (by omega)]
      exact a3 l (by omega)
theorem ss_y_bind57 {post : Int32 → SY → Prop} {f m : Nat} {v : Int32} (hf : f < 32) (hm : m < 32) (hp : post 0 (ye, yc, yf, ya, yo, yl, yi, yr, yn, yt, yv, yb, upd yd (f * 32 + m) 1, upd yw (f * 32 + m) v, yh)) : wY_bind_57 post (nI m) v (nI f) ye yc yf ya yo yl yi yr yn yt yv yb yd yw yh := by
  unfold wY_bind_57
  rw [ss_ix32, nI_clamp (by omega), ss_b1]
  exact And.intro (vp_in_nI (by omega) (by decide)) (nm_e (And.intro (vp_in_nI (by omega) (by decide)) (nm_e hp)))
end
theorem i_vc_assign {k : Nat} {u : SX} {v : SY} (I : i_Rel k u v) (hk : k + 5 ≤ 2563) (v1 : Int32) (v2 : Int32) (v3 : Int32) : wpX_assign (fun r u' => wpY_assign (fun r' v' => r' = r ∧ i_Rel (k + 5) u' v') v v1 v2 v3) u v1 v2 v3 := by
  refine ss_elim (P := fun u v => wpX_assign (fun r u' => wpY_assign (fun r' v' => r' = r ∧ i_Rel (k + 5) u' v') v v1 v2 v3) u v1 v2 v3) ?_ I
  intro L z E F Lv Fv Xd Fd hd c t cap k1 k2 k3 k4 k5 k6 k7 k8 k9 k10 k11 k12 k13 kp st fw pn ah yf ya yo yl yi yr yn yt yv yb yd yw yh hX hY
  have I' : i_Rel (k + 5) (k1, k2, k3, k4, k5, k6, k7, k8, k9, k10, k11, k12, k13, nI cap, kp, nI t, nI (ss_us Lv Fv Xd Fd), nI (E c), st, fw, pn, ah) (nI c, nI cap, yf, ya, yo, yl, yi, yr, yn, yt, yv, yb, yd, yw, yh) := ss_intro hX hY
  have G := hX.1
  have h240 : t ≤ 240 := Nat.le_trans hX.2.2.2.1 hX.2.2.2.2
  have xr := ss_getXR G h240
  have na := ss_getNA G.2.1 (ss_rank G h240)
  have yr' := ss_getYR G.2.1 hY
  have bh : ∀ h j, h < 8 → hd h = some j → E j < 240 := fun h j h8 hj => by have := (xr j (G.2.1.2.2.2 h j h8 hj)).1; omega
  unfold wpX_assign
  refine ss_x_envOf rfl hX.2.1 bh ?_
  cases e1 : ss_ev hd c v1 with
  | none =>
    refine br_t ss_neg ?_
    unfold wpY_assign
    refine ss_y_resolve rfl hY.2.2.2 ?_
    rw [e1]
    exact br_t ss_neg ⟨rfl, I'⟩
  | some i =>
    have li := ss_ev_live G.2.1 e1
    have i32 := (G.2.1.1 i li).1
    refine br_f (nI_pos (n := E i) (by have := (xr i li).1; omega)) ?_
    rcases ss_name v2 with g | g | ⟨m, hm, e⟩
    · refine ss_x_isName0 (Or.inl g) (br_t rfl ?_)
      unfold wpY_assign
      refine ss_y_resolve rfl hY.2.2.2 ?_
      rw [e1]
      exact br_f (nI_pos (n := i) (by omega)) (br_t g ⟨rfl, I'⟩)
    · refine ss_x_isName0 (Or.inr g) (br_t rfl ?_)
      unfold wpY_assign
      refine ss_y_resolve rfl hY.2.2.2 ?_
      rw [e1]
      exact br_f (nI_pos (n := i) (by omega)) (br_f g.1 (br_f (Int32.not_le.mpr g.2) ⟨rfl, I'⟩))
    · subst e
      have yy : ∀ {q : Int32 → SY → Prop}, (ss_gv Xd Fd m 30 i = none → q (-6) (nI c, nI cap, yf, ya, yo, yl, yi, yr, yn, yt, yv, yb, yd, yw, yh)) → (∀ g d, ss_gv Xd Fd m 30 i = some (g, d) → q 0 (nI c, nI cap, yf, ya, yo, yl, yi, yr, yn, yt, yv, yb, yd, upd yw (ss_fr (Xd g) * 32 + m) v3, yh)) → wpY_assign q (nI c, nI cap, yf, ya, yo, yl, yi, yr, yn, yt, yv, yb, yd, yw, yh) v1 (nI m) v3 := by
        intro q q0 q1
        unfold wpY_assign
        refine ss_y_resolve rfl hY.2.2.2 ?_
        rw [e1]
        refine br_f (nI_pos (n := i) (by omega)) (br_f (nI_pos (n := m) (by omega)) (br_t (nI_le (a := m) (b := 31) (by omega) (by decide)) ?_))
        refine ss_y_giver (i := i) rfl rfl hm yr' na li (fun h => br_f ss_neg' (q0 h)) (fun g d h => ?_)
        obtain ⟨lg, _, _⟩ := ss_gv_ok na 30 i g d li h
        obtain ⟨g32, f32, y1, _, _⟩ := yr' g lg
        refine br_t (nI_pos' (by omega)) (And.intro (vp_in_nI g32 (by decide)) ?_)
        rw [nI_clamp (n := g) (by omega), y1, ss_ix32, nI_clamp (by omega)]
        exact And.intro (vp_in_nI (by omega) (by decide)) (nm_e (q1 g d h))
      refine ss_x_isName1 hm (br_f (by decide) (ss_x_cellFrom rfl rfl hm xr na li (fun h => ?_) (fun g d j h hj e => ?_)))
      · exact br_f ss_neg' (yy (fun _ => ⟨rfl, I'⟩) (fun g d h2 => by rw [h] at h2; exact nomatch h2))
      · obtain ⟨lg, _, _⟩ := ss_gv_ok na 30 i g d li h
        have hf := (G.2.1.1 g lg).2.1
        have f32 := (G.2.1.2.1 _ hf).1
        have limF := ss_RS_inF G.1 hf
        obtain ⟨f1, f2, f3, f4⟩ := G.1.2.2.2.1 _ hf
        have hwf : ∀ f, Fv f = true → ss_FW (Fd f) := fun f hf => (G.1.2.2.2.1 f hf).2.2.1
        refine br_t (nI_pos' (by omega)) (And.intro (vp_in_nI (by omega) (by decide)) (nm_r (e' := upd st (F (ss_fr (Xd g)) + 3 + 2 * j + 1) v3) (by rw [nI_clamp (by omega)]) ?_))
        refine yy (fun h2 => by rw [h] at h2; exact nomatch h2) (fun g2 d2 h2 => ⟨rfl, ?_⟩)
        rw [h] at h2
        have eg := (Prod.mk.inj (Option.some.inj h2)).1
        subst eg
        have us' : ss_us Lv Fv Xd (ss_set Fd (ss_fr (Xd g)) (ss_sVl (Fd (ss_fr (Xd g))) j v3)) = ss_us Lv Fv Xd Fd := ss_us_datF (show ss_br (ss_sVl (Fd (ss_fr (Xd g))) j v3) = ss_br (Fd (ss_fr (Xd g))) from rfl)
        have hX' : ss_GX L z E F Lv Fv Xd (ss_set Fd (ss_fr (Xd g)) (ss_sVl (Fd (ss_fr (Xd g))) j v3)) hd c t cap (upd st (F (ss_fr (Xd g)) + 3 + 2 * j + 1) v3) ah :=
          ss_GX_frm (r' := ss_sVl (Fd (ss_fr (Xd g))) j v3) hX hf (fun p hp => pk_un (by omega)) (ss_FC_vl f4 hj) (ss_FW_vl f3) rfl
        have hY' : ss_GY Lv Fv Xd (ss_set Fd (ss_fr (Xd g)) (ss_sVl (Fd (ss_fr (Xd g))) j v3)) hd yf ya yo yl yi yr yn yt yb yd (upd yw (ss_fr (Xd g) * 32 + m) v3) yh :=
          ⟨hY.1, ss_YF_vl hY.2.1 hf hwf hj e hm, hY.2.2⟩
        exact ss_intro2 rfl rfl (by rw [us']) rfl rfl rfl hX' hY'
theorem i_vc_bind {k : Nat} {u : SX} {v : SY} (I : i_Rel k u v) (hk : k + 5 ≤ 2563) (v1 : Int32) (v2 : Int32) : wpX_bind (fun r u' => wpY_bind (fun r' v' => r' = r ∧ i_Rel (k + 5) u' v') v v1 v2) u v1 v2 := by
  refine ss_elim (P := fun u v => wpX_bind (fun r u' => wpY_bind (fun r' v' => r' = r ∧ i_Rel (k + 5) u' v') v v1 v2) u v1 v2) ?_ I
  intro L z E F Lv Fv Xd Fd hd c t cap k1 k2 k3 k4 k5 k6 k7 k8 k9 k10 k11 k12 k13 kp st fw pn ah yf ya yo yl yi yr yn yt yv yb yd yw yh hX hY
  have I' : i_Rel (k + 5) (k1, k2, k3, k4, k5, k6, k7, k8, k9, k10, k11, k12, k13, nI cap, kp, nI t, nI (ss_us Lv Fv Xd Fd), nI (E c), st, fw, pn, ah) (nI c, nI cap, yf, ya, yo, yl, yi, yr, yn, yt, yv, yb, yd, yw, yh) := ss_intro hX hY
  have G := hX.1
  have h240 : t ≤ 240 := Nat.le_trans hX.2.2.2.1 hX.2.2.2.2
  have hc : Lv c = true := G.2.1.2.2.1 c rfl
  have c32 := (G.2.1.1 c hc).1
  have lim := ss_RS_in G.1 hc
  have hf := (G.2.1.1 c hc).2.1
  have f32 := (G.2.1.2.1 _ hf).1
  have limF := ss_RS_inF G.1 hf
  obtain ⟨f1, f2, f3, f4⟩ := G.1.2.2.2.1 _ hf
  have hwf : ∀ f, Fv f = true → ss_FW (Fd f) := fun f hf => (G.1.2.2.2.1 f hf).2.2.1
  have x2 := (G.1.2.2.1 c hc).2.2.2.2.2.1
  obtain ⟨g1, g2, g3⟩ := hY.2.1 _ hf
  unfold wpX_bind
  rcases ss_name v1 with g | g | ⟨m, hm, e⟩
  · refine ss_x_isName0 (Or.inl g) (br_t rfl ?_)
    exact br_t g ⟨rfl, I'⟩
  · refine ss_x_isName0 (Or.inr g) (br_t rfl ?_)
    exact br_f g.1 (br_f (Int32.not_le.mpr g.2) ⟨rfl, I'⟩)
  · subst e
    have yy : ∀ {q : Int32 → SY → Prop}, (¬ ss_has (ss_nm (Fd (ss_fr (Xd c)))) m (ss_nn (Fd (ss_fr (Xd c)))) = true → ss_br (Fd (ss_fr (Xd c))) ≤ ss_nn (Fd (ss_fr (Xd c))) → q (-4) (nI c, nI cap, yf, ya, yo, yl, yi, yr, yn, yt, yv, yb, yd, yw, yh)) →
        ((ss_has (ss_nm (Fd (ss_fr (Xd c)))) m (ss_nn (Fd (ss_fr (Xd c)))) = true ∨ ss_nn (Fd (ss_fr (Xd c))) < ss_br (Fd (ss_fr (Xd c)))) → q 0 (nI c, nI cap, yf, ya, yo, yl, yi, yr, yn, yt, yv, yb, upd yd (ss_fr (Xd c) * 32 + m) 1, upd yw (ss_fr (Xd c) * 32 + m) v2, yh)) → wpY_bind q (nI c, nI cap, yf, ya, yo, yl, yi, yr, yn, yt, yv, yb, yd, yw, yh) (nI m) v2 := by
      intro q q0 q1
      refine br_f (nI_pos (n := m) (by omega)) (br_t (nI_le (a := m) (b := 31) (by omega) (by decide)) (And.intro (vp_in_nI c32 (by decide)) (nm_r (ss_rd0 (hY.1 c hc).1 (by omega)) ?_)))
      refine ss_y_bindings rfl f32 f3 g2 ?_
      rw [ss_ix32, nI_clamp (by omega), g2 m hm]
      refine And.intro (vp_in_nI (by omega) (by decide)) ?_
      by_cases h : ss_has (ss_nm (Fd (ss_fr (Xd c)))) m (ss_nn (Fd (ss_fr (Xd c)))) = true
      · rw [if_pos h]
        exact br_f (by decide) (ss_y_bind57 f32 hm (q1 (Or.inl h)))
      · rw [if_neg h]
        refine br_t rfl (And.intro (vp_in_nI f32 (by decide)) ?_)
        rw [ss_rd0 g1 (by omega)]
        exact pk_lt _ _ (fun h2 => ss_y_bind57 f32 hm (q1 (Or.inr h2))) (fun h2 => q0 h h2)
    refine ss_x_isName1 hm (br_f (by decide) (And.intro (ss_ix (k := 2) (by omega) (by decide)) (nm_r (ss_rd (k := 2) x2 (by omega)) ?_)))
    refine ss_x_cif rfl rfl hm f4 f3 (by omega) (fun h => ?_) (fun j hj e => ?_)
    · refine br_t ss_neg (And.intro (ss_ix (k := 2) (by omega) (by decide)) (nm_r (ss_rd (k := 2) f4.2.2.1 (by omega)) (And.intro (vp_in_nI (by omega) (by decide)) ?_)))
      rw [ss_rd0 f4.1 (by omega)]
      refine pk_lt _ _ (fun h2 => ?_) (fun h2 => ?_)
      · have e5 : (nI (F (ss_fr (Xd c))) + 3) + (2 * nI (ss_nn (Fd (ss_fr (Xd c))))) = nI (F (ss_fr (Xd c)) + 3 + 2 * ss_nn (Fd (ss_fr (Xd c)))) := by
          rw [ss_p3, show (2 : Int32) * nI (ss_nn (Fd (ss_fr (Xd c)))) = nI (2 * ss_nn (Fd (ss_fr (Xd c)))) from pk_mul 2 _, nI_add]
        refine nm_r e5 (And.intro (vp_in_nI (by omega) (by decide)) (nm_r (e' := upd st (F (ss_fr (Xd c)) + 3 + 2 * ss_nn (Fd (ss_fr (Xd c)))) (nI m)) (by rw [nI_clamp (by omega)]) ?_))
        refine And.intro (ss_ix (k := 1) (by omega) (by decide)) (nm_r (e' := upd (upd st (F (ss_fr (Xd c)) + 3 + 2 * ss_nn (Fd (ss_fr (Xd c)))) (nI m)) (F (ss_fr (Xd c)) + 3 + 2 * ss_nn (Fd (ss_fr (Xd c))) + 1) v2) (by rw [ss_cl (k := 1) (by omega)]) ?_)
        refine And.intro (ss_ix (k := 2) (by omega) (by decide)) (nm_r (e' := upd (upd (upd st (F (ss_fr (Xd c)) + 3 + 2 * ss_nn (Fd (ss_fr (Xd c)))) (nI m)) (F (ss_fr (Xd c)) + 3 + 2 * ss_nn (Fd (ss_fr (Xd c))) + 1) v2) (F (ss_fr (Xd c)) + 2) (nI (ss_nn (Fd (ss_fr (Xd c))) + 1))) (by rw [ss_cl (k := 2) (by omega), nI_1]) ?_)
        refine yy (fun _ h3 => by omega) (fun _ => ⟨rfl, ?_⟩)
        have us' : ss_us Lv Fv Xd (ss_set Fd (ss_fr (Xd c)) (ss_sBd (Fd (ss_fr (Xd c))) m v2)) = ss_us Lv Fv Xd Fd := ss_us_datF (show ss_br (ss_sBd (Fd (ss_fr (Xd c))) m v2) = ss_br (Fd (ss_fr (Xd c))) from rfl)
        have hX' : ss_GX L z E F Lv Fv Xd (ss_set Fd (ss_fr (Xd c)) (ss_sBd (Fd (ss_fr (Xd c))) m v2)) hd c t cap (upd (upd (upd st (F (ss_fr (Xd c)) + 3 + 2 * ss_nn (Fd (ss_fr (Xd c)))) (nI m)) (F (ss_fr (Xd c)) + 3 + 2 * ss_nn (Fd (ss_fr (Xd c))) + 1) v2) (F (ss_fr (Xd c)) + 2) (nI (ss_nn (Fd (ss_fr (Xd c))) + 1))) ah :=
          ss_GX_frm (r' := ss_sBd (Fd (ss_fr (Xd c))) m v2) hX hf (fun p hp => by rw [pk_un (by omega), pk_un (by omega), pk_un (by omega)]) (ss_FC_bd f4) (ss_FW_bd f3 hm h2 h) rfl
        have hY' : ss_GY Lv Fv Xd (ss_set Fd (ss_fr (Xd c)) (ss_sBd (Fd (ss_fr (Xd c))) m v2)) hd yf ya yo yl yi yr yn yt yb (upd yd (ss_fr (Xd c) * 32 + m) 1) (upd yw (ss_fr (Xd c) * 32 + m) v2) yh :=
          ⟨hY.1, ss_YF_bd hY.2.1 hf hwf h hm, hY.2.2⟩
        exact ss_intro2 rfl rfl (by rw [us']) rfl rfl rfl hX' hY'
      · exact yy (fun _ _ => ⟨rfl, I'⟩) (fun h3 => by
          rcases h3 with h3 | h3
          · exact absurd h3 h
          · omega)
    · have w1 := f3.1
      refine br_f (nI_pos (by omega)) (And.intro (vp_in_nI (by omega) (by decide)) (nm_r (e' := upd st (F (ss_fr (Xd c)) + 3 + 2 * j + 1) v2) (by rw [nI_clamp (by omega)]) ?_))
      have hh : ss_has (ss_nm (Fd (ss_fr (Xd c)))) m (ss_nn (Fd (ss_fr (Xd c)))) = true := (ss_has_iff _).mpr ⟨j, hj, e⟩
      refine yy (fun h3 => absurd hh h3) (fun _ => ⟨rfl, ?_⟩)
      have yd1 : upd yd (ss_fr (Xd c) * 32 + m) 1 = yd := by
        funext p
        by_cases q : p = ss_fr (Xd c) * 32 + m
        · subst q
          rw [pk_us, g2 m hm, if_pos hh]
        · rw [pk_un q]
      rw [yd1]
      have us' : ss_us Lv Fv Xd (ss_set Fd (ss_fr (Xd c)) (ss_sVl (Fd (ss_fr (Xd c))) j v2)) = ss_us Lv Fv Xd Fd := ss_us_datF (show ss_br (ss_sVl (Fd (ss_fr (Xd c))) j v2) = ss_br (Fd (ss_fr (Xd c))) from rfl)
      have hX' : ss_GX L z E F Lv Fv Xd (ss_set Fd (ss_fr (Xd c)) (ss_sVl (Fd (ss_fr (Xd c))) j v2)) hd c t cap (upd st (F (ss_fr (Xd c)) + 3 + 2 * j + 1) v2) ah :=
        ss_GX_frm (r' := ss_sVl (Fd (ss_fr (Xd c))) j v2) hX hf (fun p hp => pk_un (by omega)) (ss_FC_vl f4 hj) (ss_FW_vl f3) rfl
      have hY' : ss_GY Lv Fv Xd (ss_set Fd (ss_fr (Xd c)) (ss_sVl (Fd (ss_fr (Xd c))) j v2)) hd yf ya yo yl yi yr yn yt yb yd (upd yw (ss_fr (Xd c) * 32 + m) v2) yh :=
        ⟨hY.1, ss_YF_vl hY.2.1 hf hwf hj e hm, hY.2.2⟩
      exact ss_intro2 rfl rfl (by rw [us']) rfl rfl rfl hX' hY'
end
section
/-! look: fourteen cases, printed by genlook.py -/
section
variable {k1 k2 k3 k4 k5 k6 k7 k8 k9 k10 k11 k12 k13 kc kp kt ku ke : Int32} {st fw pn ah : Nat → Int32}
variable {ye yc : Int32} {yf ya yo yl yi yr yn yt yv yb yd yw yh : Nat → Int32}
variable {L : List Nat} {z E F : Nat → Nat} {Lv Fv : Nat → Bool} {Xd : Nat → ss_ER} {Fd : Nat → ss_FR} {hd : Nat → Option Nat} {c t cap : Nat}
theorem ss_look0 {k i : Nat} {v1 : Int32} (hX : ss_GX L z E F Lv Fv Xd Fd hd c t cap st ah) (hY : ss_GY Lv Fv Xd Fd hd yf ya yo yl yi yr yn yt yb yd yw yh) (e1 : ss_ev hd c v1 = some i) :
    wpX_look (fun r => wpY_look (fun r' v' => r' = r ∧ i_Rel (k + 5) (k1, k2, k3, k4, k5, k6, k7, k8, k9, k10, k11, k12, k13, nI cap, kp, nI t, nI (ss_us Lv Fv Xd Fd), nI (E c), st, fw, pn, ah) v') (nI c, nI cap, yf, ya, yo, yl, yi, yr, yn, yt, yv, yb, yd, yw, yh) v1 (nI 0)) (k1, k2, k3, k4, k5, k6, k7, k8, k9, k10, k11, k12, k13, nI cap, kp, nI t, nI (ss_us Lv Fv Xd Fd), nI (E c), st, fw, pn, ah) v1 (nI 0) := by
  have I' : ∀ yv, i_Rel (k + 5) (k1, k2, k3, k4, k5, k6, k7, k8, k9, k10, k11, k12, k13, nI cap, kp, nI t, nI (ss_us Lv Fv Xd Fd), nI (E c), st, fw, pn, ah) (nI c, nI cap, yf, ya, yo, yl, yi, yr, yn, yt, yv, yb, yd, yw, yh) := fun yv => ss_intro hX hY
  have G := hX.1
  have h240 : t ≤ 240 := Nat.le_trans hX.2.2.2.1 hX.2.2.2.2
  have hc : Lv c = true := G.2.1.2.2.1 c rfl
  have RK := ss_rank G h240
  have YL := ss_links G.2.1 hY
  have xr := ss_getXR G h240
  have na := ss_getNA G.2.1 RK
  have nc := ss_getNC G.2.1 RK
  have bh : ∀ h j, h < 8 → hd h = some j → E j < 240 := fun h j h8 hj => by have := (xr j (G.2.1.2.2.2 h j h8 hj)).1; omega
  have li := ss_ev_live G.2.1 e1
  have i32 := (G.2.1.1 i li).1
  have lim := ss_RS_in G.1 li
  obtain ⟨i1, i2, i3, i4⟩ := G.1.2.2.1 i li
  obtain ⟨x0, x1, x2, x3, x4, x5, x6, x7, x8⟩ := i4
  obtain ⟨y0, y1, y2, y3, y4, y5⟩ := hY.1 i li
  have hf := (G.2.1.1 i li).2.1
  have f32 := (G.2.1.2.1 _ hf).1
  have limF := ss_RS_inF G.1 hf
  obtain ⟨f1, f2, f3, f4⟩ := G.1.2.2.2.1 _ hf
  obtain ⟨g1, g2, g3⟩ := hY.2.1 _ hf
  unfold wpX_look
  refine ss_x_envOf rfl hX.2.1 bh ?_
  rw [e1, show ss_oE E (some i) = nI (E i) from rfl]
  refine br_f (nI_pos (n := E i) (by omega)) (br_f (by decide) (br_t (by decide) (br_t (by decide) (br_t (by decide) (br_f (by decide) (br_f (by decide) (br_t rfl (And.intro (ss_ix (k := 5) (by omega) (by decide)) ?_))))))))
  rw [ss_rd (k := 5) x5 (by omega)]
  unfold wpY_look
  refine ss_y_resolve rfl hY.2.2.2 ?_
  rw [e1, show ss_oE id (some i) = nI i from rfl]
  refine br_f (nI_pos (n := i) (by omega)) (br_f (by decide) (br_t (by decide) (ss_y_findLive rfl hc YL RK G.2.2 ?_)))
  intro lv V
  refine br_t rfl (And.intro (vp_in_nI i32 (by decide)) ⟨?_, I' lv⟩)
  exact ss_rd0 y1 (by omega)
theorem ss_look1 {k i : Nat} {v1 : Int32} (hX : ss_GX L z E F Lv Fv Xd Fd hd c t cap st ah) (hY : ss_GY Lv Fv Xd Fd hd yf ya yo yl yi yr yn yt yb yd yw yh) (e1 : ss_ev hd c v1 = some i) :
    wpX_look (fun r => wpY_look (fun r' v' => r' = r ∧ i_Rel (k + 5) (k1, k2, k3, k4, k5, k6, k7, k8, k9, k10, k11, k12, k13, nI cap, kp, nI t, nI (ss_us Lv Fv Xd Fd), nI (E c), st, fw, pn, ah) v') (nI c, nI cap, yf, ya, yo, yl, yi, yr, yn, yt, yv, yb, yd, yw, yh) v1 (nI 1)) (k1, k2, k3, k4, k5, k6, k7, k8, k9, k10, k11, k12, k13, nI cap, kp, nI t, nI (ss_us Lv Fv Xd Fd), nI (E c), st, fw, pn, ah) v1 (nI 1) := by
  have I' : ∀ yv, i_Rel (k + 5) (k1, k2, k3, k4, k5, k6, k7, k8, k9, k10, k11, k12, k13, nI cap, kp, nI t, nI (ss_us Lv Fv Xd Fd), nI (E c), st, fw, pn, ah) (nI c, nI cap, yf, ya, yo, yl, yi, yr, yn, yt, yv, yb, yd, yw, yh) := fun yv => ss_intro hX hY
  have G := hX.1
  have h240 : t ≤ 240 := Nat.le_trans hX.2.2.2.1 hX.2.2.2.2
  have hc : Lv c = true := G.2.1.2.2.1 c rfl
  have RK := ss_rank G h240
  have YL := ss_links G.2.1 hY
  have xr := ss_getXR G h240
  have na := ss_getNA G.2.1 RK
  have nc := ss_getNC G.2.1 RK
  have bh : ∀ h j, h < 8 → hd h = some j → E j < 240 := fun h j h8 hj => by have := (xr j (G.2.1.2.2.2 h j h8 hj)).1; omega
  have li := ss_ev_live G.2.1 e1
  have i32 := (G.2.1.1 i li).1
  have lim := ss_RS_in G.1 li
  obtain ⟨i1, i2, i3, i4⟩ := G.1.2.2.1 i li
  obtain ⟨x0, x1, x2, x3, x4, x5, x6, x7, x8⟩ := i4
  obtain ⟨y0, y1, y2, y3, y4, y5⟩ := hY.1 i li
  have hf := (G.2.1.1 i li).2.1
  have f32 := (G.2.1.2.1 _ hf).1
  have limF := ss_RS_inF G.1 hf
  obtain ⟨f1, f2, f3, f4⟩ := G.1.2.2.2.1 _ hf
  obtain ⟨g1, g2, g3⟩ := hY.2.1 _ hf
  unfold wpX_look
  refine ss_x_envOf rfl hX.2.1 bh ?_
  rw [e1, show ss_oE E (some i) = nI (E i) from rfl]
  refine br_f (nI_pos (n := E i) (by omega)) (br_f (by decide) (br_t (by decide) (br_t (by decide) (br_t (by decide) (br_f (by decide) (br_f (by decide) (br_f (by decide) (br_t rfl (And.intro (ss_ix (k := 6) (by omega) (by decide)) ?_)))))))))
  rw [ss_rd (k := 6) x6 (by omega)]
  unfold wpY_look
  refine ss_y_resolve rfl hY.2.2.2 ?_
  rw [e1, show ss_oE id (some i) = nI i from rfl]
  refine br_f (nI_pos (n := i) (by omega)) (br_f (by decide) (br_t (by decide) (ss_y_findLive rfl hc YL RK G.2.2 ?_)))
  intro lv V
  refine br_f (by decide) (br_t rfl (And.intro (vp_in_nI i32 (by decide)) ⟨?_, I' lv⟩))
  exact ss_rd0 y2 (by omega)
theorem ss_look2 {k i : Nat} {v1 : Int32} (hX : ss_GX L z E F Lv Fv Xd Fd hd c t cap st ah) (hY : ss_GY Lv Fv Xd Fd hd yf ya yo yl yi yr yn yt yb yd yw yh) (e1 : ss_ev hd c v1 = some i) :
    wpX_look (fun r => wpY_look (fun r' v' => r' = r ∧ i_Rel (k + 5) (k1, k2, k3, k4, k5, k6, k7, k8, k9, k10, k11, k12, k13, nI cap, kp, nI t, nI (ss_us Lv Fv Xd Fd), nI (E c), st, fw, pn, ah) v') (nI c, nI cap, yf, ya, yo, yl, yi, yr, yn, yt, yv, yb, yd, yw, yh) v1 (nI 2)) (k1, k2, k3, k4, k5, k6, k7, k8, k9, k10, k11, k12, k13, nI cap, kp, nI t, nI (ss_us Lv Fv Xd Fd), nI (E c), st, fw, pn, ah) v1 (nI 2) := by
  have I' : ∀ yv, i_Rel (k + 5) (k1, k2, k3, k4, k5, k6, k7, k8, k9, k10, k11, k12, k13, nI cap, kp, nI t, nI (ss_us Lv Fv Xd Fd), nI (E c), st, fw, pn, ah) (nI c, nI cap, yf, ya, yo, yl, yi, yr, yn, yt, yv, yb, yd, yw, yh) := fun yv => ss_intro hX hY
  have G := hX.1
  have h240 : t ≤ 240 := Nat.le_trans hX.2.2.2.1 hX.2.2.2.2
  have hc : Lv c = true := G.2.1.2.2.1 c rfl
  have RK := ss_rank G h240
  have YL := ss_links G.2.1 hY
  have xr := ss_getXR G h240
  have na := ss_getNA G.2.1 RK
  have nc := ss_getNC G.2.1 RK
  have bh : ∀ h j, h < 8 → hd h = some j → E j < 240 := fun h j h8 hj => by have := (xr j (G.2.1.2.2.2 h j h8 hj)).1; omega
  have li := ss_ev_live G.2.1 e1
  have i32 := (G.2.1.1 i li).1
  have lim := ss_RS_in G.1 li
  obtain ⟨i1, i2, i3, i4⟩ := G.1.2.2.1 i li
  obtain ⟨x0, x1, x2, x3, x4, x5, x6, x7, x8⟩ := i4
  obtain ⟨y0, y1, y2, y3, y4, y5⟩ := hY.1 i li
  have hf := (G.2.1.1 i li).2.1
  have f32 := (G.2.1.2.1 _ hf).1
  have limF := ss_RS_inF G.1 hf
  obtain ⟨f1, f2, f3, f4⟩ := G.1.2.2.2.1 _ hf
  obtain ⟨g1, g2, g3⟩ := hY.2.1 _ hf
  unfold wpX_look
  refine ss_x_envOf rfl hX.2.1 bh ?_
  rw [e1, show ss_oE E (some i) = nI (E i) from rfl]
  refine br_f (nI_pos (n := E i) (by omega)) (br_f (by decide) (br_t (by decide) (br_t (by decide) (br_t (by decide) (br_f (by decide) (br_f (by decide) (br_f (by decide) (br_f (by decide) (br_t rfl (And.intro (ss_ix (k := 7) (by omega) (by decide)) ?_))))))))))
  rw [ss_rd (k := 7) x7 (by omega)]
  unfold wpY_look
  refine ss_y_resolve rfl hY.2.2.2 ?_
  rw [e1, show ss_oE id (some i) = nI i from rfl]
  refine br_f (nI_pos (n := i) (by omega)) (br_f (by decide) (br_t (by decide) (ss_y_findLive rfl hc YL RK G.2.2 ?_)))
  intro lv V
  refine br_f (by decide) (br_f (by decide) (br_t rfl (And.intro (vp_in_nI i32 (by decide)) ⟨?_, I' lv⟩)))
  exact ss_rd0 y4 (by omega)
theorem ss_look3 {k i : Nat} {v1 : Int32} (hX : ss_GX L z E F Lv Fv Xd Fd hd c t cap st ah) (hY : ss_GY Lv Fv Xd Fd hd yf ya yo yl yi yr yn yt yb yd yw yh) (e1 : ss_ev hd c v1 = some i) :
    wpX_look (fun r => wpY_look (fun r' v' => r' = r ∧ i_Rel (k + 5) (k1, k2, k3, k4, k5, k6, k7, k8, k9, k10, k11, k12, k13, nI cap, kp, nI t, nI (ss_us Lv Fv Xd Fd), nI (E c), st, fw, pn, ah) v') (nI c, nI cap, yf, ya, yo, yl, yi, yr, yn, yt, yv, yb, yd, yw, yh) v1 (nI 3)) (k1, k2, k3, k4, k5, k6, k7, k8, k9, k10, k11, k12, k13, nI cap, kp, nI t, nI (ss_us Lv Fv Xd Fd), nI (E c), st, fw, pn, ah) v1 (nI 3) := by
  have I' : ∀ yv, i_Rel (k + 5) (k1, k2, k3, k4, k5, k6, k7, k8, k9, k10, k11, k12, k13, nI cap, kp, nI t, nI (ss_us Lv Fv Xd Fd), nI (E c), st, fw, pn, ah) (nI c, nI cap, yf, ya, yo, yl, yi, yr, yn, yt, yv, yb, yd, yw, yh) := fun yv => ss_intro hX hY
  have G := hX.1
  have h240 : t ≤ 240 := Nat.le_trans hX.2.2.2.1 hX.2.2.2.2
  have hc : Lv c = true := G.2.1.2.2.1 c rfl
  have RK := ss_rank G h240
  have YL := ss_links G.2.1 hY
  have xr := ss_getXR G h240
  have na := ss_getNA G.2.1 RK
  have nc := ss_getNC G.2.1 RK
  have bh : ∀ h j, h < 8 → hd h = some j → E j < 240 := fun h j h8 hj => by have := (xr j (G.2.1.2.2.2 h j h8 hj)).1; omega
  have li := ss_ev_live G.2.1 e1
  have i32 := (G.2.1.1 i li).1
  have lim := ss_RS_in G.1 li
  obtain ⟨i1, i2, i3, i4⟩ := G.1.2.2.1 i li
  obtain ⟨x0, x1, x2, x3, x4, x5, x6, x7, x8⟩ := i4
  obtain ⟨y0, y1, y2, y3, y4, y5⟩ := hY.1 i li
  have hf := (G.2.1.1 i li).2.1
  have f32 := (G.2.1.2.1 _ hf).1
  have limF := ss_RS_inF G.1 hf
  obtain ⟨f1, f2, f3, f4⟩ := G.1.2.2.2.1 _ hf
  obtain ⟨g1, g2, g3⟩ := hY.2.1 _ hf
  unfold wpX_look
  refine ss_x_envOf rfl hX.2.1 bh ?_
  rw [e1, show ss_oE E (some i) = nI (E i) from rfl]
  refine br_f (nI_pos (n := E i) (by omega)) (br_f (by decide) (br_t (by decide) (br_t (by decide) (br_t (by decide) (br_f (by decide) (br_f (by decide) (br_f (by decide) (br_f (by decide) (br_f (by decide) (br_t rfl (And.intro (vp_in_nI (by omega) (by decide)) ?_)))))))))))
  rw [ss_rd0 x0 (by omega), show nI (8 + ss_rm (Xd i)) - 8 = nI (8 + ss_rm (Xd i) - 8) from pk_sub (b := 8) (by omega), Nat.add_sub_cancel_left]
  unfold wpY_look
  refine ss_y_resolve rfl hY.2.2.2 ?_
  rw [e1, show ss_oE id (some i) = nI i from rfl]
  refine br_f (nI_pos (n := i) (by omega)) (br_f (by decide) (br_t (by decide) (ss_y_findLive rfl hc YL RK G.2.2 ?_)))
  intro lv V
  refine br_f (by decide) (br_f (by decide) (br_f (by decide) (br_t rfl (And.intro (vp_in_nI i32 (by decide)) ⟨?_, I' lv⟩))))
  exact ss_rd0 y3 (by omega)
theorem ss_look4 {k i : Nat} {v1 : Int32} (hX : ss_GX L z E F Lv Fv Xd Fd hd c t cap st ah) (hY : ss_GY Lv Fv Xd Fd hd yf ya yo yl yi yr yn yt yb yd yw yh) (e1 : ss_ev hd c v1 = some i) :
    wpX_look (fun r => wpY_look (fun r' v' => r' = r ∧ i_Rel (k + 5) (k1, k2, k3, k4, k5, k6, k7, k8, k9, k10, k11, k12, k13, nI cap, kp, nI t, nI (ss_us Lv Fv Xd Fd), nI (E c), st, fw, pn, ah) v') (nI c, nI cap, yf, ya, yo, yl, yi, yr, yn, yt, yv, yb, yd, yw, yh) v1 (nI 4)) (k1, k2, k3, k4, k5, k6, k7, k8, k9, k10, k11, k12, k13, nI cap, kp, nI t, nI (ss_us Lv Fv Xd Fd), nI (E c), st, fw, pn, ah) v1 (nI 4) := by
  have I' : ∀ yv, i_Rel (k + 5) (k1, k2, k3, k4, k5, k6, k7, k8, k9, k10, k11, k12, k13, nI cap, kp, nI t, nI (ss_us Lv Fv Xd Fd), nI (E c), st, fw, pn, ah) (nI c, nI cap, yf, ya, yo, yl, yi, yr, yn, yt, yv, yb, yd, yw, yh) := fun yv => ss_intro hX hY
  have G := hX.1
  have h240 : t ≤ 240 := Nat.le_trans hX.2.2.2.1 hX.2.2.2.2
  have hc : Lv c = true := G.2.1.2.2.1 c rfl
  have RK := ss_rank G h240
  have YL := ss_links G.2.1 hY
  have xr := ss_getXR G h240
  have na := ss_getNA G.2.1 RK
  have nc := ss_getNC G.2.1 RK
  have bh : ∀ h j, h < 8 → hd h = some j → E j < 240 := fun h j h8 hj => by have := (xr j (G.2.1.2.2.2 h j h8 hj)).1; omega
  have li := ss_ev_live G.2.1 e1
  have i32 := (G.2.1.1 i li).1
  have lim := ss_RS_in G.1 li
  obtain ⟨i1, i2, i3, i4⟩ := G.1.2.2.1 i li
  obtain ⟨x0, x1, x2, x3, x4, x5, x6, x7, x8⟩ := i4
  obtain ⟨y0, y1, y2, y3, y4, y5⟩ := hY.1 i li
  have hf := (G.2.1.1 i li).2.1
  have f32 := (G.2.1.2.1 _ hf).1
  have limF := ss_RS_inF G.1 hf
  obtain ⟨f1, f2, f3, f4⟩ := G.1.2.2.2.1 _ hf
  obtain ⟨g1, g2, g3⟩ := hY.2.1 _ hf
  unfold wpX_look
  refine ss_x_envOf rfl hX.2.1 bh ?_
  rw [e1, show ss_oE E (some i) = nI (E i) from rfl]
  refine br_f (nI_pos (n := E i) (by omega)) (br_f (by decide) (br_t (by decide) (br_t (by decide) (br_t (by decide) (br_f (by decide) (br_t (by decide) (And.intro (ss_ix (k := 1) (by omega) (by decide)) ?_)))))))
  rw [ss_rd (k := 1) x1 (by omega)]
  unfold wpY_look
  refine ss_y_resolve rfl hY.2.2.2 ?_
  rw [e1, show ss_oE id (some i) = nI i from rfl]
  refine br_f (nI_pos (n := i) (by omega)) (br_f (by decide) (br_t (by decide) (ss_y_findLive rfl hc YL RK G.2.2 ?_)))
  intro lv V
  refine br_f (by decide) (br_f (by decide) (br_f (by decide) (br_f (by decide) (br_t rfl (ss_y_users rfl rfl hc YL RK G.2.2 i32 ?_)))))
  intro lv2 V2
  exact ⟨rfl, I' lv2⟩
theorem ss_look5 {k i : Nat} {v1 : Int32} (hX : ss_GX L z E F Lv Fv Xd Fd hd c t cap st ah) (hY : ss_GY Lv Fv Xd Fd hd yf ya yo yl yi yr yn yt yb yd yw yh) (e1 : ss_ev hd c v1 = some i) :
    wpX_look (fun r => wpY_look (fun r' v' => r' = r ∧ i_Rel (k + 5) (k1, k2, k3, k4, k5, k6, k7, k8, k9, k10, k11, k12, k13, nI cap, kp, nI t, nI (ss_us Lv Fv Xd Fd), nI (E c), st, fw, pn, ah) v') (nI c, nI cap, yf, ya, yo, yl, yi, yr, yn, yt, yv, yb, yd, yw, yh) v1 (nI 5)) (k1, k2, k3, k4, k5, k6, k7, k8, k9, k10, k11, k12, k13, nI cap, kp, nI t, nI (ss_us Lv Fv Xd Fd), nI (E c), st, fw, pn, ah) v1 (nI 5) := by
  have I' : ∀ yv, i_Rel (k + 5) (k1, k2, k3, k4, k5, k6, k7, k8, k9, k10, k11, k12, k13, nI cap, kp, nI t, nI (ss_us Lv Fv Xd Fd), nI (E c), st, fw, pn, ah) (nI c, nI cap, yf, ya, yo, yl, yi, yr, yn, yt, yv, yb, yd, yw, yh) := fun yv => ss_intro hX hY
  have G := hX.1
  have h240 : t ≤ 240 := Nat.le_trans hX.2.2.2.1 hX.2.2.2.2
  have hc : Lv c = true := G.2.1.2.2.1 c rfl
  have RK := ss_rank G h240
  have YL := ss_links G.2.1 hY
  have xr := ss_getXR G h240
  have na := ss_getNA G.2.1 RK
  have nc := ss_getNC G.2.1 RK
  have bh : ∀ h j, h < 8 → hd h = some j → E j < 240 := fun h j h8 hj => by have := (xr j (G.2.1.2.2.2 h j h8 hj)).1; omega
  have li := ss_ev_live G.2.1 e1
  have i32 := (G.2.1.1 i li).1
  have lim := ss_RS_in G.1 li
  obtain ⟨i1, i2, i3, i4⟩ := G.1.2.2.1 i li
  obtain ⟨x0, x1, x2, x3, x4, x5, x6, x7, x8⟩ := i4
  obtain ⟨y0, y1, y2, y3, y4, y5⟩ := hY.1 i li
  have hf := (G.2.1.1 i li).2.1
  have f32 := (G.2.1.2.1 _ hf).1
  have limF := ss_RS_inF G.1 hf
  obtain ⟨f1, f2, f3, f4⟩ := G.1.2.2.2.1 _ hf
  obtain ⟨g1, g2, g3⟩ := hY.2.1 _ hf
  unfold wpX_look
  refine ss_x_envOf rfl hX.2.1 bh ?_
  rw [e1, show ss_oE E (some i) = nI (E i) from rfl]
  refine br_f (nI_pos (n := E i) (by omega)) (br_f (by decide) (br_t (by decide) (br_t (by decide) (br_f (by decide) (And.intro (ss_ix (k := 2) (by omega) (by decide)) (nm_r (ss_rd (k := 2) x2 (by omega)) (br_f (by decide) (br_f (by decide) (br_t rfl (And.intro (ss_ix (k := 1) (by omega) (by decide)) ?_))))))))))
  rw [ss_rd (k := 1) f4.2.1 (by omega)]
  unfold wpY_look
  refine ss_y_resolve rfl hY.2.2.2 ?_
  rw [e1, show ss_oE id (some i) = nI i from rfl]
  refine br_f (nI_pos (n := i) (by omega)) (br_f (by decide) (br_t (by decide) (ss_y_findLive rfl hc YL RK G.2.2 ?_)))
  intro lv V
  refine br_f (by decide) (br_f (by decide) (br_f (by decide) (br_f (by decide) (br_f (by decide) (br_t rfl (And.intro (vp_in_nI i32 (by decide)) (ss_y_sharers (f := ss_fr (Xd i)) (ss_rd0 y0 (by omega)) f32 V (ss_yfs G.2.1 hY.1) ⟨rfl, I' lv⟩)))))))
theorem ss_look6 {k i : Nat} {v1 : Int32} (hX : ss_GX L z E F Lv Fv Xd Fd hd c t cap st ah) (hY : ss_GY Lv Fv Xd Fd hd yf ya yo yl yi yr yn yt yb yd yw yh) (e1 : ss_ev hd c v1 = some i) :
    wpX_look (fun r => wpY_look (fun r' v' => r' = r ∧ i_Rel (k + 5) (k1, k2, k3, k4, k5, k6, k7, k8, k9, k10, k11, k12, k13, nI cap, kp, nI t, nI (ss_us Lv Fv Xd Fd), nI (E c), st, fw, pn, ah) v') (nI c, nI cap, yf, ya, yo, yl, yi, yr, yn, yt, yv, yb, yd, yw, yh) v1 (nI 6)) (k1, k2, k3, k4, k5, k6, k7, k8, k9, k10, k11, k12, k13, nI cap, kp, nI t, nI (ss_us Lv Fv Xd Fd), nI (E c), st, fw, pn, ah) v1 (nI 6) := by
  have I' : ∀ yv, i_Rel (k + 5) (k1, k2, k3, k4, k5, k6, k7, k8, k9, k10, k11, k12, k13, nI cap, kp, nI t, nI (ss_us Lv Fv Xd Fd), nI (E c), st, fw, pn, ah) (nI c, nI cap, yf, ya, yo, yl, yi, yr, yn, yt, yv, yb, yd, yw, yh) := fun yv => ss_intro hX hY
  have G := hX.1
  have h240 : t ≤ 240 := Nat.le_trans hX.2.2.2.1 hX.2.2.2.2
  have hc : Lv c = true := G.2.1.2.2.1 c rfl
  have RK := ss_rank G h240
  have YL := ss_links G.2.1 hY
  have xr := ss_getXR G h240
  have na := ss_getNA G.2.1 RK
  have nc := ss_getNC G.2.1 RK
  have bh : ∀ h j, h < 8 → hd h = some j → E j < 240 := fun h j h8 hj => by have := (xr j (G.2.1.2.2.2 h j h8 hj)).1; omega
  have li := ss_ev_live G.2.1 e1
  have i32 := (G.2.1.1 i li).1
  have lim := ss_RS_in G.1 li
  obtain ⟨i1, i2, i3, i4⟩ := G.1.2.2.1 i li
  obtain ⟨x0, x1, x2, x3, x4, x5, x6, x7, x8⟩ := i4
  obtain ⟨y0, y1, y2, y3, y4, y5⟩ := hY.1 i li
  have hf := (G.2.1.1 i li).2.1
  have f32 := (G.2.1.2.1 _ hf).1
  have limF := ss_RS_inF G.1 hf
  obtain ⟨f1, f2, f3, f4⟩ := G.1.2.2.2.1 _ hf
  obtain ⟨g1, g2, g3⟩ := hY.2.1 _ hf
  unfold wpX_look
  refine ss_x_envOf rfl hX.2.1 bh ?_
  rw [e1, show ss_oE E (some i) = nI (E i) from rfl]
  refine br_f (nI_pos (n := E i) (by omega)) (br_f (by decide) (br_t (by decide) (br_t (by decide) (br_f (by decide) (And.intro (ss_ix (k := 2) (by omega) (by decide)) (nm_r (ss_rd (k := 2) x2 (by omega)) (br_f (by decide) (br_f (by decide) (br_f (by decide) (br_t rfl (ss_x_chainLinks (qn := 4) (nx := fun i => ss_co (Xd i)) rfl rfl (by decide) (fun j hj => ⟨(xr j hj).1, (xr j hj).2.2.2.1⟩) nc li ?_)))))))))))
  unfold wpY_look
  refine ss_y_resolve rfl hY.2.2.2 ?_
  rw [e1, show ss_oE id (some i) = nI i from rfl]
  refine br_f (nI_pos (n := i) (by omega)) (br_f (by decide) (br_t (by decide) (ss_y_findLive rfl hc YL RK G.2.2 ?_)))
  intro lv V
  refine br_f (by decide) (br_f (by decide) (br_f (by decide) (br_f (by decide) (br_f (by decide) (br_f (by decide) (br_t rfl (ss_y_links (nx := fun i => ss_co (Xd i)) rfl (fun j hj => ⟨(G.2.1.1 j hj).1, fun h => absurd h (by decide), fun _ => (hY.2.2.1 j hj).2⟩) nc li ⟨rfl, I' lv⟩)))))))
theorem ss_look7 {k i : Nat} {v1 : Int32} (hX : ss_GX L z E F Lv Fv Xd Fd hd c t cap st ah) (hY : ss_GY Lv Fv Xd Fd hd yf ya yo yl yi yr yn yt yb yd yw yh) (e1 : ss_ev hd c v1 = some i) :
    wpX_look (fun r => wpY_look (fun r' v' => r' = r ∧ i_Rel (k + 5) (k1, k2, k3, k4, k5, k6, k7, k8, k9, k10, k11, k12, k13, nI cap, kp, nI t, nI (ss_us Lv Fv Xd Fd), nI (E c), st, fw, pn, ah) v') (nI c, nI cap, yf, ya, yo, yl, yi, yr, yn, yt, yv, yb, yd, yw, yh) v1 (nI 7)) (k1, k2, k3, k4, k5, k6, k7, k8, k9, k10, k11, k12, k13, nI cap, kp, nI t, nI (ss_us Lv Fv Xd Fd), nI (E c), st, fw, pn, ah) v1 (nI 7) := by
  have I' : ∀ yv, i_Rel (k + 5) (k1, k2, k3, k4, k5, k6, k7, k8, k9, k10, k11, k12, k13, nI cap, kp, nI t, nI (ss_us Lv Fv Xd Fd), nI (E c), st, fw, pn, ah) (nI c, nI cap, yf, ya, yo, yl, yi, yr, yn, yt, yv, yb, yd, yw, yh) := fun yv => ss_intro hX hY
  have G := hX.1
  have h240 : t ≤ 240 := Nat.le_trans hX.2.2.2.1 hX.2.2.2.2
  have hc : Lv c = true := G.2.1.2.2.1 c rfl
  have RK := ss_rank G h240
  have YL := ss_links G.2.1 hY
  have xr := ss_getXR G h240
  have na := ss_getNA G.2.1 RK
  have nc := ss_getNC G.2.1 RK
  have bh : ∀ h j, h < 8 → hd h = some j → E j < 240 := fun h j h8 hj => by have := (xr j (G.2.1.2.2.2 h j h8 hj)).1; omega
  have li := ss_ev_live G.2.1 e1
  have i32 := (G.2.1.1 i li).1
  have lim := ss_RS_in G.1 li
  obtain ⟨i1, i2, i3, i4⟩ := G.1.2.2.1 i li
  obtain ⟨x0, x1, x2, x3, x4, x5, x6, x7, x8⟩ := i4
  obtain ⟨y0, y1, y2, y3, y4, y5⟩ := hY.1 i li
  have hf := (G.2.1.1 i li).2.1
  have f32 := (G.2.1.2.1 _ hf).1
  have limF := ss_RS_inF G.1 hf
  obtain ⟨f1, f2, f3, f4⟩ := G.1.2.2.2.1 _ hf
  obtain ⟨g1, g2, g3⟩ := hY.2.1 _ hf
  unfold wpX_look
  refine ss_x_envOf rfl hX.2.1 bh ?_
  rw [e1, show ss_oE E (some i) = nI (E i) from rfl]
  refine br_f (nI_pos (n := E i) (by omega)) (br_f (by decide) (br_t (by decide) (br_t (by decide) (br_f (by decide) (And.intro (ss_ix (k := 2) (by omega) (by decide)) (nm_r (ss_rd (k := 2) x2 (by omega)) (br_f (by decide) (br_f (by decide) (br_f (by decide) (br_f (by decide) (br_t rfl (ss_x_chainLinks (qn := 3) (nx := fun i => ss_ac (Xd i)) rfl rfl (by decide) (fun j hj => ⟨(xr j hj).1, (xr j hj).2.2.1⟩) na li ?_))))))))))))
  unfold wpY_look
  refine ss_y_resolve rfl hY.2.2.2 ?_
  rw [e1, show ss_oE id (some i) = nI i from rfl]
  refine br_f (nI_pos (n := i) (by omega)) (br_f (by decide) (br_t (by decide) (ss_y_findLive rfl hc YL RK G.2.2 ?_)))
  intro lv V
  refine br_f (by decide) (br_f (by decide) (br_f (by decide) (br_f (by decide) (br_f (by decide) (br_f (by decide) (br_f (by decide) (br_t rfl (ss_y_links (nx := fun i => ss_ac (Xd i)) rfl (fun j hj => ⟨(G.2.1.1 j hj).1, fun _ => (hY.2.2.1 j hj).1, fun h => absurd rfl h⟩) na li ⟨rfl, I' lv⟩))))))))
theorem ss_look8 {k i : Nat} {v1 : Int32} (hX : ss_GX L z E F Lv Fv Xd Fd hd c t cap st ah) (hY : ss_GY Lv Fv Xd Fd hd yf ya yo yl yi yr yn yt yb yd yw yh) (e1 : ss_ev hd c v1 = some i) :
    wpX_look (fun r => wpY_look (fun r' v' => r' = r ∧ i_Rel (k + 5) (k1, k2, k3, k4, k5, k6, k7, k8, k9, k10, k11, k12, k13, nI cap, kp, nI t, nI (ss_us Lv Fv Xd Fd), nI (E c), st, fw, pn, ah) v') (nI c, nI cap, yf, ya, yo, yl, yi, yr, yn, yt, yv, yb, yd, yw, yh) v1 (nI 8)) (k1, k2, k3, k4, k5, k6, k7, k8, k9, k10, k11, k12, k13, nI cap, kp, nI t, nI (ss_us Lv Fv Xd Fd), nI (E c), st, fw, pn, ah) v1 (nI 8) := by
  have I' : ∀ yv, i_Rel (k + 5) (k1, k2, k3, k4, k5, k6, k7, k8, k9, k10, k11, k12, k13, nI cap, kp, nI t, nI (ss_us Lv Fv Xd Fd), nI (E c), st, fw, pn, ah) (nI c, nI cap, yf, ya, yo, yl, yi, yr, yn, yt, yv, yb, yd, yw, yh) := fun yv => ss_intro hX hY
  have G := hX.1
  have h240 : t ≤ 240 := Nat.le_trans hX.2.2.2.1 hX.2.2.2.2
  have hc : Lv c = true := G.2.1.2.2.1 c rfl
  have RK := ss_rank G h240
  have YL := ss_links G.2.1 hY
  have xr := ss_getXR G h240
  have na := ss_getNA G.2.1 RK
  have nc := ss_getNC G.2.1 RK
  have bh : ∀ h j, h < 8 → hd h = some j → E j < 240 := fun h j h8 hj => by have := (xr j (G.2.1.2.2.2 h j h8 hj)).1; omega
  have li := ss_ev_live G.2.1 e1
  have i32 := (G.2.1.1 i li).1
  have lim := ss_RS_in G.1 li
  obtain ⟨i1, i2, i3, i4⟩ := G.1.2.2.1 i li
  obtain ⟨x0, x1, x2, x3, x4, x5, x6, x7, x8⟩ := i4
  obtain ⟨y0, y1, y2, y3, y4, y5⟩ := hY.1 i li
  have hf := (G.2.1.1 i li).2.1
  have f32 := (G.2.1.2.1 _ hf).1
  have limF := ss_RS_inF G.1 hf
  obtain ⟨f1, f2, f3, f4⟩ := G.1.2.2.2.1 _ hf
  obtain ⟨g1, g2, g3⟩ := hY.2.1 _ hf
  unfold wpX_look
  refine ss_x_envOf rfl hX.2.1 bh ?_
  rw [e1, show ss_oE E (some i) = nI (E i) from rfl]
  refine br_f (nI_pos (n := E i) (by omega)) (br_f (by decide) (br_t (by decide) (br_t (by decide) (br_f (by decide) (And.intro (ss_ix (k := 2) (by omega) (by decide)) (nm_r (ss_rd (k := 2) x2 (by omega)) (br_f (by decide) (br_f (by decide) (br_f (by decide) (br_f (by decide) (br_f (by decide) (br_t rfl (And.intro (ss_ix (k := 2) (by omega) (by decide)) ?_)))))))))))))
  rw [ss_rd (k := 2) f4.2.2.1 (by omega)]
  unfold wpY_look
  refine ss_y_resolve rfl hY.2.2.2 ?_
  rw [e1, show ss_oE id (some i) = nI i from rfl]
  refine br_f (nI_pos (n := i) (by omega)) (br_f (by decide) (br_t (by decide) (ss_y_findLive rfl hc YL RK G.2.2 ?_)))
  intro lv V
  refine br_f (by decide) (br_f (by decide) (br_f (by decide) (br_f (by decide) (br_f (by decide) (br_f (by decide) (br_f (by decide) (br_f (by decide) (br_t rfl (And.intro (vp_in_nI i32 (by decide)) (ss_y_bindings (f := ss_fr (Xd i)) (ss_rd0 y0 (by omega)) f32 f3 g2 ⟨rfl, I' lv⟩))))))))))
theorem ss_look9 {k i : Nat} {v1 : Int32} (hX : ss_GX L z E F Lv Fv Xd Fd hd c t cap st ah) (hY : ss_GY Lv Fv Xd Fd hd yf ya yo yl yi yr yn yt yb yd yw yh) (e1 : ss_ev hd c v1 = some i) :
    wpX_look (fun r => wpY_look (fun r' v' => r' = r ∧ i_Rel (k + 5) (k1, k2, k3, k4, k5, k6, k7, k8, k9, k10, k11, k12, k13, nI cap, kp, nI t, nI (ss_us Lv Fv Xd Fd), nI (E c), st, fw, pn, ah) v') (nI c, nI cap, yf, ya, yo, yl, yi, yr, yn, yt, yv, yb, yd, yw, yh) v1 (nI 9)) (k1, k2, k3, k4, k5, k6, k7, k8, k9, k10, k11, k12, k13, nI cap, kp, nI t, nI (ss_us Lv Fv Xd Fd), nI (E c), st, fw, pn, ah) v1 (nI 9) := by
  have I' : ∀ yv, i_Rel (k + 5) (k1, k2, k3, k4, k5, k6, k7, k8, k9, k10, k11, k12, k13, nI cap, kp, nI t, nI (ss_us Lv Fv Xd Fd), nI (E c), st, fw, pn, ah) (nI c, nI cap, yf, ya, yo, yl, yi, yr, yn, yt, yv, yb, yd, yw, yh) := fun yv => ss_intro hX hY
  have G := hX.1
  have h240 : t ≤ 240 := Nat.le_trans hX.2.2.2.1 hX.2.2.2.2
  have hc : Lv c = true := G.2.1.2.2.1 c rfl
  have RK := ss_rank G h240
  have YL := ss_links G.2.1 hY
  have xr := ss_getXR G h240
  have na := ss_getNA G.2.1 RK
  have nc := ss_getNC G.2.1 RK
  have bh : ∀ h j, h < 8 → hd h = some j → E j < 240 := fun h j h8 hj => by have := (xr j (G.2.1.2.2.2 h j h8 hj)).1; omega
  have li := ss_ev_live G.2.1 e1
  have i32 := (G.2.1.1 i li).1
  have lim := ss_RS_in G.1 li
  obtain ⟨i1, i2, i3, i4⟩ := G.1.2.2.1 i li
  obtain ⟨x0, x1, x2, x3, x4, x5, x6, x7, x8⟩ := i4
  obtain ⟨y0, y1, y2, y3, y4, y5⟩ := hY.1 i li
  have hf := (G.2.1.1 i li).2.1
  have f32 := (G.2.1.2.1 _ hf).1
  have limF := ss_RS_inF G.1 hf
  obtain ⟨f1, f2, f3, f4⟩ := G.1.2.2.2.1 _ hf
  obtain ⟨g1, g2, g3⟩ := hY.2.1 _ hf
  unfold wpX_look
  refine ss_x_envOf rfl hX.2.1 bh ?_
  rw [e1, show ss_oE E (some i) = nI (E i) from rfl]
  refine br_f (nI_pos (n := E i) (by omega)) (br_f (by decide) (br_t (by decide) (br_t (by decide) (br_f (by decide) (And.intro (ss_ix (k := 2) (by omega) (by decide)) (nm_r (ss_rd (k := 2) x2 (by omega)) (br_f (by decide) (br_t (by decide) (And.intro (vp_in_nI (by omega) (by decide)) ?_)))))))))
  rw [ss_rd0 f4.1 (by omega)]
  unfold wpY_look
  refine ss_y_resolve rfl hY.2.2.2 ?_
  rw [e1, show ss_oE id (some i) = nI i from rfl]
  refine br_f (nI_pos (n := i) (by omega)) (br_f (by decide) (br_t (by decide) (ss_y_findLive rfl hc YL RK G.2.2 ?_)))
  intro lv V
  refine br_f (by decide) (br_f (by decide) (br_f (by decide) (br_f (by decide) (br_f (by decide) (br_f (by decide) (br_f (by decide) (br_f (by decide) (br_f (by decide) (br_t rfl (And.intro (vp_in_nI i32 (by decide)) ?_))))))))))
  rw [ss_rd0 y0 (by omega), ss_rd0 g1 (by omega)]
  exact And.intro (vp_in_nI f32 (by decide)) ⟨rfl, I' lv⟩
theorem ss_look10 {k i : Nat} {v1 : Int32} (hX : ss_GX L z E F Lv Fv Xd Fd hd c t cap st ah) (hY : ss_GY Lv Fv Xd Fd hd yf ya yo yl yi yr yn yt yb yd yw yh) (e1 : ss_ev hd c v1 = some i) :
    wpX_look (fun r => wpY_look (fun r' v' => r' = r ∧ i_Rel (k + 5) (k1, k2, k3, k4, k5, k6, k7, k8, k9, k10, k11, k12, k13, nI cap, kp, nI t, nI (ss_us Lv Fv Xd Fd), nI (E c), st, fw, pn, ah) v') (nI c, nI cap, yf, ya, yo, yl, yi, yr, yn, yt, yv, yb, yd, yw, yh) v1 (nI 10)) (k1, k2, k3, k4, k5, k6, k7, k8, k9, k10, k11, k12, k13, nI cap, kp, nI t, nI (ss_us Lv Fv Xd Fd), nI (E c), st, fw, pn, ah) v1 (nI 10) := by
  have I' : ∀ yv, i_Rel (k + 5) (k1, k2, k3, k4, k5, k6, k7, k8, k9, k10, k11, k12, k13, nI cap, kp, nI t, nI (ss_us Lv Fv Xd Fd), nI (E c), st, fw, pn, ah) (nI c, nI cap, yf, ya, yo, yl, yi, yr, yn, yt, yv, yb, yd, yw, yh) := fun yv => ss_intro hX hY
  have G := hX.1
  have h240 : t ≤ 240 := Nat.le_trans hX.2.2.2.1 hX.2.2.2.2
  have hc : Lv c = true := G.2.1.2.2.1 c rfl
  have RK := ss_rank G h240
  have YL := ss_links G.2.1 hY
  have xr := ss_getXR G h240
  have na := ss_getNA G.2.1 RK
  have nc := ss_getNC G.2.1 RK
  have bh : ∀ h j, h < 8 → hd h = some j → E j < 240 := fun h j h8 hj => by have := (xr j (G.2.1.2.2.2 h j h8 hj)).1; omega
  have li := ss_ev_live G.2.1 e1
  have i32 := (G.2.1.1 i li).1
  have lim := ss_RS_in G.1 li
  obtain ⟨i1, i2, i3, i4⟩ := G.1.2.2.1 i li
  obtain ⟨x0, x1, x2, x3, x4, x5, x6, x7, x8⟩ := i4
  obtain ⟨y0, y1, y2, y3, y4, y5⟩ := hY.1 i li
  have hf := (G.2.1.1 i li).2.1
  have f32 := (G.2.1.2.1 _ hf).1
  have limF := ss_RS_inF G.1 hf
  obtain ⟨f1, f2, f3, f4⟩ := G.1.2.2.2.1 _ hf
  obtain ⟨g1, g2, g3⟩ := hY.2.1 _ hf
  unfold wpX_look
  refine ss_x_envOf rfl hX.2.1 bh ?_
  rw [e1, show ss_oE E (some i) = nI (E i) from rfl]
  refine br_f (nI_pos (n := E i) (by omega)) (br_f (by decide) (br_t (by decide) (br_f (by decide) (And.intro (ss_ix (k := 7) (by omega) (by decide)) (?_)))))
  have e10 : nI 10 - 10 = nI 0 := by decide
  have e8 : (nI (E i) + 8) + nI 0 = nI (E i + 8 + 0) := by rw [ss_p8, nI_add]
  have e4 : (nI i * 4 + nI 10) - 10 = nI (i * 4 + 0) := by
    rw [show nI i * 4 = nI (i * 4) from pk_mul i 4, nI_add, show nI (i * 4 + 10) - 10 = nI (i * 4 + 10 - 10) from pk_sub (b := 10) (by omega)]
    rw [Nat.add_sub_cancel]; rfl
  rw [ss_rd (k := 7) x7 (by omega), e10]
  refine pk_le (ss_tn (Xd i)) 0 (fun g => ?_) (fun g => ?_)
  · unfold wpY_look
    refine ss_y_resolve rfl hY.2.2.2 ?_
    rw [e1, show ss_oE id (some i) = nI i from rfl]
    refine br_f (nI_pos (n := i) (by omega)) (br_f (by decide) (br_t (by decide) (ss_y_findLive rfl hc YL RK G.2.2 ?_)))
    intro lv V
    refine br_f (by decide) (br_f (by decide) (br_f (by decide) (br_f (by decide) (br_f (by decide) (br_f (by decide) (br_f (by decide) (br_f (by decide) (br_f (by decide) (br_f (by decide) (And.intro (vp_in_nI i32 (by decide)) ?_))))))))))
    rw [ss_rd0 y4 (by omega), e10]
    exact br_t (nI_le g (by decide)) ⟨rfl, I' lv⟩
  · rw [e8, nI_clamp (by omega), x8 0 g]
    refine And.intro (vp_in_nI (by omega) (by decide)) ?_
    unfold wpY_look
    refine ss_y_resolve rfl hY.2.2.2 ?_
    rw [e1, show ss_oE id (some i) = nI i from rfl]
    refine br_f (nI_pos (n := i) (by omega)) (br_f (by decide) (br_t (by decide) (ss_y_findLive rfl hc YL RK G.2.2 ?_)))
    intro lv V
    refine br_f (by decide) (br_f (by decide) (br_f (by decide) (br_f (by decide) (br_f (by decide) (br_f (by decide) (br_f (by decide) (br_f (by decide) (br_f (by decide) (br_f (by decide) (And.intro (vp_in_nI i32 (by decide)) ?_))))))))))
    rw [ss_rd0 y4 (by omega), e10, e4, nI_clamp (by omega), y5 0 g]
    exact br_f (nI_ge g (by omega)) (And.intro (vp_in_nI (by omega) (by decide)) ⟨rfl, I' lv⟩)
theorem ss_look11 {k i : Nat} {v1 : Int32} (hX : ss_GX L z E F Lv Fv Xd Fd hd c t cap st ah) (hY : ss_GY Lv Fv Xd Fd hd yf ya yo yl yi yr yn yt yb yd yw yh) (e1 : ss_ev hd c v1 = some i) :
    wpX_look (fun r => wpY_look (fun r' v' => r' = r ∧ i_Rel (k + 5) (k1, k2, k3, k4, k5, k6, k7, k8, k9, k10, k11, k12, k13, nI cap, kp, nI t, nI (ss_us Lv Fv Xd Fd), nI (E c), st, fw, pn, ah) v') (nI c, nI cap, yf, ya, yo, yl, yi, yr, yn, yt, yv, yb, yd, yw, yh) v1 (nI 11)) (k1, k2, k3, k4, k5, k6, k7, k8, k9, k10, k11, k12, k13, nI cap, kp, nI t, nI (ss_us Lv Fv Xd Fd), nI (E c), st, fw, pn, ah) v1 (nI 11) := by
  have I' : ∀ yv, i_Rel (k + 5) (k1, k2, k3, k4, k5, k6, k7, k8, k9, k10, k11, k12, k13, nI cap, kp, nI t, nI (ss_us Lv Fv Xd Fd), nI (E c), st, fw, pn, ah) (nI c, nI cap, yf, ya, yo, yl, yi, yr, yn, yt, yv, yb, yd, yw, yh) := fun yv => ss_intro hX hY
  have G := hX.1
  have h240 : t ≤ 240 := Nat.le_trans hX.2.2.2.1 hX.2.2.2.2
  have hc : Lv c = true := G.2.1.2.2.1 c rfl
  have RK := ss_rank G h240
  have YL := ss_links G.2.1 hY
  have xr := ss_getXR G h240
  have na := ss_getNA G.2.1 RK
  have nc := ss_getNC G.2.1 RK
  have bh : ∀ h j, h < 8 → hd h = some j → E j < 240 := fun h j h8 hj => by have := (xr j (G.2.1.2.2.2 h j h8 hj)).1; omega
  have li := ss_ev_live G.2.1 e1
  have i32 := (G.2.1.1 i li).1
  have lim := ss_RS_in G.1 li
  obtain ⟨i1, i2, i3, i4⟩ := G.1.2.2.1 i li
  obtain ⟨x0, x1, x2, x3, x4, x5, x6, x7, x8⟩ := i4
  obtain ⟨y0, y1, y2, y3, y4, y5⟩ := hY.1 i li
  have hf := (G.2.1.1 i li).2.1
  have f32 := (G.2.1.2.1 _ hf).1
  have limF := ss_RS_inF G.1 hf
  obtain ⟨f1, f2, f3, f4⟩ := G.1.2.2.2.1 _ hf
  obtain ⟨g1, g2, g3⟩ := hY.2.1 _ hf
  unfold wpX_look
  refine ss_x_envOf rfl hX.2.1 bh ?_
  rw [e1, show ss_oE E (some i) = nI (E i) from rfl]
  refine br_f (nI_pos (n := E i) (by omega)) (br_f (by decide) (br_t (by decide) (br_f (by decide) (And.intro (ss_ix (k := 7) (by omega) (by decide)) (?_)))))
  have e10 : nI 11 - 10 = nI 1 := by decide
  have e8 : (nI (E i) + 8) + nI 1 = nI (E i + 8 + 1) := by rw [ss_p8, nI_add]
  have e4 : (nI i * 4 + nI 11) - 10 = nI (i * 4 + 1) := by
    rw [show nI i * 4 = nI (i * 4) from pk_mul i 4, nI_add, show nI (i * 4 + 11) - 10 = nI (i * 4 + 11 - 10) from pk_sub (b := 10) (by omega)]
    rfl
  rw [ss_rd (k := 7) x7 (by omega), e10]
  refine pk_le (ss_tn (Xd i)) 1 (fun g => ?_) (fun g => ?_)
  · unfold wpY_look
    refine ss_y_resolve rfl hY.2.2.2 ?_
    rw [e1, show ss_oE id (some i) = nI i from rfl]
    refine br_f (nI_pos (n := i) (by omega)) (br_f (by decide) (br_t (by decide) (ss_y_findLive rfl hc YL RK G.2.2 ?_)))
    intro lv V
    refine br_f (by decide) (br_f (by decide) (br_f (by decide) (br_f (by decide) (br_f (by decide) (br_f (by decide) (br_f (by decide) (br_f (by decide) (br_f (by decide) (br_f (by decide) (And.intro (vp_in_nI i32 (by decide)) ?_))))))))))
    rw [ss_rd0 y4 (by omega), e10]
    exact br_t (nI_le g (by decide)) ⟨rfl, I' lv⟩
  · rw [e8, nI_clamp (by omega), x8 1 g]
    refine And.intro (vp_in_nI (by omega) (by decide)) ?_
    unfold wpY_look
    refine ss_y_resolve rfl hY.2.2.2 ?_
    rw [e1, show ss_oE id (some i) = nI i from rfl]
    refine br_f (nI_pos (n := i) (by omega)) (br_f (by decide) (br_t (by decide) (ss_y_findLive rfl hc YL RK G.2.2 ?_)))
    intro lv V
    refine br_f (by decide) (br_f (by decide) (br_f (by decide) (br_f (by decide) (br_f (by decide) (br_f (by decide) (br_f (by decide) (br_f (by decide) (br_f (by decide) (br_f (by decide) (And.intro (vp_in_nI i32 (by decide)) ?_))))))))))
    rw [ss_rd0 y4 (by omega), e10, e4, nI_clamp (by omega), y5 1 g]
    exact br_f (nI_ge g (by omega)) (And.intro (vp_in_nI (by omega) (by decide)) ⟨rfl, I' lv⟩)
theorem ss_look12 {k i : Nat} {v1 : Int32} (hX : ss_GX L z E F Lv Fv Xd Fd hd c t cap st ah) (hY : ss_GY Lv Fv Xd Fd hd yf ya yo yl yi yr yn yt yb yd yw yh) (e1 : ss_ev hd c v1 = some i) :
    wpX_look (fun r => wpY_look (fun r' v' => r' = r ∧ i_Rel (k + 5) (k1, k2, k3, k4, k5, k6, k7, k8, k9, k10, k11, k12, k13, nI cap, kp, nI t, nI (ss_us Lv Fv Xd Fd), nI (E c), st, fw, pn, ah) v') (nI c, nI cap, yf, ya, yo, yl, yi, yr, yn, yt, yv, yb, yd, yw, yh) v1 (nI 12)) (k1, k2, k3, k4, k5, k6, k7, k8, k9, k10, k11, k12, k13, nI cap, kp, nI t, nI (ss_us Lv Fv Xd Fd), nI (E c), st, fw, pn, ah) v1 (nI 12) := by
  have I' : ∀ yv, i_Rel (k + 5) (k1, k2, k3, k4, k5, k6, k7, k8, k9, k10, k11, k12, k13, nI cap, kp, nI t, nI (ss_us Lv Fv Xd Fd), nI (E c), st, fw, pn, ah) (nI c, nI cap, yf, ya, yo, yl, yi, yr, yn, yt, yv, yb, yd, yw, yh) := fun yv => ss_intro hX hY
  have G := hX.1
  have h240 : t ≤ 240 := Nat.le_trans hX.2.2.2.1 hX.2.2.2.2
  have hc : Lv c = true := G.2.1.2.2.1 c rfl
  have RK := ss_rank G h240
  have YL := ss_links G.2.1 hY
  have xr := ss_getXR G h240
  have na := ss_getNA G.2.1 RK
  have nc := ss_getNC G.2.1 RK
  have bh : ∀ h j, h < 8 → hd h = some j → E j < 240 := fun h j h8 hj => by have := (xr j (G.2.1.2.2.2 h j h8 hj)).1; omega
  have li := ss_ev_live G.2.1 e1
  have i32 := (G.2.1.1 i li).1
  have lim := ss_RS_in G.1 li
  obtain ⟨i1, i2, i3, i4⟩ := G.1.2.2.1 i li
  obtain ⟨x0, x1, x2, x3, x4, x5, x6, x7, x8⟩ := i4
  obtain ⟨y0, y1, y2, y3, y4, y5⟩ := hY.1 i li
  have hf := (G.2.1.1 i li).2.1
  have f32 := (G.2.1.2.1 _ hf).1
  have limF := ss_RS_inF G.1 hf
  obtain ⟨f1, f2, f3, f4⟩ := G.1.2.2.2.1 _ hf
  obtain ⟨g1, g2, g3⟩ := hY.2.1 _ hf
  unfold wpX_look
  refine ss_x_envOf rfl hX.2.1 bh ?_
  rw [e1, show ss_oE E (some i) = nI (E i) from rfl]
  refine br_f (nI_pos (n := E i) (by omega)) (br_f (by decide) (br_t (by decide) (br_f (by decide) (And.intro (ss_ix (k := 7) (by omega) (by decide)) (?_)))))
  have e10 : nI 12 - 10 = nI 2 := by decide
  have e8 : (nI (E i) + 8) + nI 2 = nI (E i + 8 + 2) := by rw [ss_p8, nI_add]
  have e4 : (nI i * 4 + nI 12) - 10 = nI (i * 4 + 2) := by
    rw [show nI i * 4 = nI (i * 4) from pk_mul i 4, nI_add, show nI (i * 4 + 12) - 10 = nI (i * 4 + 12 - 10) from pk_sub (b := 10) (by omega)]
    rfl
  rw [ss_rd (k := 7) x7 (by omega), e10]
  refine pk_le (ss_tn (Xd i)) 2 (fun g => ?_) (fun g => ?_)
  · unfold wpY_look
    refine ss_y_resolve rfl hY.2.2.2 ?_
    rw [e1, show ss_oE id (some i) = nI i from rfl]
    refine br_f (nI_pos (n := i) (by omega)) (br_f (by decide) (br_t (by decide) (ss_y_findLive rfl hc YL RK G.2.2 ?_)))
    intro lv V
    refine br_f (by decide) (br_f (by decide) (br_f (by decide) (br_f (by decide) (br_f (by decide) (br_f (by decide) (br_f (by decide) (br_f (by decide) (br_f (by decide) (br_f (by decide) (And.intro (vp_in_nI i32 (by decide)) ?_))))))))))
    rw [ss_rd0 y4 (by omega), e10]
    exact br_t (nI_le g (by decide)) ⟨rfl, I' lv⟩
  · rw [e8, nI_clamp (by omega), x8 2 g]
    refine And.intro (vp_in_nI (by omega) (by decide)) ?_
    unfold wpY_look
    refine ss_y_resolve rfl hY.2.2.2 ?_
    rw [e1, show ss_oE id (some i) = nI i from rfl]
    refine br_f (nI_pos (n := i) (by omega)) (br_f (by decide) (br_t (by decide) (ss_y_findLive rfl hc YL RK G.2.2 ?_)))
    intro lv V
    refine br_f (by decide) (br_f (by decide) (br_f (by decide) (br_f (by decide) (br_f (by decide) (br_f (by decide) (br_f (by decide) (br_f (by decide) (br_f (by decide) (br_f (by decide) (And.intro (vp_in_nI i32 (by decide)) ?_))))))))))
    rw [ss_rd0 y4 (by omega), e10, e4, nI_clamp (by omega), y5 2 g]
    exact br_f (nI_ge g (by omega)) (And.intro (vp_in_nI (by omega) (by decide)) ⟨rfl, I' lv⟩)
theorem ss_look13 {k i : Nat} {v1 : Int32} (hX : ss_GX L z E F Lv Fv Xd Fd hd c t cap st ah) (hY : ss_GY Lv Fv Xd Fd hd yf ya yo yl yi yr yn yt yb yd yw yh) (e1 : ss_ev hd c v1 = some i) :
    wpX_look (fun r => wpY_look (fun r' v' => r' = r ∧ i_Rel (k + 5) (k1, k2, k3, k4, k5, k6, k7, k8, k9, k10, k11, k12, k13, nI cap, kp, nI t, nI (ss_us Lv Fv Xd Fd), nI (E c), st, fw, pn, ah) v') (nI c, nI cap, yf, ya, yo, yl, yi, yr, yn, yt, yv, yb, yd, yw, yh) v1 (nI 13)) (k1, k2, k3, k4, k5, k6, k7, k8, k9, k10, k11, k12, k13, nI cap, kp, nI t, nI (ss_us Lv Fv Xd Fd), nI (E c), st, fw, pn, ah) v1 (nI 13) := by
  have I' : ∀ yv, i_Rel (k + 5) (k1, k2, k3, k4, k5, k6, k7, k8, k9, k10, k11, k12, k13, nI cap, kp, nI t, nI (ss_us Lv Fv Xd Fd), nI (E c), st, fw, pn, ah) (nI c, nI cap, yf, ya, yo, yl, yi, yr, yn, yt, yv, yb, yd, yw, yh) := fun yv => ss_intro hX hY
  have G := hX.1
  have h240 : t ≤ 240 := Nat.le_trans hX.2.2.2.1 hX.2.2.2.2
  have hc : Lv c = true := G.2.1.2.2.1 c rfl
  have RK := ss_rank G h240
  have YL := ss_links G.2.1 hY
  have xr := ss_getXR G h240
  have na := ss_getNA G.2.1 RK
  have nc := ss_getNC G.2.1 RK
  have bh : ∀ h j, h < 8 → hd h = some j → E j < 240 := fun h j h8 hj => by have := (xr j (G.2.1.2.2.2 h j h8 hj)).1; omega
  have li := ss_ev_live G.2.1 e1
  have i32 := (G.2.1.1 i li).1
  have lim := ss_RS_in G.1 li
  obtain ⟨i1, i2, i3, i4⟩ := G.1.2.2.1 i li
  obtain ⟨x0, x1, x2, x3, x4, x5, x6, x7, x8⟩ := i4
  obtain ⟨y0, y1, y2, y3, y4, y5⟩ := hY.1 i li
  have hf := (G.2.1.1 i li).2.1
  have f32 := (G.2.1.2.1 _ hf).1
  have limF := ss_RS_inF G.1 hf
  obtain ⟨f1, f2, f3, f4⟩ := G.1.2.2.2.1 _ hf
  obtain ⟨g1, g2, g3⟩ := hY.2.1 _ hf
  unfold wpX_look
  refine ss_x_envOf rfl hX.2.1 bh ?_
  rw [e1, show ss_oE E (some i) = nI (E i) from rfl]
  refine br_f (nI_pos (n := E i) (by omega)) (br_f (by decide) (br_t (by decide) (br_f (by decide) (And.intro (ss_ix (k := 7) (by omega) (by decide)) (?_)))))
  have e10 : nI 13 - 10 = nI 3 := by decide
  have e8 : (nI (E i) + 8) + nI 3 = nI (E i + 8 + 3) := by rw [ss_p8, nI_add]
  have e4 : (nI i * 4 + nI 13) - 10 = nI (i * 4 + 3) := by
    rw [show nI i * 4 = nI (i * 4) from pk_mul i 4, nI_add, show nI (i * 4 + 13) - 10 = nI (i * 4 + 13 - 10) from pk_sub (b := 10) (by omega)]
    rfl
  rw [ss_rd (k := 7) x7 (by omega), e10]
  refine pk_le (ss_tn (Xd i)) 3 (fun g => ?_) (fun g => ?_)
  · unfold wpY_look
    refine ss_y_resolve rfl hY.2.2.2 ?_
    rw [e1, show ss_oE id (some i) = nI i from rfl]
    refine br_f (nI_pos (n := i) (by omega)) (br_f (by decide) (br_t (by decide) (ss_y_findLive rfl hc YL RK G.2.2 ?_)))
    intro lv V
    refine br_f (by decide) (br_f (by decide) (br_f (by decide) (br_f (by decide) (br_f (by decide) (br_f (by decide) (br_f (by decide) (br_f (by decide) (br_f (by decide) (br_f (by decide) (And.intro (vp_in_nI i32 (by decide)) ?_))))))))))
    rw [ss_rd0 y4 (by omega), e10]
    exact br_t (nI_le g (by decide)) ⟨rfl, I' lv⟩
  · rw [e8, nI_clamp (by omega), x8 3 g]
    refine And.intro (vp_in_nI (by omega) (by decide)) ?_
    unfold wpY_look
    refine ss_y_resolve rfl hY.2.2.2 ?_
    rw [e1, show ss_oE id (some i) = nI i from rfl]
    refine br_f (nI_pos (n := i) (by omega)) (br_f (by decide) (br_t (by decide) (ss_y_findLive rfl hc YL RK G.2.2 ?_)))
    intro lv V
    refine br_f (by decide) (br_f (by decide) (br_f (by decide) (br_f (by decide) (br_f (by decide) (br_f (by decide) (br_f (by decide) (br_f (by decide) (br_f (by decide) (br_f (by decide) (And.intro (vp_in_nI i32 (by decide)) ?_))))))))))
    rw [ss_rd0 y4 (by omega), e10, e4, nI_clamp (by omega), y5 3 g]
    exact br_f (nI_ge g (by omega)) (And.intro (vp_in_nI (by omega) (by decide)) ⟨rfl, I' lv⟩)
end
theorem i_vc_look {k : Nat} {u : SX} {v : SY} (I : i_Rel k u v) (hk : k + 5 ≤ 2563) (v1 : Int32) (v2 : Int32) : wpX_look (fun r => wpY_look (fun r' v' => r' = r ∧ i_Rel (k + 5) u v') v v1 v2) u v1 v2 := by
  refine ss_elim (P := fun u v => wpX_look (fun r => wpY_look (fun r' v' => r' = r ∧ i_Rel (k + 5) u v') v v1 v2) u v1 v2) ?_ I
  intro L z E F Lv Fv Xd Fd hd c t cap k1 k2 k3 k4 k5 k6 k7 k8 k9 k10 k11 k12 k13 kp st fw pn ah yf ya yo yl yi yr yn yt yv yb yd yw yh hX hY
  have I' : i_Rel (k + 5) (k1, k2, k3, k4, k5, k6, k7, k8, k9, k10, k11, k12, k13, nI cap, kp, nI t, nI (ss_us Lv Fv Xd Fd), nI (E c), st, fw, pn, ah) (nI c, nI cap, yf, ya, yo, yl, yi, yr, yn, yt, yv, yb, yd, yw, yh) := ss_intro hX hY
  have G := hX.1
  have h240 : t ≤ 240 := Nat.le_trans hX.2.2.2.1 hX.2.2.2.2
  have xr := ss_getXR G h240
  have bh : ∀ h j, h < 8 → hd h = some j → E j < 240 := fun h j h8 hj => by have := (xr j (G.2.1.2.2.2 h j h8 hj)).1; omega
  cases e1 : ss_ev hd c v1 with
  | none =>
    unfold wpX_look
    refine ss_x_envOf rfl hX.2.1 bh ?_
    rw [e1]
    refine br_t ss_neg ?_
    unfold wpY_look
    refine ss_y_resolve rfl hY.2.2.2 ?_
    rw [e1]
    exact br_t ss_neg ⟨rfl, I'⟩
  | some i =>
    have li := ss_ev_live G.2.1 e1
    have i32 := (G.2.1.1 i li).1
    rcases pk_ix v2 (n := 14) (by decide) with g | g | ⟨w, hw, e⟩
    · unfold wpX_look
      refine ss_x_envOf rfl hX.2.1 bh ?_
      rw [e1]
      refine br_f (nI_pos (n := E i) (by have := (xr i li).1; omega)) (br_t g ?_)
      unfold wpY_look
      refine ss_y_resolve rfl hY.2.2.2 ?_
      rw [e1]
      exact br_f (nI_pos (n := i) (by omega)) (br_t g ⟨rfl, I'⟩)
    · have g0 : ¬ v2 < 0 := fun h => absurd (Int32.lt_of_le_of_lt g h) (by decide)
      have g1 : ¬ v2 ≤ 13 := fun h => absurd (Int32.le_trans g h) (by decide)
      unfold wpX_look
      refine ss_x_envOf rfl hX.2.1 bh ?_
      rw [e1]
      refine br_f (nI_pos (n := E i) (by have := (xr i li).1; omega)) (br_f g0 (br_f g1 ?_))
      unfold wpY_look
      refine ss_y_resolve rfl hY.2.2.2 ?_
      rw [e1]
      exact br_f (nI_pos (n := i) (by omega)) (br_f g0 (br_f g1 ⟨rfl, I'⟩))
    · subst e
      rcases (by omega : w = 0 ∨ w = 1 ∨ w = 2 ∨ w = 3 ∨ w = 4 ∨ w = 5 ∨ w = 6 ∨ w = 7 ∨ w = 8 ∨ w = 9 ∨ w = 10 ∨ w = 11 ∨ w = 12 ∨ w = 13) with e | e | e | e | e | e | e | e | e | e | e | e | e | e
      · subst e; exact ss_look0 hX hY e1
      · subst e; exact ss_look1 hX hY e1
      · subst e; exact ss_look2 hX hY e1
      · subst e; exact ss_look3 hX hY e1
      · subst e; exact ss_look4 hX hY e1
      · subst e; exact ss_look5 hX hY e1
      · subst e; exact ss_look6 hX hY e1
      · subst e; exact ss_look7 hX hY e1
      · subst e; exact ss_look8 hX hY e1
      · subst e; exact ss_look9 hX hY e1
      · subst e; exact ss_look10 hX hY e1
      · subst e; exact ss_look11 hX hY e1
      · subst e; exact ss_look12 hX hY e1
      · subst e; exact ss_look13 hX hY e1
end
section
/-! capture and release -/
def ss_wk (nx : Nat → Option Nat) : Nat → Nat → Option Nat
  | 0, i => some i
  | n + 1, i => match nx i with
    | none => none
    | some j => ss_wk nx n j
theorem ss_first (hd : Nat → Option Nat) : ∀ n, (∃ h, h < n ∧ hd h = none ∧ ∀ k, k < h → hd k ≠ none) ∨ (∀ h, h < n → hd h ≠ none) := by
  intro n
  induction n with
  | zero => exact Or.inr (fun h hh => by omega)
  | succ n ih =>
    rcases ih with ⟨h, h1, h2, h3⟩ | ih
    · exact Or.inl ⟨h, by omega, h2, h3⟩
    · cases e : hd n with
      | none => exact Or.inl ⟨n, by omega, e, ih⟩
      | some j =>
        refine Or.inr (fun h hh => ?_)
        by_cases q : h = n
        · rw [q, e]; exact fun k => nomatch k
        · exact ih h (by omega)
section
variable {Lv : Nat → Bool} {rk : Nat → Nat} {nx : Nat → Option Nat}
theorem ss_wk_n {n i : Nat} (e : nx i = none) : ss_wk nx (n + 1) i = none := by
  rw [ss_wk, e]
theorem ss_wk_s {n i j : Nat} (e : nx i = some j) : ss_wk nx (n + 1) i = ss_wk nx n j := by
  rw [ss_wk, e]
theorem ss_wk_some (N : ss_NX Lv rk nx) : ∀ n i, Lv i = true → n ≤ ss_ch nx 30 i → ∃ j, ss_wk nx n i = some j ∧ Lv j = true := by
  intro n
  induction n with
  | zero => intro i hi _; exact ⟨i, rfl, hi⟩
  | succ n ih =>
    intro i hi hn
    cases e : nx i with
    | none => rw [ss_ch_n e] at hn; omega
    | some j =>
      rw [ss_ch_30 N hi e] at hn
      obtain ⟨k, k1, k2⟩ := ih j ((N i hi).2 j e).1 (by omega)
      exact ⟨k, by rw [ss_wk_s e]; exact k1, k2⟩
theorem ss_wk_none (N : ss_NX Lv rk nx) : ∀ n i, Lv i = true → ss_ch nx 30 i < n → ss_wk nx n i = none := by
  intro n
  induction n with
  | zero => intro i hi hn; omega
  | succ n ih =>
    intro i hi hn
    cases e : nx i with
    | none => exact ss_wk_n e
    | some j =>
      rw [ss_ch_30 N hi e] at hn
      rw [ss_wk_s e]
      exact ih j ((N i hi).2 j e).1 (by omega)
end
section
variable {k1 k2 k3 k4 k5 k6 k7 k8 k9 k10 k11 k12 k13 kc kp kt ku ke : Int32} {st fw pn ah : Nat → Int32}
variable {ye yc : Int32} {yf ya yo yl yi yr yn yt yv yb yd yw yh : Nat → Int32}
variable {L : List Nat} {z E F : Nat → Nat} {Lv Fv Lv' Fv' : Nat → Bool} {Xd : Nat → ss_ER} {Fd : Nat → ss_FR} {hd : Nat → Option Nat} {c t cap : Nat} {rk : Nat → Nat} {nx : Nat → Option Nat}
theorem ss_x_capL {post : Int32 → SX → Prop} {up : Nat} {o : Option Nat} (hup : up < 2 ^ 31) (X : ∀ i, Lv i = true → E i + 8 ≤ 240 ∧ st (E i + 4) = ss_oE E (nx i)) (N : ss_NX Lv rk nx) (K : wX_capture_37 post (ss_oE E o) k1 k2 k3 k4 k5 k6 k7 k8 k9 k10 k11 k12 k13 kc kp kt ku ke st fw pn ah) :
    ∀ (r n s i : Nat), Lv i = true → rk i ≤ r → r + 1 < n → s ≤ up → ss_wk nx (up - s) i = o → wX_capture_13 post (nI up) k1 k2 k3 k4 k5 k6 k7 k8 k9 k10 k11 k12 k13 kc kp kt ku ke st fw pn ah n (nI (E i)) (nI s) := by
  intro r
  induction r with
  | zero =>
    intro n s i hi hr hn hs ho
    obtain ⟨n, rfl⟩ : ∃ n', n = n' + 2 := ⟨n - 2, by omega⟩
    obtain ⟨b, x4⟩ := X i hi
    refine pk_le up s (fun g => ?_) (fun g => br_f (nI_pos (by omega)) (And.intro (ss_ix (k := 4) (by omega) (by decide)) (nm_r (ss_rd (k := 4) x4 (by omega)) (nm_r (nI_1 s) ?_))))
    · rw [show up - s = 0 by omega] at ho
      have ho' : some i = o := ho
      rw [← ho'] at K
      exact K
    · cases e : nx i with
      | none =>
        rw [show up - s = (up - s - 1) + 1 by omega, ss_wk_n e] at ho
        rw [← ho] at K
        exact pk_le up (s + 1) (fun g => K) (fun g => br_t ss_neg K)
      | some j => have := ((N i hi).2 j e).2; omega
  | succ r ih =>
    intro n s i hi hr hn hs ho
    obtain ⟨n, rfl⟩ : ∃ n', n = n' + 1 := ⟨n - 1, by omega⟩
    obtain ⟨b, x4⟩ := X i hi
    refine pk_le up s (fun g => ?_) (fun g => br_f (nI_pos (by omega)) (And.intro (ss_ix (k := 4) (by omega) (by decide)) (nm_r (ss_rd (k := 4) x4 (by omega)) (nm_r (nI_1 s) ?_))))
    · rw [show up - s = 0 by omega] at ho
      have ho' : some i = o := ho
      rw [← ho'] at K
      exact K
    · cases e : nx i with
      | none =>
        obtain ⟨n, rfl⟩ : ∃ n', n = n' + 1 := ⟨n - 1, by omega⟩
        rw [show up - s = (up - s - 1) + 1 by omega, ss_wk_n e] at ho
        rw [← ho] at K
        exact pk_le up (s + 1) (fun g => K) (fun g => br_t ss_neg K)
      | some j =>
        obtain ⟨lj, rj⟩ := (N i hi).2 j e
        rw [show up - s = (up - (s + 1)) + 1 by omega, ss_wk_s e] at ho
        exact ih n (s + 1) j lj (by omega) (by omega) (by omega) ho
theorem ss_y_capL {post : Int32 → SY → Prop} {up j0 : Nat} (hup : up < 32) (Y : ∀ i, Lv i = true → i < 32 ∧ yo i = ss_oE id (nx i)) (N : ss_NX Lv rk nx) (K : ∃ n61 : Nat, wY_capture_61 post (nI j0) ye yc yf ya yo yl yi yr yn yt yv yb yd yw yh n61 0) :
    ∀ (n s i : Nat), Lv i = true → up < n + s → s ≤ up → ss_wk nx (up - s) i = some j0 → wY_capture_32 post (nI up) ye yc yf ya yo yl yi yr yn yt yv yb yd yw yh n (nI i) (nI s) := by
  intro n
  induction n with
  | zero => intro s i _ hn; omega
  | succ n ih =>
    intro s i hi hn hs ho
    obtain ⟨i32, y⟩ := Y i hi
    refine pk_le 32 s (fun g => by omega) (fun _ => pk_le up s (fun g => ?_) (fun g => And.intro (vp_in_nI i32 (by decide)) (nm_r (ss_rd0 y (by omega)) (nm_r (nI_1 s) ?_))))
    · rw [show up - s = 0 by omega] at ho
      rw [Option.some.inj (ho : some i = some j0)]
      exact K
    · cases e : nx i with
      | none =>
        rw [show up - s = (up - s - 1) + 1 by omega, ss_wk_n e] at ho
        exact nomatch ho
      | some j =>
        obtain ⟨lj, rj⟩ := (N i hi).2 j e
        rw [show up - s = (up - (s + 1)) + 1 by omega, ss_wk_s e] at ho
        exact ih (s + 1) j lj (by omega) (by omega) ho
theorem ss_x_slotS {post : Int32 → Prop} {h : Nat} (h8 : h < 8) (hah : ∀ h, h < 8 → ah h = ss_oE E (hd h)) (hb : ∀ h j, h < 8 → hd h = some j → E j < 240) (e : hd h = none) (hf : ∀ k, k < h → hd k ≠ none) (hp : post (nI h)) :
    ∀ (n i : Nat), h < n + i → i ≤ h → wX_emptySlot_2 post k1 k2 k3 k4 k5 k6 k7 k8 k9 k10 k11 k12 k13 kc kp kt ku ke st fw pn ah n (nI i) := by
  intro n
  induction n with
  | zero => intro i hn; omega
  | succ n ih =>
    intro i hn hi
    refine pk_le 8 i (fun g => by omega) (fun g => And.intro (vp_in_nI g (by decide)) ?_)
    rw [nI_clamp (n := i) (by omega), hah i g]
    by_cases q : i = h
    · subst q
      rw [e]
      exact br_f ss_neg' hp
    · cases e2 : hd i with
      | none => exact absurd e2 (hf i (by omega))
      | some j => exact br_t (nI_pos' (n := E j) (by have := hb i j g e2; omega)) (nm_r (nI_1 i) (ih (i + 1) (by omega) (by omega)))
theorem ss_x_slotN {post : Int32 → Prop} (hah : ∀ h, h < 8 → ah h = ss_oE E (hd h)) (hb : ∀ h j, h < 8 → hd h = some j → E j < 240) (hf : ∀ k, k < 8 → hd k ≠ none) (hp : post (-1)) :
    ∀ (n i : Nat), 8 < n + i → i ≤ 8 → wX_emptySlot_2 post k1 k2 k3 k4 k5 k6 k7 k8 k9 k10 k11 k12 k13 kc kp kt ku ke st fw pn ah n (nI i) := by
  intro n
  induction n with
  | zero => intro i hn; omega
  | succ n ih =>
    intro i hn hi
    refine pk_le 8 i (fun g => hp) (fun g => And.intro (vp_in_nI g (by decide)) ?_)
    rw [nI_clamp (n := i) (by omega), hah i g]
    cases e2 : hd i with
    | none => exact absurd e2 (hf i (by omega))
    | some j => exact br_t (nI_pos' (n := E j) (by have := hb i j g e2; omega)) (nm_r (nI_1 i) (ih (i + 1) (by omega) (by omega)))
theorem ss_y_slotS {post : Int32 → SY → Prop} {x : Int32} {h : Nat} (h8 : h < 8) (hyh : ∀ h, h < 8 → yh h = ss_oE id (hd h)) (hb : ∀ h j, h < 8 → hd h = some j → j < 32) (e : hd h = none) (hf : ∀ k, k < h → hd k ≠ none) (hp : post (nI h) (ye, yc, yf, ya, yo, yl, yi, yr, yn, yt, yv, yb, yd, yw, upd yh h x)) :
    ∀ (n i : Nat), h < n + i → i ≤ h → wY_capture_61 post x ye yc yf ya yo yl yi yr yn yt yv yb yd yw yh n (nI i) := by
  intro n
  induction n with
  | zero => intro i hn; omega
  | succ n ih =>
    intro i hn hi
    refine pk_le 8 i (fun g => by omega) (fun g => And.intro (vp_in_nI g (by decide)) ?_)
    rw [nI_clamp (n := i) (by omega), hyh i g]
    by_cases q : i = h
    · subst q
      rw [e]
      exact br_f ss_neg' (And.intro (vp_in_nI g (by decide)) (nm_e hp))
    · cases e2 : hd i with
      | none => exact absurd e2 (hf i (by omega))
      | some j => exact br_t (nI_pos' (n := j) (by have := hb i j g e2; omega)) (nm_r (nI_1 i) (ih (i + 1) (by omega) (by omega)))
theorem ss_y_slotN {post : Int32 → SY → Prop} {x : Int32} (hyh : ∀ h, h < 8 → yh h = ss_oE id (hd h)) (hb : ∀ h j, h < 8 → hd h = some j → j < 32) (hf : ∀ k, k < 8 → hd k ≠ none) (hp : post (-4) (ye, yc, yf, ya, yo, yl, yi, yr, yn, yt, yv, yb, yd, yw, yh)) :
    ∀ (n i : Nat), 8 < n + i → i ≤ 8 → wY_capture_61 post x ye yc yf ya yo yl yi yr yn yt yv yb yd yw yh n (nI i) := by
  intro n
  induction n with
  | zero => intro i hn; omega
  | succ n ih =>
    intro i hn hi
    refine pk_le 8 i (fun g => hp) (fun g => And.intro (vp_in_nI g (by decide)) ?_)
    rw [nI_clamp (n := i) (by omega), hyh i g]
    cases e2 : hd i with
    | none => exact absurd e2 (hf i (by omega))
    | some j => exact br_t (nI_pos' (n := j) (by have := hb i j g e2; omega)) (nm_r (nI_1 i) (ih (i + 1) (by omega) (by omega)))
theorem ss_us_sub (hL : ∀ i, Lv' i = true → Lv i = true) (hF : ∀ i, Fv' i = true → Fv i = true) : ss_us Lv' Fv' Xd Fd ≤ ss_us Lv Fv Xd Fd := by
  have a := ss_sm_le (f := ss_ue Lv' Xd) (g := ss_ue Lv Xd) 32 (by
    intro j _
    unfold ss_ue
    by_cases e : Lv' j = true
    · rw [if_pos e, if_pos (hL j e)]; exact Nat.le_refl _
    · rw [if_neg e]; exact Nat.zero_le _)
  have b := ss_sm_le (f := ss_uf Fv' Fd) (g := ss_uf Fv Fd) 32 (by
    intro j _
    unfold ss_uf
    by_cases e : Fv' j = true
    · rw [if_pos e, if_pos (hF j e)]; exact Nat.le_refl _
    · rw [if_neg e]; exact Nat.zero_le _)
  unfold ss_us
  omega
/-- fewer live ones -/
theorem ss_GY_sub (h : ss_GY Lv Fv Xd Fd hd yf ya yo yl yi yr yn yt yb yd yw yh) (hL : ∀ i, Lv' i = true → Lv i = true) (hF : ∀ i, Fv' i = true → Fv i = true) : ss_GY Lv' Fv' Xd Fd hd yf ya yo yl yi yr yn yt yb yd yw yh :=
  ⟨fun i hi => h.1 i (hL i hi), fun f hf => h.2.1 f (hF f hf), fun i hi => h.2.2.1 i (hL i hi), h.2.2.2⟩
theorem ss_GY_hd {h : Nat} {o : Option Nat} {x : Int32} (hy : ss_GY Lv Fv Xd Fd hd yf ya yo yl yi yr yn yt yb yd yw yh) (hx : x = ss_oE id o) : ss_GY Lv Fv Xd Fd (ss_set hd h o) yf ya yo yl yi yr yn yt yb yd yw (upd yh h x) := by
  refine ⟨hy.1, hy.2.1, hy.2.2.1, ?_⟩
  intro k hk
  by_cases e : k = h
  · subst e; rw [pk_us, ss_set_s]; exact hx
  · rw [pk_un e, ss_set_n e]; exact hy.2.2.2 k hk
end
theorem i_vc_capture {k : Nat} {u : SX} {v : SY} (I : i_Rel k u v) (hk : k + 5 ≤ 2563) (v1 : Int32) : wpX_capture (fun r u' => wpY_capture (fun r' v' => r' = r ∧ i_Rel (k + 5) u' v') v v1) u v1 := by
  refine ss_elim (P := fun u v => wpX_capture (fun r u' => wpY_capture (fun r' v' => r' = r ∧ i_Rel (k + 5) u' v') v v1) u v1) ?_ I
  intro L z E F Lv Fv Xd Fd hd c t cap k1 k2 k3 k4 k5 k6 k7 k8 k9 k10 k11 k12 k13 kp st fw pn ah yf ya yo yl yi yr yn yt yv yb yd yw yh hX hY
  have I' : i_Rel (k + 5) (k1, k2, k3, k4, k5, k6, k7, k8, k9, k10, k11, k12, k13, nI cap, kp, nI t, nI (ss_us Lv Fv Xd Fd), nI (E c), st, fw, pn, ah) (nI c, nI cap, yf, ya, yo, yl, yi, yr, yn, yt, yv, yb, yd, yw, yh) := ss_intro hX hY
  have G := hX.1
  have h240 : t ≤ 240 := Nat.le_trans hX.2.2.2.1 hX.2.2.2.2
  have hc : Lv c = true := G.2.1.2.2.1 c rfl
  have c32 := (G.2.1.1 c hc).1
  have xr := ss_getXR G h240
  have nc := ss_getNC G.2.1 (ss_rank G h240)
  have bh : ∀ h j, h < 8 → hd h = some j → E j < 240 := fun h j h8 hj => by have := (xr j (G.2.1.2.2.2 h j h8 hj)).1; omega
  have bhy : ∀ h j, h < 8 → hd h = some j → j < 32 := fun h j h8 hj => (G.2.1.1 j (G.2.1.2.2.2 h j h8 hj)).1
  have yl' : ∀ i, Lv i = true → i < 32 ∧ ((1 : Int32) = 0 → ya i = ss_oE id ((fun i => ss_co (Xd i)) i)) ∧ (¬ (1 : Int32) = 0 → yo i = ss_oE id ((fun i => ss_co (Xd i)) i)) := fun i hi => ⟨(G.2.1.1 i hi).1, fun h => absurd h (by decide), fun _ => (hY.2.2.1 i hi).2⟩
  unfold wpX_capture
  by_cases g0 : (0 : Int32) ≤ v1
  · refine br_t g0 ?_
    obtain ⟨up, hup, e⟩ := nI_of (Int32.not_lt.mpr g0)
    subst e
    have ch30 := Nat.lt_of_le_of_lt (ss_ch_le nc 30 c hc) (nc c hc).1
    refine ⟨31, ss_x_capL (Lv := Lv) (nx := fun i => ss_co (Xd i)) (o := ss_wk (fun i => ss_co (Xd i)) up c) hup (fun j hj => ⟨(xr j hj).1, (xr j hj).2.2.2.1⟩) nc ?_ 29 31 0 c hc (Nat.le_of_lt_succ (nc c hc).1) (by omega) (by omega) rfl⟩
    by_cases g1 : up ≤ ss_ch (fun i => ss_co (Xd i)) 30 c
    · obtain ⟨j, ej, lj⟩ := ss_wk_some nc up c hc g1
      have j32 := (G.2.1.1 j lj).1
      have yy : ∀ {q : Int32 → SY → Prop}, (∃ n61 : Nat, wY_capture_61 q (nI j) (nI c) (nI cap) yf ya yo yl yi yr yn yt yv yb yd yw yh n61 0) → wpY_capture q (nI c, nI cap, yf, ya, yo, yl, yi, yr, yn, yt, yv, yb, yd, yw, yh) (nI up) := by
        intro q q1
        unfold wpY_capture
        refine br_t g0 (ss_y_links rfl yl' nc hc (br_t (nI_le g1 (by omega)) ⟨33, ?_⟩))
        exact ss_y_capL (Lv := Lv) (nx := fun i => ss_co (Xd i)) (by omega) (fun i hi => ⟨(G.2.1.1 i hi).1, (hY.2.2.1 i hi).2⟩) nc q1 33 0 c hc (by omega) (by omega) ej
      rw [ej]
      unfold wX_capture_37
      refine br_t (nI_pos' (n := E j) (by have := (xr j lj).1; omega)) ?_
      unfold wpX_emptySlot
      rcases ss_first hd 8 with ⟨h, h8, e, hf⟩ | hf
      · refine ⟨9, ss_x_slotS h8 hX.2.1 bh e hf ?_ 9 0 (by omega) (by omega)⟩
        refine br_t (nI_pos' (by omega)) (And.intro (vp_in_nI h8 (by decide)) (nm_r (e' := upd ah h (nI (E j))) (by rw [nI_clamp (by omega)]; rfl) ?_))
        refine ss_x_addE (o := some j) rfl G.1 h240 (fun l hl => by rw [← Option.some.inj hl]; exact lj) ?_
        intro s' R
        refine yy ⟨9, ss_y_slotS (x := nI j) h8 hY.2.2.2 bhy e hf ⟨rfl, ?_⟩ 9 0 (by omega) (by omega)⟩
        have ce : ∀ i, ss_cnt (ss_set hd h (some j)) (some c) Lv Xd i = ss_cnt hd (some c) Lv Xd i + ss_q (some j) i := by
          intro i
          have := ss_cnt_hd (hd := hd) (cur := some c) (Lv := Lv) (Xd := Xd) (o := some j) h8 i
          rw [e, ss_q_no] at this
          omega
        have G' : ss_GS L z E F Lv Fv Xd Fd (ss_set hd h (some j)) (some c) t s' := by
          refine ⟨ss_RS_cu R (fun i _ => ce i) (fun _ _ => rfl), ⟨G.2.1.1, G.2.1.2.1, G.2.1.2.2.1, ?_⟩, ?_⟩
          · intro h' l h8' hl
            by_cases q : h' = h
            · rw [q, ss_set_s] at hl; rw [← Option.some.inj hl]; exact lj
            · rw [ss_set_n q] at hl; exact G.2.1.2.2.2 h' l h8' hl
          · intro i hi
            have := G.2.2 i hi
            rw [ce i]; omega
        have hX' : ss_GX L z E F Lv Fv Xd Fd (ss_set hd h (some j)) c t cap s' (upd ah h (nI (E j))) := by
          refine ⟨G', ?_, hX.2.2⟩
          intro h' h8'
          by_cases q : h' = h
          · subst q; rw [pk_us, ss_set_s]; rfl
          · rw [pk_un q, ss_set_n q]; exact hX.2.1 h' h8'
        exact ss_intro2 rfl rfl rfl rfl rfl rfl hX' (ss_GY_hd (o := some j) hY rfl)
      · refine ⟨9, ss_x_slotN hX.2.1 bh hf ?_ 9 0 (by omega) (by omega)⟩
        refine br_f ss_neg' (yy ⟨9, ss_y_slotN hY.2.2.2 bhy hf ⟨rfl, I'⟩ 9 0 (by omega) (by omega)⟩)
    · rw [ss_wk_none nc up c hc (by omega)]
      unfold wX_capture_37
      refine br_f ss_neg' ?_
      unfold wpY_capture
      exact br_t g0 (ss_y_links rfl yl' nc hc (br_f (nI_ge (by omega) hup) ⟨rfl, I'⟩))
  · exact br_f g0 (br_f g0 ⟨rfl, I'⟩)
theorem i_vc_release {k : Nat} {u : SX} {v : SY} (I : i_Rel k u v) (hk : k + 5 ≤ 2563) (v1 : Int32) : wpX_release (fun r u' => wpY_release (fun r' v' => r' = r ∧ i_Rel (k + 5) u' v') v v1) u v1 := by
  refine ss_elim (P := fun u v => wpX_release (fun r u' => wpY_release (fun r' v' => r' = r ∧ i_Rel (k + 5) u' v') v v1) u v1) ?_ I
  intro L z E F Lv Fv Xd Fd hd c t cap k1 k2 k3 k4 k5 k6 k7 k8 k9 k10 k11 k12 k13 kp st fw pn ah yf ya yo yl yi yr yn yt yv yb yd yw yh hX hY
  have I' : i_Rel (k + 5) (k1, k2, k3, k4, k5, k6, k7, k8, k9, k10, k11, k12, k13, nI cap, kp, nI t, nI (ss_us Lv Fv Xd Fd), nI (E c), st, fw, pn, ah) (nI c, nI cap, yf, ya, yo, yl, yi, yr, yn, yt, yv, yb, yd, yw, yh) := ss_intro hX hY
  have G := hX.1
  have h240 : t ≤ 240 := Nat.le_trans hX.2.2.2.1 hX.2.2.2.2
  have u240 : ss_us Lv Fv Xd Fd ≤ 240 := Nat.le_trans hX.2.2.1 hX.2.2.2.2
  unfold wpX_release
  rcases ss_slot v1 with g | g | ⟨h, h8, e⟩
  · exact ss_x_isHeld0 (Or.inl g) (br_t rfl (br_t g ⟨rfl, I'⟩))
  · refine ss_x_isHeld0 (Or.inr g) (br_t rfl (br_f g.1 (br_t ?_ ⟨rfl, I'⟩)))
    exact Int32.lt_of_lt_of_le (by decide : (7 : Int32) < 8) g.2
  · subst e
    have q := hX.2.1 h h8
    have qy := hY.2.2.2 h h8
    cases e : hd h with
    | none =>
      rw [e] at q qy
      refine ss_x_isHeldN h8 q (br_t rfl (br_f (nI_pos (by omega)) (br_f (nI_nlt (a := 7) (b := h) (by omega) (by decide)) (And.intro (vp_in_nI h8 (by decide)) ?_))))
      rw [nI_clamp (by omega), qy]
      exact br_f ss_neg' ⟨rfl, I'⟩
    | some j =>
      rw [e] at q qy
      have lj := G.2.1.2.2.2 h j h8 e
      have j32 := (G.2.1.1 j lj).1
      have lim := ss_RS_in G.1 lj
      refine ss_x_isHeldS h8 q (by omega) (br_f (by decide) ?_)
      refine ss_x_clearSlot (hd := hd) (cur := some c) rfl h8 e q h240 rfl u240 G ?_
      intro Lv' Fv' s' kp' pn' hL hF G' hu'
      refine br_f (nI_pos (by omega)) (br_f (nI_nlt (a := 7) (b := h) (by omega) (by decide)) (And.intro (vp_in_nI h8 (by decide)) ?_))
      rw [nI_clamp (n := h) (by omega), qy]
      refine br_t (nI_pos' (n := j) (by omega)) (And.intro (vp_in_nI h8 (by decide)) (nm_e ⟨rfl, ?_⟩))
      have hX' : ss_GX L z E F Lv' Fv' Xd Fd (ss_set hd h none) c t cap s' (upd ah h (-1)) := by
        refine ⟨G', ?_, Nat.le_trans (ss_us_sub hL hF) hX.2.2.1, hX.2.2.2⟩
        intro h' h8'
        by_cases q : h' = h
        · subst q; rw [pk_us, ss_set_s]; rfl
        · rw [pk_un q, ss_set_n q]; exact hX.2.1 h' h8'
      exact ss_intro2 rfl rfl rfl rfl rfl rfl hX' (ss_GY_sub (ss_GY_hd (o := none) hY rfl) hL hF)
end
section
/-! call -/
theorem ss_room (p : Int32) : p < 0 ∨ (¬ p < 0 ∧ 4 < p) ∨ ∃ m, m ≤ 4 ∧ p = nI m := by
  rcases pk_ix p (n := 5) (by decide) with h | h | ⟨m, h, e⟩
  · exact Or.inl h
  · by_cases g : p < 0
    · exact Or.inl g
    · refine Or.inr (Or.inl ⟨g, ?_⟩)
      exact Int32.lt_of_lt_of_le (by decide : (4 : Int32) < nI 5) h
  · exact Or.inr (Or.inr ⟨m, by omega, e⟩)
section
variable {E : Nat → Nat} {Lv Fv Fv1 : Nat → Bool} {Xd : Nat → ss_ER} {hd : Nat → Option Nat} {cur : Option Nat}
theorem ss_CL_new {x t : Nat} {r : ss_ER} (C : ss_CL E Lv Fv Xd hd cur) (x32 : x < 32) (hx : Lv x = false) (f32 : ss_fr r < 32) (h1 : Fv1 (ss_fr r) = true) (h2 : ∀ k, Fv k = true → Fv1 k = true) (h3 : ∀ k, Fv1 k = true → k = ss_fr r ∨ Fv k = true)
    (ha : ∀ j, ss_ac r = some j → Lv j = true) (hc : ∀ j, ss_co r = some j → Lv j = true) (ht : ∀ j, Lv j = true → E j < t) : ss_CL (ss_set E x t) (ss_set Lv x true) Fv1 (ss_set Xd x r) hd cur := by
  have ne : ∀ j, Lv j = true → j ≠ x := by
    intro j hj e
    rw [e, hx] at hj
    exact nomatch hj
  have keep : ∀ j, Lv j = true → ss_set Lv x true j = true := by
    intro j hj
    rw [ss_set_n (ne j hj)]; exact hj
  refine ⟨?_, ?_, fun j hj => keep j (C.2.2.1 j hj), fun h j h8 hj => keep j (C.2.2.2 h j h8 hj)⟩
  · intro i hi
    rcases ss_set_cases hi with e | ⟨e, hi'⟩
    · subst e
      rw [ss_set_s, ss_set_s]
      refine ⟨x32, h1, fun j hj => ⟨keep j (ha j hj), ?_⟩, fun j hj => ⟨keep j (hc j hj), ?_⟩⟩
      · rw [ss_set_n (ne j (ha j hj))]; exact ht j (ha j hj)
      · rw [ss_set_n (ne j (hc j hj))]; exact ht j (hc j hj)
    · obtain ⟨a, b, d, e2⟩ := C.1 i hi'
      rw [ss_set_n e, ss_set_n e]
      refine ⟨a, h2 _ b, fun j hj => ⟨keep j (d j hj).1, ?_⟩, fun j hj => ⟨keep j (e2 j hj).1, ?_⟩⟩
      · rw [ss_set_n (ne j (d j hj).1)]; exact (d j hj).2
      · rw [ss_set_n (ne j (e2 j hj).1)]; exact (e2 j hj).2
  · intro f hf
    have q := ss_shr_new (Xd := Xd) r x32 hx f
    rcases h3 f hf with e | e
    · subst e
      rw [ss_q_s] at q
      exact ⟨f32, by omega⟩
    · obtain ⟨a, b⟩ := C.2.1 f e
      exact ⟨a, by omega⟩
theorem ss_cu_new {x : Nat} (r : ss_ER) (C : ss_CL E Lv Fv Xd hd cur) (x32 : x < 32) (hx : Lv x = false) (i : Nat) :
    ss_cnt hd cur (ss_set Lv x true) (ss_set Xd x r) i = ss_set (ss_cnt hd cur Lv Xd) x 0 i + ss_q (ss_ac r) i + ss_q (ss_co r) i := by
  rw [ss_cnt_new r x32 hx i]
  by_cases e : i = x
  · subst e; rw [ss_set_s, ss_cnt_dead C hx]
  · rw [ss_set_n e]
end
section
variable {k1 k2 k3 k4 k5 k6 k7 k8 k9 k10 k11 k12 k13 kc kp kt ku ke : Int32} {st fw pn ah : Nat → Int32}
variable {ye yc : Int32} {yf ya yo yl yi yr yn yt yv yb yd yw yh : Nat → Int32}
variable {L : List Nat} {z E F : Nat → Nat} {Lv Fv : Nat → Bool} {Xd : Nat → ss_ER} {Fd : Nat → ss_FR} {hd : Nat → Option Nat} {c t cap : Nat}
theorem ss_x_isRoom0 {post : Int32 → Prop} {p : Int32} (h : p < 0 ∨ (¬ p < 0 ∧ 4 < p)) (hp : post 0) : wpX_isRoom post (k1, k2, k3, k4, k5, k6, k7, k8, k9, k10, k11, k12, k13, kc, kp, kt, ku, ke, st, fw, pn, ah) p := by
  rcases h with g | ⟨g, g2⟩
  · exact br_t g hp
  · exact br_f g (br_t g2 hp)
theorem ss_x_isRoom1 {post : Int32 → Prop} {m : Nat} (h : m ≤ 4) (hp : post 1) : wpX_isRoom post (k1, k2, k3, k4, k5, k6, k7, k8, k9, k10, k11, k12, k13, kc, kp, kt, ku, ke, st, fw, pn, ah) (nI m) :=
  br_f (nI_pos (by omega)) (br_f (nI_nlt (a := 4) (b := m) (by omega) (by decide)) hp)
theorem ss_make_nf {f : Nat} (G : ss_GS L z E F Lv Fv Xd Fd hd (some c) t st) (hf : Fv f = false) : ∀ i, Lv i = true → ss_fr (Xd i) ≠ f := by
  intro i hi e
  have := (G.2.1.1 i hi).2.1
  rw [e, hf] at this
  exact nomatch this
theorem ss_make_nl {x : Nat} (G : ss_GS L z E F Lv Fv Xd Fd hd (some c) t st) (hx : Lv x = false) : ∀ i, Lv i = true → ss_ac (Xd i) ≠ some x ∧ ss_co (Xd i) ≠ some x := by
  intro i hi
  refine ⟨fun e => ?_, fun e => ?_⟩
  · have := ((G.2.1.1 i hi).2.2.1 x e).1
    rw [hx] at this
    exact nomatch this
  · have := ((G.2.1.1 i hi).2.2.2 x e).1
    rw [hx] at this
    exact nomatch this
/-- a new frame and a new extension: what holds before it is entered -/
theorem ss_make_ok {x f b m a d : Nat} {s2 : Nat → Int32} (G : ss_GS L z E F Lv Fv Xd Fd hd (some c) t st) (x32 : x < 32) (hx : Lv x = false) (f32 : f < 32) (hf : Fv f = false) (la : Lv a = true) (ld : Lv d = true)
    (R2 : ss_RS (L ++ [t] ++ [t + (3 + 2 * b)]) (ss_set (ss_set z t (3 + 2 * b)) (t + (3 + 2 * b)) (8 + m)) (ss_set E x (t + (3 + 2 * b))) (ss_set F f t) (ss_set Lv x true) (ss_set Fv f true) (ss_set Xd x (ss_new f (some a) (some d) m)) (ss_set Fd f (b, 0, (fun _ => 0), (fun _ => 0)))
      (fun i => ss_set (ss_cnt hd (some c) Lv Xd) x 0 i + ss_q (some a) i + ss_q (some d) i) (fun i => ss_set (ss_shr Lv Xd) f 0 i + ss_q (some f) i) (t + (3 + 2 * b) + (8 + m)) s2) :
    ss_RS (L ++ [t] ++ [t + (3 + 2 * b)]) (ss_set (ss_set z t (3 + 2 * b)) (t + (3 + 2 * b)) (8 + m)) (ss_set E x (t + (3 + 2 * b))) (ss_set F f t) (ss_set Lv x true) (ss_set Fv f true) (ss_set Xd x (ss_new f (some a) (some d) m)) (ss_set Fd f (b, 0, (fun _ => 0), (fun _ => 0)))
      (ss_cnt hd (some c) (ss_set Lv x true) (ss_set Xd x (ss_new f (some a) (some d) m))) (ss_shr (ss_set Lv x true) (ss_set Xd x (ss_new f (some a) (some d) m))) (t + (3 + 2 * b) + (8 + m)) s2 ∧
    ss_CL (ss_set E x (t + (3 + 2 * b))) (ss_set Lv x true) (ss_set Fv f true) (ss_set Xd x (ss_new f (some a) (some d) m)) hd (some c) ∧
    ss_us (ss_set Lv x true) (ss_set Fv f true) (ss_set Xd x (ss_new f (some a) (some d) m)) (ss_set Fd f (b, 0, (fun _ => 0), (fun _ => 0))) = ss_us Lv Fv Xd Fd + (3 + 2 * b) + (8 + m) ∧
    (∀ j, ss_set Lv x true j = true → j ≠ x → 0 < ss_cnt hd (some c) (ss_set Lv x true) (ss_set Xd x (ss_new f (some a) (some d) m)) j) ∧ c ≠ x ∧
    (∀ h, h < 8 → ss_oE (ss_set E x (t + (3 + 2 * b))) (hd h) = ss_oE E (hd h)) := by
  obtain ⟨R, C, Pz⟩ := G
  have shf : ss_shr Lv Xd f = 0 := by
    by_cases q : 0 < ss_shr Lv Xd f
    · have := (ss_fvs C f f32).mpr q
      rw [hf] at this
      exact nomatch this
    · omega
  have low : ∀ j, Lv j = true → E j < t + (3 + 2 * b) := by
    intro j hj
    have := ss_RS_in R hj
    omega
  refine ⟨?_, ?_, ?_, ?_, ?_, ?_⟩
  · refine ss_RS_cu R2 (fun i _ => ss_cu_new _ C x32 hx i) (fun k _ => ?_)
    rw [ss_shr_new _ x32 hx]
    show ss_shr Lv Xd k + ss_q (some f) k = ss_set (ss_shr Lv Xd) f 0 k + ss_q (some f) k
    by_cases e : k = f
    · rw [e, ss_set_s, shf]
    · rw [ss_set_n e]
  · exact ss_CL_new (r := ss_new f (some a) (some d) m) C x32 hx f32 ss_set_s (fun k hk => by
      by_cases e : k = f
      · rw [e, ss_set_s]
      · rw [ss_set_n e]; exact hk) (fun k hk => by
      rcases ss_set_cases hk with e | e
      · exact Or.inl e
      · exact Or.inr e.2) (fun j hj => by rw [← Option.some.inj (hj : some a = some j)]; exact la) (fun j hj => by rw [← Option.some.inj (hj : some d = some j)]; exact ld) low
  · rw [ss_us_newE (ss_new f (some a) (some d) m) x32 hx, ss_us_newF (b, 0, (fun _ => 0), (fun _ => 0)) f32 hf]
    rfl
  · intro j hj hn
    rcases ss_set_cases hj with e | ⟨e, hj'⟩
    · exact absurd e hn
    · have := ss_cnt_new (hd := hd) (cur := some c) (Xd := Xd) (ss_new f (some a) (some d) m) x32 hx j
      have := Pz j hj'
      omega
  · intro e
    have := C.2.2.1 c rfl
    rw [e, hx] at this
    exact nomatch this
  · intro h h8
    refine ss_oE_c (fun j hj => ss_set_n ?_)
    intro e
    have := C.2.2.2 h j h8 hj
    rw [e, hx] at this
    exact nomatch this
/-- Y clears the bindings of a new frame and fills in the new extension -/
theorem ss_y_callL {post : Int32 → SY → Prop} {f x m : Nat} {xa xc : Int32} {yd0 : Nat → Int32} (f32 : f < 32) (x32 : x < 32)
    (hp : ∀ yd', (∀ j, j < 32 → yd' (f * 32 + j) = 0) → (∀ p, (p < f * 32 ∨ f * 32 + 32 ≤ p) → yd' p = yd0 p) → post 0 (nI x, yc, upd yf x (nI f), upd ya x xa, upd yo x xc, upd yl x 0, upd yi x 0, upd yr x (nI m), upd yn x 0, yt, yv, yb, yd', yw, yh)) :
    ∀ (n j : Nat) (yd : Nat → Int32), 32 < n + j → j ≤ 32 → (∀ l, l < j → yd (f * 32 + l) = 0) → (∀ p, (p < f * 32 ∨ f * 32 + 32 ≤ p) → yd p = yd0 p) → wY_call_97 post (nI m) xa xc (nI f) (nI x) ye yc n (nI j) yf ya yo yl yi yr yn yt yv yb yd yw yh := by
  intro n
  induction n with
  | zero => intro j yd hn; omega
  | succ n ih =>
    intro j yd hn hj q1 q2
    refine pk_le 32 j (fun g => ?_) (fun g => ?_)
    · rw [nI_clamp (n := x) (by omega)]
      exact And.intro (vp_in_nI x32 (by decide)) (nm_e (And.intro (vp_in_nI x32 (by decide)) (nm_e (And.intro (vp_in_nI x32 (by decide)) (nm_e (And.intro (vp_in_nI x32 (by decide)) (nm_e (And.intro (vp_in_nI x32 (by decide)) (nm_e (And.intro (vp_in_nI x32 (by decide)) (nm_e (And.intro (vp_in_nI x32 (by decide)) (nm_e (hp yd (fun l hl => q1 l (by omega)) q2))))))))))))))
    · rw [ss_ix32, nI_clamp (by omega), ss_b0]
      refine And.intro (vp_in_nI (by omega) (by decide)) (nm_e (nm_r (nI_1 j) (ih (j + 1) _ (by omega) (by omega) ?_ ?_)))
      · intro l hl
        by_cases e : l = j
        · rw [e, pk_us]
        · rw [pk_un (by omega)]; exact q1 l (by omega)
      · intro p hp
        rw [pk_un (by omega)]; exact q2 p hp
theorem ss_GY_call {f x b m : Nat} {ac co : Option Nat} {yd' : Nat → Int32} (hY : ss_GY Lv Fv Xd Fd hd yf ya yo yl yi yr yn yt yb yd yw yh) (hw : ∀ f, Fv f = true → ss_FW (Fd f)) (q1 : ∀ j, j < 32 → yd' (f * 32 + j) = 0) (q2 : ∀ p, (p < f * 32 ∨ f * 32 + 32 ≤ p) → yd' p = yd p) :
    ss_GY (ss_set Lv x true) (ss_set Fv f true) (ss_set Xd x (ss_new f ac co m)) (ss_set Fd f (b, 0, (fun _ => 0), (fun _ => 0))) hd (upd yf x (nI f)) (upd ya x (ss_oE id ac)) (upd yo x (ss_oE id co)) (upd yl x 0) (upd yi x 0) (upd yr x (nI m)) (upd yn x 0) yt (upd yb f (nI b)) yd' yw yh := by
  refine ⟨?_, ?_, ?_, hY.2.2.2⟩
  · intro i hi
    rcases ss_set_cases hi with e | ⟨e, hi'⟩
    · subst e
      rw [ss_set_s, pk_us, pk_us, pk_us, pk_us, pk_us]
      exact ⟨rfl, rfl, rfl, rfl, rfl, fun k hk => absurd hk (Nat.not_lt_zero _)⟩
    · rw [ss_set_n e, pk_un e, pk_un e, pk_un e, pk_un e, pk_un e]
      exact hY.1 i hi'
  · intro g hg
    rcases ss_set_cases hg with e | ⟨e, hg'⟩
    · subst e
      rw [ss_set_s, pk_us]
      exact ⟨rfl, fun j hj => q1 j hj, fun k hk => absurd hk (Nat.not_lt_zero _)⟩
    · rw [ss_set_n e, pk_un e]
      obtain ⟨a1, a2, a3⟩ := hY.2.1 g hg'
      exact ⟨a1, fun j hj => by rw [q2 _ (by omega)]; exact a2 j hj, a3⟩
  · intro i hi
    rcases ss_set_cases hi with e | ⟨e, hi'⟩
    · subst e
      rw [ss_set_s, pk_us, pk_us]
      exact ⟨rfl, rfl⟩
    · rw [ss_set_n e, pk_un e, pk_un e]
      exact hY.2.2.1 i hi'
end
end
section
/-! the owed row of call -/
section
variable {L : List Nat} {z E F : Nat → Nat} {Lv Fv : Nat → Bool} {Xd : Nat → ss_ER} {Fd : Nat → ss_FR} {hd : Nat → Option Nat} {cur : Option Nat}
theorem ss_pickE {n : Nat} (h : ss_us Lv Fv Xd Fd ≤ n) (hn : n < 256) : ss_last Lv 32 < 32 ∧ Lv (ss_last Lv 32) = false := ss_last_ok 32 (ss_free h hn)
theorem ss_pickF {n : Nat} (C : ss_CL E Lv Fv Xd hd cur) (h : ss_us Lv Fv Xd Fd ≤ n) (hn : n < 256) : ss_last Fv 32 < 32 ∧ Fv (ss_last Fv 32) = false := by
  refine ss_last_ok 32 ?_
  obtain ⟨f, hf, e⟩ := ss_freeF h hn
  refine ⟨f, hf, ss_bt ?_⟩
  rw [ss_fvs C f hf]
  omega
end
theorem i_vc_call {k : Nat} {u : SX} {v : SY} (I : i_Rel k u v) (hk : k + 5 ≤ 2563) (v1 : Int32) (v2 : Int32) (v3 : Int32) (v4 : Int32) : wpX_call (fun r u' => wpY_call (fun r' v' => r' = r ∧ i_Rel (k + 5) u' v') v v1 v2 v3 v4) u v1 v2 v3 v4 := by
  refine ss_elim (P := fun u v => wpX_call (fun r u' => wpY_call (fun r' v' => r' = r ∧ i_Rel (k + 5) u' v') v v1 v2 v3 v4) u v1 v2 v3 v4) ?_ I
  intro L z E F Lv Fv Xd Fd hd c t cap k1 k2 k3 k4 k5 k6 k7 k8 k9 k10 k11 k12 k13 kp st fw pn ah yf ya yo yl yi yr yn yt yv yb yd yw yh hX hY
  have I' : ∀ yv, i_Rel (k + 5) (k1, k2, k3, k4, k5, k6, k7, k8, k9, k10, k11, k12, k13, nI cap, kp, nI t, nI (ss_us Lv Fv Xd Fd), nI (E c), st, fw, pn, ah) (nI c, nI cap, yf, ya, yo, yl, yi, yr, yn, yt, yv, yb, yd, yw, yh) := fun yv => ss_intro hX hY
  have G := hX.1
  have h240 : t ≤ 240 := Nat.le_trans hX.2.2.2.1 hX.2.2.2.2
  have hcap := hX.2.2.2.2
  have hus := hX.2.2.1
  have hc : Lv c = true := G.2.1.2.2.1 c rfl
  have RK := ss_rank G h240
  have YL := ss_links G.2.1 hY
  have bnd : ∀ j, Lv j = true → E j < 240 := fun j hj => by have := ss_RS_in G.1 hj; omega
  have bh : ∀ h j, h < 8 → hd h = some j → E j < 240 := fun h j h8 hj => bnd j (G.2.1.2.2.2 h j h8 hj)
  have hwf : ∀ f, Fv f = true → ss_FW (Fd f) := fun f hf => (G.1.2.2.2.1 f hf).2.2.1
  unfold wpX_call
  refine ss_x_envOf rfl hX.2.1 bh ?_
  cases e1 : ss_ev hd c v1 with
  | none =>
    refine br_t ss_neg ?_
    unfold wpY_call
    refine ss_y_resolve rfl hY.2.2.2 (ss_y_resolve rfl hY.2.2.2 ?_)
    rw [e1]
    exact br_t ss_neg ⟨rfl, I' yv⟩
  | some a =>
    have la := ss_ev_live G.2.1 e1
    have a32 := (G.2.1.1 a la).1
    have a0 : ¬ ss_oE id (some a) < 0 := nI_pos (n := a) (by omega)
    refine br_f (nI_pos (n := E a) (by have := bnd a la; omega)) (ss_x_envOf rfl hX.2.1 bh ?_)
    cases e2 : ss_ev hd c v2 with
    | none =>
      refine br_f ss_neg' ?_
      unfold wpY_call
      refine ss_y_resolve rfl hY.2.2.2 (ss_y_resolve rfl hY.2.2.2 ?_)
      rw [e1, e2]
      exact br_f a0 (br_t ss_neg ⟨rfl, I' yv⟩)
    | some d =>
      have ld := ss_ev_live G.2.1 e2
      have d32 := (G.2.1.1 d ld).1
      have d0 : ¬ ss_oE id (some d) < 0 := nI_pos (n := d) (by omega)
      refine br_t (nI_pos' (n := E d) (by have := bnd d ld; omega)) ?_
      rcases ss_room v3 with g | g | ⟨b, hb, e⟩
      · refine ss_x_isRoom0 (Or.inl g) (br_t rfl ?_)
        unfold wpY_call
        refine ss_y_resolve rfl hY.2.2.2 (ss_y_resolve rfl hY.2.2.2 ?_)
        rw [e1, e2]
        exact br_f a0 (br_f d0 (br_t g ⟨rfl, I' yv⟩))
      · refine ss_x_isRoom0 (Or.inr g) (br_t rfl ?_)
        unfold wpY_call
        refine ss_y_resolve rfl hY.2.2.2 (ss_y_resolve rfl hY.2.2.2 ?_)
        rw [e1, e2]
        exact br_f a0 (br_f d0 (br_f g.1 (br_t g.2 ⟨rfl, I' yv⟩)))
      · subst e
        have b0 : ¬ nI b < 0 := nI_pos (by omega)
        have b4 : ¬ (4 : Int32) < nI b := nI_nlt (a := 4) (b := b) (by omega) (by decide)
        refine ss_x_isRoom1 hb (br_f (by decide) ?_)
        rcases ss_room v4 with g | g | ⟨m, hm, e⟩
        · refine ss_x_isRoom0 (Or.inl g) (br_t rfl ?_)
          unfold wpY_call
          refine ss_y_resolve rfl hY.2.2.2 (ss_y_resolve rfl hY.2.2.2 ?_)
          rw [e1, e2]
          exact br_f a0 (br_f d0 (br_f b0 (br_f b4 (br_t g ⟨rfl, I' yv⟩))))
        · refine ss_x_isRoom0 (Or.inr g) (br_t rfl ?_)
          unfold wpY_call
          refine ss_y_resolve rfl hY.2.2.2 (ss_y_resolve rfl hY.2.2.2 ?_)
          rw [e1, e2]
          exact br_f a0 (br_f d0 (br_f b0 (br_f b4 (br_f g.1 (br_f (Int32.not_le.mpr g.2) ⟨rfl, I' yv⟩)))))
        · subst e
          have m0 : ¬ nI m < 0 := nI_pos (by omega)
          have m4 : nI m ≤ 4 := nI_le (a := m) (b := 4) hm (by decide)
          have e5 : (11 + (2 * nI b)) + nI m = nI (11 + 2 * b + m) := by
            rw [show (2 : Int32) * nI b = nI (2 * b) from pk_mul 2 b, show (11 : Int32) + nI (2 * b) = nI (11 + 2 * b) from nI_add 11 (2 * b), nI_add]
          have e6 : ((nI (ss_us Lv Fv Xd Fd) + 11) + (2 * nI b)) + nI m = nI (ss_us Lv Fv Xd Fd + 11 + 2 * b + m) := by
            rw [show (2 : Int32) * nI b = nI (2 * b) from pk_mul 2 b, show nI (ss_us Lv Fv Xd Fd) + 11 = nI (ss_us Lv Fv Xd Fd + 11) from nI_add _ 11, nI_add, nI_add]
          refine ss_x_isRoom1 hm (br_f (by decide) (nm_r e5 (pk_le (11 + 2 * b + m) (cap - ss_us Lv Fv Xd Fd) (fun g => ?_) (fun g => ?_) rfl (pk_sub hus))))
          · obtain ⟨x32, hx⟩ := ss_pickE (n := 240) (Lv := Lv) (Fv := Fv) (Xd := Xd) (Fd := Fd) (by omega) (by omega)
            obtain ⟨f32, hf⟩ := ss_pickF (n := 240) (Fd := Fd) G.2.1 (by omega) (by omega)
            refine ss_x_reserve (n := 11 + 2 * b + m) (cap := cap) (hd := hd) (cur := some c) rfl rfl rfl rfl hX.2.1 hcap hX.2.2.2.1 (by omega) G (by omega) ?_
            intro L' z' E' F' t' s' fw' ah' G' ht' hah'
            have bh' : ∀ h j, h < 8 → hd h = some j → E' j < 240 := fun h j h8 hj => by have := ss_RS_in G'.1 (G'.2.1.2.2.2 h j h8 hj); omega
            refine ss_x_envOf (c := c) rfl hah' bh' (ss_x_envOf (c := c) rfl hah' bh' ?_)
            rw [e1, e2]
            refine ss_x_mkF (f := ss_last Fv 32) rfl rfl rfl hb (by omega) G'.1 hf (ss_make_nf G' hf) ?_
            intro s1 R1
            refine ss_x_mkE (x := ss_last Lv 32) (f := ss_last Fv 32) (ac := some a) (co := some d) (by rw [ss_set_s]) rfl rfl rfl rfl rfl hm (by omega) R1 hx (ss_make_nl G' hx) ss_set_s (fun j hj => by rw [← Option.some.inj hj]; exact la) (fun j hj => by rw [← Option.some.inj hj]; exact ld) ?_
            intro s2 R2
            obtain ⟨R3, C1, us1, pos1, cx, hh⟩ := ss_make_ok G' x32 hx f32 hf la ld R2
            refine ss_x_enter (i := ss_last Lv 32) (cur := some c) (hd := hd) (by rw [ss_set_s]) (by omega) (by rw [us1]) (by omega) (by
              show nI (E' c) = nI (ss_set E' (ss_last Lv 32) (t' + (3 + 2 * b)) c)
              rw [ss_set_n cx]) R3 C1 ss_set_s pos1 ?_
            intro Lv2 Fv2 s3 kp2 pn2 hL hF G2 hu2
            unfold wpY_call
            refine ss_y_resolve rfl hY.2.2.2 (ss_y_resolve rfl hY.2.2.2 ?_)
            rw [e1, e2]
            refine br_f a0 (br_f d0 (br_f b0 (br_f b4 (br_f m0 (br_t m4 ?_)))))
            refine ss_y_used rfl hc YL RK G.2.2 (ss_yfs G.2.1 hY.1) (fun i hi => (hY.1 i hi).2.2.2.1) (ss_fvs G.2.1) (fun f hf => (hY.2.1 f hf).1) ?_
            intro lv V
            refine pk_le (ss_us Lv Fv Xd Fd + 11 + 2 * b + m) cap (fun _ => ?_) (fun h => by omega) e6 rfl
            refine ss_y_freeF (Fv := Fv) rfl hc YL RK G.2.2 (ss_yfs G.2.1 hY.1) (ss_fvs G.2.1) ?_
            intro lv1 V1
            refine ss_y_freeE rfl hc YL RK G.2.2 ?_
            intro lv2 V2
            refine And.intro (vp_in_nI f32 (by decide)) (nm_r (e' := upd yb (ss_last Fv 32) (nI b)) (by rw [nI_clamp (by omega)]) ⟨33, ss_y_callL (yd0 := yd) f32 x32 ?_ 33 0 yd (by omega) (by omega) (fun l hl => by omega) (fun p _ => rfl)⟩)
            intro yd' q1 q2
            have us2 := ss_us_sub (Xd := ss_set Xd (ss_last Lv 32) (ss_new (ss_last Fv 32) (some a) (some d) m)) (Fd := ss_set Fd (ss_last Fv 32) (b, 0, (fun _ => 0), (fun _ => 0))) hL hF
            have hX2 : ss_GX (L' ++ [t'] ++ [t' + (3 + 2 * b)]) (ss_set (ss_set z' t' (3 + 2 * b)) (t' + (3 + 2 * b)) (8 + m)) (ss_set E' (ss_last Lv 32) (t' + (3 + 2 * b))) (ss_set F' (ss_last Fv 32) t') Lv2 Fv2 (ss_set Xd (ss_last Lv 32) (ss_new (ss_last Fv 32) (some a) (some d) m)) (ss_set Fd (ss_last Fv 32) (b, 0, (fun _ => 0), (fun _ => 0))) hd (ss_last Lv 32) (t' + (3 + 2 * b) + (8 + m)) cap s3 ah' :=
              ⟨G2, fun h h8 => (hah' h h8).trans (hh h h8).symm, by omega, by omega, hcap⟩
            exact ⟨rfl, ss_intro2 rfl rfl rfl rfl rfl rfl hX2 (ss_GY_sub (ss_GY_call hY hwf q1 q2) hL hF)⟩
          · unfold wpY_call
            refine ss_y_resolve rfl hY.2.2.2 (ss_y_resolve rfl hY.2.2.2 ?_)
            rw [e1, e2]
            refine br_f a0 (br_f d0 (br_f b0 (br_f b4 (br_f m0 (br_t m4 ?_)))))
            refine ss_y_used rfl hc YL RK G.2.2 (ss_yfs G.2.1 hY.1) (fun i hi => (hY.1 i hi).2.2.2.1) (ss_fvs G.2.1) (fun f hf => (hY.2.1 f hf).1) ?_
            intro lv V
            exact pk_le (ss_us Lv Fv Xd Fd + 11 + 2 * b + m) cap (fun h => by omega) (fun _ => ⟨rfl, I' lv⟩) e6 rfl
end
section
/-! handing over control: the pieces -/
theorem ss_set_set {α : Type} {f : Nat → α} {k : Nat} {a b : α} : ss_set (ss_set f k a) k b = ss_set f k b := by
  funext j
  by_cases e : j = k
  · rw [e, ss_set_s, ss_set_s]
  · rw [ss_set_n e, ss_set_n e, ss_set_n e]
/-- which extension is meant -/
def ss_GO (hd : Nat → Option Nat) (Xd : Nat → ss_ER) (c : Nat) (p : Int32) (g : Nat) : Prop := (p = -1 ∧ ss_co (Xd c) = some g) ∨ ∃ h, h < 8 ∧ p = nI h ∧ hd h = some g
/-- what remains of the goal's users -/
def ss_rem (n : Int32) (g c cc : Nat) (a d : Option Nat) : Int32 := if g = c then n + (-1) else if cc = 1 then (n + (if a = some g then -1 else 0)) + (if d = some g then -1 else 0) else n
theorem ss_rem_c {n : Int32} {g c cc : Nat} {a d : Option Nat} (h : g = c) : ss_rem n g c cc a d = n + (-1) := if_pos h
theorem ss_rem_o {n : Int32} {g c cc : Nat} {a d : Option Nat} (h : ¬ g = c) (h2 : ¬ cc = 1) : ss_rem n g c cc a d = n := by
  unfold ss_rem; rw [if_neg h, if_neg h2]
theorem ss_rem_1 {n : Int32} {g c cc : Nat} {a d : Option Nat} (h : ¬ g = c) (h2 : cc = 1) : ss_rem n g c cc a d = (n + (if a = some g then -1 else 0)) + (if d = some g then -1 else 0) := by
  unfold ss_rem; rw [if_neg h, if_pos h2]
theorem ss_m1 (n : Int32) : n - 1 = n + (-1) := by rw [Int32.sub_eq_add_neg]
theorem ss_m0 (n : Int32) : n - 0 = n := Int32.sub_zero n
theorem ss_a0 (n : Int32) : n + 0 = n := Int32.add_zero n
theorem ss_oE_eq {E : Nat → Nat} {o : Option Nat} {g : Nat} (hg : E g < 240) (ho : ∀ j, o = some j → E j < 240 ∧ (E j = E g → j = g)) : ss_oE E o = nI (E g) ↔ o = some g := by
  cases o with
  | none =>
    constructor
    · intro h
      have h' : (-1 : Int32) = nI (E g) := h
      have p := nI_pos (n := E g) (by omega)
      rw [← h'] at p
      exact absurd (by decide) p
    · intro h; exact nomatch h
  | some j =>
    obtain ⟨a, b⟩ := ho j rfl
    constructor
    · intro h
      rw [b ((nI_eq (a := E j) (b := E g) (by omega) (by omega)).mp h)]
    · intro h
      rw [Option.some.inj h]; rfl
section
variable {k1 k2 k3 k4 k5 k6 k7 k8 k9 k10 k11 k12 k13 kc kp kt ku ke : Int32} {st fw pn ah : Nat → Int32}
variable {L : List Nat} {z E F : Nat → Nat} {Lv Fv : Nat → Bool} {Xd : Nat → ss_ER} {Fd : Nat → ss_FR} {hd : Nat → Option Nat} {c t cap : Nat}
theorem ss_x_goalOf {post : Int32 → Prop} {p : Int32} {g : Nat} (hke : ke = nI (E c)) (ht : t ≤ 240) (hah : ∀ h, h < 8 → ah h = ss_oE E (hd h)) (G : ss_GS L z E F Lv Fv Xd Fd hd (some c) t st) (O : ss_GO hd Xd c p g) (hp : post (nI (E g))) : wpX_goalOf post (k1, k2, k3, k4, k5, k6, k7, k8, k9, k10, k11, k12, k13, kc, kp, kt, ku, ke, st, fw, pn, ah) p := by
  subst hke
  rcases O with ⟨e, e2⟩ | ⟨h, h8, e, e2⟩
  · subst e
    have hc : Lv c = true := G.2.1.2.2.1 c rfl
    have lim := ss_RS_in G.1 hc
    have x4 := (G.1.2.2.1 c hc).2.2.2.2.2.2.2.1
    refine br_f ss_neg' (And.intro (ss_ix (k := 4) (by omega) (by decide)) ?_)
    rw [ss_rd (k := 4) x4 (by omega), e2]
    exact hp
  · subst e
    refine br_t (nI_pos' (by omega)) (And.intro (vp_in_nI h8 (by decide)) ?_)
    rw [nI_clamp (by omega), hah h h8, e2]
    exact hp
theorem ss_x_rem64 {post : Int32 → Prop} {x n z0 : Int32} {d : Option Nat} {g a : Nat} (ha : a + 8 ≤ 240) (hke : ke = nI a) (x4 : st (a + 4) = x) (iff : x = nI (E g) ↔ d = some g) (hp : post ((n - z0) + (if d = some g then -1 else 0))) : wX_remainingUsers_64 post (nI (E g)) z0 n k1 k2 k3 k4 k5 k6 k7 k8 k9 k10 k11 k12 k13 kc kp kt ku ke st fw pn ah := by
  subst hke
  unfold wX_remainingUsers_64
  refine nm_e (And.intro (ss_ix (k := 4) (by omega) (by decide)) ?_)
  rw [ss_rd (k := 4) x4 (by omega)]
  by_cases q : d = some g
  · rw [if_pos q, ← ss_m1] at hp
    exact br_t (iff.mpr q) (nm_e hp)
  · rw [if_neg q, ss_a0] at hp
    refine br_f (fun h => q (iff.mp h)) (nm_e ?_)
    rw [ss_m0]
    exact hp
theorem ss_x_rem {post : Int32 → Prop} {xg p : Int32} {g : Nat} (hxg : xg = nI (E g)) (hke : ke = nI (E c)) (ht : t ≤ 240) (G : ss_GS L z E F Lv Fv Xd Fd hd (some c) t st) (lg : Lv g = true)
    (hp : post (ss_rem (if p = 0 then nI (ss_cnt hd (some c) Lv Xd g) + (-1) else nI (ss_cnt hd (some c) Lv Xd g)) g c (ss_cnt hd (some c) Lv Xd c) (ss_ac (Xd c)) (ss_co (Xd c)))) : wpX_remainingUsers post (k1, k2, k3, k4, k5, k6, k7, k8, k9, k10, k11, k12, k13, kc, kp, kt, ku, ke, st, fw, pn, ah) xg p := by
  subst hxg hke
  have hc : Lv c = true := G.2.1.2.2.1 c rfl
  have lim := ss_RS_in G.1 hc
  have limg := ss_RS_in G.1 lg
  have C1 := G.2.1.1 c hc
  obtain ⟨i1, i2, i3, i4⟩ := G.1.2.2.1 c hc
  obtain ⟨x0, x1, x2, x3, x4, x5, x6, x7, x8⟩ := i4
  have gx1 := (G.1.2.2.1 g lg).2.2.2.2.1
  have inj := G.1.2.2.2.2.1.1
  have le := ss_cnt_le (hd := hd) (cur := some c) (Lv := Lv) (Xd := Xd) c
  have bnd : ∀ j, Lv j = true → E j < 240 := fun j hj => by have := ss_RS_in G.1 hj; omega
  have ia := ss_oE_eq (E := E) (o := ss_ac (Xd c)) (g := g) (by omega) (fun j hj => ⟨bnd j (C1.2.2.1 j hj).1, fun h => inj j g (C1.2.2.1 j hj).1 lg h⟩)
  have id' := ss_oE_eq (E := E) (o := ss_co (Xd c)) (g := g) (by omega) (fun j hj => ⟨bnd j (C1.2.2.2 j hj).1, fun h => inj j g (C1.2.2.2 j hj).1 lg h⟩)
  have go : ∀ n, post (ss_rem n g c (ss_cnt hd (some c) Lv Xd c) (ss_ac (Xd c)) (ss_co (Xd c))) → wX_remainingUsers_16 post (nI (E g)) n k1 k2 k3 k4 k5 k6 k7 k8 k9 k10 k11 k12 k13 kc kp kt ku (nI (E c)) st fw pn ah := by
    intro n hp
    refine pk_eq (E g) (E c) (fun e => ?_) (fun e => ?_)
    · rw [ss_rem_c (inj g c lg hc e), ← ss_m1] at hp
      exact hp
    · have ne : ¬ g = c := fun h => e (by rw [h])
      refine And.intro (ss_ix (k := 1) (by omega) (by decide)) ?_
      rw [ss_rd (k := 1) x1 (by omega)]
      refine pk_eq (ss_cnt hd (some c) Lv Xd c) 1 (fun e1 => ?_) (fun e1 => ?_)
      · rw [ss_rem_1 ne e1] at hp
        refine And.intro (ss_ix (k := 3) (by omega) (by decide)) ?_
        rw [ss_rd (k := 3) x3 (by omega)]
        by_cases q : ss_ac (Xd c) = some g
        · rw [if_pos q, ← ss_m1] at hp
          exact br_t (ia.mpr q) (ss_x_rem64 (d := ss_co (Xd c)) (by omega) rfl x4 id' hp)
        · rw [if_neg q, ss_a0] at hp
          refine br_f (fun h => q (ia.mp h)) (ss_x_rem64 (d := ss_co (Xd c)) (by omega) rfl x4 id' ?_)
          rw [ss_m0]
          exact hp
      · rw [ss_rem_o ne e1] at hp
        exact hp
  refine And.intro (ss_ix (k := 1) (by omega) (by decide)) (nm_r (ss_rd (k := 1) gx1 (by omega)) ?_)
  by_cases q : p = 0
  · rw [if_pos q] at hp
    exact br_t q (nm_e (go _ hp))
  · rw [if_neg q] at hp
    exact br_f q (go _ hp)
/-- the copying of an extension's cells -/
theorem ss_x_copyL {post : Int32 → SX → Prop} {a m : Nat} {s0 : Nat → Int32} (ha : a + (8 + m) ≤ t) (ht : t + (8 + m) ≤ 240)
    (hp : ∀ s', (∀ k, 5 ≤ k → k < 8 + m → s' (t + k) = s0 (a + k)) → (∀ p, (p < t + 5 ∨ t + (8 + m) ≤ p) → s' p = s0 p) → post (nI t) (k1, k2, k3, k4, k5, k6, k7, k8, k9, k10, k11, k12, k13, kc, kp, kt, ku, ke, s', fw, pn, ah)) :
    ∀ (n i : Nat) (s : Nat → Int32), 8 + m < n + i → 5 ≤ i → i ≤ 8 + m → (∀ k, 5 ≤ k → k < i → s (t + k) = s0 (a + k)) → (∀ p, (p < t + 5 ∨ t + i ≤ p) → s p = s0 p) →
      wX_copyOf_39 post (nI a) (nI m) (nI t) k1 k2 k3 k4 k5 k6 k7 k8 k9 k10 k11 k12 k13 kc kp kt ku ke n (nI i) s fw pn ah := by
  intro n
  induction n with
  | zero => intro i s hn; omega
  | succ n ih =>
    intro i s hn h5 hi q1 q2
    refine pk_le (8 + m) i (fun g => ?_) (fun g => ?_) (ss_c8 m) rfl
    · have e : i = 8 + m := by omega
      subst e
      exact hp s q1 q2
    · refine And.intro (ss_ix (k := i) (by omega) (by decide)) (And.intro (ss_ix (k := i) (by omega) (by decide)) (nm_r (e' := upd s (t + i) (s0 (a + i))) (by rw [ss_cl (k := i) (by omega), ss_cl (k := i) (by omega), q2 (a + i) (by omega)]) (nm_r (nI_1 i) ?_)))
      refine ih (i + 1) _ (by omega) (by omega) (by omega) ?_ ?_
      · intro k hk hk2
        by_cases e : k = i
        · rw [e, pk_us]
        · rw [pk_un (by omega)]; exact q1 k hk (by omega)
      · intro p hp
        rw [pk_un (by omega)]; exact q2 p (by omega)
theorem ss_x_copyOf {post : Int32 → SX → Prop} {xg : Int32} {g x : Nat} (hxg : xg = nI (E g)) (hkt : kt = nI t) (hku : ku = nI (ss_us Lv Fv Xd Fd)) (ht : t + (8 + ss_rm (Xd g)) ≤ 240)
    (G : ss_GS L z E F Lv Fv Xd Fd hd (some c) t st) (lg : Lv g = true) (x32 : x < 32) (hx : Lv x = false)
    (hp : ∀ s', ss_RS (L ++ [t]) (ss_set z t (8 + ss_rm (Xd g))) (ss_set E x t) F (ss_set Lv x true) Fv (ss_set Xd x (Xd g)) Fd (ss_cnt hd (some c) (ss_set Lv x true) (ss_set Xd x (Xd g))) (ss_shr (ss_set Lv x true) (ss_set Xd x (Xd g))) (t + (8 + ss_rm (Xd g))) s' →
      ss_CL (ss_set E x t) (ss_set Lv x true) Fv (ss_set Xd x (Xd g)) hd (some c) → (∀ j, ss_set Lv x true j = true → j ≠ x → 0 < ss_cnt hd (some c) (ss_set Lv x true) (ss_set Xd x (Xd g)) j) → c ≠ x → (∀ h, h < 8 → ss_oE (ss_set E x t) (hd h) = ss_oE E (hd h)) →
      post (nI t) (k1, k2, k3, k4, k5, k6, k7, k8, k9, k10, k11, k12, k13, kc, kp, nI (t + (8 + ss_rm (Xd g))), nI (ss_us (ss_set Lv x true) Fv (ss_set Xd x (Xd g)) Fd), ke, s', fw, pn, ah)) : wpX_copyOf post (k1, k2, k3, k4, k5, k6, k7, k8, k9, k10, k11, k12, k13, kc, kp, kt, ku, ke, st, fw, pn, ah) xg := by
  subst hxg
  have lim := ss_RS_in G.1 lg
  obtain ⟨i1, i2, i3, i4⟩ := G.1.2.2.1 g lg
  have i4' := i4
  obtain ⟨x0, x1, x2, x3, x4, x5, x6, x7, x8⟩ := i4
  have C1 := G.2.1.1 g lg
  have e8 : st (nI (E g)).toNatClampNeg - 8 = nI (ss_rm (Xd g)) := by
    rw [ss_rd0 x0 (by omega), show nI (8 + ss_rm (Xd g)) - 8 = nI (8 + ss_rm (Xd g) - 8) from pk_sub (b := 8) (by omega), Nat.add_sub_cancel_left]
  unfold wpX_copyOf
  refine And.intro (vp_in_nI (by omega) (by decide)) ?_
  rw [e8]
  refine And.intro (ss_ix (k := 2) (by omega) (by decide)) (And.intro (ss_ix (k := 3) (by omega) (by decide)) (And.intro (ss_ix (k := 4) (by omega) (by decide)) ?_))
  refine ss_x_mkE (x := x) (f := ss_fr (Xd g)) (m := ss_rm (Xd g)) (ac := ss_ac (Xd g)) (co := ss_co (Xd g)) (ss_rd (k := 2) x2 (by omega)) (ss_rd (k := 3) x3 (by omega)) (ss_rd (k := 4) x4 (by omega)) rfl hkt hku (by omega) ht G.1 hx (ss_make_nl G hx) C1.2.1 (fun j hj => (C1.2.2.1 j hj).1) (fun j hj => (C1.2.2.2 j hj).1) ?_
  intro s1 R1
  have gx : g ≠ x := fun e => by rw [e, hx] at lg; exact nomatch lg
  have lg1 : ss_set Lv x true g = true := by rw [ss_set_n gx]; exact lg
  have G1 := (R1.2.2.1 g lg1).2.2.2
  rw [ss_set_n (f := E) gx, ss_set_n (f := Xd) gx] at G1
  have XN := R1.2.2.1 x ss_set_s
  rw [ss_set_s (f := E), ss_set_s (f := Xd), ss_set_s (f := z)] at XN
  obtain ⟨n1, n2, n3, n4⟩ := XN
  obtain ⟨w0, w1, w2, w3, w4, w5, w6, w7, w8⟩ := n4
  obtain ⟨v0, v1, v2, v3, v4, v5, v6, v7, v8⟩ := G1
  have us1 : ss_us (ss_set Lv x true) Fv (ss_set Xd x (Xd g)) Fd = ss_us Lv Fv Xd Fd + (8 + ss_rm (Xd g)) := ss_us_newE (Xd g) x32 hx
  refine ⟨8 + ss_rm (Xd g), ss_x_copyL (a := E g) (m := ss_rm (Xd g)) (s0 := s1) (by omega) ht ?_ (8 + ss_rm (Xd g)) 5 s1 (by omega) (by omega) (by omega) (fun k h5 hk => by omega) (fun p _ => rfl)⟩
  intro s2 r1 r2
  have X2 : ss_XC s2 (ss_set E x t) F (ss_set E x t x) (Xd g) (ss_set (ss_cnt hd (some c) Lv Xd) x 0 x + ss_q (ss_ac (Xd g)) x + ss_q (ss_co (Xd g)) x) := by
    rw [ss_set_s (f := E)]
    refine ⟨?_, ?_, ?_, ?_, ?_, ?_, ?_, ?_, ?_⟩
    · rw [r2 t (by omega)]; exact w0
    · rw [r2 _ (by omega)]; exact w1
    · rw [r2 _ (by omega)]; exact w2
    · rw [r2 _ (by omega)]; exact w3
    · rw [r2 _ (by omega)]; exact w4
    · rw [r1 5 (by omega) (by omega)]; exact v5
    · rw [r1 6 (by omega) (by omega)]; exact v6
    · rw [r1 7 (by omega) (by omega)]; exact v7
    · intro l hl
      have q := v8 l hl
      rw [Nat.add_assoc] at q ⊢
      rw [r1 (8 + l) (by omega) (by omega)]; exact q
  have R2 := ss_RS_ext (j := x) (r' := Xd g) R1 ss_set_s (by
    intro p hp
    rw [ss_set_s (f := E), ss_set_s (f := z)] at hp
    exact r2 p (by omega)) X2 i3 (by rw [ss_set_s]; rfl)
  rw [ss_set_set] at R2
  have R3 : ss_RS (L ++ [t]) (ss_set z t (8 + ss_rm (Xd g))) (ss_set E x t) F (ss_set Lv x true) Fv (ss_set Xd x (Xd g)) Fd (ss_cnt hd (some c) (ss_set Lv x true) (ss_set Xd x (Xd g))) (ss_shr (ss_set Lv x true) (ss_set Xd x (Xd g))) (t + (8 + ss_rm (Xd g))) s2 := by
    refine ss_RS_cu R2 (fun i _ => ?_) (fun k _ => ss_shr_new (Xd g) x32 hx k)
    rw [ss_cu_new (Xd g) G.2.1 x32 hx i]
    by_cases e : i = x
    · rw [e, ss_set_s (x := ss_set (ss_cnt hd (some c) Lv Xd) x 0 x + ss_q (ss_ac (Xd g)) x + ss_q (ss_co (Xd g)) x)]
    · rw [ss_set_n (x := ss_set (ss_cnt hd (some c) Lv Xd) x 0 x + ss_q (ss_ac (Xd g)) x + ss_q (ss_co (Xd g)) x) e]
  rw [← us1]
  refine hp s2 R3 ?_ ?_ ?_ ?_
  · refine ss_CL_new (r := Xd g) G.2.1 x32 hx (G.2.1.2.1 _ C1.2.1).1 C1.2.1 (fun _ h => h) (fun _ h => Or.inr h) (fun j hj => (C1.2.2.1 j hj).1) (fun j hj => (C1.2.2.2 j hj).1) ?_
    intro j hj
    have := ss_RS_in G.1 hj
    omega
  · intro j hj hn
    rcases ss_set_cases hj with e | ⟨e, hj'⟩
    · exact absurd e hn
    · have := ss_cnt_new (hd := hd) (cur := some c) (Xd := Xd) (Xd g) x32 hx j
      have := G.2.2 j hj'
      omega
  · intro e
    have := G.2.1.2.2.1 c rfl
    rw [e, hx] at this
    exact nomatch this
  · intro h h8
    refine ss_oE_c (fun j hj => ss_set_n ?_)
    intro e
    have := G.2.1.2.2.2 h j h8 hj
    rw [e, hx] at this
    exact nomatch this
/-- the input is set, the goal entered, the slot perhaps cleared -/
theorem ss_x_tail {post : Int32 → SX → Prop} {p0 p1 p2 xg : Int32} {y : Nat} (hxg : xg = nI (E y)) (hku : ku = nI (ss_us Lv Fv Xd Fd)) (hke : ke = nI (E c)) (ht : t ≤ 240) (hu : ss_us Lv Fv Xd Fd ≤ 240) (hah : ∀ h, h < 8 → ah h = ss_oE E (hd h))
    (R : ss_RS L z E F Lv Fv Xd Fd (ss_cnt hd (some c) Lv Xd) (ss_shr Lv Xd) t st) (C : ss_CL E Lv Fv Xd hd (some c)) (hpos : ∀ j, Lv j = true → j ≠ y → 0 < ss_cnt hd (some c) Lv Xd j) (ly : Lv y = true)
    (hk : ¬ p2 = 0 ∨ (p2 = 0 ∧ ∃ h j, h < 8 ∧ p0 = nI h ∧ hd h = some j))
    (hp : ∀ Lv' Fv' s' kp' pn' hd' ah', (∀ i, Lv' i = true → Lv i = true) → (∀ i, Fv' i = true → Fv i = true) → ss_GS L z E F Lv' Fv' (ss_set Xd y (ss_sIn (Xd y) p1)) Fd hd' (some y) t s' →
      ((¬ p2 = 0 ∧ hd' = hd ∧ ah' = ah) ∨ (p2 = 0 ∧ ∃ h, h < 8 ∧ p0 = nI h ∧ hd' = ss_set hd h none ∧ ah' = upd ah h (-1))) →
      post 0 (k1, k2, k3, k4, k5, k6, k7, k8, k9, k10, k11, k12, k13, kc, kp', kt, nI (ss_us Lv' Fv' (ss_set Xd y (ss_sIn (Xd y) p1)) Fd), nI (E y), s', fw, pn', ah')) : wX_giveControl_63 post p0 p1 p2 xg k1 k2 k3 k4 k5 k6 k7 k8 k9 k10 k11 k12 k13 kc kp kt ku ke st fw pn ah := by
  subst hxg
  have lim := ss_RS_in R ly
  obtain ⟨i1, i2, i3, i4⟩ := R.2.2.1 y ly
  obtain ⟨x0, x1, x2, x3, x4, x5, x6, x7, x8⟩ := i4
  have X2 : ss_XC (upd st (E y + 6) p1) E F (E y) (ss_sIn (Xd y) p1) (ss_cnt hd (some c) Lv Xd y) := by
    refine ⟨?_, ?_, ?_, ?_, ?_, ?_, pk_us, ?_, ?_⟩
    · rw [pk_un (by omega)]; exact x0
    · rw [pk_un (by omega)]; exact x1
    · rw [pk_un (by omega)]; exact x2
    · rw [pk_un (by omega)]; exact x3
    · rw [pk_un (by omega)]; exact x4
    · rw [pk_un (by omega)]; exact x5
    · rw [pk_un (by omega)]; exact x7
    · intro l hl
      rw [pk_un (by omega)]; exact x8 l hl
  have R1 := ss_RS_ext (j := y) (r' := ss_sIn (Xd y) p1) R ly (fun p hp => pk_un (by omega)) X2 i3 rfl
  rw [ss_set_id (f := ss_cnt hd (some c) Lv Xd) rfl] at R1
  have cd := fun i => ss_cnt_dat (hd := hd) (cur := some c) (Lv := Lv) (Xd := Xd) (x := y) (r := ss_sIn (Xd y) p1) rfl rfl i
  have R2 : ss_RS L z E F Lv Fv (ss_set Xd y (ss_sIn (Xd y) p1)) Fd (ss_cnt hd (some c) Lv (ss_set Xd y (ss_sIn (Xd y) p1))) (ss_shr Lv (ss_set Xd y (ss_sIn (Xd y) p1))) t (upd st (E y + 6) p1) :=
    ss_RS_cu R1 (fun i _ => cd i) (fun f _ => ss_shr_dat (show ss_fr (ss_sIn (Xd y) p1) = ss_fr (Xd y) from rfl) f)
  have us' : ss_us Lv Fv (ss_set Xd y (ss_sIn (Xd y) p1)) Fd = ss_us Lv Fv Xd Fd := ss_us_datE (show ss_rm (ss_sIn (Xd y) p1) = ss_rm (Xd y) from rfl)
  have C2 : ss_CL E Lv Fv (ss_set Xd y (ss_sIn (Xd y) p1)) hd (some c) := ss_CL_dat C rfl rfl rfl
  unfold wX_giveControl_63
  refine And.intro (ss_ix (k := 6) (by omega) (by decide)) (nm_r (e' := upd st (E y + 6) p1) (by rw [ss_cl (k := 6) (by omega)]) ?_)
  refine ss_x_enter (i := y) (cur := some c) (hd := hd) (Lv := Lv) (Fv := Fv) (Xd := ss_set Xd y (ss_sIn (Xd y) p1)) rfl ht (by rw [us']; exact hku) (by omega) hke R2 C2 ly (fun j hj hn => by rw [cd j]; exact hpos j hj hn) ?_
  intro Lv1 Fv1 s1 kp1 pn1 hL1 hF1 G1 hu1
  rcases hk with q | ⟨q, h, j, h8, e, ej⟩
  · exact br_f q (hp Lv1 Fv1 s1 kp1 pn1 hd ah hL1 hF1 G1 (Or.inl ⟨q, rfl, rfl⟩))
  · refine br_t q (ss_x_clearSlot (hd := hd) (cur := some y) e h8 ej (by rw [hah h h8, ej]; rfl) ht rfl hu1 G1 ?_)
    intro Lv2 Fv2 s2 kp2 pn2 hL2 hF2 G2 hu2
    exact hp Lv2 Fv2 s2 kp2 pn2 (ss_set hd h none) (upd ah h (-1)) (fun i hi => hL1 i (hL2 i hi)) (fun i hi => hF1 i (hF2 i hi)) G2 (Or.inr ⟨q, h, h8, e, rfl, rfl⟩)
end
end
section
/-! Y hands over control -/
section
variable {ye yc : Int32} {yf ya yo yl yi yr yn yt yv yb yd yw yh : Nat → Int32}
variable {E : Nat → Nat} {Lv Fv : Nat → Bool} {Xd : Nat → ss_ER} {Fd : Nat → ss_FR} {hd : Nat → Option Nat} {c cap : Nat} {lv : Nat → Int32} {rk : Nat → Nat}
theorem ss_y_rem {post : Int32 → SY → Prop} {p1 e n : Int32} {g : Nat} (hye : ye = nI c) (lc : Lv c = true) (lg : Lv g = true) (Y : ss_YL Lv Xd hd ya yo yh)
    (hp : wY_give_95 post (nI g) p1 e (ss_rem n g c (ss_cnt hd (some c) Lv Xd c) (ss_ac (Xd c)) (ss_co (Xd c))) ye yc yf ya yo yl yi yr yn yt lv yb yd yw yh) : wY_give_24 post (nI g) p1 e n (nI (ss_cnt hd (some c) Lv Xd c)) ye yc yf ya yo yl yi yr yn yt lv yb yd yw yh := by
  subst hye
  obtain ⟨c32, qa, qo, la, lo⟩ := Y.1 c lc
  have g32 := (Y.1 g lg).1
  have le := ss_cnt_le (hd := hd) (cur := some c) (Lv := Lv) (Xd := Xd) c
  have ia := ss_oI_eq (o := ss_ac (Xd c)) (x := g) (fun j hj => (Y.1 j (la j hj)).1) g32
  have io := ss_oI_eq (o := ss_co (Xd c)) (x := g) (fun j hj => (Y.1 j (lo j hj)).1) g32
  rw [← qa] at ia
  rw [← qo] at io
  unfold wY_give_24
  refine pk_eq g c (fun q => ?_) (fun q => ?_)
  · rw [ss_rem_c q] at hp
    have q' : nI g = nI c := by rw [q]
    exact nm_e (br_t q' (br_t q' hp))
  · have q' : ¬ nI g = nI c := fun h => q ((nI_eq (by omega) (by omega)).mp h)
    unfold wY_give_35
    refine br_f q' (pk_eq (ss_cnt hd (some c) Lv Xd c) 1 (fun e1 => ?_) (fun e1 => ?_))
    · rw [ss_rem_1 q e1] at hp
      refine And.intro (vp_in_nI c32 (by decide)) ?_
      rw [nI_clamp (n := c) (by omega)]
      have go : ∀ n, wY_give_95 post (nI g) p1 e (n + (if ss_co (Xd c) = some g then -1 else 0)) (nI c) yc yf ya yo yl yi yr yn yt lv yb yd yw yh → wY_give_65 post (nI g) p1 e n (nI (ss_cnt hd (some c) Lv Xd c)) (nI c) yc yf ya yo yl yi yr yn yt lv yb yd yw yh := by
        intro n hp
        unfold wY_give_65
        refine br_f q' (br_t (by rw [e1]; rfl) (And.intro (vp_in_nI c32 (by decide)) ?_))
        rw [nI_clamp (n := c) (by omega)]
        by_cases w : ss_co (Xd c) = some g
        · rw [if_pos w] at hp
          exact br_t (io.mpr w) (nm_e hp)
        · rw [if_neg w, ss_a0] at hp
          exact br_f (fun h => w (io.mp h)) hp
      by_cases w : ss_ac (Xd c) = some g
      · rw [if_pos w] at hp
        exact br_t (ia.mpr w) (nm_e (go _ hp))
      · rw [if_neg w, ss_a0] at hp
        exact br_f (fun h => w (ia.mp h)) (go _ hp)
    · rw [ss_rem_o q e1] at hp
      unfold wY_give_65
      refine br_f q' (br_f ?_ hp)
      intro h
      exact e1 ((nI_eq (a := ss_cnt hd (some c) Lv Xd c) (b := 1) (by omega) (by decide)).mp h)
theorem ss_y_give {post : Int32 → SY → Prop} {p1 e n : Int32} {g : Nat} (hye : ye = nI c) (lc : Lv c = true) (lg : Lv g = true) (Y : ss_YL Lv Xd hd ya yo yh) (RK : ss_RK Lv Xd rk) (sup : ∀ i, Lv i = true → 0 < ss_cnt hd (some c) Lv Xd i)
    (hn : (e < 0 ∧ n = nI (ss_cnt hd (some c) Lv Xd g)) ∨ (¬ e < 0 ∧ n = nI (ss_cnt hd (some c) Lv Xd g) + (-1)))
    (hp : ∀ lv, ss_LV Lv lv → wY_give_95 post (nI g) p1 e (ss_rem n g c (ss_cnt hd (some c) Lv Xd c) (ss_ac (Xd c)) (ss_co (Xd c))) ye yc yf ya yo yl yi yr yn yt lv yb yd yw yh) : wpY_give post (ye, yc, yf, ya, yo, yl, yi, yr, yn, yt, yv, yb, yd, yw, yh) (nI g) p1 e := by
  unfold wpY_give
  refine ss_y_users (x := g) rfl hye lc Y RK sup (Y.1 g lg).1 ?_
  intro lv1 V1
  refine ss_y_users (x := c) hye hye lc Y RK sup (Y.1 c lc).1 ?_
  intro lv2 V2
  rcases hn with ⟨h1, h2⟩ | ⟨h1, h2⟩
  · subst h2
    exact br_t h1 (ss_y_rem hye lc lg Y (hp lv2 V2))
  · subst h2
    exact br_f h1 (nm_e (ss_y_rem hye lc lg Y (hp lv2 V2)))
theorem ss_y_253k {post : Int32 → SY → Prop} {p1 : Int32} {y : Nat} (y32 : y < 32) (hp : post 0 (nI y, yc, yf, ya, yo, yl, upd yi y p1, yr, yn, yt, yv, yb, yd, yw, yh)) : wY_give_253 post p1 (-1) (nI y) ye yc yf ya yo yl yi yr yn yt yv yb yd yw yh := by
  unfold wY_give_253
  rw [nI_clamp (by omega)]
  exact And.intro (vp_in_nI y32 (by decide)) (nm_e (br_t ss_neg hp))
theorem ss_y_253c {post : Int32 → SY → Prop} {p1 : Int32} {y h : Nat} (y32 : y < 32) (h8 : h < 8) (hp : post 0 (nI y, yc, yf, ya, yo, yl, upd yi y p1, yr, yn, yt, yv, yb, yd, yw, upd yh h (-1))) : wY_give_253 post p1 (nI h) (nI y) ye yc yf ya yo yl yi yr yn yt yv yb yd yw yh := by
  unfold wY_give_253
  rw [nI_clamp (n := y) (by omega), nI_clamp (n := h) (by omega)]
  exact And.intro (vp_in_nI y32 (by decide)) (nm_e (br_f (nI_pos (by omega)) (And.intro (vp_in_nI h8 (by decide)) (nm_e hp))))
theorem ss_ix4 (f x : Nat) : (nI f * 4) + nI x = nI (f * 4 + x) := by
  rw [show nI f * 4 = nI (f * 4) from pk_mul f 4, nI_add]
theorem ss_y_218 {post : Int32 → SY → Prop} {p1 e : Int32} {g x : Nat} {yt0 : Nat → Int32} (g32 : g < 32) (x32 : x < 32) (gx : g ≠ x)
    (hp : ∀ yt', (∀ j, j < 4 → yt' (x * 4 + j) = yt0 (g * 4 + j)) → (∀ p, (p < x * 4 ∨ x * 4 + 4 ≤ p) → yt' p = yt0 p) → wY_give_253 post p1 e (nI x) ye yc yf ya yo yl yi yr yn yt' yv yb yd yw yh) :
    ∀ (n j : Nat) (yt : Nat → Int32), 4 < n + j → j ≤ 4 → (∀ l, l < j → yt (x * 4 + l) = yt0 (g * 4 + l)) → (∀ p, (p < x * 4 ∨ x * 4 + 4 ≤ p) → yt p = yt0 p) → wY_give_218 post (nI g) p1 e (nI x) ye yc n (nI j) yf ya yo yl yi yr yn yt yv yb yd yw yh := by
  intro n
  induction n with
  | zero => intro j yt hn; omega
  | succ n ih =>
    intro j yt hn hj q1 q2
    refine pk_le 4 j (fun h => hp yt (fun l hl => q1 l (by omega)) q2) (fun h => ?_)
    rw [ss_ix4, ss_ix4, nI_clamp (n := g * 4 + j) (by omega), nI_clamp (n := x * 4 + j) (by omega), q2 (g * 4 + j) (by omega)]
    refine And.intro (vp_in_nI (by omega) (by decide)) (And.intro (vp_in_nI (by omega) (by decide)) (nm_e (nm_r (nI_1 j) (ih (j + 1) _ (by omega) (by omega) ?_ ?_))))
    · intro l hl
      by_cases q : l = j
      · rw [q, pk_us]
      · rw [pk_un (by omega)]; exact q1 l (by omega)
    · intro p hp
      rw [pk_un (by omega)]; exact q2 p hp
theorem ss_y_95c {post : Int32 → SY → Prop} {p1 e n : Int32} {g : Nat} (hye : ye = nI c) (hyc : yc = nI cap) (hcap : cap ≤ 240) (C : ss_CL E Lv Fv Xd hd (some c)) (lg : Lv g = true) (hY : ss_GY Lv Fv Xd Fd hd yf ya yo yl yi yr yn yt yb yd yw yh) (RK : ss_RK Lv Xd rk) (sup : ∀ i, Lv i = true → 0 < ss_cnt hd (some c) Lv Xd i)
    (hn : ¬ n ≤ 0) (rm4 : ss_rm (Xd g) ≤ 4) (hus : ss_us Lv Fv Xd Fd ≤ cap)
    (h0 : cap < ss_us Lv Fv Xd Fd + 8 + ss_rm (Xd g) → ∀ lv, post (-2) (ye, yc, yf, ya, yo, yl, yi, yr, yn, yt, lv, yb, yd, yw, yh))
    (h1 : ss_us Lv Fv Xd Fd + 8 + ss_rm (Xd g) ≤ cap → ∀ lv yt', (∀ j, j < 4 → yt' (ss_last Lv 32 * 4 + j) = yt (g * 4 + j)) → (∀ p, (p < ss_last Lv 32 * 4 ∨ ss_last Lv 32 * 4 + 4 ≤ p) → yt' p = yt p) →
      wY_give_253 post p1 e (nI (ss_last Lv 32)) ye yc (upd yf (ss_last Lv 32) (yf g)) (upd ya (ss_last Lv 32) (ya g)) (upd yo (ss_last Lv 32) (yo g)) (upd yl (ss_last Lv 32) (yl g)) yi (upd yr (ss_last Lv 32) (yr g)) (upd yn (ss_last Lv 32) (yn g)) yt' lv yb yd yw yh) :
    wY_give_95 post (nI g) p1 e n ye yc yf ya yo yl yi yr yn yt yv yb yd yw yh := by
  subst hye hyc
  have lc := C.2.2.1 c rfl
  have YL := ss_links C hY
  have g32 := (C.1 g lg).1
  obtain ⟨x32, hx⟩ := ss_pickE (n := 240) (Lv := Lv) (Fv := Fv) (Xd := Xd) (Fd := Fd) (by omega) (by omega)
  have gx : g ≠ ss_last Lv 32 := fun h => by rw [← h, lg] at hx; exact nomatch hx
  obtain ⟨y0, y1, y2, y3, y4, y5⟩ := hY.1 g lg
  unfold wY_give_95
  refine br_f hn (ss_y_used rfl lc YL RK sup (ss_yfs C hY.1) (fun i hi => (hY.1 i hi).2.2.2.1) (ss_fvs C) (fun f hf => (hY.2.1 f hf).1) ?_)
  intro lv V
  have e6 : (nI (ss_us Lv Fv Xd Fd) + 8) + yr g = nI (ss_us Lv Fv Xd Fd + 8 + ss_rm (Xd g)) := by
    rw [y3, ss_p8, nI_add]
  rw [nI_clamp (n := g) (by omega)]
  refine And.intro (vp_in_nI g32 (by decide)) (pk_le (ss_us Lv Fv Xd Fd + 8 + ss_rm (Xd g)) cap (fun h => ?_) (fun h => h0 h lv) e6 rfl)
  refine ss_y_freeE rfl lc YL RK sup ?_
  intro lv2 V2
  rw [nI_clamp (n := ss_last Lv 32) (by omega)]
  have ig := vp_in_nI g32 (by decide : 32 < 2 ^ 31)
  have ix := vp_in_nI x32 (by decide : 32 < 2 ^ 31)
  exact And.intro ig (And.intro ix (nm_e (And.intro ig (And.intro ix (nm_e (And.intro ig (And.intro ix (nm_e (And.intro ig (And.intro ix (nm_e (And.intro ig (And.intro ix (nm_e (And.intro ig (And.intro ix (nm_e
    ⟨5, ss_y_218 (yt0 := yt) g32 x32 gx (fun yt' q1 q2 => h1 h lv2 yt' q1 q2) 5 0 yt (by omega) (by omega) (fun l hl => by omega) (fun p _ => rfl)⟩)))))))))))))))))
theorem ss_GY_copy {x g : Nat} {p1 : Int32} {yt' : Nat → Int32} (hY : ss_GY Lv Fv Xd Fd hd yf ya yo yl yi yr yn yt yb yd yw yh) (lg : Lv g = true) (tn4 : ∀ i, Lv i = true → ss_tn (Xd i) ≤ 4) (q1 : ∀ j, j < 4 → yt' (x * 4 + j) = yt (g * 4 + j)) (q2 : ∀ p, (p < x * 4 ∨ x * 4 + 4 ≤ p) → yt' p = yt p) :
    ss_GY (ss_set Lv x true) Fv (ss_set Xd x (ss_sIn (Xd g) p1)) Fd hd (upd yf x (yf g)) (upd ya x (ya g)) (upd yo x (yo g)) (upd yl x (yl g)) (upd yi x p1) (upd yr x (yr g)) (upd yn x (yn g)) yt' yb yd yw yh := by
  refine ⟨?_, hY.2.1, ?_, hY.2.2.2⟩
  · intro i hi
    rcases ss_set_cases hi with e | ⟨e, hi'⟩
    · subst e
      obtain ⟨y0, y1, y2, y3, y4, y5⟩ := hY.1 g lg
      have := tn4 g lg
      rw [ss_set_s, pk_us, pk_us, pk_us, pk_us, pk_us]
      refine ⟨y0, y1, rfl, y3, y4, fun k hk => ?_⟩
      have hk' : k < ss_tn (Xd g) := hk
      rw [q1 k (by omega)]
      exact y5 k hk'
    · rw [ss_set_n e, pk_un e, pk_un e, pk_un e, pk_un e, pk_un e]
      obtain ⟨y0, y1, y2, y3, y4, y5⟩ := hY.1 i hi'
      have := tn4 i hi'
      exact ⟨y0, y1, y2, y3, y4, fun k hk => by rw [q2 _ (by omega)]; exact y5 k hk⟩
  · intro i hi
    rcases ss_set_cases hi with e | ⟨e, hi'⟩
    · subst e
      rw [ss_set_s, pk_us, pk_us]
      exact hY.2.2.1 g lg
    · rw [ss_set_n e, pk_un e, pk_un e]
      exact hY.2.2.1 i hi'
end
end
section
/-! ret and resume -/
section
variable {k1 k2 k3 k4 k5 k6 k7 k8 k9 k10 k11 k12 k13 kc kp kt ku ke : Int32} {st fw pn ah : Nat → Int32}
variable {ye yc : Int32} {yf ya yo yl yi yr yn yt yv yb yd yw yh : Nat → Int32}
variable {L : List Nat} {z E F : Nat → Nat} {Lv Fv : Nat → Bool} {Xd : Nat → ss_ER} {Fd : Nat → ss_FR} {hd : Nat → Option Nat} {c t cap : Nat}
/-- the two hand over alike -/
theorem ss_give {PX : Int32 → SX → Prop} {k g : Nat} {p0 p1 p2 e : Int32} (hX : ss_GX L z E F Lv Fv Xd Fd hd c t cap st ah) (hY : ss_GY Lv Fv Xd Fd hd yf ya yo yl yi yr yn yt yb yd yw yh) (lg : Lv g = true) (O : ss_GO hd Xd c p0 g)
    (KE : (¬ p2 = 0 ∧ e = -1) ∨ (p2 = 0 ∧ ∃ h, h < 8 ∧ p0 = nI h ∧ e = nI h ∧ hd h = some g))
    (K : ∀ r u', (∀ qy : Int32 → SY → Prop, (∀ v', i_Rel (k + 5) u' v' → qy r v') → wpY_give qy (nI c, nI cap, yf, ya, yo, yl, yi, yr, yn, yt, yv, yb, yd, yw, yh) (nI g) p1 e) → PX r u') :
    wpX_giveControl PX (k1, k2, k3, k4, k5, k6, k7, k8, k9, k10, k11, k12, k13, nI cap, kp, nI t, nI (ss_us Lv Fv Xd Fd), nI (E c), st, fw, pn, ah) p0 p1 p2 := by
  have G := hX.1
  have h240 : t ≤ 240 := Nat.le_trans hX.2.2.2.1 hX.2.2.2.2
  have hcap := hX.2.2.2.2
  have hus := hX.2.2.1
  have hc : Lv c = true := G.2.1.2.2.1 c rfl
  have RK := ss_rank G h240
  have YL := ss_links G.2.1 hY
  have g32 := (G.2.1.1 g lg).1
  have lim := ss_RS_in G.1 lg
  obtain ⟨i1, i2, i3, i4⟩ := G.1.2.2.1 g lg
  have tn4 : ∀ i, Lv i = true → ss_tn (Xd i) ≤ 4 := fun i hi => by have := ss_RS_in G.1 hi; omega
  have hk : ¬ p2 = 0 ∨ (p2 = 0 ∧ ∃ h j, h < 8 ∧ p0 = nI h ∧ hd h = some j) := by
    rcases KE with ⟨q, _⟩ | ⟨q, h, h8, e1, _, e2⟩
    · exact Or.inl q
    · exact Or.inr ⟨q, h, g, h8, e1, e2⟩
  have hn : (e < 0 ∧ (if p2 = 0 then nI (ss_cnt hd (some c) Lv Xd g) + (-1) else nI (ss_cnt hd (some c) Lv Xd g)) = nI (ss_cnt hd (some c) Lv Xd g)) ∨ (¬ e < 0 ∧ (if p2 = 0 then nI (ss_cnt hd (some c) Lv Xd g) + (-1) else nI (ss_cnt hd (some c) Lv Xd g)) = nI (ss_cnt hd (some c) Lv Xd g) + (-1)) := by
    rcases KE with ⟨q, q2⟩ | ⟨q, h, h8, e1, e2, _⟩
    · exact Or.inl ⟨by rw [q2]; decide, if_neg q⟩
    · exact Or.inr ⟨by rw [e2]; exact nI_pos (by omega), if_pos q⟩
  unfold wpX_giveControl
  refine ss_x_goalOf rfl h240 hX.2.1 G O (ss_x_rem rfl rfl h240 G lg ?_)
  generalize (if p2 = 0 then nI (ss_cnt hd (some c) Lv Xd g) + (-1) else nI (ss_cnt hd (some c) Lv Xd g)) = n at hn ⊢
  by_cases q : ss_rem n g c (ss_cnt hd (some c) Lv Xd c) (ss_ac (Xd c)) (ss_co (Xd c)) ≤ 0
  · refine br_t q (ss_x_tail (y := g) (hd := hd) (c := c) rfl rfl rfl h240 (by omega) hX.2.1 G.1 G.2.1 (fun j hj _ => G.2.2 j hj) lg hk ?_)
    intro Lv' Fv' s' kp' pn' hd' ah' hL hF G' hcase
    refine K 0 _ (fun qy hq => ss_y_give rfl hc lg YL RK G.2.2 hn (fun lv V => ?_))
    unfold wY_give_95
    refine br_t q ?_
    have us' : ss_us Lv Fv (ss_set Xd g (ss_sIn (Xd g) p1)) Fd = ss_us Lv Fv Xd Fd := ss_us_datE (show ss_rm (ss_sIn (Xd g) p1) = ss_rm (Xd g) from rfl)
    have us2 := ss_us_sub (Xd := ss_set Xd g (ss_sIn (Xd g) p1)) (Fd := Fd) hL hF
    obtain ⟨y0, y1, y2, y3, y4, y5⟩ := hY.1 g lg
    have hY0 : ss_GY Lv Fv (ss_set Xd g (ss_sIn (Xd g) p1)) Fd hd yf ya yo yl (upd yi g p1) yr yn yt yb yd yw yh := by
      refine ss_GY_dat (r' := ss_sIn (Xd g) p1) hY rfl rfl (ss_YE_dat hY.1 ?_ ⟨y0, y1, pk_us, y3, y4, y5⟩)
      intro i hi hn
      exact ⟨rfl, pk_un hn, rfl, fun _ _ => rfl⟩
    rcases hcase with ⟨w, e1, e2⟩ | ⟨w, h, h8, e0, e1, e2⟩
    · rw [e1] at G'
      rw [e2] at hq
      have he : e = -1 := by
        rcases KE with ⟨_, q2⟩ | ⟨q1, _⟩
        · exact q2
        · exact absurd q1 w
      subst he
      have hX' : ss_GX L z E F Lv' Fv' (ss_set Xd g (ss_sIn (Xd g) p1)) Fd hd g t cap s' ah := ⟨G', hX.2.1, by omega, hX.2.2.2⟩
      exact ss_y_253k g32 (hq _ (ss_intro2 rfl rfl rfl rfl rfl rfl hX' (ss_GY_sub hY0 hL hF)))
    · rw [e1] at G'
      rw [e2] at hq
      have he : e = nI h := by
        rcases KE with ⟨q2, _⟩ | ⟨_, h', h8', f1, f2, _⟩
        · exact absurd w q2
        · rw [f2, ← f1, e0]
      subst he
      have hX' : ss_GX L z E F Lv' Fv' (ss_set Xd g (ss_sIn (Xd g) p1)) Fd (ss_set hd h none) g t cap s' (upd ah h (-1)) := by
        refine ⟨G', ?_, by omega, hX.2.2.2⟩
        intro h' h8'
        by_cases w2 : h' = h
        · subst w2; rw [pk_us, ss_set_s]; rfl
        · rw [pk_un w2, ss_set_n w2]; exact hX.2.1 h' h8'
      exact ss_y_253c g32 h8 (hq _ (ss_intro2 rfl rfl rfl rfl rfl rfl hX' (ss_GY_sub (ss_GY_hd (o := none) hY0 rfl) hL hF)))
  · refine br_f q (ss_x_sizeAt (a := E g) rfl (by omega) (G.1.2.1 _ i1) ?_)
    rw [i2]
    refine pk_le (8 + ss_rm (Xd g)) (cap - ss_us Lv Fv Xd Fd) (fun fit => ?_) (fun nofit => ?_) rfl (pk_sub hus)
    · obtain ⟨x32, hx⟩ := ss_pickE (n := 240) (Lv := Lv) (Fv := Fv) (Xd := Xd) (Fd := Fd) (by omega) (by omega)
      refine ss_x_reserve (n := 8 + ss_rm (Xd g)) (cap := cap) (hd := hd) (cur := some c) rfl rfl rfl rfl hX.2.1 hcap hX.2.2.2.1 (by omega) G (by omega) ?_
      intro L' z' E' F' t' s1 fw' ah1 G1 ht' hah1
      refine ss_x_goalOf (g := g) (c := c) rfl (by omega) hah1 G1 O ?_
      refine ss_x_copyOf (g := g) (x := ss_last Lv 32) (c := c) rfl rfl rfl (by omega) G1 lg x32 hx ?_
      intro s2 R2 C2 pos2 cx hh
      have us1 : ss_us (ss_set Lv (ss_last Lv 32) true) Fv (ss_set Xd (ss_last Lv 32) (Xd g)) Fd = ss_us Lv Fv Xd Fd + (8 + ss_rm (Xd g)) := ss_us_newE (Xd g) x32 hx
      have us3 : ss_us (ss_set Lv (ss_last Lv 32) true) Fv (ss_set Xd (ss_last Lv 32) (ss_sIn (Xd g) p1)) Fd = ss_us Lv Fv Xd Fd + (8 + ss_rm (Xd g)) := ss_us_newE (ss_sIn (Xd g) p1) x32 hx
      refine ss_x_tail (y := ss_last Lv 32) (hd := hd) (c := c) (by rw [ss_set_s]) rfl (by
        show nI (E' c) = nI (ss_set E' (ss_last Lv 32) t' c)
        rw [ss_set_n cx]) (by omega) (by omega) (fun h h8 => (hah1 h h8).trans (hh h h8).symm) R2 C2 pos2 ss_set_s hk ?_
      intro Lv' Fv' s' kp' pn' hd' ah' hL hF G' hcase
      rw [ss_set_s (f := Xd), ss_set_set] at G' ⊢
      have us2 := ss_us_sub (Xd := ss_set Xd (ss_last Lv 32) (ss_sIn (Xd g) p1)) (Fd := Fd) hL hF
      refine K 0 _ (fun qy hq => ss_y_give rfl hc lg YL RK G.2.2 hn (fun lv V => ss_y_95c rfl rfl hcap G.2.1 lg hY RK G.2.2 q (by omega) hus (fun h => by omega) (fun _ lv2 yt' q1 q2 => ?_)))
      have hY0 := ss_GY_copy (x := ss_last Lv 32) (p1 := p1) hY lg tn4 q1 q2
      have hah2 : ∀ h, h < 8 → ah1 h = ss_oE (ss_set E' (ss_last Lv 32) t') (hd h) := fun h h8 => (hah1 h h8).trans (hh h h8).symm
      rcases hcase with ⟨w, e1, e2⟩ | ⟨w, h, h8, e0, e1, e2⟩
      · rw [e1] at G'
        rw [e2] at hq
        have he : e = -1 := by
          rcases KE with ⟨_, q2⟩ | ⟨q1, _⟩
          · exact q2
          · exact absurd q1 w
        subst he
        have hX' : ss_GX (L' ++ [t']) (ss_set z' t' (8 + ss_rm (Xd g))) (ss_set E' (ss_last Lv 32) t') F' Lv' Fv' (ss_set Xd (ss_last Lv 32) (ss_sIn (Xd g) p1)) Fd hd (ss_last Lv 32) (t' + (8 + ss_rm (Xd g))) cap s' ah1 := ⟨G', hah2, by omega, by omega, hcap⟩
        exact ss_y_253k x32 (hq _ (ss_intro2 rfl rfl rfl rfl rfl rfl hX' (ss_GY_sub hY0 hL hF)))
      · rw [e1] at G'
        rw [e2] at hq
        have he : e = nI h := by
          rcases KE with ⟨q2, _⟩ | ⟨_, h', h8', f1, f2, _⟩
          · exact absurd w q2
          · rw [f2, ← f1, e0]
        subst he
        have hX' : ss_GX (L' ++ [t']) (ss_set z' t' (8 + ss_rm (Xd g))) (ss_set E' (ss_last Lv 32) t') F' Lv' Fv' (ss_set Xd (ss_last Lv 32) (ss_sIn (Xd g) p1)) Fd (ss_set hd h none) (ss_last Lv 32) (t' + (8 + ss_rm (Xd g))) cap s' (upd ah1 h (-1)) := by
          refine ⟨G', ?_, by omega, by omega, hcap⟩
          intro h' h8'
          by_cases w2 : h' = h
          · subst w2; rw [pk_us, ss_set_s]; rfl
          · rw [pk_un w2, ss_set_n w2]; exact hah2 h' h8'
        exact ss_y_253c x32 h8 (hq _ (ss_intro2 rfl rfl rfl rfl rfl rfl hX' (ss_GY_sub (ss_GY_hd (o := none) hY0 rfl) hL hF)))
    · exact K (-2) _ (fun qy hq => ss_y_give rfl hc lg YL RK G.2.2 hn (fun lv V => ss_y_95c rfl rfl hcap G.2.1 lg hY RK G.2.2 q (by omega) hus (fun _ lv2 => hq _ (ss_intro hX hY)) (fun h => by omega)))
end
theorem i_vc_ret {k : Nat} {u : SX} {v : SY} (I : i_Rel k u v) (hk : k + 5 ≤ 2563) (v1 : Int32) : wpX_ret (fun r u' => wpY_ret (fun r' v' => r' = r ∧ i_Rel (k + 5) u' v') v v1) u v1 := by
  refine ss_elim (P := fun u v => wpX_ret (fun r u' => wpY_ret (fun r' v' => r' = r ∧ i_Rel (k + 5) u' v') v v1) u v1) ?_ I
  intro L z E F Lv Fv Xd Fd hd c t cap k1 k2 k3 k4 k5 k6 k7 k8 k9 k10 k11 k12 k13 kp st fw pn ah yf ya yo yl yi yr yn yt yv yb yd yw yh hX hY
  have I' : i_Rel (k + 5) (k1, k2, k3, k4, k5, k6, k7, k8, k9, k10, k11, k12, k13, nI cap, kp, nI t, nI (ss_us Lv Fv Xd Fd), nI (E c), st, fw, pn, ah) (nI c, nI cap, yf, ya, yo, yl, yi, yr, yn, yt, yv, yb, yd, yw, yh) := ss_intro hX hY
  have G := hX.1
  have h240 : t ≤ 240 := Nat.le_trans hX.2.2.2.1 hX.2.2.2.2
  have hc : Lv c = true := G.2.1.2.2.1 c rfl
  have c32 := (G.2.1.1 c hc).1
  have lim := ss_RS_in G.1 hc
  have x4 := (G.1.2.2.1 c hc).2.2.2.2.2.2.2.1
  have y4 := (hY.2.2.1 c hc).2
  unfold wpX_ret
  refine And.intro (ss_ix (k := 4) (by omega) (by decide)) ?_
  rw [ss_rd (k := 4) x4 (by omega)]
  cases e : ss_co (Xd c) with
  | none =>
    rw [e] at y4
    refine br_f ss_neg' ?_
    unfold wpY_ret
    refine And.intro (vp_in_nI c32 (by decide)) ?_
    rw [ss_rd0 y4 (by omega)]
    exact br_f ss_neg' ⟨rfl, I'⟩
  | some g =>
    rw [e] at y4
    have lg := ((G.2.1.1 c hc).2.2.2 g e).1
    have g32 := (G.2.1.1 g lg).1
    have limg := ss_RS_in G.1 lg
    refine br_t (nI_pos' (n := E g) (by omega)) (ss_give (k := k) (yv := yv) hX hY lg (Or.inl ⟨rfl, e⟩) (Or.inl ⟨by decide, rfl⟩) ?_)
    intro r u' hq
    obtain ⟨a1, a2, a3, a4, a5, a6, a7, a8, a9, a10, a11, a12, a13, a14, a15, a16, a17, a18, a19, a20, a21, a22⟩ := u'
    refine And.intro (vp_in_nI c32 (by decide)) ?_
    rw [ss_rd0 y4 (by omega)]
    refine br_t (nI_pos' (n := g) (by omega)) (And.intro (vp_in_nI c32 (by decide)) (hq _ ?_))
    intro v' h
    obtain ⟨b1, b2, b3, b4, b5, b6, b7, b8, b9, b10, b11, b12, b13, b14, b15⟩ := v'
    exact ⟨rfl, h⟩
theorem i_vc_resume {k : Nat} {u : SX} {v : SY} (I : i_Rel k u v) (hk : k + 5 ≤ 2563) (v1 : Int32) (v2 : Int32) (v3 : Int32) : wpX_resume (fun r u' => wpY_resume (fun r' v' => r' = r ∧ i_Rel (k + 5) u' v') v v1 v2 (lw_bz v3)) u v1 v2 (lw_bz v3) := by
  refine ss_elim (P := fun u v => wpX_resume (fun r u' => wpY_resume (fun r' v' => r' = r ∧ i_Rel (k + 5) u' v') v v1 v2 (lw_bz v3)) u v1 v2 (lw_bz v3)) ?_ I
  intro L z E F Lv Fv Xd Fd hd c t cap k1 k2 k3 k4 k5 k6 k7 k8 k9 k10 k11 k12 k13 kp st fw pn ah yf ya yo yl yi yr yn yt yv yb yd yw yh hX hY
  have I' : i_Rel (k + 5) (k1, k2, k3, k4, k5, k6, k7, k8, k9, k10, k11, k12, k13, nI cap, kp, nI t, nI (ss_us Lv Fv Xd Fd), nI (E c), st, fw, pn, ah) (nI c, nI cap, yf, ya, yo, yl, yi, yr, yn, yt, yv, yb, yd, yw, yh) := ss_intro hX hY
  have G := hX.1
  have h240 : t ≤ 240 := Nat.le_trans hX.2.2.2.1 hX.2.2.2.2
  unfold wpX_resume
  rcases ss_slot v1 with g | g | ⟨h, h8, e⟩
  · exact ss_x_isHeld0 (Or.inl g) (br_t rfl (br_t g ⟨rfl, I'⟩))
  · refine ss_x_isHeld0 (Or.inr g) (br_t rfl (br_f g.1 (br_t ?_ ⟨rfl, I'⟩)))
    exact Int32.lt_of_lt_of_le (by decide : (7 : Int32) < 8) g.2
  · subst e
    have q := hX.2.1 h h8
    have qy := hY.2.2.2 h h8
    cases e : hd h with
    | none =>
      rw [e] at q qy
      refine ss_x_isHeldN h8 q (br_t rfl (br_f (nI_pos (by omega)) (br_f (nI_nlt (a := 7) (b := h) (by omega) (by decide)) (And.intro (vp_in_nI h8 (by decide)) ?_))))
      rw [nI_clamp (by omega), qy]
      exact br_f ss_neg' ⟨rfl, I'⟩
    | some g =>
      rw [e] at q qy
      have lg := G.2.1.2.2.2 h g h8 e
      have g32 := (G.2.1.1 g lg).1
      have lim := ss_RS_in G.1 lg
      refine ss_x_isHeldS h8 q (by omega) (br_f (by decide) ?_)
      by_cases w : lw_bz v3 = 0
      · refine ss_give (k := k) (yv := yv) (e := nI h) hX hY lg (Or.inr ⟨h, h8, rfl, e⟩) (Or.inr ⟨w, h, h8, rfl, rfl, e⟩) ?_
        intro r u' hq
        obtain ⟨a1, a2, a3, a4, a5, a6, a7, a8, a9, a10, a11, a12, a13, a14, a15, a16, a17, a18, a19, a20, a21, a22⟩ := u'
        refine br_f (nI_pos (by omega)) (br_f (nI_nlt (a := 7) (b := h) (by omega) (by decide)) (And.intro (vp_in_nI h8 (by decide)) ?_))
        rw [ss_rd0 qy (by omega)]
        refine br_t (nI_pos' (n := g) (by omega)) (And.intro (vp_in_nI h8 (by decide)) (br_t w (hq _ ?_)))
        intro v' hv
        obtain ⟨b1, b2, b3, b4, b5, b6, b7, b8, b9, b10, b11, b12, b13, b14, b15⟩ := v'
        exact ⟨rfl, hv⟩
      · refine ss_give (k := k) (yv := yv) (e := -1) hX hY lg (Or.inr ⟨h, h8, rfl, e⟩) (Or.inl ⟨w, rfl⟩) ?_
        intro r u' hq
        obtain ⟨a1, a2, a3, a4, a5, a6, a7, a8, a9, a10, a11, a12, a13, a14, a15, a16, a17, a18, a19, a20, a21, a22⟩ := u'
        refine br_f (nI_pos (by omega)) (br_f (nI_nlt (a := 7) (b := h) (by omega) (by decide)) (And.intro (vp_in_nI h8 (by decide)) ?_))
        rw [ss_rd0 qy (by omega)]
        refine br_t (nI_pos' (n := g) (by omega)) (And.intro (vp_in_nI h8 (by decide)) (br_f w (hq _ ?_)))
        intro v' hv
        obtain ⟨b1, b2, b3, b4, b5, b6, b7, b8, b9, b10, b11, b12, b13, b14, b15⟩ := v'
        exact ⟨rfl, hv⟩
end
section
/-! the constructors -/
theorem ss_z0 : (0 : Int32).toNatClampNeg = 0 := by decide
theorem ss_clamp (x : Int32) {lo hi : Nat} (h : lo ≤ hi) (hh : hi < 2 ^ 31) : ∃ m, lo ≤ m ∧ m ≤ hi ∧ ∀ P : Int32 → Prop, P (nI m) → ((nI lo ≤ x → ((x ≤ nI hi → P x) ∧ (¬ x ≤ nI hi → P (nI hi)))) ∧ (¬ nI lo ≤ x → P (nI lo))) := by
  by_cases a : nI lo ≤ x
  · have x0 : ¬ x < 0 := by
      intro q
      have := Int32.lt_of_le_of_lt a q
      exact nI_pos (by omega) this
    obtain ⟨j, hj, e⟩ := nI_of x0
    subst e
    have a' := (nI_leI (by omega) hj).mp a
    by_cases b : nI j ≤ nI hi
    · have b' := (nI_leI hj hh).mp b
      exact ⟨j, a', b', fun P hp => br_t a (br_t b hp)⟩
    · exact ⟨hi, h, by omega, fun P hp => br_t a (br_f b hp)⟩
  · exact ⟨lo, by omega, h, fun P hp => br_f a hp⟩
def ss_L0 : Nat → Bool := fun _ => false
def ss_X0 : Nat → ss_ER := fun _ => ss_new 0 none none 0
def ss_F0 : Nat → ss_FR := fun _ => (0, 0, (fun _ => 0), (fun _ => 0))
def ss_H0 : Nat → Option Nat := fun _ => none
theorem ss_us0 : ss_us ss_L0 ss_L0 ss_X0 ss_F0 = 0 := by
  unfold ss_us
  rw [ss_sm_c (f := ss_ue ss_L0 ss_X0) (g := fun _ => 0) 32 (fun j _ => if_neg (fun h => nomatch h)), ss_sm_c (f := ss_uf ss_L0 ss_F0) (g := fun _ => 0) 32 (fun j _ => if_neg (fun h => nomatch h)), ss_sm_cst]
theorem ss_CL0 : ss_CL (fun _ => 0) ss_L0 ss_L0 ss_X0 ss_H0 none :=
  ⟨fun i hi => (nomatch hi), fun f hf => (nomatch hf), fun j hj => (nomatch hj), fun h j _ hj => (nomatch hj)⟩
theorem ss_RS0 {cu fu : Nat → Nat} {s : Nat → Int32} : ss_RS [] (fun _ => 0) (fun _ => 0) (fun _ => 0) ss_L0 ss_L0 ss_X0 ss_F0 cu fu 0 s :=
  ⟨rfl, fun a ha => (nomatch ha), fun i hi => (nomatch hi), fun i hi => (nomatch hi), ⟨fun i j hi => (nomatch hi), fun i j hi => (nomatch hi), fun i f hi => (nomatch hi)⟩, fun a ha => (nomatch ha)⟩
theorem ss_shr0 (f : Nat) : ss_shr ss_L0 ss_X0 f = 0 := by
  unfold ss_shr
  rw [ss_sm_c (f := ss_sh ss_L0 ss_X0 f) (g := fun _ => 0) 32 (fun j _ => if_neg (fun h => nomatch h)), ss_sm_cst]
section
variable {k1 k2 k3 k4 k5 k6 k7 k8 k9 k10 k11 k12 k13 kc kp kt ku ke : Int32} {st fw pn ah : Nat → Int32}
variable {ye yc : Int32} {yf ya yo yl yi yr yn yt yv yb yd yw yh : Nat → Int32}
theorem ss_x_clamp {post : Int32 → Prop} {x xl xh : Int32} {lo hi m : Nat} (el : xl = nI lo) (eh : xh = nI hi) (c : ∀ P : Int32 → Prop, P (nI m) → ((nI lo ≤ x → ((x ≤ nI hi → P x) ∧ (¬ x ≤ nI hi → P (nI hi)))) ∧ (¬ nI lo ≤ x → P (nI lo)))) (hp : post (nI m)) : wpX_clamp post (k1, k2, k3, k4, k5, k6, k7, k8, k9, k10, k11, k12, k13, kc, kp, kt, ku, ke, st, fw, pn, ah) x xl xh := by
  subst el eh
  exact c post hp
theorem ss_x_initL {post : SX → Prop} {p1 p2 : Int32} (hp : ∀ ah', (∀ h, h < 8 → ah' h = -1) → wX_init_146 post p1 p2 k1 k2 k3 k4 k5 k6 k7 k8 k9 k10 k11 k12 k13 kc kp kt ku ke 1 8 st fw pn ah') :
    ∀ (n i : Nat) (ah : Nat → Int32), 8 ≤ n + i → i ≤ 8 → (∀ h, h < i → ah h = -1) → wX_init_146 post p1 p2 k1 k2 k3 k4 k5 k6 k7 k8 k9 k10 k11 k12 k13 kc kp kt ku ke (n + 1) (nI i) st fw pn ah := by
  intro n
  induction n with
  | zero =>
    intro i ah hn hi q
    have e : i = 8 := by omega
    subst e
    exact hp ah q
  | succ n ih =>
    intro i ah hn hi q
    by_cases e : i = 8
    · subst e
      have k := hp ah q
      exact br_t (show (8 : Int32) ≤ nI 8 by decide) (k.1 (by decide))
    · refine br_f (nI_ge (b := 8) (a := i) (by omega) (by decide)) (And.intro (vp_in_nI (by omega) (by decide)) (nm_r (e' := upd ah i (-1)) (by rw [nI_clamp (by omega)]) (nm_r (nI_1 i) (ih (i + 1) _ (by omega) (by omega) ?_))))
      intro h hh
      by_cases w : h = i
      · rw [w, pk_us]
      · rw [pk_un w]; exact q h (by omega)
theorem ss_y_initL {post : SY → Prop} (hp : ∀ yh', (∀ h, h < 8 → yh' h = -1) → post (ye, yc, yf, ya, yo, yl, yi, yr, yn, yt, yv, yb, yd, yw, yh')) :
    ∀ (n i : Nat) (yh : Nat → Int32), 8 < n + i → i ≤ 8 → (∀ h, h < i → yh h = -1) → wY_init_205 post ye yc n (nI i) yf ya yo yl yi yr yn yt yv yb yd yw yh := by
  intro n
  induction n with
  | zero => intro i yh hn; omega
  | succ n ih =>
    intro i yh hn hi q
    refine pk_le 8 i (fun g => hp yh (fun h hh => q h (by omega))) (fun g => ?_)
    refine And.intro (vp_in_nI (by omega) (by decide)) (nm_r (e' := upd yh i (-1)) (by rw [nI_clamp (by omega)]) (nm_r (nI_1 i) (ih (i + 1) _ (by omega) (by omega) ?_)))
    intro h hh
    by_cases w : h = i
    · rw [w, pk_us]
    · rw [pk_un w]; exact q h (by omega)
end
theorem i_vc0 (k0 : Int32) (k1 : Int32) (k2 : Int32) : wpX_init (fun u => wpY_init (fun v => i_Rel 3 u v) k0 k1 k2) k0 k1 k2 := by
  obtain ⟨cap, cl, ch, cP⟩ := ss_clamp k0 (lo := 48) (hi := 240) (by omega) (by omega)
  obtain ⟨b, bl, hb, bP⟩ := ss_clamp k1 (lo := 0) (hi := 4) (by omega) (by omega)
  obtain ⟨m, ml, hm, mP⟩ := ss_clamp k2 (lo := 0) (hi := 4) (by omega) (by omega)
  unfold wpX_init
  refine ss_x_clamp rfl rfl cP ⟨9, ss_x_initL ?_ 8 0 _ (by omega) (by omega) (fun h hh => by omega)⟩
  intro ah hah
  refine br_t (by decide) (ss_x_clamp rfl rfl bP (ss_x_clamp rfl rfl mP ?_))
  refine ss_x_mkF (f := 0) (t := 0) (us := 0) rfl rfl rfl hb (by omega) (ss_RS0 (cu := ss_cnt ss_H0 none ss_L0 ss_X0) (fu := ss_shr ss_L0 ss_X0)) rfl (fun i hi => (nomatch hi)) ?_
  intro s1 R1
  refine ss_x_mkE (x := 0) (f := 0) (m := m) (ac := none) (co := none) (by rw [ss_set_s]) rfl rfl rfl rfl rfl hm (by omega) R1 rfl (fun i hi => (nomatch hi)) ss_set_s (fun j hj => (nomatch hj)) (fun j hj => (nomatch hj)) ?_
  intro s2 R2
  have us1 : ss_us (ss_set ss_L0 0 true) (ss_set ss_L0 0 true) (ss_set ss_X0 0 (ss_new 0 none none m)) (ss_set ss_F0 0 (b, 0, (fun _ => 0), (fun _ => 0))) = 0 + (3 + 2 * b) + (8 + m) := by
    rw [ss_us_newE (ss_new 0 none none m) (by omega) rfl, ss_us_newF (b, 0, (fun _ => 0), (fun _ => 0)) (by omega) rfl, ss_us0]
    rfl
  have C1 : ss_CL (ss_set (fun _ => 0) 0 (0 + (3 + 2 * b))) (ss_set ss_L0 0 true) (ss_set ss_L0 0 true) (ss_set ss_X0 0 (ss_new 0 none none m)) ss_H0 none :=
    ss_CL_new (Fv1 := ss_set ss_L0 0 true) (r := ss_new 0 none none m) ss_CL0 (by omega) rfl (show 0 < 32 by decide) ss_set_s (fun k hk => (nomatch hk)) (fun k hk => by
      rcases ss_set_cases hk with e | e
      · exact Or.inl e
      · exact Or.inr e.2) (fun j hj => (nomatch hj)) (fun j hj => (nomatch hj)) (fun j hj => (nomatch hj))
  have R3 := ss_RS_cu (cu' := ss_cnt ss_H0 none (ss_set ss_L0 0 true) (ss_set ss_X0 0 (ss_new 0 none none m))) (fu' := ss_shr (ss_set ss_L0 0 true) (ss_set ss_X0 0 (ss_new 0 none none m))) R2 (fun i _ => ss_cu_new _ ss_CL0 (by omega) rfl i) (fun k _ => by
    rw [ss_shr_new _ (by omega) rfl]
    show ss_shr ss_L0 ss_X0 k + ss_q (some 0) k = ss_set (ss_shr ss_L0 ss_X0) 0 0 k + ss_q (some 0) k
    by_cases e : k = 0
    · rw [e, ss_set_s, ss_shr0]
    · rw [ss_set_n e])
  refine ss_x_enter (i := 0) (cur := none) (hd := ss_H0) (by rw [ss_set_s]) (by omega) (by rw [us1]) (by omega) rfl R3 C1 ss_set_s (fun j hj hn => by
    rcases ss_set_cases hj with e | ⟨_, e⟩
    · exact absurd e hn
    · exact nomatch e) ?_
  intro Lv' Fv' s' kp' pn' hL hF G' hu'
  unfold wpY_init
  refine cP (fun z0 => wY_init_137 (fun v => i_Rel 3 (1, 2, 3, 2, 3, 4, 5, 6, 7, 8, 30, 80, 8, nI cap, kp', nI (0 + (3 + 2 * b) + (8 + m)), nI (ss_us Lv' Fv' (ss_set ss_X0 0 (ss_new 0 none none m)) (ss_set ss_F0 0 (b, 0, (fun _ => 0), (fun _ => 0)))), nI (ss_set (fun _ => 0) 0 (0 + (3 + 2 * b)) 0), s', (fun _ => 0), pn', ah) v) k1 k2 z0 0 0 (fun _ => 0) (fun _ => 0) (fun _ => 0) (fun _ => 0) (fun _ => 0) (fun _ => 0) (fun _ => 0) (fun _ => 0) (fun _ => 0) (fun _ => 0) (fun _ => 0) (fun _ => 0) (fun _ => 0)) ?_
  unfold wY_init_137
  refine bP (fun z0 => wY_init_163 _ k2 z0 0 0 (nI cap) (fun _ => 0) (fun _ => 0) (fun _ => 0) (fun _ => 0) (fun _ => 0) (fun _ => 0) (fun _ => 0) (fun _ => 0) (fun _ => 0) (fun _ => 0) (fun _ => 0) (fun _ => 0) (fun _ => 0)) ?_
  unfold wY_init_163
  refine And.intro (vp_in_nI (n := 0) (by decide) (by decide)) (nm_r (e' := upd (fun _ => 0) 0 (nI b)) (by rw [ss_z0]) ?_)
  refine mP (fun z0 => wY_init_187 _ z0 0 0 (nI cap) (fun _ => 0) (fun _ => 0) (fun _ => 0) (fun _ => 0) (fun _ => 0) (fun _ => 0) (fun _ => 0) (fun _ => 0) (fun _ => 0) (upd (fun _ => 0) 0 (nI b)) (fun _ => 0) (fun _ => 0) (fun _ => 0)) ?_
  unfold wY_init_187
  refine And.intro (vp_in_nI (n := 0) (by decide) (by decide)) (nm_r (e' := upd (fun _ => 0) 0 (nI m)) (by rw [ss_z0]) (nm_e (nm_e ?_)))
  refine ⟨9, ss_y_initL ?_ 9 0 _ (by omega) (by omega) (fun h hh => by omega)⟩
  intro yh hyh
  have us2 := ss_us_sub (Xd := ss_set ss_X0 0 (ss_new 0 none none m)) (Fd := ss_set ss_F0 0 (b, 0, (fun _ => 0), (fun _ => 0))) hL hF
  have only : ∀ i, ss_set ss_L0 0 true i = true → i = 0 := by
    intro i hi
    rcases ss_set_cases hi with e | ⟨_, e⟩
    · exact e
    · exact nomatch e
  have hX : ss_GX ([] ++ [0] ++ [0 + (3 + 2 * b)]) (ss_set (ss_set (fun _ => 0) 0 (3 + 2 * b)) (0 + (3 + 2 * b)) (8 + m)) (ss_set (fun _ => 0) 0 (0 + (3 + 2 * b))) (ss_set (fun _ => 0) 0 0) Lv' Fv' (ss_set ss_X0 0 (ss_new 0 none none m)) (ss_set ss_F0 0 (b, 0, (fun _ => 0), (fun _ => 0))) ss_H0 0 (0 + (3 + 2 * b) + (8 + m)) cap s' ah :=
    ⟨G', fun h h8 => hah h h8, by omega, by omega, ch⟩
  have hY : ss_GY (ss_set ss_L0 0 true) (ss_set ss_L0 0 true) (ss_set ss_X0 0 (ss_new 0 none none m)) (ss_set ss_F0 0 (b, 0, (fun _ => 0), (fun _ => 0))) ss_H0 (fun _ => 0) (upd (fun _ => 0) 0 (-1)) (upd (fun _ => 0) 0 (-1)) (fun _ => 0) (fun _ => 0) (upd (fun _ => 0) 0 (nI m)) (fun _ => 0) (fun _ => 0) (upd (fun _ => 0) 0 (nI b)) (fun _ => 0) (fun _ => 0) yh := by
    refine ⟨?_, ?_, ?_, fun h h8 => hyh h h8⟩
    · intro i hi
      have e := only i hi
      subst e
      rw [ss_set_s, pk_us]
      exact ⟨rfl, rfl, rfl, rfl, rfl, fun k hk => absurd hk (Nat.not_lt_zero _)⟩
    · intro i hi
      have e := only i hi
      subst e
      rw [ss_set_s, pk_us]
      exact ⟨rfl, fun j hj => rfl, fun k hk => absurd hk (Nat.not_lt_zero _)⟩
    · intro i hi
      have e := only i hi
      subst e
      rw [ss_set_s, pk_us]
      exact ⟨rfl, rfl⟩
  exact ss_intro2 rfl rfl rfl rfl rfl rfl hX (ss_GY_sub hY hL hF)
end
