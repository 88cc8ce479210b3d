section
/-! rows taken from the kit (kit/rows/PURE-ROWS) -/
theorem pk_us {f : Nat → Int32} {k : Nat} {x : Int32} : upd f k x k = x := if_pos rfl
theorem pk_un {f : Nat → Int32} {k j : Nat} {x : Int32} (h : j ≠ k) : upd f k x j = f j := if_neg h
theorem pk_sub {a b : Nat} (h : b ≤ a) : nI a - nI b = nI (a - b) := by
  obtain ⟨c, rfl⟩ : ∃ c, a = c + b := ⟨a - b, by omega⟩
  rw [← nI_add, Int32.add_sub_cancel, Nat.add_sub_cancel]
theorem pk_m1 (n : Nat) : nI (n + 1) + (-1) = nI n := by
  rw [← nI_1, Int32.add_assoc, show (1 : Int32) + (-1) = 0 from rfl, Int32.add_zero]
theorem pk_sub_toInt {a b : Nat} (ha : a < 2 ^ 30) (hb : b < 2 ^ 30) : (nI a - nI b).toInt = (a : Int) - b := by
  rw [Int32.toInt_sub, nI_toInt (by omega), nI_toInt (by omega)]
  exact Int.bmod_eq_of_le (by omega) (by omega)
theorem pk_sneg {a b : Nat} (hb : b < 2 ^ 30) (h : a < b) : nI a - nI b < 0 := by
  rw [Int32.lt_iff_toInt_lt, pk_sub_toInt (by omega) hb, show (0 : Int32).toInt = 0 from by decide]
  omega
theorem pk_ix (x : Int32) {n : Nat} (hn : n < 2 ^ 31) : x < 0 ∨ nI n ≤ x ∨ ∃ j : Nat, j < n ∧ x = nI j := by
  by_cases h : x < 0
  · exact Or.inl h
  · obtain ⟨j, hj, rfl⟩ := nI_of h
    by_cases h2 : j < n
    · exact Or.inr (Or.inr ⟨j, h2, rfl⟩)
    · exact Or.inr (Or.inl (nI_le (by omega) hj))
theorem pk_le {x y : Int32} {A B : Prop} (a b : Nat) (f : a ≤ b → A) (g : b < a → B) (hx : x = nI a := by rfl) (hy : y = nI b := by rfl) (ha : a < 2 ^ 31 := by omega) (hb : b < 2 ^ 31 := by omega) : (x ≤ y → A) ∧ (¬ x ≤ y → B) := by
  subst hx hy
  rw [nI_leI ha hb]
  exact ⟨f, fun z => g (by omega)⟩
theorem pk_lt {x y : Int32} {A B : Prop} (a b : Nat) (f : a < b → A) (g : b ≤ a → B) (hx : x = nI a := by rfl) (hy : y = nI b := by rfl) (ha : a < 2 ^ 31 := by omega) (hb : b < 2 ^ 31 := by omega) : (x < y → A) ∧ (¬ x < y → B) := by
  subst hx hy
  rw [nI_ltI ha hb]
  exact ⟨f, fun z => g (by omega)⟩
theorem pk_eq {x y : Int32} {A B : Prop} (a b : Nat) (f : a = b → A) (g : a ≠ b → B) (hx : x = nI a := by rfl) (hy : y = nI b := by rfl) (ha : a < 2 ^ 31 := by omega) (hb : b < 2 ^ 31 := by omega) : (x = y → A) ∧ (¬ x = y → B) := by
  subst hx hy
  rw [nI_eq ha hb]
  exact ⟨f, g⟩
theorem pk_in {x : Int32} (n N : Nat) (h : n < N) (hx : x = nI n := by rfl) (hN : N < 2 ^ 31 := by omega) : vp_in x N := by
  subst hx
  exact vp_in_nI h hN
theorem pk_cl {x : Int32} (n : Nat) (hx : x = nI n := by rfl) (h : n < 2 ^ 31 := by omega) : x.toNatClampNeg = n := by
  subst hx
  exact nI_clamp h
/-! own rows: truth values as ints -/
noncomputable def zp_i (P : Prop) : Int32 := @ite Int32 P (Classical.propDecidable P) 1 0
theorem zp_it {P : Prop} (h : P) : zp_i P = 1 := by unfold zp_i; rw [if_pos h]
theorem zp_if {P : Prop} (h : ¬ P) : zp_i P = 0 := by unfold zp_i; rw [if_neg h]
theorem zp_ic {P A B : Prop} (f : P → B) (g : ¬ P → A) : (zp_i P = 0 → A) ∧ (¬ zp_i P = 0 → B) := by
  rcases Classical.em P with h | h
  · rw [zp_it h]; exact ⟨fun z => absurd z (by decide), fun _ => f h⟩
  · rw [zp_if h]; exact ⟨fun _ => g h, fun z => absurd rfl z⟩
theorem zp_ie {P Q : Prop} (h : P ↔ Q) : zp_i P = zp_i Q := by rw [propext h]
theorem zp_i0 {P : Prop} : zp_i P = 0 ↔ ¬ P := by
  rcases Classical.em P with h | h
  · rw [zp_it h]; exact ⟨fun z => absurd z (by decide), fun z => absurd h z⟩
  · rw [zp_if h]; exact ⟨fun _ => h, fun _ => rfl⟩
theorem zp_i1 {P : Prop} : zp_i P = 1 ↔ P := by
  rcases Classical.em P with h | h
  · rw [zp_it h]; exact ⟨fun _ => h, fun _ => rfl⟩
  · rw [zp_if h]; exact ⟨fun z => absurd z (by decide), fun z => absurd z h⟩
theorem zp_in (P : Prop) : narrow .boolean (.int (zp_i P)) = .int (zp_i P) := by
  rcases Classical.em P with h | h
  · rw [zp_it h]; exact narrow_b1
  · rw [zp_if h]; exact narrow_b0
theorem zp_n1 : vp_nar .boolean 1 = 1 := rfl
theorem zp_n0 : vp_nar .boolean 0 = 0 := rfl
theorem zp_1 : (1 : Int32) = nI 1 := rfl
/-! an index less one: nI n - 1, which is -1 at 0 -/
theorem zp_m1 (n : Nat) : nI n + (-1) = nI n - 1 := (Int32.sub_eq_add_neg (nI n) 1).symm
theorem zp_m1a (n : Nat) : nI n - 1 + 1 = nI n := Int32.sub_add_cancel (nI n) 1
theorem zp_m1T {n : Nat} (h : n < 2 ^ 30) : (nI n - 1).toInt = (n : Int) - 1 := pk_sub_toInt (b := 1) h (by decide)
theorem zp_m1lt0 {A B : Prop} (n : Nat) (h : n < 2 ^ 30) (f : n = 0 → A) (g : 0 < n → B) : (nI n - 1 < 0 → A) ∧ (¬ nI n - 1 < 0 → B) := by
  rw [Int32.lt_iff_toInt_lt, zp_m1T h, show (0 : Int32).toInt = 0 from by decide]
  exact ⟨fun z => f (by omega), fun z => g (by omega)⟩
theorem zp_leM {A B : Prop} (a b : Nat) (ha : a < 2 ^ 30) (hb : b < 2 ^ 30) (f : a < b → A) (g : b ≤ a → B) : (nI a ≤ nI b - 1 → A) ∧ (¬ nI a ≤ nI b - 1 → B) := by
  rw [Int32.le_iff_toInt_le, zp_m1T hb, nI_toInt (by omega)]
  exact ⟨fun z => f (by omega), fun z => g (by omega)⟩
theorem zp_ltM {A B : Prop} (a b : Nat) (ha : a < 2 ^ 30) (hb : b < 2 ^ 30) (f : b ≤ a → A) (g : a < b → B) : (nI b - 1 < nI a → A) ∧ (¬ nI b - 1 < nI a → B) := by
  rw [Int32.lt_iff_toInt_lt, zp_m1T hb, nI_toInt (by omega)]
  exact ⟨fun z => f (by omega), fun z => g (by omega)⟩
theorem zp_M0 {A B : Prop} (n : Nat) (h : n < 2 ^ 30) (f : 0 < n → A) (g : n = 0 → B) : (0 ≤ nI n - 1 → A) ∧ (¬ 0 ≤ nI n - 1 → B) := by
  rw [Int32.le_iff_toInt_le, zp_m1T h, show (0 : Int32).toInt = 0 from by decide]
  exact ⟨fun z => f (by omega), fun z => g (by omega)⟩
/-- an int against the positions 1 .. n -/
theorem zp_rng (x : Int32) {n : Nat} (hn : n < 2 ^ 31) : x < 1 ∨ (¬ x < 1 ∧ nI n < x) ∨ ∃ k : Nat, 1 ≤ k ∧ k ≤ n ∧ x = nI k := by
  by_cases h : x < 1
  · exact Or.inl h
  · have h0 : ¬ x < 0 := fun z => h (Int32.lt_trans z (by decide))
    obtain ⟨j, hj, rfl⟩ := nI_of h0
    have h1 : 1 ≤ j := by
      have := mt (nI_ltI (a := j) (b := 1) hj (by decide)).mpr h
      omega
    by_cases h2 : j ≤ n
    · exact Or.inr (Or.inr ⟨j, h1, h2, rfl⟩)
    · exact Or.inr (Or.inl ⟨h, nI_lt (by omega) hj⟩)
end
section
/-! the abstract state: a row of entries (id, maker's slot, taker's slot) and the list of slots by position, 0 at its head -/
abbrev zp_En : Type := Int32 × Nat × Nat
def zp_LA {α : Type} (a : Nat → Int32) (l : List α) (f : α → Int32) : Prop := ∀ i x, l[i]? = some x → a i = f x
def zp_inT (o : List Nat) (k : Nat) (x : zp_En) : Bool := decide (o.idxOf x.2.1 ≤ k) && !(decide (0 < o.idxOf x.2.2) && decide (o.idxOf x.2.2 ≤ k))
theorem zp_inT_iff {o : List Nat} {k : Nat} {x : zp_En} : zp_inT o k x = true ↔ o.idxOf x.2.1 ≤ k ∧ ¬ (0 < o.idxOf x.2.2 ∧ o.idxOf x.2.2 ≤ k) := by
  unfold zp_inT
  by_cases h1 : o.idxOf x.2.1 ≤ k <;> by_cases h2 : 0 < o.idxOf x.2.2 <;> by_cases h3 : o.idxOf x.2.2 ≤ k <;> simp [h1, h2, h3]
theorem zp_lt {α : Type} {l : List α} {i : Nat} {x : α} (h : l[i]? = some x) : i < l.length := (List.getElem?_eq_some_iff.mp h).1
theorem zp_mem {α : Type} {l : List α} {i : Nat} {x : α} (h : l[i]? = some x) : x ∈ l := List.mem_of_getElem? h
theorem zp_ex {α : Type} {l : List α} {i : Nat} (h : i < l.length) : ∃ x, l[i]? = some x := ⟨l[i], List.getElem?_eq_getElem h⟩
/-! counting ahead of an index -/
def zp_cP (p : zp_En → Bool) (l : List zp_En) (e : Nat) : Nat := (l.take e).countP p
theorem zp_cP_0 {p : zp_En → Bool} {l : List zp_En} : zp_cP p l 0 = 0 := by simp [zp_cP]
theorem zp_cP_t {p : zp_En → Bool} {l : List zp_En} {e : Nat} {x : zp_En} (h : l[e]? = some x) (hp : p x = true) : zp_cP p l (e + 1) = zp_cP p l e + 1 := by
  unfold zp_cP; rw [List.take_add_one, h, List.countP_append]; simp [hp]
theorem zp_cP_f {p : zp_En → Bool} {l : List zp_En} {e : Nat} {x : zp_En} (h : l[e]? = some x) (hp : ¬ p x = true) : zp_cP p l (e + 1) = zp_cP p l e := by
  unfold zp_cP; rw [List.take_add_one, h, List.countP_append]; simp [hp]
theorem zp_cP_all {p : zp_En → Bool} {l : List zp_En} {e : Nat} (h : l.length ≤ e) : zp_cP p l e = l.countP p := by
  unfold zp_cP; rw [List.take_of_length_le h]
theorem zp_cP_le {p : zp_En → Bool} {l : List zp_En} {e : Nat} : zp_cP p l e ≤ e := by
  unfold zp_cP
  exact Nat.le_trans List.countP_le_length (by rw [List.length_take]; exact Nat.min_le_left _ _)
theorem zp_cP_s1 {p : zp_En → Bool} {l : List zp_En} {e : Nat} : zp_cP p l e ≤ zp_cP p l (e + 1) := by
  unfold zp_cP; rw [List.take_add_one, List.countP_append]; exact Nat.le_add_right _ _
theorem zp_cP_mono {p : zp_En → Bool} {l : List zp_En} {a b : Nat} (h : a ≤ b) : zp_cP p l a ≤ zp_cP p l b := by
  induction h with
  | refl => exact Nat.le_refl _
  | step _ ih => exact Nat.le_trans ih zp_cP_s1
/-! the form of the two lists -/
def zp_WF (l : List zp_En) (o : List Nat) : Prop := l.length ≤ 80 ∧ o.length ≤ 11 ∧ o.Nodup ∧ o[0]? = some 0 ∧ (∀ s, s ∈ o → s ≤ 10) ∧ ∀ x, x ∈ l → x.2.1 ∈ o ∧ x.2.2 ∈ o
theorem zp_idx {o : List Nat} (hn : o.Nodup) {i s : Nat} (h : o[i]? = some s) : o.idxOf s = i := by
  obtain ⟨hi, rfl⟩ := List.getElem?_eq_some_iff.mp h
  exact hn.idxOf_getElem i hi
theorem zp_idxm {o : List Nat} {s : Nat} (h : s ∈ o) : o[o.idxOf s]? = some s := by
  have h1 : o.idxOf s < o.length := List.idxOf_lt_length_of_mem h
  rw [List.getElem?_eq_getElem h1, List.getElem_idxOf h1]
theorem zp_idx0 {l : List zp_En} {o : List Nat} (h : zp_WF l o) {s : Nat} (hs : s ∈ o) : o.idxOf s = 0 ↔ s = 0 := by
  obtain ⟨_, _, hn, h0, _, _⟩ := h
  constructor
  · intro z
    have := zp_idxm hs
    rw [z, h0] at this
    exact (Option.some.inj this).symm
  · intro z
    rw [z]; exact zp_idx hn h0
theorem zp_opos {l : List zp_En} {o : List Nat} (h : zp_WF l o) : 0 < o.length := zp_lt h.2.2.2.1
/-! first and last own entries -/
def zp_own (s : Nat) (x : zp_En) : Bool := x.2.1 == s || x.2.2 == s
theorem zp_own_iff {s : Nat} {x : zp_En} : zp_own s x = true ↔ x.2.1 = s ∨ x.2.2 = s := by simp [zp_own]
def zp_lst (p : zp_En → Bool) (l : List zp_En) : Nat → Nat
  | 0 => 0
  | n + 1 => if (l[n]?).any p = true then n + 1 else zp_lst p l n
def zp_F (l : List zp_En) (s : Nat) : Nat := l.findIdx (zp_own s)
def zp_L (l : List zp_En) (s : Nat) : Nat := zp_lst (zp_own s) l l.length
theorem zp_lst_le {p : zp_En → Bool} {l : List zp_En} : ∀ n, zp_lst p l n ≤ n
  | 0 => Nat.le_refl _
  | n + 1 => by
    have := zp_lst_le (p := p) (l := l) n
    simp only [zp_lst]
    split <;> omega
theorem zp_lst_t {p : zp_En → Bool} {l : List zp_En} {n : Nat} {x : zp_En} (h : l[n]? = some x) (hp : p x = true) : zp_lst p l (n + 1) = n + 1 := by
  simp [zp_lst, h, hp]
theorem zp_lst_f {p : zp_En → Bool} {l : List zp_En} {n : Nat} {x : zp_En} (h : l[n]? = some x) (hp : ¬ p x = true) : zp_lst p l (n + 1) = zp_lst p l n := by
  simp [zp_lst, h, hp]
theorem zp_lst_own {p : zp_En → Bool} {l : List zp_En} {e : Nat} {x : zp_En} (h : l[e]? = some x) (hp : p x = true) : ∀ n, e < n → e < zp_lst p l n
  | 0, hn => by omega
  | n + 1, hn => by
    by_cases c : e = n
    · subst c; rw [zp_lst_t h hp]; omega
    · have := zp_lst_own h hp n (by omega)
      simp only [zp_lst]
      split <;> omega
theorem zp_F_le {l : List zp_En} {s : Nat} : zp_F l s ≤ l.length := List.findIdx_le_length
theorem zp_L_le {l : List zp_En} {s : Nat} : zp_L l s ≤ l.length := zp_lst_le _
theorem zp_F_own {l : List zp_En} {s e : Nat} {x : zp_En} (h : l[e]? = some x) (hp : zp_own s x = true) : zp_F l s ≤ e := by
  apply Nat.le_of_not_lt
  intro c
  have c2 := List.not_of_lt_findIdx c
  obtain ⟨he, rfl⟩ := List.getElem?_eq_some_iff.mp h
  rw [hp] at c2
  cases c2
theorem zp_F_not {l : List zp_En} {s e : Nat} {x : zp_En} (h : l[e]? = some x) (c : e < zp_F l s) : ¬ zp_own s x = true := fun hp => by
  have := zp_F_own h hp; omega
theorem zp_L_own {l : List zp_En} {s e : Nat} {x : zp_En} (h : l[e]? = some x) (hp : zp_own s x = true) : e < zp_L l s := zp_lst_own h hp _ (zp_lt h)
/-! resting -/
def zp_sl (o : List Nat) (k : Nat) : Nat := o.getD k 0
theorem zp_sl_e {o : List Nat} {k s : Nat} (h : o[k]? = some s) : zp_sl o k = s := by simp [zp_sl, h]
theorem zp_sl_g {o : List Nat} {k : Nat} (h : k < o.length) : o[k]? = some (zp_sl o k) := by simp [zp_sl, h]
def zp_gap (l : List zp_En) (o : List Nat) (k a b : Nat) : Prop := ∀ e x, a ≤ e → e < b → l[e]? = some x → ¬ zp_inT o k x = true
def zp_Rs (l : List zp_En) (o : List Nat) (k j : Nat) : Prop :=
  (zp_L l (zp_sl o j) ≤ zp_F l (zp_sl o k) → zp_gap l o (k - 1) (zp_L l (zp_sl o j)) (zp_F l (zp_sl o k))) ∧
  (zp_F l (zp_sl o k) < zp_L l (zp_sl o j) → zp_gap l o (k - 1) (zp_L l (zp_sl o k)) (zp_F l (zp_sl o j)))
theorem zp_Rs_sh {l : List zp_En} {o : List Nat} {k j e : Nat} {x : zp_En} (h : l[e]? = some x) (hk : zp_own (zp_sl o k) x = true) (hj : zp_own (zp_sl o j) x = true) : zp_Rs l o k j := by
  have a1 := zp_F_own h hk
  have a2 := zp_F_own h hj
  have a3 := zp_L_own h hk
  have a4 := zp_L_own h hj
  exact ⟨fun c => by omega, fun _ e' x' c1 c2 => by omega⟩
noncomputable def zp_hr (R : Nat → Prop) : Nat → Nat
  | 0 => 0
  | n + 1 => @ite Nat (R n) (Classical.propDecidable _) n (zp_hr R n)
theorem zp_hr_t {R : Nat → Prop} {n : Nat} (h : R n) : zp_hr R (n + 1) = n := by simp only [zp_hr]; rw [if_pos h]
theorem zp_hr_f {R : Nat → Prop} {n : Nat} (h : ¬ R n) : zp_hr R (n + 1) = zp_hr R n := by simp only [zp_hr]; rw [if_neg h]
theorem zp_hr_1 {R : Nat → Prop} : zp_hr R 1 = 0 := by
  rcases Classical.em (R 0) with h | h
  · exact zp_hr_t h
  · exact zp_hr_f h
theorem zp_hr_a {R : Nat → Prop} : ∀ n, zp_hr R n = 0 ∨ (zp_hr R n < n ∧ R (zp_hr R n))
  | 0 => Or.inl rfl
  | n + 1 => by
    rcases Classical.em (R n) with h | h
    · rw [zp_hr_t h]; exact Or.inr ⟨by omega, h⟩
    · rw [zp_hr_f h]
      rcases zp_hr_a (R := R) n with z | z
      · exact Or.inl z
      · exact Or.inr ⟨by omega, z.2⟩
theorem zp_hr_b {R : Nat → Prop} : ∀ n j, zp_hr R n < j → j < n → ¬ R j
  | 0, j, _, h => by omega
  | n + 1, j, h1, h2 => by
    rcases Classical.em (R n) with h | h
    · rw [zp_hr_t h] at h1; omega
    · rw [zp_hr_f h] at h1
      by_cases c : j = n
      · rw [c]; exact h
      · exact zp_hr_b n j h1 (by omega)
def zp_Nd (R : Nat → Nat → Prop) (k i : Nat) : Prop := ∀ S : Nat → Prop, S k → (∀ a b, S a → 1 ≤ b → b < a → a ≤ k → R a b → S b) → S i
theorem zp_Nd_k {R : Nat → Nat → Prop} {k : Nat} : zp_Nd R k k := fun _ h _ => h
theorem zp_Nd_s {R : Nat → Nat → Prop} {k a b : Nat} (h : zp_Nd R k a) (h1 : 1 ≤ b) (h2 : b < a) (h3 : a ≤ k) (h4 : R a b) : zp_Nd R k b :=
  fun S s0 s1 => s1 a b (h S s0 s1) h1 h2 h3 h4
theorem zp_Nd_le {R : Nat → Nat → Prop} {k i : Nat} (h : zp_Nd R k i) : i ≤ k :=
  h (fun i => i ≤ k) (Nat.le_refl _) (fun a b ha _ hb _ _ => by omega)
theorem zp_Nd_v {R : Nat → Nat → Prop} {k i : Nat} (h : zp_Nd R k i) : i = k ∨ (1 ≤ i ∧ ∃ a, i < a ∧ a ≤ k ∧ zp_Nd R k a ∧ R a i) := by
  refine h (fun i => i = k ∨ (1 ≤ i ∧ ∃ a, i < a ∧ a ≤ k ∧ zp_Nd R k a ∧ R a i)) (Or.inl rfl) ?_
  intro a b ha h1 h2 h3 h4
  refine Or.inr ⟨h1, a, h2, h3, ?_, h4⟩
  rcases ha with z | ⟨z1, c, z2, z3, z4, z5⟩
  · rw [z]; exact zp_Nd_k
  · exact zp_Nd_s z4 z1 z2 z3 z5
/-! taking some of a list by position -/
def zp_pk (b : Nat → Bool) : Nat → List Nat → List Nat
  | _, [] => []
  | i, s :: t => if b i = true then s :: zp_pk b (i + 1) t else zp_pk b (i + 1) t
theorem zp_pk_perm (b : Nat → Bool) : ∀ (t : List Nat) (i : Nat), List.Perm (zp_pk b i t ++ zp_pk (fun j => !b j) i t) t
  | [], _ => List.Perm.refl _
  | s :: t, i => by
    have ih := zp_pk_perm b t (i + 1)
    cases c : b i
    · simp only [zp_pk, c, Bool.not_false, if_true, Bool.false_eq_true, if_false]
      exact List.Perm.trans List.perm_middle (List.Perm.cons s ih)
    · simp only [zp_pk, c, Bool.not_true, if_true, Bool.false_eq_true, if_false, List.cons_append]
      exact List.Perm.cons s ih
/-! marking the lines a .. b - 1 of a text as taken by s -/
def zp_mk (p : zp_En → Bool) (s a b : Nat) : Nat → List zp_En → List zp_En
  | _, [] => []
  | c, x :: t => if p x = true then (if a ≤ c ∧ c < b then (x.1, x.2.1, s) else x) :: zp_mk p s a b (c + 1) t else x :: zp_mk p s a b c t
theorem zp_cP_cons {p : zp_En → Bool} {x : zp_En} {t : List zp_En} {i : Nat} : zp_cP p (x :: t) (i + 1) = (if p x = true then 1 else 0) + zp_cP p t i := by
  simp only [zp_cP, List.take_succ_cons, List.countP_cons]; omega
theorem zp_mk_get {p : zp_En → Bool} {s a b : Nat} : ∀ (l : List zp_En) (c i : Nat), (zp_mk p s a b c l)[i]? = (l[i]?).map (fun x => if p x = true ∧ a ≤ c + zp_cP p l i ∧ c + zp_cP p l i < b then (x.1, x.2.1, s) else x)
  | [], c, i => by simp [zp_mk]
  | x :: t, c, 0 => by
    by_cases h : p x = true
    · simp [zp_mk, h, zp_cP_0]
    · simp [zp_mk, h]
  | x :: t, c, i + 1 => by
    by_cases h : p x = true
    · simp only [zp_mk, h, if_true, List.getElem?_cons_succ, zp_cP_cons, zp_mk_get t (c + 1) i, Nat.add_assoc]
    · simp only [zp_mk, h, if_false, List.getElem?_cons_succ, zp_cP_cons, zp_mk_get t c i, Nat.zero_add, Bool.false_eq_true]
theorem zp_mk_len {p : zp_En → Bool} {s a b : Nat} : ∀ (l : List zp_En) (c : Nat), (zp_mk p s a b c l).length = l.length
  | [], c => rfl
  | x :: t, c => by
    simp only [zp_mk]
    split
    · simp only [List.length_cons, zp_mk_len t (c + 1)]
    · simp only [List.length_cons, zp_mk_len t c]
/-! where the m-th line ends -/
def zp_at (p : zp_En → Bool) (l : List zp_En) (m : Nat) : Nat → Nat
  | 0 => 0
  | e + 1 => if (l[e]?).any p = true ∧ zp_cP p l (e + 1) = m then e + 1 else zp_at p l m e
theorem zp_at_le {p : zp_En → Bool} {l : List zp_En} {m : Nat} : ∀ n, zp_at p l m n ≤ n
  | 0 => Nat.le_refl _
  | n + 1 => by
    have := zp_at_le (p := p) (l := l) (m := m) n
    simp only [zp_at]
    split <;> omega
theorem zp_at_f {p : zp_En → Bool} {l : List zp_En} {m n : Nat} {x : zp_En} (h : l[n]? = some x) (hp : ¬ (p x = true ∧ zp_cP p l n + 1 = m)) : zp_at p l m (n + 1) = zp_at p l m n := by
  simp only [zp_at]
  rw [if_neg]
  intro ⟨h1, h2⟩
  rw [h] at h1
  have h1 : p x = true := h1
  rw [zp_cP_t h h1] at h2
  exact hp ⟨h1, h2⟩
theorem zp_at_t {p : zp_En → Bool} {l : List zp_En} {m n : Nat} {x : zp_En} (h : l[n]? = some x) (hp : p x = true) (hm : zp_cP p l n + 1 = m) : zp_at p l m (n + 1) = n + 1 := by
  simp only [zp_at]
  rw [if_pos]
  exact ⟨by rw [h]; exact hp, by rw [zp_cP_t h hp]; exact hm⟩
theorem zp_at_e {p : zp_En → Bool} {l : List zp_En} {m e : Nat} {x : zp_En} (h : l[e]? = some x) (hp : p x = true) (hm : zp_cP p l e + 1 = m) : ∀ n, e < n → n ≤ l.length → zp_at p l m n = e + 1
  | 0, c, _ => by omega
  | n + 1, c, c2 => by
    by_cases z : e = n
    · subst z; exact zp_at_t h hp hm
    · obtain ⟨y, hy⟩ := zp_ex (l := l) (i := n) (by omega)
      rw [zp_at_f hy, zp_at_e h hp hm n (by omega) (by omega)]
      intro ⟨_, q⟩
      have := zp_cP_mono (p := p) (l := l) (a := e + 1) (b := n) (by omega)
      rw [zp_cP_t h hp] at this
      omega
theorem zp_at_n {p : zp_En → Bool} {l : List zp_En} {m : Nat} (h : ∀ e x, l[e]? = some x → p x = true → ¬ zp_cP p l e + 1 = m) : ∀ n, n ≤ l.length → zp_at p l m n = 0
  | 0, _ => rfl
  | n + 1, c => by
    obtain ⟨y, hy⟩ := zp_ex (l := l) (i := n) (by omega)
    rw [zp_at_f hy (fun q => h n y hy q.1 q.2), zp_at_n h n (by omega)]
def zp_ins (l new : List zp_En) (q : Nat) : List zp_En := l.take q ++ (new ++ l.drop q)
/-! what a drop and a fold leave of an entry -/
def zp_dG (s : Nat) (x : zp_En) : Option zp_En := if x.2.1 = s then none else some (x.1, x.2.1, if x.2.2 = s then 0 else x.2.2)
def zp_rn (f t m : Nat) : Nat := if m = f then t else m
def zp_fG (f t : Nat) (x : zp_En) : Option zp_En := if zp_rn f t x.2.1 = t ∧ zp_rn f t x.2.2 = t then none else some (x.1, zp_rn f t x.2.1, zp_rn f t x.2.2)
def zp_Fits (ml : Nat) (l : List zp_En) (o : List Nat) : Prop := ∀ k, 1 ≤ k → k < o.length → l.countP (zp_inT o k) ≤ ml
/-! shifts of an array -/
def zp_sh (a : Nat → Int32) (lo hi c : Nat) : Nat → Int32 := fun i => if lo + c ≤ i ∧ i < hi + c then a (i - c) else a i
theorem zp_sh_0 {a : Nat → Int32} {hi c : Nat} : zp_sh a hi hi c = a := by
  funext i; simp only [zp_sh]; rw [if_neg (by omega)]
theorem zp_sh_e {a : Nat → Int32} {e hi c : Nat} : zp_sh a (e + 1) hi c e = a e := by
  simp only [zp_sh]; rw [if_neg (by omega)]
theorem zp_sh_s {a : Nat → Int32} {e hi c : Nat} (h : e < hi) : upd (zp_sh a (e + 1) hi c) (e + c) (zp_sh a (e + 1) hi c e) = zp_sh a e hi c := by
  funext i
  rw [zp_sh_e]
  by_cases z : i = e + c
  · subst z
    rw [pk_us]; simp only [zp_sh]; rw [if_pos (by omega), Nat.add_sub_cancel]
  · rw [pk_un z]; simp only [zp_sh]
    by_cases y : e + 1 + c ≤ i ∧ i < hi + c
    · rw [if_pos y, if_pos (by omega)]
    · rw [if_neg y, if_neg (by omega)]
def zp_lf (a : Nat → Int32) (lo hi : Nat) : Nat → Int32 := fun i => if lo ≤ i ∧ i < hi then a (i + 1) else a i
theorem zp_lf_0 {a : Nat → Int32} {lo : Nat} : zp_lf a lo lo = a := by
  funext i; simp only [zp_lf]; rw [if_neg (by omega)]
theorem zp_lf_e {a : Nat → Int32} {lo e : Nat} : zp_lf a lo e (e + 1) = a (e + 1) := by
  simp only [zp_lf]; rw [if_neg (by omega)]
theorem zp_lf_s {a : Nat → Int32} {lo e : Nat} (h : lo ≤ e) : upd (zp_lf a lo e) e (zp_lf a lo e (e + 1)) = zp_lf a lo (e + 1) := by
  funext i
  rw [zp_lf_e]
  by_cases z : i = e
  · subst z
    rw [pk_us]; simp only [zp_lf]; rw [if_pos (by omega)]
  · rw [pk_un z]; simp only [zp_lf]
    by_cases y : lo ≤ i ∧ i < e
    · rw [if_pos y, if_pos (by omega)]
    · rw [if_neg y, if_neg (by omega)]
/-! arrays and lists -/
theorem zp_LA_lf {α : Type} {a : Nat → Int32} {l : List α} {f : α → Int32} {k : Nat} (h : zp_LA a l f) (hk : k < l.length) : zp_LA (zp_lf a k (l.length - 1)) (l.eraseIdx k) f := by
  intro i x hx
  rw [List.getElem?_eraseIdx] at hx
  simp only [zp_lf]
  by_cases c : i < k
  · rw [if_pos c] at hx
    rw [if_neg (by omega)]; exact h i x hx
  · rw [if_neg c] at hx
    have := zp_lt hx
    rw [if_pos (by omega)]; exact h _ x hx
theorem zp_LA_mu {α : Type} {a : Nat → Int32} {l : List α} {f : α → Int32} {fr to : Nat} {s : α} (h : zp_LA a l f) (hs : l[fr]? = some s) (hf : fr ≤ to) (ht : to < l.length) : zp_LA (upd (zp_lf a fr to) to (f s)) ((l.eraseIdx fr).insertIdx to s) f := by
  intro i x hx
  have hfr := zp_lt hs
  rw [List.getElem?_insertIdx, List.getElem?_eraseIdx, List.getElem?_eraseIdx] at hx
  by_cases c1 : i < to
  · rw [if_pos c1] at hx
    rw [pk_un (by omega)]; simp only [zp_lf]
    by_cases c2 : i < fr
    · rw [if_pos c2] at hx
      rw [if_neg (by omega)]; exact h _ _ hx
    · rw [if_neg c2] at hx
      rw [if_pos (by omega)]; exact h _ _ hx
  · rw [if_neg c1] at hx
    by_cases c2 : i = to
    · subst c2
      rw [if_pos rfl, List.length_eraseIdx, if_pos hfr, if_pos (by omega)] at hx
      rw [pk_us, Option.some.inj hx]
    · rw [if_neg c2, if_neg (by omega)] at hx
      rw [pk_un c2]; simp only [zp_lf]
      rw [if_neg (by omega)]
      rw [show i - 1 + 1 = i from by omega] at hx
      exact h _ _ hx
theorem zp_LA_md {α : Type} {a : Nat → Int32} {l : List α} {f : α → Int32} {fr to : Nat} {s : α} (h : zp_LA a l f) (hs : l[fr]? = some s) (hf : to ≤ fr) : zp_LA (upd (zp_sh a to fr 1) to (f s)) ((l.eraseIdx fr).insertIdx to s) f := by
  intro i x hx
  have hfr := zp_lt hs
  rw [List.getElem?_insertIdx, List.getElem?_eraseIdx, List.getElem?_eraseIdx] at hx
  by_cases c1 : i < to
  · rw [if_pos c1, if_pos (by omega)] at hx
    rw [pk_un (by omega)]; simp only [zp_sh]
    rw [if_neg (by omega)]; exact h _ _ hx
  · rw [if_neg c1] at hx
    by_cases c2 : i = to
    · subst c2
      rw [if_pos rfl, List.length_eraseIdx, if_pos hfr, if_pos (by omega)] at hx
      rw [pk_us, Option.some.inj hx]
    · rw [if_neg c2] at hx
      rw [pk_un c2]; simp only [zp_sh]
      by_cases c3 : i - 1 < fr
      · rw [if_pos c3] at hx
        rw [if_pos (by omega)]; exact h _ _ hx
      · rw [if_neg c3] at hx
        rw [if_neg (by omega)]
        rw [show i - 1 + 1 = i from by omega] at hx
        exact h _ _ hx
theorem zp_LA_ins {a : Nat → Int32} {l new : List zp_En} {f : zp_En → Int32} {q : Nat} {g : Nat → Int32} (h : zp_LA a l f) (hq : q ≤ l.length) (hl : ∀ i, i < q → g i = a i) (hn : ∀ i x, new[i]? = some x → g (q + i) = f x) (hr : ∀ i, q ≤ i → i < l.length → g (i + new.length) = a i) : zp_LA g (zp_ins l new q) f := by
  intro i x hx
  unfold zp_ins at hx
  rw [List.getElem?_append, List.length_take, Nat.min_eq_left hq] at hx
  by_cases c1 : i < q
  · rw [if_pos c1, List.getElem?_take, if_pos c1] at hx
    rw [hl i c1]; exact h _ _ hx
  · rw [if_neg c1, List.getElem?_append] at hx
    by_cases c2 : i - q < new.length
    · rw [if_pos c2] at hx
      have := hn _ _ hx
      rw [show q + (i - q) = i from by omega] at this
      exact this
    · rw [if_neg c2, List.getElem?_drop] at hx
      have c3 := zp_lt hx
      have := hr (q + (i - q - new.length)) (by omega) c3
      rw [show q + (i - q - new.length) + new.length = i from by omega] at this
      rw [this]; exact h _ _ hx
theorem zp_ins_len {l new : List zp_En} {q : Nat} (hq : q ≤ l.length) : (zp_ins l new q).length = l.length + new.length := by
  unfold zp_ins
  rw [List.length_append, List.length_append, List.length_take, List.length_drop, Nat.min_eq_left hq]; omega
theorem zp_F_at {l : List zp_En} {s : Nat} {x : zp_En} (h : l[zp_F l s]? = some x) : zp_own s x = true := by
  obtain ⟨he, rfl⟩ := List.getElem?_eq_some_iff.mp h
  exact List.findIdx_getElem (w := he)
/-! line i of a text -/
noncomputable def zp_ln (p : zp_En → Bool) (l : List zp_En) (i : Nat) : Int32 :=
  @dite Int32 (∃ e x, l[e]? = some x ∧ p x = true ∧ zp_cP p l e = i) (Classical.propDecidable _) (fun h => h.choose_spec.choose.1) (fun _ => -1)
theorem zp_cP_u {p : zp_En → Bool} {l : List zp_En} {e e' : Nat} {x : zp_En} (h : l[e]? = some x) (hp : p x = true) (hc : zp_cP p l e' = zp_cP p l e) : e' ≤ e := by
  apply Nat.le_of_not_lt
  intro c
  have := zp_cP_mono (p := p) (l := l) (a := e + 1) (b := e') (by omega)
  rw [zp_cP_t h hp] at this
  omega
theorem zp_ln_s {p : zp_En → Bool} {l : List zp_En} {e i : Nat} {x : zp_En} (h : l[e]? = some x) (hp : p x = true) (hc : zp_cP p l e = i) : zp_ln p l i = x.1 := by
  have hh : ∃ e x, l[e]? = some x ∧ p x = true ∧ zp_cP p l e = i := ⟨e, x, h, hp, hc⟩
  unfold zp_ln
  rw [dif_pos hh]
  have q := hh.choose_spec.choose_spec
  have q1 := zp_cP_u h hp (q.2.2.trans hc.symm)
  have q2 := zp_cP_u q.1 q.2.1 (hc.trans q.2.2.symm)
  have q3 : hh.choose = e := by omega
  have q4 : l[hh.choose]? = l[e]? := congrArg (fun j => l[j]?) q3
  have q5 := h.symm.trans (q4.symm.trans q.1)
  exact congrArg (fun z => z.1) (Option.some.inj q5).symm
theorem zp_ln_n {p : zp_En → Bool} {l : List zp_En} {i : Nat} (h : ∀ e x, l[e]? = some x → p x = true → ¬ zp_cP p l e = i) : zp_ln p l i = -1 := by
  unfold zp_ln
  rw [dif_neg]
  intro ⟨e, x, h1, h2, h3⟩
  exact h e x h1 h2 h3
end
section
/-! the component's queries -/
def zx_RK (o : List Nat) (a_rank : Nat → Int32) : Prop := (∀ i s, o[i]? = some s → a_rank s = nI i) ∧ ∀ s, s ≤ 10 → s ∉ o → a_rank s = 0
def zx_Q (l : List zp_En) (o : List Nat) (f_rowSize f_count : Int32) (a_entryId a_entryMaker a_entryTaker a_order a_rank : Nat → Int32) : Prop :=
  zp_WF l o ∧ f_rowSize = nI l.length ∧ f_count = nI (o.length - 1) ∧ zp_LA a_entryId l (fun x => x.1) ∧ zp_LA a_entryMaker l (fun x => nI x.2.1) ∧ zp_LA a_entryTaker l (fun x => nI x.2.2) ∧ zp_LA a_order o nI ∧ zx_RK o a_rank
section
variable {f_maxLines f_maxSide f_maxPatches f_rowSize f_count f_nextName f_draftOpen f_draftPlace f_draftTake f_numberCount f_savedRowSize f_savedCount : Int32} {a_entryId a_entryMaker a_entryTaker a_order a_rank a_nameOf a_numbers a_savedId a_savedMaker a_savedTaker a_savedOrder a_needed : Nat → Int32} {l : List zp_En} {o : List Nat}
theorem zx_in {post : Int32 → Prop} {e k m t im it : Nat} (he : e < 80) (hM : a_entryMaker e = nI m) (hT : a_entryTaker e = nI t) (hm : m ≤ 10) (ht : t ≤ 10) (hrm : a_rank m = nI im) (hrt : a_rank t = nI it) (hk : k < 1000) (him : im ≤ 11) (hit : it ≤ 11) (h0 : it = 0 ↔ t = 0) (h : post (zp_i (im ≤ k ∧ ¬ (0 < it ∧ it ≤ k)))) : wpX_inText post (f_maxLines, f_maxSide, f_maxPatches, f_rowSize, f_count, f_nextName, f_draftOpen, f_draftPlace, f_draftTake, f_numberCount, f_savedRowSize, f_savedCount, a_entryId, a_entryMaker, a_entryTaker, a_order, a_rank, a_nameOf, a_numbers, a_savedId, a_savedMaker, a_savedTaker, a_savedOrder, a_needed) (nI e) (nI k) := by
  have e1 : (nI e).toNatClampNeg = e := nI_clamp (by omega)
  have e2 : (nI m).toNatClampNeg = m := nI_clamp (by omega)
  have e3 : (nI t).toNatClampNeg = t := nI_clamp (by omega)
  unfold wpX_inText
  dsimp only
  rw [e1, hM, e2, hrm, hT]
  refine ⟨vp_in_nI he (by omega), vp_in_nI (by omega) (by omega), pk_le im k (fun c => ⟨vp_in_nI he (by omega), nm_e ?_⟩) (fun c => ?_)⟩
  · refine pk_eq t 0 (fun c2 => ?_) (fun c2 => ⟨vp_in_nI (by omega) (by omega), ?_⟩)
    · rw [zp_it ⟨c, by omega⟩] at h; exact h
    · rw [e3, hrt]
      refine pk_le it k (fun c3 => ?_) (fun c3 => ?_)
      · rw [zp_if (fun z => by omega)] at h; exact h
      · rw [zp_it ⟨c, by omega⟩] at h; exact h
  · rw [zp_if (fun z => by omega)] at h; exact h
theorem zx_inQ {post : Int32 → Prop} {e k : Nat} {x : zp_En} (h : zx_Q l o f_rowSize f_count a_entryId a_entryMaker a_entryTaker a_order a_rank) (hx : l[e]? = some x) (hk : k < 1000) (hp : post (zp_i (zp_inT o k x = true))) : wpX_inText post (f_maxLines, f_maxSide, f_maxPatches, f_rowSize, f_count, f_nextName, f_draftOpen, f_draftPlace, f_draftTake, f_numberCount, f_savedRowSize, f_savedCount, a_entryId, a_entryMaker, a_entryTaker, a_order, a_rank, a_nameOf, a_numbers, a_savedId, a_savedMaker, a_savedTaker, a_savedOrder, a_needed) (nI e) (nI k) := by
  obtain ⟨hw, _, _, _, hM, hT, _, hR⟩ := h
  have m1 := hw.2.2.2.2.2 x (zp_mem hx)
  have i1 := zp_idxm m1.1
  have i2 := zp_idxm m1.2
  have l1 := zp_lt i1
  have l2 := zp_lt i2
  have l3 := zp_lt hx
  have l4 := hw.1
  have l5 := hw.2.1
  rw [zp_ie zp_inT_iff] at hp
  exact zx_in (by omega) (hM e x hx) (hT e x hx) (hw.2.2.2.2.1 _ m1.1) (hw.2.2.2.2.1 _ m1.2) (hR.1 _ _ i1) (hR.1 _ _ i2) hk (by omega) (by omega) (zp_idx0 hw m1.2) hp
theorem zx_lb5 {post : Int32 → Prop} {k en m : Nat} (h : zx_Q l o f_rowSize f_count a_entryId a_entryMaker a_entryTaker a_order a_rank) (hk : k < 1000) (hen : en < 1000) (hm : m = min en l.length) (hp : post (nI (zp_cP (zp_inT o k) l m))) : ∀ n e, e ≤ m → m < n + e → wX_linesBefore_5 post (nI k) (nI en) f_maxLines f_maxSide f_maxPatches f_rowSize f_count f_nextName f_draftOpen f_draftPlace f_draftTake f_numberCount f_savedRowSize f_savedCount a_entryId a_entryMaker a_entryTaker a_order a_rank a_nameOf a_numbers a_savedId a_savedMaker a_savedTaker a_savedOrder a_needed n (nI (zp_cP (zp_inT o k) l e)) (nI e) := by
  have h80 := h.1.1
  intro n
  induction n with
  | zero => intro e h1 h2; omega
  | succ n ih =>
    intro e h1 h2
    have hz : en ≤ e ∨ l.length ≤ e → e = m := by omega
    refine pk_le en e (fun c => ?_) (fun c => ?_)
    · rw [hz (Or.inl c)]; exact hp
    · refine pk_le l.length e (fun c2 => ?_) (fun c2 => ?_) h.2.1
      · rw [hz (Or.inr c2)]; exact hp
      · obtain ⟨x, hx⟩ := zp_ex c2
        refine zx_inQ h hx hk (zp_ic (fun y => ?_) (fun y => ?_))
        · refine nm_r (e' := nI (zp_cP (zp_inT o k) l (e + 1))) (by rw [nI_1, zp_cP_t hx y]) (nm_r (nI_1 e) ?_)
          exact ih (e + 1) (by omega) (by omega)
        · refine nm_r (nI_1 e) ?_
          rw [← zp_cP_f hx y]
          exact ih (e + 1) (by omega) (by omega)
theorem zx_lb {post : Int32 → Prop} {k en : Nat} {y : Int32} (h : zx_Q l o f_rowSize f_count a_entryId a_entryMaker a_entryTaker a_order a_rank) (hk : k < 1000) (hen : en < 1000) (hy : y = nI en) (hp : post (nI (zp_cP (zp_inT o k) l en))) : wpX_linesBefore post (f_maxLines, f_maxSide, f_maxPatches, f_rowSize, f_count, f_nextName, f_draftOpen, f_draftPlace, f_draftTake, f_numberCount, f_savedRowSize, f_savedCount, a_entryId, a_entryMaker, a_entryTaker, a_order, a_rank, a_nameOf, a_numbers, a_savedId, a_savedMaker, a_savedTaker, a_savedOrder, a_needed) (nI k) y := by
  subst hy
  have e1 : zp_cP (zp_inT o k) l en = zp_cP (zp_inT o k) l (min en l.length) := by
    by_cases c : en ≤ l.length
    · rw [Nat.min_eq_left c]
    · rw [Nat.min_eq_right (by omega), zp_cP_all (by omega), zp_cP_all (Nat.le_refl _)]
  rw [e1] at hp
  exact ⟨_, zx_lb5 h hk hen rfl hp (min en l.length + 1) 0 (by omega) (by omega)⟩
theorem zx_tl {post : Int32 → Prop} {k : Nat} (h : zx_Q l o f_rowSize f_count a_entryId a_entryMaker a_entryTaker a_order a_rank) (hk : k < 1000) (hp : post (nI (l.countP (zp_inT o k)))) : wpX_textLength post (f_maxLines, f_maxSide, f_maxPatches, f_rowSize, f_count, f_nextName, f_draftOpen, f_draftPlace, f_draftTake, f_numberCount, f_savedRowSize, f_savedCount, a_entryId, a_entryMaker, a_entryTaker, a_order, a_rank, a_nameOf, a_numbers, a_savedId, a_savedMaker, a_savedTaker, a_savedOrder, a_needed) (nI k) := by
  have h80 := h.1.1
  rw [← zp_cP_all (Nat.le_refl _)] at hp
  exact zx_lb h hk (by omega) h.2.1 hp
theorem zx_ix5 {post : Int32 → Prop} {k : Nat} {y : Int32} (h : zx_Q l o f_rowSize f_count a_entryId a_entryMaker a_entryTaker a_order a_rank) (hk : k < 1000) (h1 : ∀ e x, l[e]? = some x → zp_inT o k x = true → nI (zp_cP (zp_inT o k) l e) = y → post (nI e)) (h2 : (∀ e x, l[e]? = some x → zp_inT o k x = true → ¬ nI (zp_cP (zp_inT o k) l e) = y) → post (-1)) : ∀ n e, e ≤ l.length → l.length < n + e → (∀ e' x, e' < e → l[e']? = some x → zp_inT o k x = true → ¬ nI (zp_cP (zp_inT o k) l e') = y) → wX_indexOfLine_5 post (nI k) y f_maxLines f_maxSide f_maxPatches f_rowSize f_count f_nextName f_draftOpen f_draftPlace f_draftTake f_numberCount f_savedRowSize f_savedCount a_entryId a_entryMaker a_entryTaker a_order a_rank a_nameOf a_numbers a_savedId a_savedMaker a_savedTaker a_savedOrder a_needed n (nI (zp_cP (zp_inT o k) l e)) (nI e) := by
  have h80 := h.1.1
  intro n
  induction n with
  | zero => intro e h1 h2; omega
  | succ n ih =>
    intro e h3 h4 h5
    refine pk_le l.length e (fun c => h2 ?_) (fun c => ?_) h.2.1
    · intro e' x hx; exact h5 e' x (by have := zp_lt hx; omega) hx
    · obtain ⟨x, hx⟩ := zp_ex c
      refine zx_inQ h hx hk (zp_ic (fun z => ?_) (fun z => ?_))
      · refine br_c (fun d => h1 e x hx z d) (fun d => ?_)
        refine nm_r (e' := nI (zp_cP (zp_inT o k) l (e + 1))) (by rw [nI_1, zp_cP_t hx z]) (nm_r (nI_1 e) ?_)
        refine ih (e + 1) (by omega) (by omega) ?_
        intro e' x' he hx' hi'
        by_cases b : e' = e
        · rw [b]; exact d
        · exact h5 e' x' (by omega) hx' hi'
      · refine nm_r (nI_1 e) ?_
        rw [← zp_cP_f hx z]
        refine ih (e + 1) (by omega) (by omega) ?_
        intro e' x' he hx' hi'
        by_cases b : e' = e
        · subst b; rw [hx] at hx'; rw [Option.some.inj hx'] at z; exact absurd hi' z
        · exact h5 e' x' (by omega) hx' hi'
theorem zx_ix {post : Int32 → Prop} {k : Nat} {y : Int32} (h : zx_Q l o f_rowSize f_count a_entryId a_entryMaker a_entryTaker a_order a_rank) (hk : k < 1000) (h1 : ∀ e x, l[e]? = some x → zp_inT o k x = true → nI (zp_cP (zp_inT o k) l e) = y → post (nI e)) (h2 : (∀ e x, l[e]? = some x → zp_inT o k x = true → ¬ nI (zp_cP (zp_inT o k) l e) = y) → post (-1)) : wpX_indexOfLine post (f_maxLines, f_maxSide, f_maxPatches, f_rowSize, f_count, f_nextName, f_draftOpen, f_draftPlace, f_draftTake, f_numberCount, f_savedRowSize, f_savedCount, a_entryId, a_entryMaker, a_entryTaker, a_order, a_rank, a_nameOf, a_numbers, a_savedId, a_savedMaker, a_savedTaker, a_savedOrder, a_needed) (nI k) y := by
  exact ⟨_, zx_ix5 h hk h1 h2 (l.length + 1) 0 (by omega) (by omega) (fun e' x he => by omega)⟩
theorem zx_lid {post : Int32 → Prop} {k i : Nat} {y : Int32} (h : zx_Q l o f_rowSize f_count a_entryId a_entryMaker a_entryTaker a_order a_rank) (hk : k < 1000) (hi : i < 1000) (hy : y = nI i) (hp : post (zp_ln (zp_inT o k) l i)) : wpX_lineId post (f_maxLines, f_maxSide, f_maxPatches, f_rowSize, f_count, f_nextName, f_draftOpen, f_draftPlace, f_draftTake, f_numberCount, f_savedRowSize, f_savedCount, a_entryId, a_entryMaker, a_entryTaker, a_order, a_rank, a_nameOf, a_numbers, a_savedId, a_savedMaker, a_savedTaker, a_savedOrder, a_needed) (nI k) y := by
  subst hy
  have h80 := h.1.1
  have hI := h.2.2.2.1
  refine zx_ix h hk (fun e x hx hx2 hc => ?_) (fun hn => ?_)
  · have l1 := zp_lt hx
    have l2 := zp_cP_le (p := zp_inT o k) (l := l) (e := e)
    rw [nI_eq (by omega) (by omega)] at hc
    rw [zp_ln_s hx hx2 hc] at hp
    refine br_t (nI_pos' (by omega)) ⟨vp_in_nI (by omega) (by omega), ?_⟩
    rw [nI_clamp (by omega), hI e x hx]
    exact hp
  · refine br_f (by decide) ?_
    rw [zp_ln_n] at hp
    · exact hp
    · intro e x hx hx2 hc
      exact hn e x hx hx2 (by rw [hc])
theorem zx_owns {post : Int32 → Prop} {e s : Nat} {x : zp_En} (h : zx_Q l o f_rowSize f_count a_entryId a_entryMaker a_entryTaker a_order a_rank) (hs : s ≤ 10) (hx : l[e]? = some x) (hp : post (zp_i (zp_own s x = true))) : wpX_owns post (f_maxLines, f_maxSide, f_maxPatches, f_rowSize, f_count, f_nextName, f_draftOpen, f_draftPlace, f_draftTake, f_numberCount, f_savedRowSize, f_savedCount, a_entryId, a_entryMaker, a_entryTaker, a_order, a_rank, a_nameOf, a_numbers, a_savedId, a_savedMaker, a_savedTaker, a_savedOrder, a_needed) (nI s) (nI e) := by
  obtain ⟨hw, _, _, _, hM, hT, _, hR⟩ := h
  have m1 := hw.2.2.2.2.2 x (zp_mem hx)
  have l3 := zp_lt hx
  have l4 := hw.1
  have l5 := hw.2.2.2.2.1 _ m1.1
  have l6 := hw.2.2.2.2.1 _ m1.2
  have e1 : (nI e).toNatClampNeg = e := nI_clamp (by omega)
  rw [zp_ie zp_own_iff] at hp
  unfold wpX_owns
  dsimp only
  rw [e1, hM e x hx, hT e x hx]
  refine ⟨vp_in_nI (by omega) (by omega), pk_eq x.2.1 s (fun c => ?_) (fun c => ⟨vp_in_nI (by omega) (by omega), pk_eq x.2.2 s (fun c2 => ?_) (fun c2 => ?_)⟩)⟩
  · rw [zp_it (Or.inl c)] at hp; exact hp
  · rw [zp_it (Or.inr c2)] at hp; exact hp
  · rw [zp_if (fun z => z.elim c c2)] at hp; exact hp
theorem zx_fo2 {post : Int32 → Prop} {s : Nat} (h : zx_Q l o f_rowSize f_count a_entryId a_entryMaker a_entryTaker a_order a_rank) (hs : s ≤ 10) (hp : post (nI (zp_F l s))) : ∀ n e, e ≤ zp_F l s → l.length < n + e → wX_firstOwn_2 post (nI s) f_maxLines f_maxSide f_maxPatches f_rowSize f_count f_nextName f_draftOpen f_draftPlace f_draftTake f_numberCount f_savedRowSize f_savedCount a_entryId a_entryMaker a_entryTaker a_order a_rank a_nameOf a_numbers a_savedId a_savedMaker a_savedTaker a_savedOrder a_needed n (nI e) := by
  have h80 := h.1.1
  have hF := zp_F_le (l := l) (s := s)
  intro n
  induction n with
  | zero => intro e h1 h2; omega
  | succ n ih =>
    intro e h1 h2
    refine pk_le l.length e (fun c => ?_) (fun c => ?_) h.2.1
    · rw [h.2.1, show l.length = zp_F l s from by omega]; exact hp
    · obtain ⟨x, hx⟩ := zp_ex c
      refine zx_owns h hs hx (zp_ic (fun z => ?_) (fun z => ?_))
      · have := zp_F_own hx z
        rw [show e = zp_F l s from by omega]; exact hp
      · refine nm_r (nI_1 e) (ih (e + 1) ?_ (by omega))
        by_cases b : e = zp_F l s
        · rw [b] at hx; exact absurd (zp_F_at hx) z
        · omega
theorem zx_fo {post : Int32 → Prop} {s : Nat} (h : zx_Q l o f_rowSize f_count a_entryId a_entryMaker a_entryTaker a_order a_rank) (hs : s ≤ 10) (hp : post (nI (zp_F l s))) : wpX_firstOwn post (f_maxLines, f_maxSide, f_maxPatches, f_rowSize, f_count, f_nextName, f_draftOpen, f_draftPlace, f_draftTake, f_numberCount, f_savedRowSize, f_savedCount, a_entryId, a_entryMaker, a_entryTaker, a_order, a_rank, a_nameOf, a_numbers, a_savedId, a_savedMaker, a_savedTaker, a_savedOrder, a_needed) (nI s) :=
  ⟨_, zx_fo2 h hs hp (l.length + 1) 0 (by omega) (by omega)⟩
theorem zx_lo7 {post : Int32 → Prop} {s : Nat} (h : zx_Q l o f_rowSize f_count a_entryId a_entryMaker a_entryTaker a_order a_rank) (hs : s ≤ 10) (hp : post (nI (zp_L l s) - 1)) : ∀ n m, m < n → m ≤ l.length → zp_lst (zp_own s) l m = zp_L l s → wX_lastOwn_7 post (nI s) f_maxLines f_maxSide f_maxPatches f_rowSize f_count f_nextName f_draftOpen f_draftPlace f_draftTake f_numberCount f_savedRowSize f_savedCount a_entryId a_entryMaker a_entryTaker a_order a_rank a_nameOf a_numbers a_savedId a_savedMaker a_savedTaker a_savedOrder a_needed n (nI m - 1) := by
  have h80 := h.1.1
  intro n
  induction n with
  | zero => intro m h1 h2; omega
  | succ n ih =>
    intro m h1 h2 h3
    refine zp_m1lt0 m (by omega) (fun c => ?_) (fun c => ?_)
    · subst c
      rw [← h3] at hp; exact hp
    · obtain ⟨m, rfl⟩ : ∃ q, m = q + 1 := ⟨m - 1, by omega⟩
      rw [nI_pred]
      obtain ⟨x, hx⟩ := zp_ex (l := l) (i := m) (by omega)
      refine zx_owns h hs hx (zp_ic (fun z => ?_) (fun z => ?_))
      · rw [zp_lst_t hx z] at h3
        rw [← h3, nI_pred] at hp; exact hp
      · rw [zp_lst_f hx z] at h3
        exact nm_r (zp_m1 m) (ih m (by omega) (by omega) h3)
theorem zx_lo {post : Int32 → Prop} {s : Nat} (h : zx_Q l o f_rowSize f_count a_entryId a_entryMaker a_entryTaker a_order a_rank) (hs : s ≤ 10) (hp : post (nI (zp_L l s) - 1)) : wpX_lastOwn post (f_maxLines, f_maxSide, f_maxPatches, f_rowSize, f_count, f_nextName, f_draftOpen, f_draftPlace, f_draftTake, f_numberCount, f_savedRowSize, f_savedCount, a_entryId, a_entryMaker, a_entryTaker, a_order, a_rank, a_nameOf, a_numbers, a_savedId, a_savedMaker, a_savedTaker, a_savedOrder, a_needed) (nI s) := by
  exact nm_r (e' := nI l.length - 1) (by rw [h.2.1]) ⟨_, zx_lo7 h hs hp (l.length + 1) l.length (by omega) (by omega) rfl⟩
theorem zx_bt5 {post : Int32 → Prop} {k a b : Nat} (h : zx_Q l o f_rowSize f_count a_entryId a_entryMaker a_entryTaker a_order a_rank) (hk : k < 1000) (hb : b ≤ l.length) (hp : post (zp_i (¬ zp_gap l o k a b))) : ∀ n e, a ≤ e → e ≤ l.length → b - e < n → (∀ e' x, a ≤ e' → e' < e → l[e']? = some x → ¬ zp_inT o k x = true) → wX_lineBetween_5 post (nI k) (nI b) f_maxLines f_maxSide f_maxPatches f_rowSize f_count f_nextName f_draftOpen f_draftPlace f_draftTake f_numberCount f_savedRowSize f_savedCount a_entryId a_entryMaker a_entryTaker a_order a_rank a_nameOf a_numbers a_savedId a_savedMaker a_savedTaker a_savedOrder a_needed n (nI e) := by
  have h80 := h.1.1
  intro n
  induction n with
  | zero => intro e h1 h2; omega
  | succ n ih =>
    intro e h1 h2 h3 h4
    refine pk_le b e (fun c => ?_) (fun c => ?_)
    · rw [zp_if (fun z => z (fun e' x c1 c2 => h4 e' x c1 (by omega)))] at hp; exact hp
    · obtain ⟨x, hx⟩ := zp_ex (l := l) (i := e) (by omega)
      refine zx_inQ h hx hk (zp_ic (fun z => ?_) (fun z => ?_))
      · rw [zp_it (fun g => g e x h1 c hx z)] at hp; exact hp
      · refine nm_r (nI_1 e) (ih (e + 1) (by omega) (by omega) (by omega) ?_)
        intro e' x' c1 c2 hx'
        by_cases b : e' = e
        · subst b; rw [hx] at hx'; rw [← Option.some.inj hx']; exact z
        · exact h4 e' x' c1 (by omega) hx'
theorem zx_bt {post : Int32 → Prop} {k a b : Nat} (h : zx_Q l o f_rowSize f_count a_entryId a_entryMaker a_entryTaker a_order a_rank) (hk : k < 1000) (ha : a ≤ l.length) (hb : b ≤ l.length) (hp : post (zp_i (¬ zp_gap l o k a b))) : wpX_lineBetween post (f_maxLines, f_maxSide, f_maxPatches, f_rowSize, f_count, f_nextName, f_draftOpen, f_draftPlace, f_draftTake, f_numberCount, f_savedRowSize, f_savedCount, a_entryId, a_entryMaker, a_entryTaker, a_order, a_rank, a_nameOf, a_numbers, a_savedId, a_savedMaker, a_savedTaker, a_savedOrder, a_needed) (nI k) (nI a - 1) (nI b) :=
  nm_r (zp_m1a a) ⟨_, zx_bt5 h hk hb hp (b - a + 1) a (Nat.le_refl _) ha (by omega) (fun e' x c1 c2 => by omega)⟩
theorem zx_ord (h : zx_Q l o f_rowSize f_count a_entryId a_entryMaker a_entryTaker a_order a_rank) {k : Nat} (hk : k < o.length) : a_order (nI k).toNatClampNeg = nI (zp_sl o k) ∧ zp_sl o k ≤ 10 ∧ vp_in (nI k) 11 := by
  have h11 := h.1.2.1
  have g := zp_sl_g hk
  rw [nI_clamp (by omega)]
  exact ⟨h.2.2.2.2.2.2.1 _ _ g, h.1.2.2.2.2.1 _ (zp_mem g), vp_in_nI (by omega) (by omega)⟩
theorem zx_rests {post : Int32 → Prop} {k j : Nat} (h : zx_Q l o f_rowSize f_count a_entryId a_entryMaker a_entryTaker a_order a_rank) (hjk : j < k) (hk : k < o.length) (hp : post (zp_i (zp_Rs l o k j))) : wpX_rests post (f_maxLines, f_maxSide, f_maxPatches, f_rowSize, f_count, f_nextName, f_draftOpen, f_draftPlace, f_draftTake, f_numberCount, f_savedRowSize, f_savedCount, a_entryId, a_entryMaker, a_entryTaker, a_order, a_rank, a_nameOf, a_numbers, a_savedId, a_savedMaker, a_savedTaker, a_savedOrder, a_needed) (nI k) (nI j) := by
  have h80 := h.1.1
  have h11 := h.1.2.1
  obtain ⟨e1, e2, e3⟩ := zx_ord h hk
  obtain ⟨e4, e5, e6⟩ := zx_ord h (k := j) (by omega)
  have e7 : nI k - 1 = nI (k - 1) := pk_sub (b := 1) (by omega)
  have f1 := zp_F_le (l := l) (s := zp_sl o k)
  have f2 := zp_F_le (l := l) (s := zp_sl o j)
  have f3 := zp_L_le (l := l) (s := zp_sl o k)
  have f4 := zp_L_le (l := l) (s := zp_sl o j)
  unfold wpX_rests
  dsimp only
  rw [e1, e4, e7]
  refine ⟨e6, zx_fo h e5 ⟨e6, zx_lo h e5 ⟨e3, zx_fo h e2 ⟨e3, zx_lo h e2 ?_⟩⟩⟩⟩
  refine zp_leM _ _ (by omega) (by omega) (fun c => zp_leM _ _ (by omega) (by omega) (fun c2 => ?_) (fun c2 => ?_)) (fun c => ?_)
  · rw [zp_it ⟨fun z => by omega, fun _ e x z1 z2 => by omega⟩] at hp; exact hp
  · refine zx_bt h (by omega) f3 f2 (zp_ic (fun z => ?_) (fun z => ?_))
    · rw [zp_if (fun q => z (q.2 c))] at hp; exact hp
    · rw [zp_it ⟨fun q => by omega, fun _ => Classical.not_not.mp z⟩] at hp; exact hp
  · refine zx_bt h (by omega) f4 f1 (zp_ic (fun z => ?_) (fun z => ?_))
    · rw [zp_if (fun q => z (q.1 c))] at hp; exact hp
    · rw [zp_it ⟨fun _ => Classical.not_not.mp z, fun q => by omega⟩] at hp; exact hp
theorem zx_ca4 {post : Int32 → Prop} {k top : Nat} (h : zx_Q l o f_rowSize f_count a_entryId a_entryMaker a_entryTaker a_order a_rank) (ht : top < o.length) (hp : post (zp_i (∃ i, k < i ∧ i ≤ top ∧ zp_Rs l o i k))) : ∀ n i, k < i → top + 1 - i < n → (∀ i', k < i' → i' < i → ¬ zp_Rs l o i' k) → i ≤ 100 → wX_carries_4 post (nI k) (nI top) f_maxLines f_maxSide f_maxPatches f_rowSize f_count f_nextName f_draftOpen f_draftPlace f_draftTake f_numberCount f_savedRowSize f_savedCount a_entryId a_entryMaker a_entryTaker a_order a_rank a_nameOf a_numbers a_savedId a_savedMaker a_savedTaker a_savedOrder a_needed n (nI i) := by
  have h11 := h.1.2.1
  intro n
  induction n with
  | zero => intro i h1 h2; omega
  | succ n ih =>
    intro i h1 h2 h3 h4
    refine pk_lt top i (fun c => ?_) (fun c => ?_)
    · rw [zp_if (fun ⟨i', z1, z2, z3⟩ => h3 i' z1 (by omega) z3)] at hp; exact hp
    · refine zx_rests h (by omega) (by omega) (zp_ic (fun z => ?_) (fun z => ?_))
      · rw [zp_it ⟨i, h1, c, z⟩] at hp; exact hp
      · refine nm_r (nI_1 i) (ih (i + 1) (by omega) (by omega) ?_ (by omega))
        intro i' c1 c2
        by_cases b : i' = i
        · rw [b]; exact z
        · exact h3 i' c1 (by omega)
theorem zx_ca {post : Int32 → Prop} {k top : Nat} {y : Int32} (h : zx_Q l o f_rowSize f_count a_entryId a_entryMaker a_entryTaker a_order a_rank) (hk : k ≤ 20) (ht : top < o.length) (hy : y = nI top) (hp : post (zp_i (∃ i, k < i ∧ i ≤ top ∧ zp_Rs l o i k))) : wpX_carries post (f_maxLines, f_maxSide, f_maxPatches, f_rowSize, f_count, f_nextName, f_draftOpen, f_draftPlace, f_draftTake, f_numberCount, f_savedRowSize, f_savedCount, a_entryId, a_entryMaker, a_entryTaker, a_order, a_rank, a_nameOf, a_numbers, a_savedId, a_savedMaker, a_savedTaker, a_savedOrder, a_needed) (nI k) y := by
  subst hy
  exact nm_r (nI_1 k) ⟨_, zx_ca4 h ht hp (top + 2) (k + 1) (by omega) (by omega) (fun i' c1 c2 => by omega) (by omega)⟩
theorem zx_hr4 {post : Int32 → Prop} {k low : Nat} (h : zx_Q l o f_rowSize f_count a_entryId a_entryMaker a_entryTaker a_order a_rank) (hk : k < o.length) (hl : 1 ≤ low) (hl2 : low ≤ 20) (h1 : ∀ j, low ≤ j → j < k → zp_Rs l o k j → (∀ i, j < i → i < k → ¬ zp_Rs l o k i) → post (nI j)) (h2 : (∀ i, low ≤ i → i < k → ¬ zp_Rs l o k i) → post 0) : ∀ n m, m < n → m ≤ k → (∀ i, m ≤ i → i < k → ¬ zp_Rs l o k i) → wX_highestRest_4 post (nI k) (nI low) f_maxLines f_maxSide f_maxPatches f_rowSize f_count f_nextName f_draftOpen f_draftPlace f_draftTake f_numberCount f_savedRowSize f_savedCount a_entryId a_entryMaker a_entryTaker a_order a_rank a_nameOf a_numbers a_savedId a_savedMaker a_savedTaker a_savedOrder a_needed n (nI m - 1) := by
  have h11 := h.1.2.1
  intro n
  induction n with
  | zero => intro m h1 h2; omega
  | succ n ih =>
    intro m h3 h4 h5
    refine zp_ltM low m (by omega) (by omega) (fun c => h2 (fun i c1 c2 => h5 i (by omega) c2)) (fun c => ?_)
    obtain ⟨m, rfl⟩ : ∃ q, m = q + 1 := ⟨m - 1, by omega⟩
    rw [nI_pred]
    refine zx_rests h (by omega) (by omega) (zp_ic (fun z => ?_) (fun z => ?_))
    · exact h1 m (by omega) (by omega) z (fun i c1 c2 => h5 i (by omega) c2)
    · refine nm_r (zp_m1 m) (ih m (by omega) (by omega) ?_)
      intro i c1 c2
      by_cases b : i = m
      · rw [b]; exact z
      · exact h5 i (by omega) c2
theorem zx_hr {post : Int32 → Prop} {k low : Nat} (h : zx_Q l o f_rowSize f_count a_entryId a_entryMaker a_entryTaker a_order a_rank) (hk : k < o.length) (hl : 1 ≤ low) (hl2 : low ≤ 20) (h1 : ∀ j, low ≤ j → j < k → zp_Rs l o k j → (∀ i, j < i → i < k → ¬ zp_Rs l o k i) → post (nI j)) (h2 : (∀ i, low ≤ i → i < k → ¬ zp_Rs l o k i) → post 0) : wpX_highestRest post (f_maxLines, f_maxSide, f_maxPatches, f_rowSize, f_count, f_nextName, f_draftOpen, f_draftPlace, f_draftTake, f_numberCount, f_savedRowSize, f_savedCount, a_entryId, a_entryMaker, a_entryTaker, a_order, a_rank, a_nameOf, a_numbers, a_savedId, a_savedMaker, a_savedTaker, a_savedOrder, a_needed) (nI k) (nI low) :=
  nm_e ⟨_, zx_hr4 h hk hl hl2 h1 h2 (k + 1) k (by omega) (by omega) (fun i c1 c2 => by omega)⟩
theorem zx_ft2 {post : Int32 → Prop} {ml : Nat} (h : zx_Q l o f_rowSize f_count a_entryId a_entryMaker a_entryTaker a_order a_rank) (hm : f_maxLines = nI ml) (hm2 : ml < 1000) (hp : post (zp_i (zp_Fits ml l o))) : ∀ n k, 1 ≤ k → k ≤ o.length → o.length - k < n → (∀ k', 1 ≤ k' → k' < k → l.countP (zp_inT o k') ≤ ml) → wX_fits_2 post f_maxLines f_maxSide f_maxPatches f_rowSize f_count f_nextName f_draftOpen f_draftPlace f_draftTake f_numberCount f_savedRowSize f_savedCount a_entryId a_entryMaker a_entryTaker a_order a_rank a_nameOf a_numbers a_savedId a_savedMaker a_savedTaker a_savedOrder a_needed n (nI k) := by
  have h80 := h.1.1
  have h11 := h.1.2.1
  intro n
  induction n with
  | zero => intro k h1 h2; omega
  | succ n ih =>
    intro k h1 h2 h3 h4
    refine pk_lt (o.length - 1) k (fun c => ?_) (fun c => ?_) h.2.2.1
    · rw [zp_it (P := zp_Fits ml l o) (fun k' c1 c2 => h4 k' c1 (by omega))] at hp; exact hp
    · have hc := List.countP_le_length (p := zp_inT o k) (l := l)
      refine zx_tl h (by omega) (pk_le (l.countP (zp_inT o k)) ml (fun d => ?_) (fun d => ?_) rfl hm)
      · refine nm_r (nI_1 k) (ih (k + 1) (by omega) (by omega) (by omega) ?_)
        intro k' c1 c2
        by_cases b : k' = k
        · rw [b]; exact d
        · exact h4 k' c1 (by omega)
      · rw [zp_if (fun z => by have := z k h1 (by omega); omega)] at hp; exact hp
theorem zx_ft {post : Int32 → Prop} {ml : Nat} (h : zx_Q l o f_rowSize f_count a_entryId a_entryMaker a_entryTaker a_order a_rank) (hm : f_maxLines = nI ml) (hm2 : ml < 1000) (hp : post (zp_i (zp_Fits ml l o))) : wpX_fits post (f_maxLines, f_maxSide, f_maxPatches, f_rowSize, f_count, f_nextName, f_draftOpen, f_draftPlace, f_draftTake, f_numberCount, f_savedRowSize, f_savedCount, a_entryId, a_entryMaker, a_entryTaker, a_order, a_rank, a_nameOf, a_numbers, a_savedId, a_savedMaker, a_savedTaker, a_savedOrder, a_needed) :=
  ⟨_, zx_ft2 h hm hm2 hp (o.length + 1) 1 (by omega) (by have := zp_opos h.1; omega) (by omega) (fun k' c1 c2 => by omega)⟩
theorem zx_cm4 {post : Int32 → Prop} {s : Nat} (h : zx_Q l o f_rowSize f_count a_entryId a_entryMaker a_entryTaker a_order a_rank) (hs : s ≤ 10) (hp : post (nI (l.countP (fun x => x.2.1 == s)))) : ∀ n e, e ≤ l.length → l.length < n + e → wX_countMade_4 post (nI s) f_maxLines f_maxSide f_maxPatches f_rowSize f_count f_nextName f_draftOpen f_draftPlace f_draftTake f_numberCount f_savedRowSize f_savedCount a_entryId a_entryMaker a_entryTaker a_order a_rank a_nameOf a_numbers a_savedId a_savedMaker a_savedTaker a_savedOrder a_needed n (nI (zp_cP (fun x => x.2.1 == s) l e)) (nI e) := by
  have h80 := h.1.1
  intro n
  induction n with
  | zero => intro e h1 h2; omega
  | succ n ih =>
    intro e h1 h2
    refine pk_le l.length e (fun c => ?_) (fun c => ?_) h.2.1
    · rw [zp_cP_all (by omega)]; exact hp
    · obtain ⟨x, hx⟩ := zp_ex c
      have l5 := h.1.2.2.2.2.1 _ (h.1.2.2.2.2.2 x (zp_mem hx)).1
      have e1 : a_entryMaker (nI e).toNatClampNeg = nI x.2.1 := by rw [nI_clamp (by omega)]; exact h.2.2.2.2.1 e x hx
      refine ⟨vp_in_nI (by omega) (by omega), pk_eq x.2.1 s (fun z => ?_) (fun z => ?_) e1⟩
      · refine nm_r (e' := nI (zp_cP (fun x => x.2.1 == s) l (e + 1))) (by rw [nI_1, zp_cP_t hx (by simp [z])]) (nm_r (nI_1 e) ?_)
        exact ih (e + 1) (by omega) (by omega)
      · refine nm_r (nI_1 e) ?_
        rw [← zp_cP_f (p := fun x => x.2.1 == s) hx (by simp [z])]
        exact ih (e + 1) (by omega) (by omega)
theorem zx_cm {post : Int32 → Prop} {s : Nat} (h : zx_Q l o f_rowSize f_count a_entryId a_entryMaker a_entryTaker a_order a_rank) (hs : s ≤ 10) (hp : post (nI (l.countP (fun x => x.2.1 == s)))) : wpX_countMade post (f_maxLines, f_maxSide, f_maxPatches, f_rowSize, f_count, f_nextName, f_draftOpen, f_draftPlace, f_draftTake, f_numberCount, f_savedRowSize, f_savedCount, a_entryId, a_entryMaker, a_entryTaker, a_order, a_rank, a_nameOf, a_numbers, a_savedId, a_savedMaker, a_savedTaker, a_savedOrder, a_needed) (nI s) := by
  exact ⟨_, zx_cm4 h hs hp (l.length + 1) 0 (by omega) (by omega)⟩
theorem zx_ct4 {post : Int32 → Prop} {s : Nat} (h : zx_Q l o f_rowSize f_count a_entryId a_entryMaker a_entryTaker a_order a_rank) (hs : s ≤ 10) (hp : post (nI (l.countP (fun x => x.2.2 == s)))) : ∀ n e, e ≤ l.length → l.length < n + e → wX_countTaken_4 post (nI s) f_maxLines f_maxSide f_maxPatches f_rowSize f_count f_nextName f_draftOpen f_draftPlace f_draftTake f_numberCount f_savedRowSize f_savedCount a_entryId a_entryMaker a_entryTaker a_order a_rank a_nameOf a_numbers a_savedId a_savedMaker a_savedTaker a_savedOrder a_needed n (nI (zp_cP (fun x => x.2.2 == s) l e)) (nI e) := by
  have h80 := h.1.1
  intro n
  induction n with
  | zero => intro e h1 h2; omega
  | succ n ih =>
    intro e h1 h2
    refine pk_le l.length e (fun c => ?_) (fun c => ?_) h.2.1
    · rw [zp_cP_all (by omega)]; exact hp
    · obtain ⟨x, hx⟩ := zp_ex c
      have l5 := h.1.2.2.2.2.1 _ (h.1.2.2.2.2.2 x (zp_mem hx)).2
      have e1 : a_entryTaker (nI e).toNatClampNeg = nI x.2.2 := by rw [nI_clamp (by omega)]; exact h.2.2.2.2.2.1 e x hx
      refine ⟨vp_in_nI (by omega) (by omega), pk_eq x.2.2 s (fun z => ?_) (fun z => ?_) e1⟩
      · refine nm_r (e' := nI (zp_cP (fun x => x.2.2 == s) l (e + 1))) (by rw [nI_1, zp_cP_t hx (by simp [z])]) (nm_r (nI_1 e) ?_)
        exact ih (e + 1) (by omega) (by omega)
      · refine nm_r (nI_1 e) ?_
        rw [← zp_cP_f (p := fun x => x.2.2 == s) hx (by simp [z])]
        exact ih (e + 1) (by omega) (by omega)
theorem zx_ct {post : Int32 → Prop} {s : Nat} (h : zx_Q l o f_rowSize f_count a_entryId a_entryMaker a_entryTaker a_order a_rank) (hs : s ≤ 10) (hp : post (nI (l.countP (fun x => x.2.2 == s)))) : wpX_countTaken post (f_maxLines, f_maxSide, f_maxPatches, f_rowSize, f_count, f_nextName, f_draftOpen, f_draftPlace, f_draftTake, f_numberCount, f_savedRowSize, f_savedCount, a_entryId, a_entryMaker, a_entryTaker, a_order, a_rank, a_nameOf, a_numbers, a_savedId, a_savedMaker, a_savedTaker, a_savedOrder, a_needed) (nI s) := by
  exact ⟨_, zx_ct4 h hs hp (l.length + 1) 0 (by omega) (by omega)⟩
theorem zx_fs2 {post : Int32 → Prop} (h : zx_Q l o f_rowSize f_count a_entryId a_entryMaker a_entryTaker a_order a_rank) (h10 : o.length ≤ 10) (hp : ∀ s, 1 ≤ s → s ≤ 10 → s ∉ o → post (nI s)) : ∀ n s, 1 ≤ s → s ≤ 11 → 11 - s < n → (∀ t, 1 ≤ t → t < s → t ∈ o) → wX_freeSlot_2 post f_maxLines f_maxSide f_maxPatches f_rowSize f_count f_nextName f_draftOpen f_draftPlace f_draftTake f_numberCount f_savedRowSize f_savedCount a_entryId a_entryMaker a_entryTaker a_order a_rank a_nameOf a_numbers a_savedId a_savedMaker a_savedTaker a_savedOrder a_needed n (nI s) := by
  intro n
  induction n with
  | zero => intro s h1 h2; omega
  | succ n ih =>
    intro s h1 h2 h3 h4
    refine pk_le 11 s (fun c => ?_) (fun c => ⟨vp_in_nI (by omega) (by omega), ?_⟩)
    · exfalso
      have hs : List.range 11 ⊆ o := by
        intro t ht
        rw [List.mem_range] at ht
        by_cases b : t = 0
        · rw [b]; exact zp_mem h.1.2.2.2.1
        · exact h4 t (by omega) (by omega)
      have := List.Nodup.length_le_of_subset List.nodup_range hs
      rw [List.length_range] at this
      omega
    · rw [nI_clamp (by omega)]
      by_cases b : s ∈ o
      · have b1 := zp_idxm b
        have b2 := h.2.2.2.2.2.2.2.1 _ _ b1
        have b3 : ¬ o.idxOf s = 0 := fun z => by
          have := (zp_idx0 h.1 b).mp z
          omega
        have b4 := zp_lt b1
        refine br_f ?_ (nm_r (nI_1 s) (ih (s + 1) (by omega) (by omega) (by omega) ?_))
        · rw [b2]; exact nI_ne0 (by omega) (by omega)
        · intro t c1 c2
          by_cases d : t = s
          · rw [d]; exact b
          · exact h4 t c1 (by omega)
      · exact br_t (h.2.2.2.2.2.2.2.2 s (by omega) b) (hp s h1 (by omega) b)
theorem zx_fs {post : Int32 → Prop} (h : zx_Q l o f_rowSize f_count a_entryId a_entryMaker a_entryTaker a_order a_rank) (h10 : o.length ≤ 10) (hp : ∀ s, 1 ≤ s → s ≤ 10 → s ∉ o → post (nI s)) : wpX_freeSlot post (f_maxLines, f_maxSide, f_maxPatches, f_rowSize, f_count, f_nextName, f_draftOpen, f_draftPlace, f_draftTake, f_numberCount, f_savedRowSize, f_savedCount, a_entryId, a_entryMaker, a_entryTaker, a_order, a_rank, a_nameOf, a_numbers, a_savedId, a_savedMaker, a_savedTaker, a_savedOrder, a_needed) :=
  ⟨_, zx_fs2 h h10 hp 11 1 (by omega) (by omega) (by omega) (fun t c1 c2 => by omega)⟩
theorem zx_on1 {post : Int32 → Prop} {k m : Nat} (hc : f_count = nI m) (h1 : 1 ≤ k) (h2 : k ≤ m) (hm : m < 1000) (hp : post 1) : wpX_onStack post (f_maxLines, f_maxSide, f_maxPatches, f_rowSize, f_count, f_nextName, f_draftOpen, f_draftPlace, f_draftTake, f_numberCount, f_savedRowSize, f_savedCount, a_entryId, a_entryMaker, a_entryTaker, a_order, a_rank, a_nameOf, a_numbers, a_savedId, a_savedMaker, a_savedTaker, a_savedOrder, a_needed) (nI k) :=
  pk_lt k 1 (fun c => by omega) (fun _ => pk_lt m k (fun c => by omega) (fun _ => hp) hc)
theorem zx_on0 {post : Int32 → Prop} {x : Int32} (h : x < 1 ∨ (¬ x < 1 ∧ f_count < x)) (hp : post 0) : wpX_onStack post (f_maxLines, f_maxSide, f_maxPatches, f_rowSize, f_count, f_nextName, f_draftOpen, f_draftPlace, f_draftTake, f_numberCount, f_savedRowSize, f_savedCount, a_entryId, a_entryMaker, a_entryTaker, a_order, a_rank, a_nameOf, a_numbers, a_savedId, a_savedMaker, a_savedTaker, a_savedOrder, a_needed) x :=
  h.elim (fun z => br_t z hp) (fun z => br_f z.1 (br_t z.2 hp))
end
end
section
/-! the reference's queries -/
def zy_NM (o : List Nat) (nm : Nat → Int32) : Prop := nm 0 = 0 ∧ ∀ s t, s ∈ o → t ∈ o → nm s = nm t → s = t
def zy_Q (l : List zp_En) (o : List Nat) (nm : Nat → Int32) (f_rows f_n : Int32) (a_num a_maker a_taker a_stack : Nat → Int32) : Prop :=
  zp_WF l o ∧ zy_NM o nm ∧ f_rows = nI l.length ∧ f_n = nI (o.length - 1) ∧ zp_LA a_num l (fun x => x.1) ∧ zp_LA a_maker l (fun x => nm x.2.1) ∧ zp_LA a_taker l (fun x => nm x.2.2) ∧ zp_LA a_stack o nm
section
variable {f_maxLines f_maxSide f_maxPatches f_rows f_n f_nextName f_rows0 f_n0 f_drafting f_place f_take f_puts : Int32} {a_num a_maker a_taker a_stack a_num0 a_maker0 a_taker0 a_stack0 a_dput a_need : Nat → Int32} {l : List zp_En} {o : List Nat} {nm : Nat → Int32}
theorem zy_eq (hn : o.Nodup) (hN : zy_NM o nm) (hS : zp_LA a_stack o nm) {m p : Nat} (hm : m ∈ o) (hp : p < o.length) : a_stack p = nm m ↔ o.idxOf m = p := by
  have g := zp_sl_g hp
  constructor
  · intro z
    rw [hS _ _ g] at z
    have := hN.2 _ _ (zp_mem g) hm z
    rw [← this]; exact zp_idx hn g
  · intro z
    have := zp_idxm hm
    rw [z] at this
    exact hS _ _ this
theorem zy_in21 {post : Int32 → Prop} {e k m t : Nat} (hw : zp_WF l o) (hN : zy_NM o nm) (hS : zp_LA a_stack o nm) (he : e < 100) (hM : a_maker e = nm m) (hT : a_taker e = nm t) (hm : m ∈ o) (ht : t ∈ o) (hk : k < o.length) (h : post (zp_i (o.idxOf m ≤ k ∧ ¬ (0 < o.idxOf t ∧ o.idxOf t ≤ k)))) : ∀ n p, 1 ≤ p → p ≤ k + 1 → k + 1 - p < n → wY_in_21 post (nI e) (nI k) f_maxLines f_maxSide f_maxPatches f_rows f_n f_nextName f_rows0 f_n0 f_drafting f_place f_take f_puts a_num a_maker a_taker a_stack a_num0 a_maker0 a_taker0 a_stack0 a_dput a_need n (zp_i (o.idxOf m < p)) (zp_i (0 < o.idxOf t ∧ o.idxOf t < p)) (nI p) := by
  have h11 := hw.2.1
  have e1 : (nI e).toNatClampNeg = e := nI_clamp (by omega)
  intro n
  induction n with
  | zero => intro p h1 h2; omega
  | succ n ih =>
    intro p h1 h2 h3
    have e2 : (nI p).toNatClampNeg = p := nI_clamp (by omega)
    refine pk_lt k p (fun c => ?_) (fun c => ⟨vp_in_nI (by omega) (by omega), vp_in_nI (by omega) (by omega), ?_⟩)
    · refine zp_ic (fun c1 => zp_ic (fun c2 => ?_) (fun c2 => ?_)) (fun c1 => ?_)
      · rw [zp_if (fun z => by omega)] at h; exact h
      · rw [zp_it ⟨by omega, by omega⟩] at h; exact h
      · rw [zp_if (fun z => by omega)] at h; exact h
    · have q1 := zy_eq hw.2.2.1 hN hS hm (p := p) (by omega)
      have q2 := zy_eq hw.2.2.1 hN hS ht (p := p) (by omega)
      have key : ∀ x3 : Int32, x3 = zp_i (o.idxOf m < p + 1) → wY_in_45 post (wY_in_21 post (nI e) (nI k) f_maxLines f_maxSide f_maxPatches f_rows f_n f_nextName f_rows0 f_n0 f_drafting f_place f_take f_puts a_num a_maker a_taker a_stack a_num0 a_maker0 a_taker0 a_stack0 a_dput a_need n) (nI e) (nI k) x3 (zp_i (0 < o.idxOf t ∧ o.idxOf t < p)) (nI p) f_maxLines f_maxSide f_maxPatches f_rows f_n f_nextName f_rows0 f_n0 f_drafting f_place f_take f_puts a_num a_maker a_taker a_stack a_num0 a_maker0 a_taker0 a_stack0 a_dput a_need := by
        intro x3 e3
        subst e3
        refine And.intro (vp_in_nI (by omega) (by omega)) (And.intro (vp_in_nI (by omega) (by omega)) ?_)
        rw [e1, e2, hT]
        refine br_c (fun c1 => nm_r (nI_1 p) ?_) (fun c1 => nm_r (nI_1 p) ?_)
        · rw [q2] at c1
          have := ih (p + 1) (by omega) (by omega) (by omega)
          rw [zp_it (P := 0 < o.idxOf t ∧ o.idxOf t < p + 1) ⟨by omega, by omega⟩] at this
          exact this
        · rw [q2] at c1
          have := ih (p + 1) (by omega) (by omega) (by omega)
          rw [zp_ie (P := 0 < o.idxOf t ∧ o.idxOf t < p + 1) (Q := 0 < o.idxOf t ∧ o.idxOf t < p) ⟨fun z => by omega, fun z => by omega⟩] at this
          exact this
      rw [e1, e2, hM]
      refine br_c (fun c1 => ?_) (fun c1 => ?_)
      · rw [q1] at c1
        exact key 1 (zp_it (by omega)).symm
      · rw [q1] at c1
        exact key _ (zp_ie ⟨fun z => by omega, fun z => by omega⟩)
theorem zy_in {post : Int32 → Prop} {e k m t : Nat} (hw : zp_WF l o) (hN : zy_NM o nm) (hS : zp_LA a_stack o nm) (he : e < 100) (hM : a_maker e = nm m) (hT : a_taker e = nm t) (hm : m ∈ o) (ht : t ∈ o) (hk : k < o.length) (h : post (zp_i (o.idxOf m ≤ k ∧ ¬ (0 < o.idxOf t ∧ o.idxOf t ≤ k)))) : wpY_in post (f_maxLines, f_maxSide, f_maxPatches, f_rows, f_n, f_nextName, f_rows0, f_n0, f_drafting, f_place, f_take, f_puts, a_num, a_maker, a_taker, a_stack, a_num0, a_maker0, a_taker0, a_stack0, a_dput, a_need) (nI e) (nI k) := by
  have q := zy_in21 (f_maxLines := f_maxLines) (f_maxSide := f_maxSide) (f_maxPatches := f_maxPatches) (f_rows := f_rows) (f_n := f_n) (f_nextName := f_nextName) (f_rows0 := f_rows0) (f_n0 := f_n0) (f_drafting := f_drafting) (f_place := f_place) (f_take := f_take) (f_puts := f_puts) (a_num := a_num) (a_num0 := a_num0) (a_maker0 := a_maker0) (a_taker0 := a_taker0) (a_stack0 := a_stack0) (a_dput := a_dput) (a_need := a_need) hw hN hS he hM hT hm ht hk h (k + 1) 1 (by omega) (by omega) (by omega)
  rw [zp_if (P := 0 < o.idxOf t ∧ o.idxOf t < 1) (fun z => by omega)] at q
  have e1 : (nI e).toNatClampNeg = e := nI_clamp (by omega)
  have h0 : (0 : Nat) ∈ o := zp_mem hw.2.2.2.1
  unfold wpY_in
  dsimp only
  rw [e1, hM]
  refine ⟨vp_in_nI he (by omega), br_c (fun c => ⟨k + 1, ?_⟩) (fun c => ⟨k + 1, ?_⟩)⟩
  · have : m = 0 := hN.2 _ _ hm h0 (by rw [c, hN.1])
    rw [zp_it (by have := (zp_idx0 hw hm).mpr this; omega)] at q
    exact q
  · rw [zp_if (fun z => c (by have := (zp_idx0 hw hm).mp (by omega); rw [this]; exact hN.1))] at q
    exact q
theorem zy_inQ {post : Int32 → Prop} {e k : Nat} {x : zp_En} (h : zy_Q l o nm f_rows f_n a_num a_maker a_taker a_stack) (hx : l[e]? = some x) (hk : k < o.length) (hp : post (zp_i (zp_inT o k x = true))) : wpY_in post (f_maxLines, f_maxSide, f_maxPatches, f_rows, f_n, f_nextName, f_rows0, f_n0, f_drafting, f_place, f_take, f_puts, a_num, a_maker, a_taker, a_stack, a_num0, a_maker0, a_taker0, a_stack0, a_dput, a_need) (nI e) (nI k) := by
  obtain ⟨hw, hN, _, _, _, hM, hT, hS⟩ := h
  have m1 := hw.2.2.2.2.2 x (zp_mem hx)
  have l3 := zp_lt hx
  have l4 := hw.1
  rw [zp_ie zp_inT_iff] at hp
  exact zy_in hw hN hS (by omega) (hM e x hx) (hT e x hx) m1.1 m1.2 hk hp
theorem zy_bf5 {post : Int32 → Prop} {k en : Nat} (h : zy_Q l o nm f_rows f_n a_num a_maker a_taker a_stack) (hk : k < o.length) (hen : en ≤ l.length) (hp : post (nI (zp_cP (zp_inT o k) l en))) : ∀ n e, e ≤ en → en < n + e → wY_before_5 post (nI en) (nI k) f_maxLines f_maxSide f_maxPatches f_rows f_n f_nextName f_rows0 f_n0 f_drafting f_place f_take f_puts a_num a_maker a_taker a_stack a_num0 a_maker0 a_taker0 a_stack0 a_dput a_need n (nI (zp_cP (zp_inT o k) l e)) (nI e) := by
  have h80 := h.1.1
  intro n
  induction n with
  | zero => intro e h1 h2; omega
  | succ n ih =>
    intro e h1 h2
    refine pk_le en e (fun c => ?_) (fun c => ?_)
    · rw [show e = en from by omega]; exact hp
    · obtain ⟨x, hx⟩ := zp_ex (l := l) (i := e) (by omega)
      refine zy_inQ h hx hk (zp_ic (fun y => ?_) (fun y => ?_))
      · refine nm_r (e' := nI (zp_cP (zp_inT o k) l (e + 1))) (by rw [nI_1, zp_cP_t hx y]) (nm_r (nI_1 e) ?_)
        exact ih (e + 1) (by omega) (by omega)
      · refine nm_r (nI_1 e) ?_
        rw [← zp_cP_f hx y]
        exact ih (e + 1) (by omega) (by omega)
theorem zy_bf {post : Int32 → Prop} {k en : Nat} (h : zy_Q l o nm f_rows f_n a_num a_maker a_taker a_stack) (hk : k < o.length) (hen : en ≤ l.length) (hp : post (nI (zp_cP (zp_inT o k) l en))) : wpY_before post (f_maxLines, f_maxSide, f_maxPatches, f_rows, f_n, f_nextName, f_rows0, f_n0, f_drafting, f_place, f_take, f_puts, a_num, a_maker, a_taker, a_stack, a_num0, a_maker0, a_taker0, a_stack0, a_dput, a_need) (nI en) (nI k) := by
  exact ⟨_, zy_bf5 h hk hen hp (en + 1) 0 (by omega) (by omega)⟩
theorem zy_tl {post : Int32 → Prop} {k : Nat} {y z : Int32} (h : zy_Q l o nm f_rows f_n a_num a_maker a_taker a_stack) (hy : y = f_rows) (hz : z = nI k) (hk : k < o.length) (hp : post (nI (l.countP (zp_inT o k)))) : wpY_before post (f_maxLines, f_maxSide, f_maxPatches, f_rows, f_n, f_nextName, f_rows0, f_n0, f_drafting, f_place, f_take, f_puts, a_num, a_maker, a_taker, a_stack, a_num0, a_maker0, a_taker0, a_stack0, a_dput, a_need) y z := by
  rw [← zp_cP_all (Nat.le_refl _)] at hp
  subst hz
  rw [hy, h.2.2.1]
  rw [h.2.2.1] at h
  exact zy_bf h hk (Nat.le_refl _) hp
theorem zy_me (h : zy_Q l o nm f_rows f_n a_num a_maker a_taker a_stack) {e k : Nat} {x : zp_En} (hx : l[e]? = some x) (hk : k < o.length) : vp_in (nI e) 100 ∧ vp_in (nI k) 12 ∧ (a_maker (nI e).toNatClampNeg = a_stack (nI k).toNatClampNeg ↔ x.2.1 = zp_sl o k) ∧ (a_taker (nI e).toNatClampNeg = a_stack (nI k).toNatClampNeg ↔ x.2.2 = zp_sl o k) := by
  obtain ⟨hw, hN, _, _, _, hM, hT, hS⟩ := h
  have m1 := hw.2.2.2.2.2 x (zp_mem hx)
  have l3 := zp_lt hx
  have l4 := hw.1
  have l5 := hw.2.1
  have g := zp_sl_g hk
  rw [nI_clamp (by omega), nI_clamp (by omega), hM _ _ hx, hT _ _ hx, hS _ _ g]
  refine ⟨vp_in_nI (by omega) (by omega), vp_in_nI (by omega) (by omega), ⟨fun z => hN.2 _ _ m1.1 (zp_mem g) z, fun z => ?_⟩, ⟨fun z => hN.2 _ _ m1.2 (zp_mem g) z, fun z => ?_⟩⟩
  · show nm x.2.1 = _
    rw [z]
  · show nm x.2.2 = _
    rw [z]
theorem zy_fi2 {post : Int32 → Prop} {k : Nat} (h : zy_Q l o nm f_rows f_n a_num a_maker a_taker a_stack) (hk : k < o.length) (hp : post (nI (zp_F l (zp_sl o k)))) : ∀ n e, e ≤ zp_F l (zp_sl o k) → l.length < n + e → wY_first_2 post (nI k) f_maxLines f_maxSide f_maxPatches f_rows f_n f_nextName f_rows0 f_n0 f_drafting f_place f_take f_puts a_num a_maker a_taker a_stack a_num0 a_maker0 a_taker0 a_stack0 a_dput a_need n (nI e) := by
  have h80 := h.1.1
  have hF := zp_F_le (l := l) (s := zp_sl o k)
  intro n
  induction n with
  | zero => intro e h1 h2; omega
  | succ n ih =>
    intro e h1 h2
    refine pk_le l.length e (fun c => ?_) (fun c => ?_) h.2.2.1
    · rw [h.2.2.1, show l.length = zp_F l (zp_sl o k) from by omega]; exact hp
    · obtain ⟨x, hx⟩ := zp_ex c
      obtain ⟨v1, v2, v3, v4⟩ := zy_me h hx hk
      have own : x.2.1 = zp_sl o k ∨ x.2.2 = zp_sl o k → post (nI e) := fun z => by
        have := zp_F_own hx (zp_own_iff.mpr z)
        rw [show e = zp_F l (zp_sl o k) from by omega]; exact hp
      refine ⟨v1, v2, br_c (fun z => own (Or.inl (v3.mp z))) (fun z => ⟨v1, v2, br_c (fun z2 => own (Or.inr (v4.mp z2))) (fun z2 => ?_)⟩)⟩
      refine nm_r (nI_1 e) (ih (e + 1) ?_ (by omega))
      by_cases b : e = zp_F l (zp_sl o k)
      · rw [b] at hx
        exact ((zp_own_iff.mp (zp_F_at hx)).elim (fun q => absurd (v3.mpr q) z) (fun q => absurd (v4.mpr q) z2))
      · omega
theorem zy_fi {post : Int32 → Prop} {k : Nat} (h : zy_Q l o nm f_rows f_n a_num a_maker a_taker a_stack) (hk : k < o.length) (hp : post (nI (zp_F l (zp_sl o k)))) : wpY_first post (f_maxLines, f_maxSide, f_maxPatches, f_rows, f_n, f_nextName, f_rows0, f_n0, f_drafting, f_place, f_take, f_puts, a_num, a_maker, a_taker, a_stack, a_num0, a_maker0, a_taker0, a_stack0, a_dput, a_need) (nI k) :=
  ⟨_, zy_fi2 h hk hp (l.length + 1) 0 (by omega) (by omega)⟩
theorem zy_la7 {post : Int32 → Prop} {k : Nat} (h : zy_Q l o nm f_rows f_n a_num a_maker a_taker a_stack) (hk : k < o.length) (hp : post (nI (zp_L l (zp_sl o k)) - 1)) : ∀ n m, m < n → m ≤ l.length → zp_lst (zp_own (zp_sl o k)) l m = zp_L l (zp_sl o k) → wY_last_7 post (nI k) f_maxLines f_maxSide f_maxPatches f_rows f_n f_nextName f_rows0 f_n0 f_drafting f_place f_take f_puts a_num a_maker a_taker a_stack a_num0 a_maker0 a_taker0 a_stack0 a_dput a_need n (nI m - 1) := by
  have h80 := h.1.1
  intro n
  induction n with
  | zero => intro m h1 h2; omega
  | succ n ih =>
    intro m h1 h2 h3
    refine zp_m1lt0 m (by omega) (fun c => ?_) (fun c => ?_)
    · subst c
      rw [← h3] at hp; exact hp
    · obtain ⟨m, rfl⟩ : ∃ q, m = q + 1 := ⟨m - 1, by omega⟩
      rw [nI_pred]
      obtain ⟨x, hx⟩ := zp_ex (l := l) (i := m) (by omega)
      obtain ⟨v1, v2, v3, v4⟩ := zy_me h hx hk
      have own : x.2.1 = zp_sl o k ∨ x.2.2 = zp_sl o k → post (nI m) := fun z => by
        rw [zp_lst_t hx (zp_own_iff.mpr z)] at h3
        rw [← h3, nI_pred] at hp; exact hp
      refine ⟨v1, v2, br_c (fun z => own (Or.inl (v3.mp z))) (fun z => ⟨v1, v2, br_c (fun z2 => own (Or.inr (v4.mp z2))) (fun z2 => ?_)⟩)⟩
      rw [zp_lst_f hx (fun q => (zp_own_iff.mp q).elim (fun q => z (v3.mpr q)) (fun q => z2 (v4.mpr q)))] at h3
      exact nm_r (zp_m1 m) (ih m (by omega) (by omega) h3)
theorem zy_la {post : Int32 → Prop} {k : Nat} (h : zy_Q l o nm f_rows f_n a_num a_maker a_taker a_stack) (hk : k < o.length) (hp : post (nI (zp_L l (zp_sl o k)) - 1)) : wpY_last post (f_maxLines, f_maxSide, f_maxPatches, f_rows, f_n, f_nextName, f_rows0, f_n0, f_drafting, f_place, f_take, f_puts, a_num, a_maker, a_taker, a_stack, a_num0, a_maker0, a_taker0, a_stack0, a_dput, a_need) (nI k) := by
  exact nm_r (e' := nI l.length - 1) (by rw [h.2.2.1]) ⟨_, zy_la7 h hk hp (l.length + 1) l.length (by omega) (by omega) rfl⟩
theorem zy_ma4 {post : Int32 → Prop} {k : Nat} (h : zy_Q l o nm f_rows f_n a_num a_maker a_taker a_stack) (hk : k < o.length) (hp : post (nI (l.countP (fun x => x.2.1 == zp_sl o k)))) : ∀ n e, e ≤ l.length → l.length < n + e → wY_made_4 post (nI k) f_maxLines f_maxSide f_maxPatches f_rows f_n f_nextName f_rows0 f_n0 f_drafting f_place f_take f_puts a_num a_maker a_taker a_stack a_num0 a_maker0 a_taker0 a_stack0 a_dput a_need n (nI (zp_cP (fun x => x.2.1 == zp_sl o k) l e)) (nI e) := by
  have h80 := h.1.1
  intro n
  induction n with
  | zero => intro e h1 h2; omega
  | succ n ih =>
    intro e h1 h2
    refine pk_le l.length e (fun c => ?_) (fun c => ?_) h.2.2.1
    · rw [zp_cP_all (by omega)]; exact hp
    · obtain ⟨x, hx⟩ := zp_ex c
      obtain ⟨v1, v2, v3, v4⟩ := zy_me h hx hk
      refine ⟨v1, v2, br_c (fun z => ?_) (fun z => ?_)⟩
      · rw [v3] at z
        refine nm_r (e' := nI (zp_cP (fun x => x.2.1 == zp_sl o k) l (e + 1))) (by rw [nI_1, zp_cP_t hx (by simp [z])]) (nm_r (nI_1 e) ?_)
        exact ih (e + 1) (by omega) (by omega)
      · rw [v3] at z
        refine nm_r (nI_1 e) ?_
        rw [← zp_cP_f (p := fun x => x.2.1 == zp_sl o k) hx (by simp [z])]
        exact ih (e + 1) (by omega) (by omega)
theorem zy_ma {post : Int32 → Prop} {k : Nat} (h : zy_Q l o nm f_rows f_n a_num a_maker a_taker a_stack) (hk : k < o.length) (hp : post (nI (l.countP (fun x => x.2.1 == zp_sl o k)))) : wpY_made post (f_maxLines, f_maxSide, f_maxPatches, f_rows, f_n, f_nextName, f_rows0, f_n0, f_drafting, f_place, f_take, f_puts, a_num, a_maker, a_taker, a_stack, a_num0, a_maker0, a_taker0, a_stack0, a_dput, a_need) (nI k) := by
  exact ⟨_, zy_ma4 h hk hp (l.length + 1) 0 (by omega) (by omega)⟩
theorem zy_ta4 {post : Int32 → Prop} {k : Nat} (h : zy_Q l o nm f_rows f_n a_num a_maker a_taker a_stack) (hk : k < o.length) (hp : post (nI (l.countP (fun x => x.2.2 == zp_sl o k)))) : ∀ n e, e ≤ l.length → l.length < n + e → wY_taken_4 post (nI k) f_maxLines f_maxSide f_maxPatches f_rows f_n f_nextName f_rows0 f_n0 f_drafting f_place f_take f_puts a_num a_maker a_taker a_stack a_num0 a_maker0 a_taker0 a_stack0 a_dput a_need n (nI (zp_cP (fun x => x.2.2 == zp_sl o k) l e)) (nI e) := by
  have h80 := h.1.1
  intro n
  induction n with
  | zero => intro e h1 h2; omega
  | succ n ih =>
    intro e h1 h2
    refine pk_le l.length e (fun c => ?_) (fun c => ?_) h.2.2.1
    · rw [zp_cP_all (by omega)]; exact hp
    · obtain ⟨x, hx⟩ := zp_ex c
      obtain ⟨v1, v2, v3, v4⟩ := zy_me h hx hk
      refine ⟨v1, v2, br_c (fun z => ?_) (fun z => ?_)⟩
      · rw [v4] at z
        refine nm_r (e' := nI (zp_cP (fun x => x.2.2 == zp_sl o k) l (e + 1))) (by rw [nI_1, zp_cP_t hx (by simp [z])]) (nm_r (nI_1 e) ?_)
        exact ih (e + 1) (by omega) (by omega)
      · rw [v4] at z
        refine nm_r (nI_1 e) ?_
        rw [← zp_cP_f (p := fun x => x.2.2 == zp_sl o k) hx (by simp [z])]
        exact ih (e + 1) (by omega) (by omega)
theorem zy_ta {post : Int32 → Prop} {k : Nat} (h : zy_Q l o nm f_rows f_n a_num a_maker a_taker a_stack) (hk : k < o.length) (hp : post (nI (l.countP (fun x => x.2.2 == zp_sl o k)))) : wpY_taken post (f_maxLines, f_maxSide, f_maxPatches, f_rows, f_n, f_nextName, f_rows0, f_n0, f_drafting, f_place, f_take, f_puts, a_num, a_maker, a_taker, a_stack, a_num0, a_maker0, a_taker0, a_stack0, a_dput, a_need) (nI k) := by
  exact ⟨_, zy_ta4 h hk hp (l.length + 1) 0 (by omega) (by omega)⟩
theorem zy_rs37 {post : Int32 → Prop} {k a b : Nat} (h : zy_Q l o nm f_rows f_n a_num a_maker a_taker a_stack) (h1k : 1 ≤ k) (hk : k < o.length) (hb : b ≤ l.length) (hp : post (zp_i (zp_gap l o (k - 1) a b))) : ∀ n e, a ≤ e → e ≤ l.length → b - e < n → (∀ e' x, a ≤ e' → e' < e → l[e']? = some x → ¬ zp_inT o (k - 1) x = true) → wY_rests_37 post (nI k) (nI b) f_maxLines f_maxSide f_maxPatches f_rows f_n f_nextName f_rows0 f_n0 f_drafting f_place f_take f_puts a_num a_maker a_taker a_stack a_num0 a_maker0 a_taker0 a_stack0 a_dput a_need n (nI e) := by
  have h80 := h.1.1
  have e7 : nI k - 1 = nI (k - 1) := pk_sub (b := 1) (by omega)
  intro n
  induction n with
  | zero => intro e h1 h2; omega
  | succ n ih =>
    intro e h1 h2 h3 h4
    refine pk_le b e (fun c => ?_) (fun c => ?_)
    · rw [zp_it (P := zp_gap l o (k - 1) a b) (fun e' x c1 c2 => h4 e' x c1 (by omega))] at hp; exact hp
    · obtain ⟨x, hx⟩ := zp_ex (l := l) (i := e) (by omega)
      rw [e7]
      refine zy_inQ h hx (by omega) (zp_ic (fun z => ?_) (fun z => ?_))
      · rw [zp_if (fun g => g e x h1 c hx z)] at hp; exact hp
      · refine nm_r (nI_1 e) (ih (e + 1) (by omega) (by omega) (by omega) ?_)
        intro e' x' c1 c2 hx'
        by_cases b : e' = e
        · subst b; rw [hx] at hx'; rw [← Option.some.inj hx']; exact z
        · exact h4 e' x' c1 (by omega) hx'
theorem zy_rests {post : Int32 → Prop} {k j : Nat} (h : zy_Q l o nm f_rows f_n a_num a_maker a_taker a_stack) (hjk : j < k) (hk : k < o.length) (hp : post (zp_i (zp_Rs l o k j))) : wpY_rests post (f_maxLines, f_maxSide, f_maxPatches, f_rows, f_n, f_nextName, f_rows0, f_n0, f_drafting, f_place, f_take, f_puts, a_num, a_maker, a_taker, a_stack, a_num0, a_maker0, a_taker0, a_stack0, a_dput, a_need) (nI k) (nI j) := by
  have h80 := h.1.1
  have f1 := zp_F_le (l := l) (s := zp_sl o k)
  have f2 := zp_F_le (l := l) (s := zp_sl o j)
  have f3 := zp_L_le (l := l) (s := zp_sl o k)
  have f4 := zp_L_le (l := l) (s := zp_sl o j)
  refine zy_la h (by omega) (zy_fi h hk ?_)
  refine zp_ltM _ _ (by omega) (by omega) (fun c => ?_) (fun c => ?_)
  · refine nm_r (zp_m1a _) ⟨_, zy_rs37 (a := zp_L l (zp_sl o j)) h (by omega) hk f1 ?_ (l.length + 1) _ (Nat.le_refl _) f4 (by omega) (fun e' x c1 c2 => by omega)⟩
    rw [zp_ie (P := zp_Rs l o k j) (Q := zp_gap l o (k - 1) (zp_L l (zp_sl o j)) (zp_F l (zp_sl o k))) ⟨fun z => z.1 c, fun z => ⟨fun _ => z, fun q => by omega⟩⟩] at hp
    exact hp
  · refine zy_la h hk (zy_fi h (by omega) ?_)
    refine nm_r (zp_m1a _) ⟨_, zy_rs37 (a := zp_L l (zp_sl o k)) h (by omega) hk f2 ?_ (l.length + 1) _ (Nat.le_refl _) f3 (by omega) (fun e' x c1 c2 => by omega)⟩
    rw [zp_ie (P := zp_Rs l o k j) (Q := zp_gap l o (k - 1) (zp_L l (zp_sl o k)) (zp_F l (zp_sl o j))) ⟨fun z => z.2 c, fun z => ⟨fun q => by omega, fun _ => z⟩⟩] at hp
    exact hp
theorem zy_he4 {post : Int32 → Prop} {k top : Nat} (h : zy_Q l o nm f_rows f_n a_num a_maker a_taker a_stack) (ht : top < o.length) (hp : post (zp_i (∃ i, k < i ∧ i ≤ top ∧ zp_Rs l o i k))) : ∀ n i, k < i → top + 1 - i < n → (∀ i', k < i' → i' < i → ¬ zp_Rs l o i' k) → i ≤ 100 → wY_held_4 post (nI k) (nI top) f_maxLines f_maxSide f_maxPatches f_rows f_n f_nextName f_rows0 f_n0 f_drafting f_place f_take f_puts a_num a_maker a_taker a_stack a_num0 a_maker0 a_taker0 a_stack0 a_dput a_need n (nI i) := by
  have h11 := h.1.2.1
  intro n
  induction n with
  | zero => intro i h1 h2; omega
  | succ n ih =>
    intro i h1 h2 h3 h4
    refine pk_lt top i (fun c => ?_) (fun c => ?_)
    · rw [zp_if (fun ⟨i', z1, z2, z3⟩ => h3 i' z1 (by omega) z3)] at hp; exact hp
    · refine zy_rests h (by omega) (by omega) (zp_ic (fun z => ?_) (fun z => ?_))
      · rw [zp_it ⟨i, h1, c, z⟩] at hp; exact hp
      · refine nm_r (nI_1 i) (ih (i + 1) (by omega) (by omega) ?_ (by omega))
        intro i' c1 c2
        by_cases b : i' = i
        · rw [b]; exact z
        · exact h3 i' c1 (by omega)
theorem zy_he {post : Int32 → Prop} {k top : Nat} {y : Int32} (h : zy_Q l o nm f_rows f_n a_num a_maker a_taker a_stack) (hk : k ≤ 20) (ht : top < o.length) (hy : y = nI top) (hp : post (zp_i (∃ i, k < i ∧ i ≤ top ∧ zp_Rs l o i k))) : wpY_held post (f_maxLines, f_maxSide, f_maxPatches, f_rows, f_n, f_nextName, f_rows0, f_n0, f_drafting, f_place, f_take, f_puts, a_num, a_maker, a_taker, a_stack, a_num0, a_maker0, a_taker0, a_stack0, a_dput, a_need) (nI k) y := by
  subst hy
  exact nm_r (nI_1 k) ⟨_, zy_he4 h ht hp (top + 2) (k + 1) (by omega) (by omega) (fun i' c1 c2 => by omega) (by omega)⟩
theorem zy_ft2 {post : Int32 → Prop} {ml : Nat} (h : zy_Q l o nm f_rows f_n a_num a_maker a_taker a_stack) (hm : f_maxLines = nI ml) (hm2 : ml < 1000) (hp : post (zp_i (zp_Fits ml l o))) : ∀ n k, 1 ≤ k → k ≤ o.length → o.length - k < n → (∀ k', 1 ≤ k' → k' < k → l.countP (zp_inT o k') ≤ ml) → wY_fits_2 post f_maxLines f_maxSide f_maxPatches f_rows f_n f_nextName f_rows0 f_n0 f_drafting f_place f_take f_puts a_num a_maker a_taker a_stack a_num0 a_maker0 a_taker0 a_stack0 a_dput a_need n (nI k) := by
  have h80 := h.1.1
  have h11 := h.1.2.1
  intro n
  induction n with
  | zero => intro k h1 h2; omega
  | succ n ih =>
    intro k h1 h2 h3 h4
    refine pk_lt (o.length - 1) k (fun c => ?_) (fun c => ?_) h.2.2.2.1
    · rw [zp_it (P := zp_Fits ml l o) (fun k' c1 c2 => h4 k' c1 (by omega))] at hp; exact hp
    · have hc := List.countP_le_length (p := zp_inT o k) (l := l)
      refine zy_tl h rfl rfl (by omega) (pk_le (l.countP (zp_inT o k)) ml (fun d => ?_) (fun d => ?_) rfl hm)
      · refine nm_r (nI_1 k) (ih (k + 1) (by omega) (by omega) (by omega) ?_)
        intro k' c1 c2
        by_cases b : k' = k
        · rw [b]; exact d
        · exact h4 k' c1 (by omega)
      · rw [zp_if (fun z => by have := z k h1 (by omega); omega)] at hp; exact hp
theorem zy_ft {post : Int32 → Prop} {ml : Nat} (h : zy_Q l o nm f_rows f_n a_num a_maker a_taker a_stack) (hm : f_maxLines = nI ml) (hm2 : ml < 1000) (hp : post (zp_i (zp_Fits ml l o))) : wpY_fits post (f_maxLines, f_maxSide, f_maxPatches, f_rows, f_n, f_nextName, f_rows0, f_n0, f_drafting, f_place, f_take, f_puts, a_num, a_maker, a_taker, a_stack, a_num0, a_maker0, a_taker0, a_stack0, a_dput, a_need) :=
  ⟨_, zy_ft2 h hm hm2 hp (o.length + 1) 1 (by omega) (by have := zp_opos h.1; omega) (by omega) (fun k' c1 c2 => by omega)⟩
theorem zy_ln101 {post : Int32 → Prop} {k i : Nat} (h : zy_Q l o nm f_rows f_n a_num a_maker a_taker a_stack) (hk : k < o.length) (hi : i < 1000) (hp : post (zp_ln (zp_inT o k) l i)) : ∀ n e, e ≤ l.length → l.length < n + e → zp_cP (zp_inT o k) l e ≤ i → (∀ e' x, e' < e → l[e']? = some x → zp_inT o k x = true → ¬ zp_cP (zp_inT o k) l e' = i) → wY_line_101 post (nI k) f_maxLines f_maxSide f_maxPatches f_rows f_n f_nextName f_rows0 f_n0 f_drafting f_place f_take f_puts a_num a_maker a_taker a_stack a_num0 a_maker0 a_taker0 a_stack0 a_dput a_need n (nI (i - zp_cP (zp_inT o k) l e)) (nI e) := by
  have h80 := h.1.1
  intro n
  induction n with
  | zero => intro e h1 h2; omega
  | succ n ih =>
    intro e h3 h4 h5 h6
    refine pk_le l.length e (fun c => ?_) (fun c => ?_) h.2.2.1
    · rw [zp_ln_n (fun e' x hx => h6 e' x (by have := zp_lt hx; omega) hx)] at hp; exact hp
    · obtain ⟨x, hx⟩ := zp_ex c
      refine zy_inQ h hx hk (zp_ic (fun z => ?_) (fun z => ?_))
      · refine pk_eq (i - zp_cP (zp_inT o k) l e) 0 (fun d => ⟨vp_in_nI (by omega) (by omega), ?_⟩) (fun d => ?_)
        · rw [zp_ln_s hx z (by omega)] at hp
          rw [nI_clamp (by omega), h.2.2.2.2.1 e x hx]; exact hp
        · have e1 := zp_cP_t hx z
          refine nm_r (e' := nI (i - zp_cP (zp_inT o k) l (e + 1))) ?_ (nm_r (nI_1 e) ?_)
          · rw [e1, show i - zp_cP (zp_inT o k) l e = (i - (zp_cP (zp_inT o k) l e + 1)) + 1 from by omega, pk_m1]
          refine ih (e + 1) (by omega) (by omega) (by omega) ?_
          intro e' x' he hx' hi'
          by_cases b : e' = e
          · rw [b]; omega
          · exact h6 e' x' (by omega) hx' hi'
      · refine nm_r (nI_1 e) ?_
        have e1 := zp_cP_f hx z
        rw [← e1]
        refine ih (e + 1) (by omega) (by omega) (by omega) ?_
        intro e' x' he hx' hi'
        by_cases b : e' = e
        · subst b; rw [hx] at hx'; rw [Option.some.inj hx'] at z; exact absurd hi' z
        · exact h6 e' x' (by omega) hx' hi'
theorem zy_ln {post : Int32 → Prop} {k i : Nat} {y z : Int32} (h : zy_Q l o nm f_rows f_n a_num a_maker a_taker a_stack) (hy : y = nI k) (hz : z = nI i) (hk : k < o.length) (hi : i < 1000) (hp : post (zp_ln (zp_inT o k) l i)) : ∃ n, wY_line_101 post y f_maxLines f_maxSide f_maxPatches f_rows f_n f_nextName f_rows0 f_n0 f_drafting f_place f_take f_puts a_num a_maker a_taker a_stack a_num0 a_maker0 a_taker0 a_stack0 a_dput a_need n z 0 := by
  subst hy hz
  exact ⟨_, zy_ln101 h hk hi hp (l.length + 1) 0 (by omega) (by omega) (by rw [zp_cP_0]; omega) (fun e' x he => by omega)⟩
end
end
section
/-! the component's stores: renumber, save, restore, shift, removePatch -/
def zp_WO (o : List Nat) : Prop := o.length ≤ 11 ∧ o.Nodup ∧ o[0]? = some 0 ∧ ∀ s, s ∈ o → s ≤ 10
theorem zp_WF_o {l : List zp_En} {o : List Nat} (h : zp_WF l o) : zp_WO o := ⟨h.2.1, h.2.2.1, h.2.2.2.1, h.2.2.2.2.1⟩
theorem zp_uniq {o : List Nat} (hn : o.Nodup) {i j s : Nat} (h1 : o[i]? = some s) (h2 : o[j]? = some s) : i = j := (zp_idx hn h1).symm.trans (zp_idx hn h2)
def zx_S (l : List zp_En) (o : List Nat) (f_savedRowSize f_savedCount : Int32) (a_savedId a_savedMaker a_savedTaker a_savedOrder : Nat → Int32) : Prop :=
  f_savedRowSize = nI l.length ∧ f_savedCount = nI (o.length - 1) ∧ zp_LA a_savedId l (fun x => x.1) ∧ zp_LA a_savedMaker l (fun x => nI x.2.1) ∧ zp_LA a_savedTaker l (fun x => nI x.2.2) ∧ ∀ i s, 1 ≤ i → o[i]? = some s → a_savedOrder i = nI s
/-- an entry of the three arrays -/
def zx_E (a b c : Nat → Int32) (i : Nat) (x : zp_En) : Prop := a i = x.1 ∧ b i = nI x.2.1 ∧ c i = nI x.2.2
theorem zx_E_u {a b c : Nat → Int32} {i j : Nat} {x : zp_En} {v1 v2 v3 : Int32} (h : zx_E a b c i x) (n : i ≠ j) : zx_E (upd a j v1) (upd b j v2) (upd c j v3) i x :=
  ⟨by rw [pk_un n]; exact h.1, by rw [pk_un n]; exact h.2.1, by rw [pk_un n]; exact h.2.2⟩
theorem zx_E_s {a b c : Nat → Int32} {j : Nat} {x : zp_En} {v1 v2 v3 : Int32} (h1 : v1 = x.1) (h2 : v2 = nI x.2.1) (h3 : v3 = nI x.2.2) : zx_E (upd a j v1) (upd b j v2) (upd c j v3) j x :=
  ⟨by rw [pk_us]; exact h1, by rw [pk_us]; exact h2, by rw [pk_us]; exact h3⟩
theorem zx_E_LA {a b c : Nat → Int32} {l : List zp_En} (h : ∀ i x, l[i]? = some x → zx_E a b c i x) : zp_LA a l (fun x => x.1) ∧ zp_LA b l (fun x => nI x.2.1) ∧ zp_LA c l (fun x => nI x.2.2) :=
  ⟨fun i x hx => (h i x hx).1, fun i x hx => (h i x hx).2.1, fun i x hx => (h i x hx).2.2⟩
section
variable {f_maxLines f_maxSide f_maxPatches f_rowSize f_count f_nextName f_draftOpen f_draftPlace f_draftTake f_numberCount f_savedRowSize f_savedCount : Int32} {a_entryId a_entryMaker a_entryTaker a_order a_rank a_nameOf a_numbers a_savedId a_savedMaker a_savedTaker a_savedOrder a_needed : Nat → Int32} {l : List zp_En} {o : List Nat}
theorem zx_Q_E (h : zx_Q l o f_rowSize f_count a_entryId a_entryMaker a_entryTaker a_order a_rank) {i : Nat} {x : zp_En} (hx : l[i]? = some x) : zx_E a_entryId a_entryMaker a_entryTaker i x :=
  ⟨h.2.2.2.1 i x hx, h.2.2.2.2.1 i x hx, h.2.2.2.2.2.1 i x hx⟩
theorem zx_rn26 {post : SX → Prop} (hw : zp_WO o) (hc : f_count = nI (o.length - 1)) (hO : zp_LA a_order o nI) (hp : ∀ rk, zx_RK o rk → post (f_maxLines, f_maxSide, f_maxPatches, f_rowSize, f_count, f_nextName, f_draftOpen, f_draftPlace, f_draftTake, f_numberCount, f_savedRowSize, f_savedCount, a_entryId, a_entryMaker, a_entryTaker, a_order, rk, a_nameOf, a_numbers, a_savedId, a_savedMaker, a_savedTaker, a_savedOrder, a_needed)) : ∀ n k rk, 1 ≤ k → k ≤ o.length → o.length - k < n → (∀ i s, i < k → o[i]? = some s → rk s = nI i) → (∀ s, s ≤ 10 → (∀ i, i < k → ¬ o[i]? = some s) → rk s = 0) → wX_renumber_26 post f_maxLines f_maxSide f_maxPatches f_rowSize f_count f_nextName f_draftOpen f_draftPlace f_draftTake f_numberCount f_savedRowSize f_savedCount n (nI k) a_entryId a_entryMaker a_entryTaker a_order rk a_nameOf a_numbers a_savedId a_savedMaker a_savedTaker a_savedOrder a_needed := by
  have h11 := hw.1
  intro n
  induction n with
  | zero => intro k rk h1 h2; omega
  | succ n ih =>
    intro k rk h1 h2 h3 h4 h5
    refine pk_lt (o.length - 1) k (fun c => hp rk ⟨fun i s hs => ?_, fun s h10 hs => ?_⟩) (fun c => ?_) hc
    · exact h4 i s (by have := zp_lt hs; omega) hs
    · exact h5 s h10 (fun i _ hi => hs (zp_mem hi))
    · have g := zp_sl_g (o := o) (k := k) (by omega)
      have g10 := hw.2.2.2 _ (zp_mem g)
      have e1 : a_order (nI k).toNatClampNeg = nI (zp_sl o k) := by rw [nI_clamp (by omega)]; exact hO _ _ g
      have e2 : (nI (zp_sl o k)).toNatClampNeg = zp_sl o k := nI_clamp (by omega)
      refine ⟨vp_in_nI (by omega) (by omega), ?_⟩
      rw [e1, e2]
      refine ⟨vp_in_nI (by omega) (by omega), nm_e (nm_r (nI_1 k) ?_)⟩
      refine ih (k + 1) _ (by omega) (by omega) (by omega) ?_ ?_
      · intro i s hi hs
        by_cases b : i = k
        · subst b
          rw [← zp_sl_e hs, pk_us]
        · rw [pk_un]
          · exact h4 i s (by omega) hs
          · intro z; rw [z] at hs; exact b (zp_uniq hw.2.1 hs g)
      · intro s h10 hs
        rw [pk_un]
        · exact h5 s h10 (fun i hi => hs i (by omega))
        · intro z; rw [z] at hs; exact hs k (by omega) g
theorem zx_rn2 {post : SX → Prop} (hw : zp_WO o) (hc : f_count = nI (o.length - 1)) (hO : zp_LA a_order o nI) (hp : ∀ rk, zx_RK o rk → post (f_maxLines, f_maxSide, f_maxPatches, f_rowSize, f_count, f_nextName, f_draftOpen, f_draftPlace, f_draftTake, f_numberCount, f_savedRowSize, f_savedCount, a_entryId, a_entryMaker, a_entryTaker, a_order, rk, a_nameOf, a_numbers, a_savedId, a_savedMaker, a_savedTaker, a_savedOrder, a_needed)) : ∀ n k rk, k ≤ 11 → 11 - k < n → (∀ s, s < k → rk s = 0) → wX_renumber_2 post f_maxLines f_maxSide f_maxPatches f_rowSize f_count f_nextName f_draftOpen f_draftPlace f_draftTake f_numberCount f_savedRowSize f_savedCount n (nI k) a_entryId a_entryMaker a_entryTaker a_order rk a_nameOf a_numbers a_savedId a_savedMaker a_savedTaker a_savedOrder a_needed := by
  have h11 := hw.1
  have h1 : 0 < o.length := zp_lt hw.2.2.1
  intro n
  induction n with
  | zero => intro k rk h1 h2; omega
  | succ n ih =>
    intro k rk h2 h3 h4
    refine pk_le 11 k (fun c => ⟨_, zx_rn26 hw hc hO hp (o.length + 1) 1 rk (by omega) (by omega) (by omega) ?_ ?_⟩) (fun c => ⟨vp_in_nI (by omega) (by omega), ?_⟩)
    · intro i s hi hs
      have : i = 0 := by omega
      subst this
      rw [hw.2.2.1] at hs
      rw [← Option.some.inj hs]; exact h4 0 (by omega)
    · intro s h10 _; exact h4 s (by omega)
    · rw [nI_clamp (by omega)]
      refine nm_e (nm_r (nI_1 k) (ih (k + 1) _ (by omega) (by omega) ?_))
      intro s hs
      by_cases b : s = k
      · rw [b, pk_us]
      · rw [pk_un b]; exact h4 s (by omega)
theorem zx_rn {post : SX → Prop} (hw : zp_WO o) (hc : f_count = nI (o.length - 1)) (hO : zp_LA a_order o nI) (hp : ∀ rk, zx_RK o rk → post (f_maxLines, f_maxSide, f_maxPatches, f_rowSize, f_count, f_nextName, f_draftOpen, f_draftPlace, f_draftTake, f_numberCount, f_savedRowSize, f_savedCount, a_entryId, a_entryMaker, a_entryTaker, a_order, rk, a_nameOf, a_numbers, a_savedId, a_savedMaker, a_savedTaker, a_savedOrder, a_needed)) : wpX_renumber post (f_maxLines, f_maxSide, f_maxPatches, f_rowSize, f_count, f_nextName, f_draftOpen, f_draftPlace, f_draftTake, f_numberCount, f_savedRowSize, f_savedCount, a_entryId, a_entryMaker, a_entryTaker, a_order, a_rank, a_nameOf, a_numbers, a_savedId, a_savedMaker, a_savedTaker, a_savedOrder, a_needed) :=
  ⟨_, zx_rn2 hw hc hO hp 12 0 a_rank (by omega) (by omega) (fun s hs => by omega)⟩
theorem zx_sv54 {post : SX → Prop} (h : zx_Q l o f_rowSize f_count a_entryId a_entryMaker a_entryTaker a_order a_rank) (hI : zp_LA a_savedId l (fun x => x.1)) (hM : zp_LA a_savedMaker l (fun x => nI x.2.1)) (hT : zp_LA a_savedTaker l (fun x => nI x.2.2)) (hp : ∀ so, zx_S l o f_rowSize f_count a_savedId a_savedMaker a_savedTaker so → post (f_maxLines, f_maxSide, f_maxPatches, f_rowSize, f_count, f_nextName, f_draftOpen, f_draftPlace, f_draftTake, f_numberCount, f_rowSize, f_count, a_entryId, a_entryMaker, a_entryTaker, a_order, a_rank, a_nameOf, a_numbers, a_savedId, a_savedMaker, a_savedTaker, so, a_needed)) : ∀ n k so, 1 ≤ k → k ≤ o.length → o.length - k < n → (∀ i s, 1 ≤ i → i < k → o[i]? = some s → so i = nI s) → wX_save_54 post f_maxLines f_maxSide f_maxPatches f_rowSize f_count f_nextName f_draftOpen f_draftPlace f_draftTake f_numberCount f_savedRowSize f_savedCount n (nI k) a_entryId a_entryMaker a_entryTaker a_order a_rank a_nameOf a_numbers a_savedId a_savedMaker a_savedTaker so a_needed := by
  have h11 := h.1.2.1
  intro n
  induction n with
  | zero => intro k so h1 h2; omega
  | succ n ih =>
    intro k so h1 h2 h3 h4
    refine pk_lt (o.length - 1) k (fun c => hp so ⟨h.2.1, h.2.2.1, hI, hM, hT, fun i s h1 hs => ?_⟩) (fun c => ?_) h.2.2.1
    · exact h4 i s h1 (by have := zp_lt hs; omega) hs
    · obtain ⟨e1, e2, e3⟩ := zx_ord h (k := k) (by omega)
      refine ⟨e3, e3, nm_e (nm_r (nI_1 k) (ih (k + 1) _ (by omega) (by omega) (by omega) ?_))⟩
      rw [e1, nI_clamp (by omega)]
      intro i s hi1 hi2 hs
      by_cases b : i = k
      · subst b; rw [pk_us, zp_sl_e hs]
      · rw [pk_un b]; exact h4 i s hi1 (by omega) hs
theorem zx_sv2 {post : SX → Prop} (h : zx_Q l o f_rowSize f_count a_entryId a_entryMaker a_entryTaker a_order a_rank) (hp : ∀ si sm st so, zx_S l o f_rowSize f_count si sm st so → post (f_maxLines, f_maxSide, f_maxPatches, f_rowSize, f_count, f_nextName, f_draftOpen, f_draftPlace, f_draftTake, f_numberCount, f_rowSize, f_count, a_entryId, a_entryMaker, a_entryTaker, a_order, a_rank, a_nameOf, a_numbers, si, sm, st, so, a_needed)) : ∀ n e si sm st, e ≤ l.length → l.length - e < n → (∀ i x, i < e → l[i]? = some x → zx_E si sm st i x) → wX_save_2 post f_maxLines f_maxSide f_maxPatches f_rowSize f_count f_nextName f_draftOpen f_draftPlace f_draftTake f_numberCount f_savedRowSize f_savedCount n (nI e) a_entryId a_entryMaker a_entryTaker a_order a_rank a_nameOf a_numbers si sm st a_savedOrder a_needed := by
  have h80 := h.1.1
  have h1 := zp_opos h.1
  intro n
  induction n with
  | zero => intro e si sm st h1 h2; omega
  | succ n ih =>
    intro e si sm st h2 h3 h4
    refine pk_le l.length e (fun c => ?_) (fun c => ?_) h.2.1
    · obtain ⟨g1, g2, g3⟩ := zx_E_LA (l := l) (fun i x hx => h4 i x (by have := zp_lt hx; omega) hx)
      exact ⟨_, zx_sv54 h g1 g2 g3 (fun so => hp si sm st so) (o.length + 1) 1 a_savedOrder (by omega) (by omega) (by omega) (fun i s c1 c2 => by omega)⟩
    · obtain ⟨x, hx⟩ := zp_ex c
      have v := vp_in_nI (n := e) (N := 80) (by omega) (by omega)
      have e1 : (nI e).toNatClampNeg = e := nI_clamp (by omega)
      have E := zx_Q_E h hx
      refine ⟨v, v, nm_e ⟨v, v, nm_e ⟨v, v, nm_e (nm_r (nI_1 e) (ih (e + 1) _ _ _ (by omega) (by omega) ?_))⟩⟩⟩
      rw [e1]
      intro i y hi hy
      by_cases b : i = e
      · subst b; rw [hx] at hy; rw [← Option.some.inj hy]; exact zx_E_s E.1 E.2.1 E.2.2
      · exact zx_E_u (h4 i y (by omega) hy) b
theorem zx_sv {post : SX → Prop} (h : zx_Q l o f_rowSize f_count a_entryId a_entryMaker a_entryTaker a_order a_rank) (hp : ∀ si sm st so, zx_S l o f_rowSize f_count si sm st so → post (f_maxLines, f_maxSide, f_maxPatches, f_rowSize, f_count, f_nextName, f_draftOpen, f_draftPlace, f_draftTake, f_numberCount, f_rowSize, f_count, a_entryId, a_entryMaker, a_entryTaker, a_order, a_rank, a_nameOf, a_numbers, si, sm, st, so, a_needed)) : wpX_save post (f_maxLines, f_maxSide, f_maxPatches, f_rowSize, f_count, f_nextName, f_draftOpen, f_draftPlace, f_draftTake, f_numberCount, f_savedRowSize, f_savedCount, a_entryId, a_entryMaker, a_entryTaker, a_order, a_rank, a_nameOf, a_numbers, a_savedId, a_savedMaker, a_savedTaker, a_savedOrder, a_needed) :=
  ⟨_, zx_sv2 h hp (l.length + 1) 0 a_savedId a_savedMaker a_savedTaker (by omega) (by omega) (fun i x hi => by omega)⟩
theorem zx_re70 {post : SX → Prop} (hw : zp_WF l o) (hr : f_rowSize = nI l.length) (hc : f_count = nI (o.length - 1)) (hI : zp_LA a_entryId l (fun x => x.1)) (hM : zp_LA a_entryMaker l (fun x => nI x.2.1)) (hT : zp_LA a_entryTaker l (fun x => nI x.2.2)) (hs : ∀ i s, 1 ≤ i → o[i]? = some s → a_savedOrder i = nI s) (hp : ∀ od rk, zx_Q l o f_rowSize f_count a_entryId a_entryMaker a_entryTaker od rk → post (f_maxLines, f_maxSide, f_maxPatches, f_rowSize, f_count, f_nextName, f_draftOpen, f_draftPlace, f_draftTake, f_numberCount, f_savedRowSize, f_savedCount, a_entryId, a_entryMaker, a_entryTaker, od, rk, a_nameOf, a_numbers, a_savedId, a_savedMaker, a_savedTaker, a_savedOrder, a_needed)) : ∀ n k od, 1 ≤ k → k ≤ o.length → o.length - k < n → (∀ i s, i < k → o[i]? = some s → od i = nI s) → wX_restore_70 post f_maxLines f_maxSide f_maxPatches f_rowSize f_count f_nextName f_draftOpen f_draftPlace f_draftTake f_numberCount f_savedRowSize f_savedCount n (nI k) a_entryId a_entryMaker a_entryTaker od a_rank a_nameOf a_numbers a_savedId a_savedMaker a_savedTaker a_savedOrder a_needed := by
  have h11 := hw.2.1
  intro n
  induction n with
  | zero => intro k od h1 h2; omega
  | succ n ih =>
    intro k od h1 h2 h3 h4
    refine pk_lt (o.length - 1) k (fun c => ?_) (fun c => ?_) hc
    · have hO : zp_LA od o nI := fun i s hs => h4 i s (by have := zp_lt hs; omega) hs
      exact zx_rn (zp_WF_o hw) hc hO (fun rk hR => hp od rk ⟨hw, hr, hc, hI, hM, hT, hO, hR⟩)
    · have v := vp_in_nI (n := k) (N := 11) (by omega) (by omega)
      refine ⟨v, v, nm_e (nm_r (nI_1 k) (ih (k + 1) _ (by omega) (by omega) (by omega) ?_))⟩
      rw [nI_clamp (by omega)]
      intro i s hi hs'
      by_cases b : i = k
      · subst b; rw [pk_us]; exact hs i s h1 hs'
      · rw [pk_un b]; exact h4 i s (by omega) hs'
theorem zx_re18 {post : SX → Prop} (hw : zp_WF l o) (hr : f_rowSize = nI l.length) (hc : f_count = nI (o.length - 1)) (hI : zp_LA a_savedId l (fun x => x.1)) (hM : zp_LA a_savedMaker l (fun x => nI x.2.1)) (hT : zp_LA a_savedTaker l (fun x => nI x.2.2)) (hs : ∀ i s, 1 ≤ i → o[i]? = some s → a_savedOrder i = nI s) (h0 : a_order 0 = 0) (hp : ∀ ei em et od rk, zx_Q l o f_rowSize f_count ei em et od rk → post (f_maxLines, f_maxSide, f_maxPatches, f_rowSize, f_count, f_nextName, f_draftOpen, f_draftPlace, f_draftTake, f_numberCount, f_savedRowSize, f_savedCount, ei, em, et, od, rk, a_nameOf, a_numbers, a_savedId, a_savedMaker, a_savedTaker, a_savedOrder, a_needed)) : ∀ n e ei em et, e ≤ l.length → l.length - e < n → (∀ i x, i < e → l[i]? = some x → zx_E ei em et i x) → wX_restore_18 post f_maxLines f_maxSide f_maxPatches f_rowSize f_count f_nextName f_draftOpen f_draftPlace f_draftTake f_numberCount f_savedRowSize f_savedCount n (nI e) ei em et a_order a_rank a_nameOf a_numbers a_savedId a_savedMaker a_savedTaker a_savedOrder a_needed := by
  have h80 := hw.1
  have h1 := zp_opos hw
  intro n
  induction n with
  | zero => intro e ei em et h1 h2; omega
  | succ n ih =>
    intro e ei em et h2 h3 h4
    refine pk_le l.length e (fun c => ?_) (fun c => ?_) hr
    · obtain ⟨g1, g2, g3⟩ := zx_E_LA (l := l) (fun i x hx => h4 i x (by have := zp_lt hx; omega) hx)
      refine ⟨_, zx_re70 hw hr hc g1 g2 g3 hs (fun od rk => hp ei em et od rk) (o.length + 1) 1 a_order (by omega) (by omega) (by omega) ?_⟩
      intro i s hi hs'
      have : i = 0 := by omega
      subst this
      rw [hw.2.2.2.1] at hs'
      rw [← Option.some.inj hs']; exact h0
    · obtain ⟨x, hx⟩ := zp_ex c
      have v := vp_in_nI (n := e) (N := 80) (by omega) (by omega)
      have e1 : (nI e).toNatClampNeg = e := nI_clamp (by omega)
      refine ⟨v, v, nm_e ⟨v, v, nm_e ⟨v, v, nm_e (nm_r (nI_1 e) (ih (e + 1) _ _ _ (by omega) (by omega) ?_))⟩⟩⟩
      rw [e1]
      intro i y hi hy
      by_cases b : i = e
      · subst b; rw [hx] at hy; rw [← Option.some.inj hy]; exact zx_E_s (hI i x hx) (hM i x hx) (hT i x hx)
      · exact zx_E_u (h4 i y (by omega) hy) b
theorem zx_re {post : SX → Prop} (hw : zp_WF l o) (hS : zx_S l o f_savedRowSize f_savedCount a_savedId a_savedMaker a_savedTaker a_savedOrder) (h0 : a_order 0 = 0) (hp : ∀ ei em et od rk, zx_Q l o f_savedRowSize f_savedCount ei em et od rk → post (f_maxLines, f_maxSide, f_maxPatches, f_savedRowSize, f_savedCount, f_nextName, f_draftOpen, f_draftPlace, f_draftTake, f_numberCount, f_savedRowSize, f_savedCount, ei, em, et, od, rk, a_nameOf, a_numbers, a_savedId, a_savedMaker, a_savedTaker, a_savedOrder, a_needed)) : wpX_restore post (f_maxLines, f_maxSide, f_maxPatches, f_rowSize, f_count, f_nextName, f_draftOpen, f_draftPlace, f_draftTake, f_numberCount, f_savedRowSize, f_savedCount, a_entryId, a_entryMaker, a_entryTaker, a_order, a_rank, a_nameOf, a_numbers, a_savedId, a_savedMaker, a_savedTaker, a_savedOrder, a_needed) :=
  ⟨_, zx_re18 hw hS.1 hS.2.1 hS.2.2.1 hS.2.2.2.1 hS.2.2.2.2.1 hS.2.2.2.2.2 h0 hp (l.length + 1) 0 a_entryId a_entryMaker a_entryTaker (by omega) (by omega) (fun i x hi => by omega)⟩
theorem zx_sh41 {post : SX → Prop} {fr to s : Nat} (hc : f_count = nI (o.length - 1)) (h11 : o.length ≤ 11) (ht : 1 ≤ to) (hto : to < o.length) (hfr : fr < o.length) (ho' : zp_WO ((o.eraseIdx fr).insertIdx to s)) (hl : ((o.eraseIdx fr).insertIdx to s).length = o.length) (hlo : ∀ od, zp_LA od ((o.eraseIdx fr).insertIdx to s) nI → ∀ rk, zx_RK ((o.eraseIdx fr).insertIdx to s) rk → post (f_maxLines, f_maxSide, f_maxPatches, f_rowSize, f_count, f_nextName, f_draftOpen, f_draftPlace, f_draftTake, f_numberCount, f_savedRowSize, f_savedCount, a_entryId, a_entryMaker, a_entryTaker, od, rk, a_nameOf, a_numbers, a_savedId, a_savedMaker, a_savedTaker, a_savedOrder, a_needed)) (hL : zp_LA (upd (zp_sh a_order to fr 1) to (nI s)) ((o.eraseIdx fr).insertIdx to s) nI) : ∀ n i, to ≤ i → i ≤ fr → i - to < n → wX_shift_41 post (nI to) (nI s) f_maxLines f_maxSide f_maxPatches f_rowSize f_count f_nextName f_draftOpen f_draftPlace f_draftTake f_numberCount f_savedRowSize f_savedCount n (nI i) a_entryId a_entryMaker a_entryTaker (zp_sh a_order i fr 1) a_rank a_nameOf a_numbers a_savedId a_savedMaker a_savedTaker a_savedOrder a_needed := by
  intro n
  induction n with
  | zero => intro i h1 h2; omega
  | succ n ih =>
    intro i h1 h2 h3
    refine pk_le i to (fun c => ?_) (fun c => ?_)
    · have e1 : i = to := by omega
      subst e1
      refine ⟨vp_in_nI (by omega) (by omega), nm_e ?_⟩
      rw [nI_clamp (by omega)]
      exact zx_rn ho' (by rw [hl]; exact hc) hL (hlo _ hL)
    · obtain ⟨i, rfl⟩ : ∃ q, i = q + 1 := ⟨i - 1, by omega⟩
      rw [nI_pred]
      refine ⟨vp_in_nI (by omega) (by omega), vp_in_nI (by omega) (by omega), nm_e (nm_r (pk_m1 i) ?_)⟩
      rw [nI_clamp (by omega), nI_clamp (by omega), zp_sh_s (by omega)]
      exact ih i (by omega) (by omega) (by omega)
theorem zx_sh10 {post : SX → Prop} {fr to : Nat} {s : Int32} (h11 : o.length ≤ 11) (hto : to < o.length) (hp : ∃ n, wX_shift_41 post (nI to) s f_maxLines f_maxSide f_maxPatches f_rowSize f_count f_nextName f_draftOpen f_draftPlace f_draftTake f_numberCount f_savedRowSize f_savedCount n (nI fr) a_entryId a_entryMaker a_entryTaker (zp_lf a_order fr to) a_rank a_nameOf a_numbers a_savedId a_savedMaker a_savedTaker a_savedOrder a_needed) : ∀ n i, fr ≤ i → i ≤ to → to - i < n → wX_shift_10 post (nI fr) (nI to) s f_maxLines f_maxSide f_maxPatches f_rowSize f_count f_nextName f_draftOpen f_draftPlace f_draftTake f_numberCount f_savedRowSize f_savedCount n (nI i) a_entryId a_entryMaker a_entryTaker (zp_lf a_order fr i) a_rank a_nameOf a_numbers a_savedId a_savedMaker a_savedTaker a_savedOrder a_needed := by
  intro n
  induction n with
  | zero => intro i h1 h2; omega
  | succ n ih =>
    intro i h1 h2 h3
    refine pk_le to i (fun c => ?_) (fun c => ?_)
    · rw [show i = to from by omega]; exact hp
    · rw [nI_1]
      refine ⟨vp_in_nI (by omega) (by omega), vp_in_nI (by omega) (by omega), nm_e (nm_e ?_)⟩
      rw [nI_clamp (by omega), nI_clamp (by omega), zp_lf_s (by omega)]
      exact ih (i + 1) (by omega) (by omega) (by omega)
theorem zp_er_perm : ∀ (o : List Nat) (k : Nat), k < o.length → List.Perm (zp_sl o k :: o.eraseIdx k) o
  | [], k, h => absurd h (Nat.not_lt_zero k)
  | a :: t, 0, _ => List.Perm.refl _
  | a :: t, k + 1, h => by
    have ih := zp_er_perm t k (Nat.lt_of_succ_lt_succ h)
    show List.Perm (zp_sl t k :: a :: t.eraseIdx k) (a :: t)
    exact List.Perm.trans (List.Perm.swap _ _ _) (List.Perm.cons a ih)
theorem zp_mv_perm {o : List Nat} {fr to : Nat} (hf : fr < o.length) (ht : to < o.length) : List.Perm ((o.eraseIdx fr).insertIdx to (zp_sl o fr)) o := by
  have hl : (o.eraseIdx fr).length = o.length - 1 := by rw [List.length_eraseIdx, if_pos hf]
  refine List.Perm.trans (List.perm_insertIdx _ _ (by omega)) ?_
  exact zp_er_perm o fr hf
theorem zp_WF_perm {l : List zp_En} {o o' : List Nat} (h : zp_WF l o) (hp : List.Perm o' o) (h0 : o'[0]? = some 0) : zp_WF l o' := by
  obtain ⟨h1, h2, h3, h4, h5, h6⟩ := h
  refine ⟨h1, by rw [hp.length_eq]; exact h2, hp.nodup_iff.mpr h3, h0, fun s hs => h5 s (hp.mem_iff.mp hs), fun x hx => ?_⟩
  exact ⟨hp.mem_iff.mpr (h6 x hx).1, hp.mem_iff.mpr (h6 x hx).2⟩
theorem zp_mv_0 {o : List Nat} {fr to s : Nat} (h0 : o[0]? = some 0) (hf : 1 ≤ fr) (ht : 1 ≤ to) : ((o.eraseIdx fr).insertIdx to s)[0]? = some 0 := by
  rw [List.getElem?_insertIdx, if_pos (by omega), List.getElem?_eraseIdx, if_pos (by omega)]; exact h0
theorem zx_shift {post : SX → Prop} {fr to : Nat} (h : zx_Q l o f_rowSize f_count a_entryId a_entryMaker a_entryTaker a_order a_rank) (hf1 : 1 ≤ fr) (hf : fr < o.length) (ht1 : 1 ≤ to) (ht : to < o.length) (hp : ∀ od rk, zx_Q l ((o.eraseIdx fr).insertIdx to (zp_sl o fr)) f_rowSize f_count a_entryId a_entryMaker a_entryTaker od rk → post (f_maxLines, f_maxSide, f_maxPatches, f_rowSize, f_count, f_nextName, f_draftOpen, f_draftPlace, f_draftTake, f_numberCount, f_savedRowSize, f_savedCount, a_entryId, a_entryMaker, a_entryTaker, od, rk, a_nameOf, a_numbers, a_savedId, a_savedMaker, a_savedTaker, a_savedOrder, a_needed)) : wpX_shift post (f_maxLines, f_maxSide, f_maxPatches, f_rowSize, f_count, f_nextName, f_draftOpen, f_draftPlace, f_draftTake, f_numberCount, f_savedRowSize, f_savedCount, a_entryId, a_entryMaker, a_entryTaker, a_order, a_rank, a_nameOf, a_numbers, a_savedId, a_savedMaker, a_savedTaker, a_savedOrder, a_needed) (nI fr) (nI to) := by
  obtain ⟨e1, e2, e3⟩ := zx_ord h hf
  have hpm := zp_mv_perm hf ht
  have hw' := zp_WF_perm h.1 hpm (zp_mv_0 h.1.2.2.2.1 hf1 ht1)
  have hl := hpm.length_eq
  have h11 := h.1.2.1
  obtain ⟨hw, hr, hc, hI, hM, hT, hO, hR⟩ := h
  have hlo : ∀ od, zp_LA od ((o.eraseIdx fr).insertIdx to (zp_sl o fr)) nI → ∀ rk, zx_RK ((o.eraseIdx fr).insertIdx to (zp_sl o fr)) rk → post (f_maxLines, f_maxSide, f_maxPatches, f_rowSize, f_count, f_nextName, f_draftOpen, f_draftPlace, f_draftTake, f_numberCount, f_savedRowSize, f_savedCount, a_entryId, a_entryMaker, a_entryTaker, od, rk, a_nameOf, a_numbers, a_savedId, a_savedMaker, a_savedTaker, a_savedOrder, a_needed) :=
    fun od h1 rk h2 => hp od rk ⟨hw', hr, by rw [hl]; exact hc, hI, hM, hT, h1, h2⟩
  refine ⟨e3, nm_r e1 ?_⟩
  by_cases c : fr ≤ to
  · have q : ∃ n, wX_shift_41 post (nI to) (nI (zp_sl o fr)) f_maxLines f_maxSide f_maxPatches f_rowSize f_count f_nextName f_draftOpen f_draftPlace f_draftTake f_numberCount f_savedRowSize f_savedCount n (nI fr) a_entryId a_entryMaker a_entryTaker (zp_lf a_order fr to) a_rank a_nameOf a_numbers a_savedId a_savedMaker a_savedTaker a_savedOrder a_needed := by
      have hL := zp_LA_mu hO (zp_sl_g hf) c ht
      by_cases c2 : fr = to
      · subst c2
        refine ⟨1, ?_⟩
        rw [zp_lf_0] at hL ⊢
        have := zx_sh41 (a_rank := a_rank) (fr := fr) (to := fr) (s := zp_sl o fr) hc h11 ht1 ht hf (zp_WF_o hw') hl hlo (by rw [zp_sh_0]; exact hL) 1 fr (by omega) (by omega) (by omega)
        rw [zp_sh_0] at this
        exact this
      · refine ⟨1, ?_⟩
        refine br_t (nI_le (by omega) (by omega)) ⟨vp_in_nI (by omega) (by omega), nm_e ?_⟩
        rw [nI_clamp (by omega)]
        exact zx_rn (zp_WF_o hw') (by rw [hl]; exact hc) hL (hlo _ hL)
    have := zx_sh10 h11 ht q (to + 1) fr (Nat.le_refl _) c (by omega)
    rw [zp_lf_0] at this
    exact ⟨_, this⟩
  · have hL := zp_LA_md hO (zp_sl_g hf) (show to ≤ fr from by omega)
    have q := zx_sh41 (a_rank := a_rank) (fr := fr) (to := to) (s := zp_sl o fr) hc h11 ht1 ht hf (zp_WF_o hw') hl hlo hL (fr + 1) fr (by omega) (by omega) (by omega)
    rw [zp_sh_0] at q
    exact ⟨1, br_t (nI_le (by omega) (by omega)) ⟨_, q⟩⟩
theorem zx_rp2 {post : SX → Prop} {k : Nat} (hw' : zp_WO (o.eraseIdx k)) (hO : zp_LA a_order o nI) (hc : f_count = nI (o.length - 1)) (h11 : o.length ≤ 11) (hk1 : 1 ≤ k) (hk : k < o.length) (hp : ∀ od rk, zp_LA od (o.eraseIdx k) nI → zx_RK (o.eraseIdx k) rk → post (f_maxLines, f_maxSide, f_maxPatches, f_rowSize, (nI (o.length - 2)), f_nextName, f_draftOpen, f_draftPlace, f_draftTake, f_numberCount, f_savedRowSize, f_savedCount, a_entryId, a_entryMaker, a_entryTaker, od, rk, a_nameOf, a_numbers, a_savedId, a_savedMaker, a_savedTaker, a_savedOrder, a_needed)) : ∀ n i, k ≤ i → i < o.length → o.length - i < n → wX_removePatch_2 post f_maxLines f_maxSide f_maxPatches f_rowSize f_count f_nextName f_draftOpen f_draftPlace f_draftTake f_numberCount f_savedRowSize f_savedCount n (nI i) a_entryId a_entryMaker a_entryTaker (zp_lf a_order k i) a_rank a_nameOf a_numbers a_savedId a_savedMaker a_savedTaker a_savedOrder a_needed := by
  intro n
  induction n with
  | zero => intro i h1 h2; omega
  | succ n ih =>
    intro i h1 h2 h3
    refine pk_le (o.length - 1) i (fun c => ?_) (fun c => ?_) hc
    · have hL := zp_LA_lf hO hk
      rw [show i = o.length - 1 from by omega]
      refine nm_r (e' := nI (o.length - 2)) (by rw [hc]; exact pk_sub (a := o.length - 1) (b := 1) (by omega)) ?_
      refine zx_rn hw' ?_ hL (fun rk hR => hp _ rk hL hR)
      rw [List.length_eraseIdx, if_pos hk, show o.length - 1 - 1 = o.length - 2 from by omega]
    · rw [nI_1]
      refine ⟨vp_in_nI (by omega) (by omega), vp_in_nI (by omega) (by omega), nm_e (nm_e ?_)⟩
      rw [nI_clamp (by omega), nI_clamp (by omega), zp_lf_s (by omega)]
      exact ih (i + 1) (by omega) (by omega) (by omega)
theorem zp_WO_er {o : List Nat} {k : Nat} (h : zp_WO o) (hk : 1 ≤ k) : zp_WO (o.eraseIdx k) := by
  obtain ⟨h1, h2, h3, h4⟩ := h
  have hs := List.eraseIdx_sublist o k
  refine ⟨Nat.le_trans hs.length_le h1, hs.nodup h2, ?_, fun s hm => h4 s (hs.subset hm)⟩
  rw [List.getElem?_eraseIdx, if_pos (by omega)]; exact h3
theorem zx_rp {post : SX → Prop} {k : Nat} (hw : zp_WO o) (hO : zp_LA a_order o nI) (hc : f_count = nI (o.length - 1)) (hk1 : 1 ≤ k) (hk : k < o.length) (hp : ∀ od rk, zp_LA od (o.eraseIdx k) nI → zx_RK (o.eraseIdx k) rk → post (f_maxLines, f_maxSide, f_maxPatches, f_rowSize, (nI (o.length - 2)), f_nextName, f_draftOpen, f_draftPlace, f_draftTake, f_numberCount, f_savedRowSize, f_savedCount, a_entryId, a_entryMaker, a_entryTaker, od, rk, a_nameOf, a_numbers, a_savedId, a_savedMaker, a_savedTaker, a_savedOrder, a_needed)) : wpX_removePatch post (f_maxLines, f_maxSide, f_maxPatches, f_rowSize, f_count, f_nextName, f_draftOpen, f_draftPlace, f_draftTake, f_numberCount, f_savedRowSize, f_savedCount, a_entryId, a_entryMaker, a_entryTaker, a_order, a_rank, a_nameOf, a_numbers, a_savedId, a_savedMaker, a_savedTaker, a_savedOrder, a_needed) (nI k) := by
  have q := zx_rp2 (a_rank := a_rank) (zp_WO_er hw hk1) hO hc hw.1 hk1 hk hp (o.length + 1) k (Nat.le_refl _) hk (by omega)
  rw [zp_lf_0] at q
  exact ⟨_, q⟩
end
end
section
/-! the component's stores into the row -/
theorem zp_drop {α : Type} {l : List α} {e : Nat} {x : α} (h : l[e]? = some x) : l.drop e = x :: l.drop (e + 1) := by
  obtain ⟨he, rfl⟩ := List.getElem?_eq_some_iff.mp h
  exact List.drop_eq_getElem_cons he
def zp_mC (p : zp_En → Bool) (l : List zp_En) (a b i : Nat) (x : zp_En) : Bool := p x && decide (a ≤ zp_cP p l i) && decide (zp_cP p l i < b)
theorem zp_mC_iff {p : zp_En → Bool} {l : List zp_En} {a b i : Nat} {x : zp_En} : zp_mC p l a b i x = true ↔ p x = true ∧ a ≤ zp_cP p l i ∧ zp_cP p l i < b := by
  simp [zp_mC, and_assoc]
theorem zp_tki {l : List zp_En} {C : Nat → zp_En → Bool} {et et' : Nat → Int32} {e : Nat} {v : Int32} {f : zp_En → Int32} {x : zp_En} (h : ∀ i y, l[i]? = some y → et i = if i < e ∧ C i y = true then v else f y) (hx : l[e]? = some x) (h1 : ∀ i, i ≠ e → et' i = et i) (h2 : et' e = if C e x = true then v else f x) : ∀ i y, l[i]? = some y → et' i = if i < e + 1 ∧ C i y = true then v else f y := by
  intro i y hy
  by_cases b : i = e
  · subst b
    rw [hx] at hy
    rw [← Option.some.inj hy, h2]
    by_cases c : C i x = true
    · rw [if_pos c, if_pos ⟨by omega, c⟩]
    · rw [if_neg c, if_neg (fun z => c z.2)]
  · rw [h1 i b, h i y hy]
    by_cases c : i < e ∧ C i y = true
    · rw [if_pos c, if_pos ⟨by omega, c.2⟩]
    · rw [if_neg c, if_neg (fun z => c ⟨by omega, z.2⟩)]
/-- what the marking loop leaves is the marked list -/
theorem zp_mk_LA {l : List zp_En} {p : zp_En → Bool} {s a b : Nat} {et : Nat → Int32} {g : Nat → Int32} (h : ∀ i y, l[i]? = some y → et i = if i < l.length ∧ zp_mC p l a b i y = true then g s else g y.2.2) : zp_LA et (zp_mk p s a b 0 l) (fun x => g x.2.2) := by
  intro i x hx
  rw [zp_mk_get] at hx
  cases hy : l[i]? with
  | none => rw [hy] at hx; cases hx
  | some y =>
    rw [hy] at hx
    have hx := Option.some.inj hx
    have hl := zp_lt hy
    rw [h i y hy, ← hx]
    simp only [Nat.zero_add]
    by_cases c : p y = true ∧ a ≤ zp_cP p l i ∧ zp_cP p l i < b
    · rw [if_pos c, if_pos ⟨hl, zp_mC_iff.mpr c⟩]
    · rw [if_neg c, if_neg (fun z => c (zp_mC_iff.mp z.2))]
theorem zp_mk_LA1 {l : List zp_En} {p : zp_En → Bool} {s a b : Nat} {et : Nat → Int32} {f : Int32 → Nat → Int32} (h : zp_LA et l (fun x => f x.1 x.2.1)) : zp_LA et (zp_mk p s a b 0 l) (fun x => f x.1 x.2.1) := by
  intro i x hx
  rw [zp_mk_get] at hx
  cases hy : l[i]? with
  | none => rw [hy] at hx; cases hx
  | some y =>
    rw [hy] at hx
    have hx := Option.some.inj hx
    rw [h i y hy, ← hx]
    dsimp only
    split <;> rfl
def zp_fl (a : Nat → Int32) (q i : Nat) (v : Nat → Int32) : Nat → Int32 := fun j => if q ≤ j ∧ j < q + i then v (j - q) else a j
theorem zp_fl_0 {a : Nat → Int32} {q : Nat} {v : Nat → Int32} : zp_fl a q 0 v = a := by
  funext j; simp only [zp_fl]; rw [if_neg (by omega)]
theorem zp_fl_s {a : Nat → Int32} {q i : Nat} {v : Nat → Int32} : upd (zp_fl a q i v) (q + i) (v i) = zp_fl a q (i + 1) v := by
  funext j
  by_cases z : j = q + i
  · subst z
    rw [pk_us]; simp only [zp_fl]; rw [if_pos (by omega), Nat.add_sub_cancel_left]
  · rw [pk_un z]; simp only [zp_fl]
    by_cases y : q ≤ j ∧ j < q + i
    · rw [if_pos y, if_pos (by omega)]
    · rw [if_neg y, if_neg (by omega)]
theorem zp_ins_LA {a v : Nat → Int32} {l new : List zp_En} {f : zp_En → Int32} {q c : Nat} (h : zp_LA a l f) (hq : q ≤ l.length) (hc : new.length = c) (hn : ∀ i x, new[i]? = some x → v i = f x) : zp_LA (zp_fl (zp_sh a q l.length c) q c v) (zp_ins l new q) f := by
  subst hc
  refine zp_LA_ins h hq (fun i hi => ?_) (fun i x hx => ?_) (fun i h1 h2 => ?_)
  · simp only [zp_fl, zp_sh]; rw [if_neg (by omega), if_neg (by omega)]
  · have := zp_lt hx
    simp only [zp_fl]; rw [if_pos (by omega), Nat.add_sub_cancel_left]; exact hn i x hx
  · simp only [zp_fl, zp_sh]; rw [if_neg (by omega), if_pos (by omega), Nat.add_sub_cancel]
/-! the compaction -/
def zx_C (l pre : List zp_En) (e : Nat) (ei em et : Nat → Int32) : Prop := pre.length ≤ e ∧ (∀ i x, pre[i]? = some x → zx_E ei em et i x) ∧ ∀ i x, e ≤ i → l[i]? = some x → zx_E ei em et i x
theorem zx_C_n {l pre : List zp_En} {e : Nat} {ei em et ei' em' et' : Nat → Int32} (h : zx_C l pre e ei em et) (hu : ∀ i y, i ≠ e → zx_E ei em et i y → zx_E ei' em' et' i y) : zx_C l pre (e + 1) ei' em' et' := by
  obtain ⟨h1, h2, h3⟩ := h
  refine ⟨by omega, fun i x hx => hu i x ?_ (h2 i x hx), fun i x hi hx => hu i x (by omega) (h3 i x (by omega) hx)⟩
  have := zp_lt hx; omega
theorem zx_C_s {l pre : List zp_En} {e : Nat} {ei em et ei' em' et' : Nat → Int32} {x' : zp_En} (h : zx_C l pre e ei em et) (hu : ∀ i y, i ≠ e → zx_E ei em et i y → zx_E ei' em' et' i y) (hx' : zx_E ei' em' et' e x') : zx_C l (pre ++ [x']) (e + 1) (upd ei' pre.length (ei' e)) (upd em' pre.length (em' e)) (upd et' pre.length (et' e)) := by
  have hp := h.1
  obtain ⟨h1, h2, h3⟩ := zx_C_n h hu
  refine ⟨by rw [List.length_append]; simp only [List.length_cons, List.length_nil]; omega, fun i x hx => ?_, fun i x hi hx => zx_E_u (h3 i x hi hx) (by omega)⟩
  rw [List.getElem?_append] at hx
  by_cases c : i < pre.length
  · rw [if_pos c] at hx; exact zx_E_u (h2 i x hx) (by omega)
  · rw [if_neg c] at hx
    have c2 := zp_lt hx
    simp only [List.length_cons, List.length_nil] at c2
    have c3 : i = pre.length := by omega
    subst c3
    rw [Nat.sub_self] at hx
    have : x' = x := Option.some.inj hx
    rw [← this]
    exact zx_E_s hx'.1 hx'.2.1 hx'.2.2
section
variable {f_maxLines f_maxSide f_maxPatches f_rowSize f_count f_nextName f_draftOpen f_draftPlace f_draftTake f_numberCount f_savedRowSize f_savedCount : Int32} {a_entryId a_entryMaker a_entryTaker a_order a_rank a_nameOf a_numbers a_savedId a_savedMaker a_savedTaker a_savedOrder a_needed : Nat → Int32} {l : List zp_En} {o : List Nat}
theorem zx_cp {post : SX → Prop} {e d : Nat} {y : Int32} (he : e < 80) (hd : d < 80) (hy : y = nI d) (hp : post (f_maxLines, f_maxSide, f_maxPatches, f_rowSize, f_count, f_nextName, f_draftOpen, f_draftPlace, f_draftTake, f_numberCount, f_savedRowSize, f_savedCount, (upd a_entryId d (a_entryId e)), (upd a_entryMaker d (a_entryMaker e)), (upd a_entryTaker d (a_entryTaker e)), a_order, a_rank, a_nameOf, a_numbers, a_savedId, a_savedMaker, a_savedTaker, a_savedOrder, a_needed)) : wpX_copyEntry post (f_maxLines, f_maxSide, f_maxPatches, f_rowSize, f_count, f_nextName, f_draftOpen, f_draftPlace, f_draftTake, f_numberCount, f_savedRowSize, f_savedCount, a_entryId, a_entryMaker, a_entryTaker, a_order, a_rank, a_nameOf, a_numbers, a_savedId, a_savedMaker, a_savedTaker, a_savedOrder, a_needed) (nI e) y := by
  subst hy
  have v1 := vp_in_nI (n := e) (N := 80) he (by omega)
  have v2 := vp_in_nI (n := d) (N := 80) hd (by omega)
  have e1 : (nI e).toNatClampNeg = e := nI_clamp (by omega)
  have e2 : (nI d).toNatClampNeg = d := nI_clamp (by omega)
  unfold wpX_copyEntry
  dsimp only
  rw [e1, e2]
  exact ⟨v1, v2, nm_e ⟨v1, v2, nm_e ⟨v1, v2, nm_e hp⟩⟩⟩
theorem zx_se {post : SX → Prop} {e : Nat} {y v w : Int32} (he : e < 80) (hy : y = nI e) (hp : post (f_maxLines, f_maxSide, f_maxPatches, f_rowSize, f_count, f_nextName, f_draftOpen, f_draftPlace, f_draftTake, f_numberCount, f_savedRowSize, f_savedCount, (upd a_entryId e v), (upd a_entryMaker e w), (upd a_entryTaker e 0), a_order, a_rank, a_nameOf, a_numbers, a_savedId, a_savedMaker, a_savedTaker, a_savedOrder, a_needed)) : wpX_setEntry post (f_maxLines, f_maxSide, f_maxPatches, f_rowSize, f_count, f_nextName, f_draftOpen, f_draftPlace, f_draftTake, f_numberCount, f_savedRowSize, f_savedCount, a_entryId, a_entryMaker, a_entryTaker, a_order, a_rank, a_nameOf, a_numbers, a_savedId, a_savedMaker, a_savedTaker, a_savedOrder, a_needed) y v w := by
  subst hy
  have v1 := vp_in_nI (n := e) (N := 80) he (by omega)
  have e1 : (nI e).toNatClampNeg = e := nI_clamp (by omega)
  unfold wpX_setEntry
  dsimp only
  rw [e1]
  exact ⟨v1, nm_e ⟨v1, nm_e ⟨v1, nm_e hp⟩⟩⟩
theorem zx_de29 {post : SX → Prop} {J : Int32 → Int32 → Int32 → Int32 → Int32 → Int32 → Int32 → Int32 → Int32 → Int32 → Int32 → Int32 → Int32 → Int32 → (Nat → Int32) → (Nat → Int32) → (Nat → Int32) → (Nat → Int32) → (Nat → Int32) → (Nat → Int32) → (Nat → Int32) → (Nat → Int32) → (Nat → Int32) → (Nat → Int32) → (Nat → Int32) → (Nat → Int32) → Prop} {s e d : Nat} {x : zp_En} (he : e < 80) (hd : d ≤ e) (hx : zx_E a_entryId a_entryMaker a_entryTaker e x) (hm : x.2.1 ≤ 10) (hs : s ≤ 10) (h1 : x.2.1 = s → J (nI d) (nI (e + 1)) f_maxLines f_maxSide f_maxPatches f_rowSize f_count f_nextName f_draftOpen f_draftPlace f_draftTake f_numberCount f_savedRowSize f_savedCount a_entryId a_entryMaker a_entryTaker a_order a_rank a_nameOf a_numbers a_savedId a_savedMaker a_savedTaker a_savedOrder a_needed) (h2 : ¬ x.2.1 = s → J (nI (d + 1)) (nI (e + 1)) f_maxLines f_maxSide f_maxPatches f_rowSize f_count f_nextName f_draftOpen f_draftPlace f_draftTake f_numberCount f_savedRowSize f_savedCount (upd a_entryId d (a_entryId e)) (upd a_entryMaker d (a_entryMaker e)) (upd a_entryTaker d (a_entryTaker e)) a_order a_rank a_nameOf a_numbers a_savedId a_savedMaker a_savedTaker a_savedOrder a_needed) : wX_dropEntries_29 post J (nI s) (nI d) (nI e) f_maxLines f_maxSide f_maxPatches f_rowSize f_count f_nextName f_draftOpen f_draftPlace f_draftTake f_numberCount f_savedRowSize f_savedCount a_entryId a_entryMaker a_entryTaker a_order a_rank a_nameOf a_numbers a_savedId a_savedMaker a_savedTaker a_savedOrder a_needed := by
  have e1 : a_entryMaker (nI e).toNatClampNeg = nI x.2.1 := by rw [nI_clamp (by omega)]; exact hx.2.1
  refine And.intro (vp_in_nI he (by omega)) (pk_eq x.2.1 s (fun c => nm_r (nI_1 e) (h1 c)) (fun c => ?_) e1)
  exact zx_cp he (by omega) rfl (nm_r (nI_1 d) (nm_r (nI_1 e) (h2 c)))
theorem zx_de4 {post : SX → Prop} {s : Nat} (hw : zp_WF l o) (hs : s ≤ 10) (hr : f_rowSize = nI l.length) (hp : ∀ ei em et, (∀ i x, (l.filterMap (zp_dG s))[i]? = some x → zx_E ei em et i x) → post (f_maxLines, f_maxSide, f_maxPatches, (nI (l.filterMap (zp_dG s)).length), f_count, f_nextName, f_draftOpen, f_draftPlace, f_draftTake, f_numberCount, f_savedRowSize, f_savedCount, ei, em, et, a_order, a_rank, a_nameOf, a_numbers, a_savedId, a_savedMaker, a_savedTaker, a_savedOrder, a_needed)) : ∀ n e pre ei em et, e ≤ l.length → l.length - e < n → zx_C l pre e ei em et → pre ++ (l.drop e).filterMap (zp_dG s) = l.filterMap (zp_dG s) → wX_dropEntries_4 post (nI s) n (nI pre.length) (nI e) f_maxLines f_maxSide f_maxPatches f_rowSize f_count f_nextName f_draftOpen f_draftPlace f_draftTake f_numberCount f_savedRowSize f_savedCount ei em et a_order a_rank a_nameOf a_numbers a_savedId a_savedMaker a_savedTaker a_savedOrder a_needed := by
  have h80 := hw.1
  intro n
  induction n with
  | zero => intro e pre ei em et h1 h2; omega
  | succ n ih =>
    intro e pre ei em et h1 h2 h3 h4
    refine pk_le l.length e (fun c => ?_) (fun c => ?_) hr
    · rw [List.drop_of_length_le c, List.filterMap_nil, List.append_nil] at h4
      rw [h4]
      refine hp ei em et ?_
      rw [← h4]; exact h3.2.1
    · obtain ⟨x, hx⟩ := zp_ex c
      have E := h3.2.2 e x (Nat.le_refl _) hx
      have m1 := hw.2.2.2.2.2 x (zp_mem hx)
      have b1 := hw.2.2.2.2.1 _ m1.1
      have b2 := hw.2.2.2.2.1 _ m1.2
      have v1 := vp_in_nI (n := e) (N := 80) (by omega) (by omega)
      have e1 : (nI e).toNatClampNeg = e := nI_clamp (by omega)
      have key : ∀ et' : Nat → Int32, zx_E ei em et' e (x.1, x.2.1, if x.2.2 = s then 0 else x.2.2) → (∀ i y, i ≠ e → zx_E ei em et i y → zx_E ei em et' i y) → wX_dropEntries_29 post (wX_dropEntries_4 post (nI s) n) (nI s) (nI pre.length) (nI e) f_maxLines f_maxSide f_maxPatches f_rowSize f_count f_nextName f_draftOpen f_draftPlace f_draftTake f_numberCount f_savedRowSize f_savedCount ei em et' a_order a_rank a_nameOf a_numbers a_savedId a_savedMaker a_savedTaker a_savedOrder a_needed := by
        intro et' hE hu
        rw [zp_drop hx] at h4
        refine zx_de29 (by omega) h3.1 hE b1 hs (fun c2 => ?_) (fun c2 => ?_)
        · have c2 : x.2.1 = s := c2
          rw [List.filterMap_cons_none (by simp [zp_dG, c2])] at h4
          exact ih (e + 1) pre ei em et' (by omega) (by omega) (zx_C_n h3 hu) h4
        · have c2 : ¬ x.2.1 = s := c2
          rw [List.filterMap_cons_some (b := (x.1, x.2.1, if x.2.2 = s then 0 else x.2.2)) (by simp [zp_dG, c2])] at h4
          have := ih (e + 1) (pre ++ [(x.1, x.2.1, if x.2.2 = s then 0 else x.2.2)]) _ _ _ (by omega) (by omega) (zx_C_s h3 hu hE) (by rw [← h4]; simp)
          rw [List.length_append] at this
          exact this
      rw [e1]
      refine ⟨v1, pk_eq x.2.2 s (fun c2 => ⟨v1, nm_e (key _ ?_ ?_)⟩) (fun c2 => key et ?_ (fun i y _ h => h)) E.2.2⟩
      · rw [if_pos c2]
        exact ⟨E.1, E.2.1, pk_us⟩
      · intro i y hi h
        exact ⟨h.1, h.2.1, by rw [pk_un hi]; exact h.2.2⟩
      · rw [if_neg c2]; exact E
theorem zx_de {post : SX → Prop} {s : Nat} (h : zx_Q l o f_rowSize f_count a_entryId a_entryMaker a_entryTaker a_order a_rank) (hs : s ≤ 10) (hp : ∀ ei em et, (∀ i x, (l.filterMap (zp_dG s))[i]? = some x → zx_E ei em et i x) → post (f_maxLines, f_maxSide, f_maxPatches, (nI (l.filterMap (zp_dG s)).length), f_count, f_nextName, f_draftOpen, f_draftPlace, f_draftTake, f_numberCount, f_savedRowSize, f_savedCount, ei, em, et, a_order, a_rank, a_nameOf, a_numbers, a_savedId, a_savedMaker, a_savedTaker, a_savedOrder, a_needed)) : wpX_dropEntries post (f_maxLines, f_maxSide, f_maxPatches, f_rowSize, f_count, f_nextName, f_draftOpen, f_draftPlace, f_draftTake, f_numberCount, f_savedRowSize, f_savedCount, a_entryId, a_entryMaker, a_entryTaker, a_order, a_rank, a_nameOf, a_numbers, a_savedId, a_savedMaker, a_savedTaker, a_savedOrder, a_needed) (nI s) :=
  ⟨_, zx_de4 h.1 hs h.2.1 hp (l.length + 1) 0 [] a_entryId a_entryMaker a_entryTaker (by omega) (by omega) ⟨by simp, fun i x hx => by simp at hx, fun i x _ hx => zx_Q_E h hx⟩ (by simp)⟩
theorem zx_fe74 {post : SX → Prop} {J : Int32 → Int32 → Int32 → Int32 → Int32 → Int32 → Int32 → Int32 → Int32 → Int32 → Int32 → Int32 → Int32 → Int32 → (Nat → Int32) → (Nat → Int32) → (Nat → Int32) → (Nat → Int32) → (Nat → Int32) → (Nat → Int32) → (Nat → Int32) → (Nat → Int32) → (Nat → Int32) → (Nat → Int32) → (Nat → Int32) → (Nat → Int32) → Prop} {f t e d : Nat} {x : zp_En} (he : e < 80) (hd : d ≤ e) (hx : zx_E a_entryId a_entryMaker a_entryTaker e x) (hm : x.2.1 ≤ 10) (hk : x.2.2 ≤ 10) (ht : t ≤ 10) (h1 : x.2.1 = t ∧ x.2.2 = t → J (nI d) (nI (e + 1)) f_maxLines f_maxSide f_maxPatches f_rowSize f_count f_nextName f_draftOpen f_draftPlace f_draftTake f_numberCount f_savedRowSize f_savedCount a_entryId a_entryMaker a_entryTaker a_order a_rank a_nameOf a_numbers a_savedId a_savedMaker a_savedTaker a_savedOrder a_needed) (h2 : ¬ (x.2.1 = t ∧ x.2.2 = t) → J (nI (d + 1)) (nI (e + 1)) f_maxLines f_maxSide f_maxPatches f_rowSize f_count f_nextName f_draftOpen f_draftPlace f_draftTake f_numberCount f_savedRowSize f_savedCount (upd a_entryId d (a_entryId e)) (upd a_entryMaker d (a_entryMaker e)) (upd a_entryTaker d (a_entryTaker e)) a_order a_rank a_nameOf a_numbers a_savedId a_savedMaker a_savedTaker a_savedOrder a_needed) : wX_foldEntries_52 post J (nI f) (nI t) (nI d) (nI e) f_maxLines f_maxSide f_maxPatches f_rowSize f_count f_nextName f_draftOpen f_draftPlace f_draftTake f_numberCount f_savedRowSize f_savedCount a_entryId a_entryMaker a_entryTaker a_order a_rank a_nameOf a_numbers a_savedId a_savedMaker a_savedTaker a_savedOrder a_needed := by
  have e0 : (nI e).toNatClampNeg = e := nI_clamp (by omega)
  have e1 : a_entryMaker (nI e).toNatClampNeg = nI x.2.1 := by rw [e0]; exact hx.2.1
  have e2 : a_entryTaker (nI e).toNatClampNeg = nI x.2.2 := by rw [e0]; exact hx.2.2
  have v1 := vp_in_nI (n := e) (N := 80) he (by omega)
  have key : ¬ (x.2.1 = t ∧ x.2.2 = t) → wX_foldEntries_74 post J (nI f) (nI t) (nI d) (nI e) f_maxLines f_maxSide f_maxPatches f_rowSize f_count f_nextName f_draftOpen f_draftPlace f_draftTake f_numberCount f_savedRowSize f_savedCount a_entryId a_entryMaker a_entryTaker a_order a_rank a_nameOf a_numbers a_savedId a_savedMaker a_savedTaker a_savedOrder a_needed :=
    fun c => zx_cp he (by omega) rfl (nm_r (nI_1 d) (nm_r (nI_1 e) (h2 c)))
  refine And.intro v1 (pk_eq x.2.1 t (fun c => And.intro v1 (pk_eq x.2.2 t (fun c2 => nm_r (nI_1 e) (h1 ⟨c, c2⟩)) (fun c2 => key (fun z => c2 z.2)) e2)) (fun c => key (fun z => c z.1)) e1)
theorem zx_fe33 {post : SX → Prop} {J : Int32 → Int32 → Int32 → Int32 → Int32 → Int32 → Int32 → Int32 → Int32 → Int32 → Int32 → Int32 → Int32 → Int32 → (Nat → Int32) → (Nat → Int32) → (Nat → Int32) → (Nat → Int32) → (Nat → Int32) → (Nat → Int32) → (Nat → Int32) → (Nat → Int32) → (Nat → Int32) → (Nat → Int32) → (Nat → Int32) → (Nat → Int32) → Prop} {f t e d m : Nat} {x : zp_En} (he : e < 80) (hd : d ≤ e) (hx : zx_E a_entryId a_entryMaker a_entryTaker e (x.1, m, x.2.2)) (hm : m ≤ 10) (hk : x.2.2 ≤ 10) (hf : f ≤ 10) (ht : t ≤ 10)
  (h1 : ∀ et, zx_E a_entryId a_entryMaker et e (x.1, m, zp_rn f t x.2.2) → (∀ i y, i ≠ e → zx_E a_entryId a_entryMaker a_entryTaker i y → zx_E a_entryId a_entryMaker et i y) → m = t ∧ zp_rn f t x.2.2 = t → J (nI d) (nI (e + 1)) f_maxLines f_maxSide f_maxPatches f_rowSize f_count f_nextName f_draftOpen f_draftPlace f_draftTake f_numberCount f_savedRowSize f_savedCount a_entryId a_entryMaker et a_order a_rank a_nameOf a_numbers a_savedId a_savedMaker a_savedTaker a_savedOrder a_needed)
  (h2 : ∀ et, zx_E a_entryId a_entryMaker et e (x.1, m, zp_rn f t x.2.2) → (∀ i y, i ≠ e → zx_E a_entryId a_entryMaker a_entryTaker i y → zx_E a_entryId a_entryMaker et i y) → ¬ (m = t ∧ zp_rn f t x.2.2 = t) → J (nI (d + 1)) (nI (e + 1)) f_maxLines f_maxSide f_maxPatches f_rowSize f_count f_nextName f_draftOpen f_draftPlace f_draftTake f_numberCount f_savedRowSize f_savedCount (upd a_entryId d (a_entryId e)) (upd a_entryMaker d (a_entryMaker e)) (upd et d (et e)) a_order a_rank a_nameOf a_numbers a_savedId a_savedMaker a_savedTaker a_savedOrder a_needed) : wX_foldEntries_33 post J (nI f) (nI t) (nI d) (nI e) f_maxLines f_maxSide f_maxPatches f_rowSize f_count f_nextName f_draftOpen f_draftPlace f_draftTake f_numberCount f_savedRowSize f_savedCount a_entryId a_entryMaker a_entryTaker a_order a_rank a_nameOf a_numbers a_savedId a_savedMaker a_savedTaker a_savedOrder a_needed := by
  have e0 : (nI e).toNatClampNeg = e := nI_clamp (by omega)
  have e2 : a_entryTaker (nI e).toNatClampNeg = nI x.2.2 := by rw [e0]; exact hx.2.2
  have v1 := vp_in_nI (n := e) (N := 80) he (by omega)
  refine And.intro v1 (pk_eq x.2.2 f (fun c => And.intro v1 (nm_e ?_)) (fun c => ?_) e2)
  · rw [e0]
    have er : zp_rn f t x.2.2 = t := by simp [zp_rn, c]
    have hE : zx_E a_entryId a_entryMaker (upd a_entryTaker e (nI t)) e (x.1, m, zp_rn f t x.2.2) := ⟨hx.1, hx.2.1, by rw [pk_us, er]⟩
    have hu : ∀ i y, i ≠ e → zx_E a_entryId a_entryMaker a_entryTaker i y → zx_E a_entryId a_entryMaker (upd a_entryTaker e (nI t)) i y := fun i y hi h => ⟨h.1, h.2.1, by rw [pk_un hi]; exact h.2.2⟩
    exact zx_fe74 he hd hE hm (by rw [er]; exact ht) ht (h1 _ hE hu) (h2 _ hE hu)
  · have er : zp_rn f t x.2.2 = x.2.2 := by simp [zp_rn, c]
    have hE : zx_E a_entryId a_entryMaker a_entryTaker e (x.1, m, zp_rn f t x.2.2) := by rw [er]; exact hx
    exact zx_fe74 he hd hE hm (by rw [er]; exact hk) ht (h1 _ hE (fun i y _ h => h)) (h2 _ hE (fun i y _ h => h))
theorem zx_fe5 {post : SX → Prop} {f t : Nat} (hw : zp_WF l o) (hf : f ≤ 10) (ht : t ≤ 10) (hr : f_rowSize = nI l.length) (hp : ∀ ei em et, (∀ i x, (l.filterMap (zp_fG f t))[i]? = some x → zx_E ei em et i x) → post (f_maxLines, f_maxSide, f_maxPatches, (nI (l.filterMap (zp_fG f t)).length), f_count, f_nextName, f_draftOpen, f_draftPlace, f_draftTake, f_numberCount, f_savedRowSize, f_savedCount, ei, em, et, a_order, a_rank, a_nameOf, a_numbers, a_savedId, a_savedMaker, a_savedTaker, a_savedOrder, a_needed)) : ∀ n e pre ei em et, e ≤ l.length → l.length - e < n → zx_C l pre e ei em et → pre ++ (l.drop e).filterMap (zp_fG f t) = l.filterMap (zp_fG f t) → wX_foldEntries_5 post (nI f) (nI t) n (nI pre.length) (nI e) f_maxLines f_maxSide f_maxPatches f_rowSize f_count f_nextName f_draftOpen f_draftPlace f_draftTake f_numberCount f_savedRowSize f_savedCount ei em et a_order a_rank a_nameOf a_numbers a_savedId a_savedMaker a_savedTaker a_savedOrder a_needed := by
  have h80 := hw.1
  intro n
  induction n with
  | zero => intro e pre ei em et h1 h2; omega
  | succ n ih =>
    intro e pre ei em et h1 h2 h3 h4
    refine pk_le l.length e (fun c => ?_) (fun c => ?_) hr
    · rw [List.drop_of_length_le c, List.filterMap_nil, List.append_nil] at h4
      rw [h4]
      refine hp ei em et ?_
      rw [← h4]; exact h3.2.1
    · obtain ⟨x, hx⟩ := zp_ex c
      have E := h3.2.2 e x (Nat.le_refl _) hx
      have m1 := hw.2.2.2.2.2 x (zp_mem hx)
      have b1 := hw.2.2.2.2.1 _ m1.1
      have b2 := hw.2.2.2.2.1 _ m1.2
      have v1 := vp_in_nI (n := e) (N := 80) (by omega) (by omega)
      have e1 : (nI e).toNatClampNeg = e := nI_clamp (by omega)
      have br : zp_rn f t x.2.1 ≤ 10 := by unfold zp_rn; split <;> omega
      have key : ∀ em' : Nat → Int32, zx_E ei em' et e (x.1, zp_rn f t x.2.1, x.2.2) → (∀ i y, i ≠ e → zx_E ei em et i y → zx_E ei em' et i y) → wX_foldEntries_33 post (wX_foldEntries_5 post (nI f) (nI t) n) (nI f) (nI t) (nI pre.length) (nI e) f_maxLines f_maxSide f_maxPatches f_rowSize f_count f_nextName f_draftOpen f_draftPlace f_draftTake f_numberCount f_savedRowSize f_savedCount ei em' et a_order a_rank a_nameOf a_numbers a_savedId a_savedMaker a_savedTaker a_savedOrder a_needed := by
        intro em' hE hu
        rw [zp_drop hx] at h4
        refine zx_fe33 (x := x) (m := zp_rn f t x.2.1) (by omega) h3.1 hE br b2 hf ht (fun et' hE' hu' c2 => ?_) (fun et' hE' hu' c2 => ?_)
        · rw [List.filterMap_cons_none (by simp [zp_fG, c2])] at h4
          exact ih (e + 1) pre ei em' et' (by omega) (by omega) (zx_C_n h3 (fun i y hi h => hu' i y hi (hu i y hi h))) h4
        · rw [List.filterMap_cons_some (b := (x.1, zp_rn f t x.2.1, zp_rn f t x.2.2)) (by simp [zp_fG, c2])] at h4
          have := ih (e + 1) (pre ++ [(x.1, zp_rn f t x.2.1, zp_rn f t x.2.2)]) _ _ _ (by omega) (by omega) (zx_C_s h3 (fun i y hi h => hu' i y hi (hu i y hi h)) hE') (by rw [← h4]; simp)
          rw [List.length_append] at this
          exact this
      rw [e1]
      refine ⟨v1, pk_eq x.2.1 f (fun c2 => ⟨v1, nm_e (key _ ?_ ?_)⟩) (fun c2 => key em ?_ (fun i y _ h => h)) E.2.1⟩
      · exact ⟨E.1, by rw [pk_us]; simp [zp_rn, c2], E.2.2⟩
      · intro i y hi h
        exact ⟨h.1, by rw [pk_un hi]; exact h.2.1, h.2.2⟩
      · rw [show zp_rn f t x.2.1 = x.2.1 from by simp [zp_rn, c2]]; exact E
theorem zx_fe {post : SX → Prop} {f t : Nat} (h : zx_Q l o f_rowSize f_count a_entryId a_entryMaker a_entryTaker a_order a_rank) (hf : f ≤ 10) (ht : t ≤ 10) (hp : ∀ ei em et, (∀ i x, (l.filterMap (zp_fG f t))[i]? = some x → zx_E ei em et i x) → post (f_maxLines, f_maxSide, f_maxPatches, (nI (l.filterMap (zp_fG f t)).length), f_count, f_nextName, f_draftOpen, f_draftPlace, f_draftTake, f_numberCount, f_savedRowSize, f_savedCount, ei, em, et, a_order, a_rank, a_nameOf, a_numbers, a_savedId, a_savedMaker, a_savedTaker, a_savedOrder, a_needed)) : wpX_foldEntries post (f_maxLines, f_maxSide, f_maxPatches, f_rowSize, f_count, f_nextName, f_draftOpen, f_draftPlace, f_draftTake, f_numberCount, f_savedRowSize, f_savedCount, a_entryId, a_entryMaker, a_entryTaker, a_order, a_rank, a_nameOf, a_numbers, a_savedId, a_savedMaker, a_savedTaker, a_savedOrder, a_needed) (nI f) (nI t) :=
  ⟨_, zx_fe5 h.1 hf ht h.2.1 hp (l.length + 1) 0 [] a_entryId a_entryMaker a_entryTaker (by omega) (by omega) ⟨by simp, fun i x hx => by simp at hx, fun i x _ hx => zx_Q_E h hx⟩ (by simp)⟩
end
end
section
/-! the component: taking, inserting, loading, pushing, marking, collecting -/
def zp_tk (l : List zp_En) (s : Nat) : List Int32 := (l.filter (fun x => x.2.2 == s)).map (fun x => x.1)
theorem zp_tk_len {l : List zp_En} {s : Nat} : (zp_tk l s).length = l.countP (fun x => x.2.2 == s) := by
  unfold zp_tk; rw [List.length_map, List.countP_eq_length_filter]
theorem zp_tk_t {l : List zp_En} {s e : Nat} {x : zp_En} (h : l[e]? = some x) (hx : x.2.2 = s) : zp_tk (l.take (e + 1)) s = zp_tk (l.take e) s ++ [x.1] := by
  unfold zp_tk; rw [List.take_add_one, h, List.filter_append, List.map_append]; simp [hx]
theorem zp_tk_f {l : List zp_En} {s e : Nat} {x : zp_En} (h : l[e]? = some x) (hx : ¬ x.2.2 = s) : zp_tk (l.take (e + 1)) s = zp_tk (l.take e) s := by
  unfold zp_tk; rw [List.take_add_one, h, List.filter_append, List.map_append]; simp [hx]
theorem zp_LA_sn {a : Nat → Int32} {l : List Int32} {v : Int32} (h : zp_LA a l (fun x => x)) : zp_LA (upd a l.length v) (l ++ [v]) (fun x => x) := by
  intro i x hx
  rw [List.getElem?_append] at hx
  by_cases c : i < l.length
  · rw [if_pos c] at hx; rw [pk_un (by omega)]; exact h i x hx
  · rw [if_neg c] at hx
    have c2 := zp_lt hx
    simp only [List.length_cons, List.length_nil] at c2
    have c3 : i = l.length := by omega
    subst c3
    rw [Nat.sub_self] at hx
    rw [pk_us]; exact Option.some.inj hx
theorem zp_LA_so {a : Nat → Int32} {l : List Nat} {f : Nat → Int32} {v : Nat} (h : zp_LA a l f) : zp_LA (upd a l.length (f v)) (l ++ [v]) f := by
  intro i x hx
  rw [List.getElem?_append] at hx
  by_cases c : i < l.length
  · rw [if_pos c] at hx; rw [pk_un (by omega)]; exact h i x hx
  · rw [if_neg c] at hx
    have c2 := zp_lt hx
    simp only [List.length_cons, List.length_nil] at c2
    have c3 : i = l.length := by omega
    subst c3
    rw [Nat.sub_self] at hx
    have : v = x := Option.some.inj hx
    rw [pk_us, this]
theorem zp_eqM {a m : Nat} (ha : a < 2 ^ 30) (hm : m < 2 ^ 30) : nI a = nI m - 1 ↔ a + 1 = m := by
  constructor
  · intro h
    have h2 : nI (a + 1) = nI m := by rw [← nI_1, h, zp_m1a]
    exact (nI_eq (by omega) (by omega)).mp h2
  · intro h
    subst h
    rw [nI_pred]
def zp_new (ds : List Int32) (s : Nat) : List zp_En := ds.map (fun d => (d, s, 0))
/-- the row behind a push -/
def zp_push (l : List zp_En) (o : List Nat) (s pl tk : Nat) (ds : List Int32) : List zp_En :=
  zp_ins (zp_mk (zp_inT o (o.length - 1)) s pl (pl + tk) 0 l) (zp_new ds s) (zp_at (zp_inT o (o.length - 1)) l (pl + tk) l.length)
theorem zp_push_len {l : List zp_En} {o : List Nat} {s pl tk : Nat} {ds : List Int32} : (zp_push l o s pl tk ds).length = l.length + ds.length := by
  unfold zp_push
  rw [zp_ins_len]
  · rw [zp_mk_len]; simp [zp_new]
  · rw [zp_mk_len]; exact zp_at_le _
section
variable {f_maxLines f_maxSide f_maxPatches f_rowSize f_count f_nextName f_draftOpen f_draftPlace f_draftTake f_numberCount f_savedRowSize f_savedCount : Int32} {a_entryId a_entryMaker a_entryTaker a_order a_rank a_nameOf a_numbers a_savedId a_savedMaker a_savedTaker a_savedOrder a_needed : Nat → Int32} {l : List zp_En} {o : List Nat}
theorem zx_tk6 {post : SX → Prop} {s a b : Nat} (h : zx_Q l o f_rowSize f_count a_entryId a_entryMaker a_entryTaker a_order a_rank) (ha : a < 1000) (hb : b < 1000) (hp : ∀ et, zp_LA et (zp_mk (zp_inT o (o.length - 1)) s a b 0 l) (fun x => nI x.2.2) → post (f_maxLines, f_maxSide, f_maxPatches, f_rowSize, f_count, f_nextName, f_draftOpen, f_draftPlace, f_draftTake, f_numberCount, f_savedRowSize, f_savedCount, a_entryId, a_entryMaker, et, a_order, a_rank, a_nameOf, a_numbers, a_savedId, a_savedMaker, a_savedTaker, a_savedOrder, a_needed)) : ∀ n e et, e ≤ l.length → l.length - e < n → (∀ i x, l[i]? = some x → et i = if i < e ∧ zp_mC (zp_inT o (o.length - 1)) l a b i x = true then nI s else nI x.2.2) → wX_takeLines_6 post (nI s) (nI a) (nI b) f_maxLines f_maxSide f_maxPatches f_rowSize f_count f_nextName f_draftOpen f_draftPlace f_draftTake f_numberCount f_savedRowSize f_savedCount n (nI (zp_cP (zp_inT o (o.length - 1)) l e)) (nI e) a_entryId a_entryMaker et a_order a_rank a_nameOf a_numbers a_savedId a_savedMaker a_savedTaker a_savedOrder a_needed := by
  have h80 := h.1.1
  have h11 := h.1.2.1
  intro n
  induction n with
  | zero => intro e et h1 h2; omega
  | succ n ih =>
    intro e et h1 h2 h3
    refine pk_le l.length e (fun c => ?_) (fun c => ?_) h.2.1
    · refine hp et (zp_mk_LA (g := nI) (fun i y hy => ?_))
      rw [show l.length = e from by omega]; exact h3 i y hy
    · obtain ⟨x, hx⟩ := zp_ex c
      have m1 := h.1.2.2.2.2.2 x (zp_mem hx)
      have i1 := zp_idxm m1.1
      have i2 := zp_idxm m1.2
      have l1 := zp_lt i1
      have l2 := zp_lt i2
      have hT : et e = nI x.2.2 := by rw [h3 e x hx, if_neg (by omega)]
      have hcl := zp_cP_le (p := zp_inT o (o.length - 1)) (l := l) (e := e)
      have hR := h.2.2.2.2.2.2.2
      rw [h.2.2.1]
      rw [h.2.2.1] at ih
      refine zx_in (m := x.2.1) (t := x.2.2) (by omega) (h.2.2.2.2.1 e x hx) hT (h.1.2.2.2.2.1 _ m1.1) (h.1.2.2.2.2.1 _ m1.2) (hR.1 _ _ i1) (hR.1 _ _ i2) (by omega) (by omega) (by omega) (zp_idx0 h.1 m1.2) ?_
      rw [← zp_ie (zp_inT_iff (x := x))]
      refine zp_ic (fun z => ?_) (fun z => ?_)
      · have same : ¬ zp_mC (zp_inT o (o.length - 1)) l a b e x = true → wX_takeLines_6 post (nI s) (nI a) (nI b) f_maxLines f_maxSide f_maxPatches f_rowSize (nI (o.length - 1)) f_nextName f_draftOpen f_draftPlace f_draftTake f_numberCount f_savedRowSize f_savedCount n (nI (zp_cP (zp_inT o (o.length - 1)) l (e + 1))) (nI (e + 1)) a_entryId a_entryMaker et a_order a_rank a_nameOf a_numbers a_savedId a_savedMaker a_savedTaker a_savedOrder a_needed := fun hn =>
          ih (e + 1) et (by omega) (by omega) (zp_tki (C := zp_mC (zp_inT o (o.length - 1)) l a b) h3 hx (fun i _ => rfl) (by rw [if_neg hn]; exact hT))
        have ee : nI (zp_cP (zp_inT o (o.length - 1)) l e) + 1 = nI (zp_cP (zp_inT o (o.length - 1)) l (e + 1)) := by rw [nI_1, zp_cP_t hx z]
        refine pk_lt (zp_cP (zp_inT o (o.length - 1)) l e) a (fun c1 => nm_r ee (nm_r (nI_1 e) (same ?_))) (fun c1 => pk_le b (zp_cP (zp_inT o (o.length - 1)) l e) (fun c2 => nm_r ee (nm_r (nI_1 e) (same ?_))) (fun c2 => ⟨vp_in_nI (by omega) (by omega), nm_e (nm_r ee (nm_r (nI_1 e) ?_))⟩))
        · rw [zp_mC_iff]; intro q; omega
        · rw [zp_mC_iff]; intro q; omega
        · rw [nI_clamp (by omega)]
          refine ih (e + 1) _ (by omega) (by omega) (zp_tki (C := zp_mC (zp_inT o (o.length - 1)) l a b) h3 hx (fun i hi => pk_un hi) ?_)
          rw [pk_us, if_pos (zp_mC_iff.mpr ⟨z, c1, c2⟩)]
      · refine nm_r (nI_1 e) ?_
        rw [← zp_cP_f hx z]
        exact ih (e + 1) et (by omega) (by omega) (zp_tki (C := zp_mC (zp_inT o (o.length - 1)) l a b) h3 hx (fun i _ => rfl) (by rw [if_neg (fun q => z (zp_mC_iff.mp q).1)]; exact hT))
theorem zx_tkl {post : SX → Prop} {s a b : Nat} {y : Int32} (h : zx_Q l o f_rowSize f_count a_entryId a_entryMaker a_entryTaker a_order a_rank) (hy : y = nI a) (ha : a < 1000) (hb : b < 1000) (hp : ∀ et, zp_LA et (zp_mk (zp_inT o (o.length - 1)) s a b 0 l) (fun x => nI x.2.2) → post (f_maxLines, f_maxSide, f_maxPatches, f_rowSize, f_count, f_nextName, f_draftOpen, f_draftPlace, f_draftTake, f_numberCount, f_savedRowSize, f_savedCount, a_entryId, a_entryMaker, et, a_order, a_rank, a_nameOf, a_numbers, a_savedId, a_savedMaker, a_savedTaker, a_savedOrder, a_needed)) : wpX_takeLines post (f_maxLines, f_maxSide, f_maxPatches, f_rowSize, f_count, f_nextName, f_draftOpen, f_draftPlace, f_draftTake, f_numberCount, f_savedRowSize, f_savedCount, a_entryId, a_entryMaker, a_entryTaker, a_order, a_rank, a_nameOf, a_numbers, a_savedId, a_savedMaker, a_savedTaker, a_savedOrder, a_needed) (nI s) y (nI b) := by
  subst hy
  exact ⟨_, zx_tk6 h ha hb hp (l.length + 1) 0 a_entryTaker (by omega) (by omega) (fun i x hx => by rw [if_neg (by omega)]; exact h.2.2.2.2.2.1 i x hx)⟩
theorem zx_in31 {post : SX → Prop} {s q c : Nat} (hc : f_numberCount = nI c) (hc6 : c ≤ 6) (hq : q + c ≤ 80) (hp : post (f_maxLines, f_maxSide, f_maxPatches, (f_rowSize + f_numberCount), f_count, f_nextName, f_draftOpen, f_draftPlace, f_draftTake, f_numberCount, f_savedRowSize, f_savedCount, (zp_fl a_entryId q c a_numbers), (zp_fl a_entryMaker q c (fun _ => nI s)), (zp_fl a_entryTaker q c (fun _ => 0)), a_order, a_rank, a_nameOf, a_numbers, a_savedId, a_savedMaker, a_savedTaker, a_savedOrder, a_needed)) : ∀ n i, i ≤ c → c - i < n → wX_insertNumbers_31 post (nI s) (nI q) n (nI i) f_maxLines f_maxSide f_maxPatches f_rowSize f_count f_nextName f_draftOpen f_draftPlace f_draftTake f_numberCount f_savedRowSize f_savedCount (zp_fl a_entryId q i a_numbers) (zp_fl a_entryMaker q i (fun _ => nI s)) (zp_fl a_entryTaker q i (fun _ => 0)) a_order a_rank a_nameOf a_numbers a_savedId a_savedMaker a_savedTaker a_savedOrder a_needed := by
  intro n
  induction n with
  | zero => intro i h1 h2; omega
  | succ n ih =>
    intro i h1 h2
    refine pk_le c i (fun z => ?_) (fun z => ⟨vp_in_nI (by omega) (by omega), ?_⟩) hc
    · rw [show i = c from by omega]; exact nm_e hp
    · rw [nI_clamp (by omega)]
      refine zx_se (e := q + i) (by omega) (nI_add q i) ?_
      rw [zp_fl_s (v := a_numbers), zp_fl_s (v := fun _ => nI s), zp_fl_s (v := fun _ => 0)]
      exact nm_r (nI_1 i) (ih (i + 1) (by omega) (by omega))
theorem zx_in7 {post : SX → Prop} {s q c L : Nat} (hc : f_numberCount = nI c) (hc6 : c ≤ 6) (hL : L + c ≤ 80) (hqL : q ≤ L) (hp : post (f_maxLines, f_maxSide, f_maxPatches, (f_rowSize + f_numberCount), f_count, f_nextName, f_draftOpen, f_draftPlace, f_draftTake, f_numberCount, f_savedRowSize, f_savedCount, (zp_fl (zp_sh a_entryId q L c) q c a_numbers), (zp_fl (zp_sh a_entryMaker q L c) q c (fun _ => nI s)), (zp_fl (zp_sh a_entryTaker q L c) q c (fun _ => 0)), a_order, a_rank, a_nameOf, a_numbers, a_savedId, a_savedMaker, a_savedTaker, a_savedOrder, a_needed)) : ∀ n m, q ≤ m → m ≤ L → m - q < n → wX_insertNumbers_7 post (nI s) (nI q) n (nI m - 1) f_maxLines f_maxSide f_maxPatches f_rowSize f_count f_nextName f_draftOpen f_draftPlace f_draftTake f_numberCount f_savedRowSize f_savedCount (zp_sh a_entryId m L c) (zp_sh a_entryMaker m L c) (zp_sh a_entryTaker m L c) a_order a_rank a_nameOf a_numbers a_savedId a_savedMaker a_savedTaker a_savedOrder a_needed := by
  intro n
  induction n with
  | zero => intro m h1 h2; omega
  | succ n ih =>
    intro m h1 h2 h3
    refine zp_ltM q m (by omega) (by omega) (fun z => ?_) (fun z => ?_)
    · rw [show m = q from by omega]
      have := zx_in31 hc hc6 (by omega) hp (c + 1) 0 (by omega) (by omega)
      rw [zp_fl_0, zp_fl_0, zp_fl_0] at this
      exact ⟨_, this⟩
    · obtain ⟨m, rfl⟩ : ∃ k, m = k + 1 := ⟨m - 1, by omega⟩
      rw [nI_pred]
      refine zx_cp (e := m) (d := m + c) (by omega) (by omega) (by rw [hc, nI_add]) ?_
      rw [zp_sh_s (by omega), zp_sh_s (by omega), zp_sh_s (by omega)]
      exact nm_r (zp_m1 m) (ih m (by omega) (by omega) (by omega))
theorem zp_new_v {ds : List Int32} {s : Nat} {i : Nat} {x : zp_En} (h : (zp_new ds s)[i]? = some x) : ds[i]? = some x.1 ∧ x.2.1 = s ∧ x.2.2 = 0 := by
  unfold zp_new at h
  rw [List.getElem?_map] at h
  cases hd : ds[i]? with
  | none => rw [hd] at h; cases h
  | some d =>
    rw [hd] at h
    have := Option.some.inj h
    rw [← this]; exact ⟨rfl, rfl, rfl⟩
theorem zx_inN {post : SX → Prop} {s q : Nat} {y : Int32} {ds : List Int32} (hI : zp_LA a_entryId l (fun x => x.1)) (hM : zp_LA a_entryMaker l (fun x => nI x.2.1)) (hT : zp_LA a_entryTaker l (fun x => nI x.2.2)) (hr : f_rowSize = nI l.length) (hc : f_numberCount = nI ds.length) (hN : zp_LA a_numbers ds (fun x => x)) (hc6 : ds.length ≤ 6) (hL : l.length + ds.length ≤ 80) (hq : q ≤ l.length) (hy : y = nI q) (hp : ∀ ei em et, zp_LA ei (zp_ins l (zp_new ds s) q) (fun x => x.1) → zp_LA em (zp_ins l (zp_new ds s) q) (fun x => nI x.2.1) → zp_LA et (zp_ins l (zp_new ds s) q) (fun x => nI x.2.2) → post (f_maxLines, f_maxSide, f_maxPatches, (nI (l.length + ds.length)), f_count, f_nextName, f_draftOpen, f_draftPlace, f_draftTake, f_numberCount, f_savedRowSize, f_savedCount, ei, em, et, a_order, a_rank, a_nameOf, a_numbers, a_savedId, a_savedMaker, a_savedTaker, a_savedOrder, a_needed)) : wpX_insertNumbers post (f_maxLines, f_maxSide, f_maxPatches, f_rowSize, f_count, f_nextName, f_draftOpen, f_draftPlace, f_draftTake, f_numberCount, f_savedRowSize, f_savedCount, a_entryId, a_entryMaker, a_entryTaker, a_order, a_rank, a_nameOf, a_numbers, a_savedId, a_savedMaker, a_savedTaker, a_savedOrder, a_needed) (nI s) y := by
  subst hy
  have hl : (zp_new ds s).length = ds.length := by simp [zp_new]
  have g1 := zp_ins_LA (v := a_numbers) hI hq hl (fun i x hx => hN i _ (zp_new_v hx).1)
  have g2 := zp_ins_LA (v := fun _ => nI s) hM hq hl (fun i x hx => by rw [(zp_new_v hx).2.1])
  have g3 := zp_ins_LA (v := fun _ => 0) hT hq hl (fun i x hx => by rw [(zp_new_v hx).2.2]; rfl)
  have P := hp _ _ _ g1 g2 g3
  have er : f_rowSize + f_numberCount = nI (l.length + ds.length) := by rw [hr, hc, nI_add]
  rw [← er] at P
  have := zx_in7 hc hc6 hL hq P (l.length + 1) l.length hq (Nat.le_refl _) (by omega)
  rw [zp_sh_0, zp_sh_0, zp_sh_0] at this
  exact nm_r (e' := nI l.length - 1) (by rw [hr]) ⟨_, this⟩
theorem zx_lt7 {post : SX → Prop} {s : Nat} (h : zx_Q l o f_rowSize f_count a_entryId a_entryMaker a_entryTaker a_order a_rank) (hs : s ≤ 10) (h6 : l.countP (fun x => x.2.2 == s) ≤ 6) (hp : ∀ an, zp_LA an (zp_tk l s) (fun x => x) → post (f_maxLines, f_maxSide, f_maxPatches, f_rowSize, f_count, f_nextName, f_draftOpen, f_draftPlace, f_draftTake, (nI (zp_tk l s).length), f_savedRowSize, f_savedCount, a_entryId, a_entryMaker, a_entryTaker, a_order, a_rank, a_nameOf, an, a_savedId, a_savedMaker, a_savedTaker, a_savedOrder, a_needed)) : ∀ n e an, e ≤ l.length → l.length - e < n → zp_LA an (zp_tk (l.take e) s) (fun x => x) → wX_loadTaken_7 post (nI s) f_maxLines f_maxSide f_maxPatches f_rowSize f_count f_nextName f_draftOpen f_draftPlace f_draftTake f_savedRowSize f_savedCount n (nI e) (nI (zp_tk (l.take e) s).length) a_entryId a_entryMaker a_entryTaker a_order a_rank a_nameOf an a_savedId a_savedMaker a_savedTaker a_savedOrder a_needed := by
  have h80 := h.1.1
  intro n
  induction n with
  | zero => intro e an h1 h2; omega
  | succ n ih =>
    intro e an h1 h2 h3
    refine pk_le l.length e (fun c => ?_) (fun c => ?_) h.2.1
    · rw [List.take_of_length_le c] at h3 ⊢
      exact hp an h3
    · obtain ⟨x, hx⟩ := zp_ex c
      have l5 := h.1.2.2.2.2.1 _ (h.1.2.2.2.2.2 x (zp_mem hx)).2
      have v1 := vp_in_nI (n := e) (N := 80) (by omega) (by omega)
      have e0 : (nI e).toNatClampNeg = e := nI_clamp (by omega)
      have e1 : a_entryTaker (nI e).toNatClampNeg = nI x.2.2 := by rw [e0]; exact h.2.2.2.2.2.1 e x hx
      refine ⟨v1, pk_eq x.2.2 s (fun z => ?_) (fun z => ?_) e1⟩
      · have hlt : (zp_tk (l.take e) s).length + 1 ≤ 6 := by
          have a1 : zp_cP (fun x => x.2.2 == s) l (e + 1) = zp_cP (fun x => x.2.2 == s) l e + 1 := zp_cP_t hx (by simp [z])
          have a2 := zp_cP_mono (p := fun x => x.2.2 == s) (l := l) (a := e + 1) (b := l.length) (by omega)
          rw [zp_cP_all (Nat.le_refl _)] at a2
          rw [zp_tk_len]
          have a3 : zp_cP (fun x => x.2.2 == s) l e = (l.take e).countP (fun x => x.2.2 == s) := rfl
          omega
        refine br_f (nI_ge (b := 6) (by omega) (by decide)) ⟨v1, vp_in_nI (by omega) (by omega), ?_⟩
        rw [e0, nI_clamp (by omega), h.2.2.2.1 e x hx]
        have q := zp_tk_t (s := s) hx z
        have h3' := zp_LA_sn (v := x.1) h3
        rw [← q] at h3'
        refine nm_e (nm_r (e' := nI (zp_tk (l.take (e + 1)) s).length) (by rw [nI_1, q]; simp) (nm_r (nI_1 e) ?_))
        exact ih (e + 1) _ (by omega) (by omega) h3'
      · refine nm_r (nI_1 e) ?_
        have q := zp_tk_f (s := s) hx z
        rw [← q] at h3 ⊢
        exact ih (e + 1) _ (by omega) (by omega) h3
theorem zx_ltk {post : SX → Prop} {s : Nat} (h : zx_Q l o f_rowSize f_count a_entryId a_entryMaker a_entryTaker a_order a_rank) (hs : s ≤ 10) (h6 : l.countP (fun x => x.2.2 == s) ≤ 6) (hp : ∀ an, zp_LA an (zp_tk l s) (fun x => x) → post (f_maxLines, f_maxSide, f_maxPatches, f_rowSize, f_count, f_nextName, f_draftOpen, f_draftPlace, f_draftTake, (nI (zp_tk l s).length), f_savedRowSize, f_savedCount, a_entryId, a_entryMaker, a_entryTaker, a_order, a_rank, a_nameOf, an, a_savedId, a_savedMaker, a_savedTaker, a_savedOrder, a_needed)) : wpX_loadTaken post (f_maxLines, f_maxSide, f_maxPatches, f_rowSize, f_count, f_nextName, f_draftOpen, f_draftPlace, f_draftTake, f_numberCount, f_savedRowSize, f_savedCount, a_entryId, a_entryMaker, a_entryTaker, a_order, a_rank, a_nameOf, a_numbers, a_savedId, a_savedMaker, a_savedTaker, a_savedOrder, a_needed) (nI s) :=
  ⟨_, zx_lt7 h hs h6 hp (l.length + 1) 0 a_numbers (by omega) (by omega) (fun i x hx => by simp [zp_tk] at hx)⟩
theorem zx_push {post : SX → Prop} {pl tk nx : Nat} {ds : List Int32} (h : zx_Q l o f_rowSize f_count a_entryId a_entryMaker a_entryTaker a_order a_rank) (h10 : o.length ≤ 10) (hpl : f_draftPlace = nI pl) (htk : f_draftTake = nI tk) (hc : f_numberCount = nI ds.length) (hN : zp_LA a_numbers ds (fun x => x)) (hnx : f_nextName = nI nx) (hc6 : ds.length ≤ 6) (hL : l.length + ds.length ≤ 80) (hb : pl + tk < 500)
  (hW : ∀ s, 1 ≤ s → s ≤ 10 → s ∉ o → zp_WF (zp_push l o s pl tk ds) (o ++ [s]))
  (hp : ∀ s, 1 ≤ s → s ≤ 10 → s ∉ o → ∀ rs ei em et od rk, zx_Q (zp_push l o s pl tk ds) (o ++ [s]) rs (nI o.length) ei em et od rk → post (f_maxLines, f_maxSide, f_maxPatches, rs, (nI o.length), (nI (nx + 1)), f_draftOpen, f_draftPlace, f_draftTake, f_numberCount, f_savedRowSize, f_savedCount, ei, em, et, od, rk, (upd a_nameOf s (nI nx)), a_numbers, a_savedId, a_savedMaker, a_savedTaker, a_savedOrder, a_needed)) : wpX_push post (f_maxLines, f_maxSide, f_maxPatches, f_rowSize, f_count, f_nextName, f_draftOpen, f_draftPlace, f_draftTake, f_numberCount, f_savedRowSize, f_savedCount, a_entryId, a_entryMaker, a_entryTaker, a_order, a_rank, a_nameOf, a_numbers, a_savedId, a_savedMaker, a_savedTaker, a_savedOrder, a_needed) := by
  have h80 := h.1.1
  have ho1 := zp_opos h.1
  refine zx_fs h h10 (fun s hs1 hs10 hso => ?_)
  refine nm_r (e' := nI (pl + tk)) (by rw [hpl, htk, nI_add]) ?_
  have cont : ∀ y : Int32, y = nI (zp_at (zp_inT o (o.length - 1)) l (pl + tk) l.length) → wpX_takeLines (fun u => match u with | (f_maxLines, f_maxSide, f_maxPatches, f_rowSize, f_count, f_nextName, f_draftOpen, f_draftPlace, f_draftTake, f_numberCount, f_savedRowSize, f_savedCount, a_entryId, a_entryMaker, a_entryTaker, a_order, a_rank, a_nameOf, a_numbers, a_savedId, a_savedMaker, a_savedTaker, a_savedOrder, a_needed) => (wpX_insertNumbers (fun u => match u with | (f_maxLines, f_maxSide, f_maxPatches, f_rowSize, f_count, f_nextName, f_draftOpen, f_draftPlace, f_draftTake, f_numberCount, f_savedRowSize, f_savedCount, a_entryId, a_entryMaker, a_entryTaker, a_order, a_rank, a_nameOf, a_numbers, a_savedId, a_savedMaker, a_savedTaker, a_savedOrder, a_needed) => (∀ f_count_102, f_count_102 = f_count + 1 → (vp_in f_count_102 11 ∧ ∀ a_order_104, a_order_104 = upd a_order f_count_102.toNatClampNeg (nI s) → (vp_in (nI s) 11 ∧ ∀ a_nameOf_106, a_nameOf_106 = upd a_nameOf (nI s).toNatClampNeg f_nextName → (∀ f_nextName_107, f_nextName_107 = f_nextName + 1 → (wpX_renumber (fun u => match u with | (f_maxLines, f_maxSide, f_maxPatches, f_rowSize, f_count, f_nextName, f_draftOpen, f_draftPlace, f_draftTake, f_numberCount, f_savedRowSize, f_savedCount, a_entryId, a_entryMaker, a_entryTaker, a_order, a_rank, a_nameOf, a_numbers, a_savedId, a_savedMaker, a_savedTaker, a_savedOrder, a_needed) => (post (f_maxLines, f_maxSide, f_maxPatches, f_rowSize, f_count, f_nextName, f_draftOpen, f_draftPlace, f_draftTake, f_numberCount, f_savedRowSize, f_savedCount, a_entryId, a_entryMaker, a_entryTaker, a_order, a_rank, a_nameOf, a_numbers, a_savedId, a_savedMaker, a_savedTaker, a_savedOrder, a_needed))) (f_maxLines, f_maxSide, f_maxPatches, f_rowSize, f_count_102, f_nextName_107, f_draftOpen, f_draftPlace, f_draftTake, f_numberCount, f_savedRowSize, f_savedCount, a_entryId, a_entryMaker, a_entryTaker, a_order_104, a_rank, a_nameOf_106, a_numbers, a_savedId, a_savedMaker, a_savedTaker, a_savedOrder, a_needed))))))) (f_maxLines, f_maxSide, f_maxPatches, f_rowSize, f_count, f_nextName, f_draftOpen, f_draftPlace, f_draftTake, f_numberCount, f_savedRowSize, f_savedCount, a_entryId, a_entryMaker, a_entryTaker, a_order, a_rank, a_nameOf, a_numbers, a_savedId, a_savedMaker, a_savedTaker, a_savedOrder, a_needed) (nI s) y)) (f_maxLines, f_maxSide, f_maxPatches, f_rowSize, f_count, f_nextName, f_draftOpen, f_draftPlace, f_draftTake, f_numberCount, f_savedRowSize, f_savedCount, a_entryId, a_entryMaker, a_entryTaker, a_order, a_rank, a_nameOf, a_numbers, a_savedId, a_savedMaker, a_savedTaker, a_savedOrder, a_needed) (nI s) f_draftPlace (nI (pl + tk)) := by
    intro y hy
    refine zx_tkl h hpl (by omega) (by omega) (fun et het => ?_)
    have hlen := zp_mk_len (p := zp_inT o (o.length - 1)) (s := s) (a := pl) (b := pl + tk) l 0
    refine zx_inN (l := zp_mk (zp_inT o (o.length - 1)) s pl (pl + tk) 0 l) (q := zp_at (zp_inT o (o.length - 1)) l (pl + tk) l.length) (zp_mk_LA1 (f := fun a _ => a) h.2.2.2.1) (zp_mk_LA1 (f := fun _ m => nI m) h.2.2.2.2.1) het (by rw [hlen]; exact h.2.1) hc hN hc6 (by rw [hlen]; exact hL) (by rw [hlen]; exact zp_at_le _) hy (fun ei em et' g1 g2 g3 => ?_)
    refine nm_r (e' := nI o.length) (by rw [h.2.2.1, nI_1, show o.length - 1 + 1 = o.length from by omega]) ⟨vp_in_nI (by omega) (by omega), ?_⟩
    rw [nI_clamp (by omega), nI_clamp (by omega), hnx]
    refine nm_e ⟨vp_in_nI (by omega) (by omega), nm_e (nm_r (nI_1 nx) ?_)⟩
    have hO := zp_LA_so (v := s) h.2.2.2.2.2.2.1
    have hw := hW s hs1 hs10 hso
    have hll : (o ++ [s]).length - 1 = o.length := by simp
    refine zx_rn (zp_WF_o hw) (by rw [hll]) hO (fun rk hR => ?_)
    refine hp s hs1 hs10 hso _ ei em et' _ rk ⟨hw, ?_, by rw [hll], g1, g2, g3, hO, hR⟩
    rw [zp_push_len, hlen]
  rw [h.2.2.1]
  have hq := h
  rw [h.2.2.1] at hq
  rw [h.2.2.1] at cont
  refine zx_ix hq (by omega) (fun e x hx hp1 he => ?_) (fun hn => ?_)
  · have l1 := zp_lt hx
    have l2 := zp_cP_le (p := zp_inT o (o.length - 1)) (l := l) (e := e)
    rw [zp_eqM (by omega) (by omega)] at he
    refine cont _ ?_
    rw [nI_1, zp_at_e hx hp1 he l.length l1 (Nat.le_refl _)]
  · refine cont _ ?_
    rw [zp_at_n]
    · rfl
    · intro e x hx hp1 he
      have l1 := zp_lt hx
      have l2 := zp_cP_le (p := zp_inT o (o.length - 1)) (l := l) (e := e)
      exact hn e x hx hp1 ((zp_eqM (by omega) (by omega)).mpr he)
    · exact Nat.le_refl _
end
end
section
/-! pure: erasing a position; the fold -/
theorem zp_er_mem {o : List Nat} {k : Nat} (hn : o.Nodup) (hk : k < o.length) {s : Nat} : s ∈ o.eraseIdx k ↔ s ∈ o ∧ s ≠ zp_sl o k := by
  have hp := zp_er_perm o k hk
  have hnd := hp.nodup_iff.mpr hn
  rw [List.nodup_cons] at hnd
  constructor
  · intro h
    exact ⟨hp.mem_iff.mp (List.mem_cons_of_mem _ h), fun z => hnd.1 (z ▸ h)⟩
  · intro ⟨h1, h2⟩
    rcases List.mem_cons.mp (hp.mem_iff.mpr h1) with z | z
    · exact absurd z h2
    · exact z
theorem zp_er_len {o : List Nat} {k : Nat} (hk : k < o.length) : (o.eraseIdx k).length = o.length - 1 := by rw [List.length_eraseIdx, if_pos hk]
theorem zp_er_sl {o : List Nat} {f t : Nat} (h : t < f) : zp_sl (o.eraseIdx f) t = zp_sl o t := by
  simp only [zp_sl, List.getD_eq_getElem?_getD]
  rw [List.getElem?_eraseIdx, if_pos h]
theorem zp_sl_m {o : List Nat} {k : Nat} (h : k < o.length) : zp_sl o k ∈ o := zp_mem (zp_sl_g h)
theorem zp_sl_ne {o : List Nat} {k j : Nat} (hn : o.Nodup) (hk : k < o.length) (hj : j < o.length) (h : j ≠ k) : zp_sl o j ≠ zp_sl o k := fun z => h (zp_uniq hn (zp_sl_g hj) (by rw [z]; exact zp_sl_g hk))
def zp_l1 (l : List zp_En) (o : List Nat) (f t : Nat) : List zp_En := l.filterMap (zp_fG (zp_sl o f) (zp_sl o t))
def zp_cm (l : List zp_En) (s : Nat) : Nat := l.countP (fun x => x.2.1 == s)
def zp_ct (l : List zp_En) (s : Nat) : Nat := l.countP (fun x => x.2.2 == s)
def zp_o2 (l : List zp_En) (o : List Nat) (f t : Nat) : List Nat := if zp_cm (zp_l1 l o f t) (zp_sl o t) + zp_ct (zp_l1 l o f t) (zp_sl o t) = 0 then (o.eraseIdx f).eraseIdx t else o.eraseIdx f
def zp_Fu (ml ms : Nat) (l : List zp_En) (o : List Nat) (f t : Nat) : Prop := ms < zp_cm (zp_l1 l o f t) (zp_sl o t) ∨ ms < zp_ct (zp_l1 l o f t) (zp_sl o t) ∨ ¬ zp_Fits ml (zp_l1 l o f t) (zp_o2 l o f t)
noncomputable def zp_fa (ml ms : Nat) (l : List zp_En) (o : List Nat) (f t : Nat) : Int32 := @ite Int32 (zp_Fu ml ms l o f t) (Classical.propDecidable _) (-4) 0
noncomputable def zp_ft (l : List zp_En) (o : List Nat) (f : Nat) : Nat := zp_hr (zp_Rs l o f) f
theorem zp_fa_t {ml ms : Nat} {l : List zp_En} {o : List Nat} {f t : Nat} (h : zp_Fu ml ms l o f t) : zp_fa ml ms l o f t = -4 := by unfold zp_fa; rw [if_pos h]
theorem zp_fa_f {ml ms : Nat} {l : List zp_En} {o : List Nat} {f t : Nat} (h : ¬ zp_Fu ml ms l o f t) : zp_fa ml ms l o f t = 0 := by unfold zp_fa; rw [if_neg h]
theorem zp_fG_v {f t : Nat} {x y : zp_En} (h : zp_fG f t x = some y) : y = (x.1, zp_rn f t x.2.1, zp_rn f t x.2.2) ∧ ¬ (zp_rn f t x.2.1 = t ∧ zp_rn f t x.2.2 = t) := by
  unfold zp_fG at h
  split at h
  · cases h
  · exact ⟨(Option.some.inj h).symm, by assumption⟩
theorem zp_l1_m {l : List zp_En} {o : List Nat} {f t : Nat} {y : zp_En} (h : y ∈ zp_l1 l o f t) : ∃ x, x ∈ l ∧ y = (x.1, zp_rn (zp_sl o f) (zp_sl o t) x.2.1, zp_rn (zp_sl o f) (zp_sl o t) x.2.2) ∧ ¬ (zp_rn (zp_sl o f) (zp_sl o t) x.2.1 = zp_sl o t ∧ zp_rn (zp_sl o f) (zp_sl o t) x.2.2 = zp_sl o t) := by
  obtain ⟨x, hx, hy⟩ := List.mem_filterMap.mp h
  exact ⟨x, hx, zp_fG_v hy⟩
theorem zp_rn_m {o : List Nat} {f t m : Nat} (hn : o.Nodup) (hf : f < o.length) (ht : t < f) (hm : m ∈ o) : zp_rn (zp_sl o f) (zp_sl o t) m ∈ o.eraseIdx f := by
  rw [zp_er_mem hn hf]
  unfold zp_rn
  split
  · exact ⟨zp_sl_m (by omega), zp_sl_ne hn hf (by omega) (by omega)⟩
  · exact ⟨hm, by assumption⟩
theorem zp_WF_l1 {l : List zp_En} {o : List Nat} {f t : Nat} (h : zp_WF l o) (hf : f < o.length) (ht : t < f) : zp_WF (zp_l1 l o f t) (o.eraseIdx f) := by
  obtain ⟨h1, h2, h3, h4⟩ := zp_WO_er (zp_WF_o h) (k := f) (by omega)
  refine ⟨Nat.le_trans (List.length_filterMap_le _ _) h.1, h1, h2, h3, h4, fun y hy => ?_⟩
  obtain ⟨x, hx, rfl, _⟩ := zp_l1_m hy
  have m1 := h.2.2.2.2.2 x hx
  exact ⟨zp_rn_m h.2.2.1 hf ht m1.1, zp_rn_m h.2.2.1 hf ht m1.2⟩
theorem zp_cnt0 {l : List zp_En} {p : zp_En → Bool} (h : l.countP p = 0) {x : zp_En} (hx : x ∈ l) : ¬ p x = true := List.countP_eq_zero.mp h x hx
theorem zp_WF_o2 {l : List zp_En} {o : List Nat} {f t : Nat} (h : zp_WF l o) (hf : f < o.length) (ht1 : 1 ≤ t) (ht : t < f) : zp_WF (zp_l1 l o f t) (zp_o2 l o f t) := by
  have hw := zp_WF_l1 h hf ht
  unfold zp_o2
  split
  · rename_i hc
    obtain ⟨h1, h2, h3, h4⟩ := zp_WO_er (zp_WF_o hw) (k := t) ht1
    refine ⟨hw.1, h1, h2, h3, h4, fun y hy => ?_⟩
    have m1 := hw.2.2.2.2.2 y hy
    have hl : t < (o.eraseIdx f).length := by rw [zp_er_len hf]; omega
    rw [zp_er_mem hw.2.2.1 hl, zp_er_mem hw.2.2.1 hl, zp_er_sl ht]
    have c1 : zp_cm (zp_l1 l o f t) (zp_sl o t) = 0 := by omega
    have c2 : zp_ct (zp_l1 l o f t) (zp_sl o t) = 0 := by omega
    exact ⟨⟨m1.1, fun z => zp_cnt0 c1 hy (by simp [z])⟩, ⟨m1.2, fun z => zp_cnt0 c2 hy (by simp [z])⟩⟩
  · exact hw
theorem zp_hr_eq {R : Nat → Prop} {f j : Nat} (h1 : 1 ≤ j) (hj : j < f) (hR : R j) (hn : ∀ i, j < i → i < f → ¬ R i) : zp_hr R f = j := by
  have b := zp_hr_b (R := R) f
  rcases zp_hr_a (R := R) f with z | ⟨z1, z2⟩
  · exact absurd hR (b j (by omega) hj)
  · rcases Nat.lt_trichotomy (zp_hr R f) j with c | c | c
    · exact absurd hR (b j c hj)
    · exact c
    · exact absurd z2 (hn _ c z1)
theorem zp_hr_z {R : Nat → Prop} {f : Nat} (hn : ∀ i, 1 ≤ i → i < f → ¬ R i) : zp_hr R f = 0 := by
  rcases zp_hr_a (R := R) f with z | ⟨z1, z2⟩
  · exact z
  · by_cases c : zp_hr R f = 0
    · exact c
    · exact absurd z2 (hn _ (by omega) z1)
section
variable {f_maxLines f_maxSide f_maxPatches f_rowSize f_count f_nextName f_draftOpen f_draftPlace f_draftTake f_numberCount f_savedRowSize f_savedCount : Int32} {a_entryId a_entryMaker a_entryTaker a_order a_rank a_nameOf a_numbers a_savedId a_savedMaker a_savedTaker a_savedOrder a_needed : Nat → Int32} {l : List zp_En} {o : List Nat}
theorem zx_mn46 {post : SX → Prop} {J : Int32 → (Nat → Int32) → (Nat → Int32) → (Nat → Int32) → (Nat → Int32) → (Nat → Int32) → (Nat → Int32) → (Nat → Int32) → (Nat → Int32) → (Nat → Int32) → (Nat → Int32) → (Nat → Int32) → (Nat → Int32) → Prop} {k j : Nat} (h : zx_Q l o f_rowSize f_count a_entryId a_entryMaker a_entryTaker a_order a_rank) (hj1 : 1 ≤ j) (hjk : j < k) (hk : k < o.length) (hJ : ∀ an, (∀ i, i ≤ 10 → an i = zp_i (j - 1 < i ∧ zp_Nd (zp_Rs l o) k i)) → J (nI (j - 1)) a_entryId a_entryMaker a_entryTaker a_order a_rank a_nameOf a_numbers a_savedId a_savedMaker a_savedTaker a_savedOrder an) : ∀ n i an, j < i → i ≤ k + 1 → k + 1 - i < n → (∀ q, q ≤ 10 → q ≠ j → an q = zp_i (j < q ∧ zp_Nd (zp_Rs l o) k q)) → an j = zp_i (∃ a, j < a ∧ a < i ∧ zp_Nd (zp_Rs l o) k a ∧ zp_Rs l o a j) → wX_markNeeded_46 post J (nI k) (nI j) f_maxLines f_maxSide f_maxPatches f_rowSize f_count f_nextName f_draftOpen f_draftPlace f_draftTake f_numberCount f_savedRowSize f_savedCount n (nI i) a_entryId a_entryMaker a_entryTaker a_order a_rank a_nameOf a_numbers a_savedId a_savedMaker a_savedTaker a_savedOrder an := by
  have h11 := h.1.2.1
  intro n
  induction n with
  | zero => intro i an h1 h2; omega
  | succ n ih =>
    intro i an h1 h2 h3 h4 h5
    refine pk_lt k i (fun c => nm_r (e' := nI (j - 1)) ?_ (hJ an ?_)) (fun c => ⟨vp_in_nI (by omega) (by omega), ?_⟩)
    · rw [zp_m1]; exact pk_sub (b := 1) (by omega)
    · intro q hq
      by_cases b : q = j
      · subst b
        rw [h5]
        refine zp_ie ⟨fun ⟨a, a1, a2, a3, a4⟩ => ⟨by omega, zp_Nd_s a3 hj1 a1 (by omega) a4⟩, fun ⟨_, z⟩ => ?_⟩
        rcases zp_Nd_v z with z | ⟨_, a, a1, a2, a3, a4⟩
        · omega
        · exact ⟨a, a1, by omega, a3, a4⟩
      · rw [h4 q hq b]
        exact zp_ie ⟨fun z => ⟨by omega, z.2⟩, fun z => ⟨by omega, z.2⟩⟩
    · rw [nI_clamp (by omega), h4 i (by omega) (by omega)]
      have skip : ¬ (zp_Nd (zp_Rs l o) k i ∧ zp_Rs l o i j) → wX_markNeeded_46 post J (nI k) (nI j) f_maxLines f_maxSide f_maxPatches f_rowSize f_count f_nextName f_draftOpen f_draftPlace f_draftTake f_numberCount f_savedRowSize f_savedCount n (nI (i + 1)) a_entryId a_entryMaker a_entryTaker a_order a_rank a_nameOf a_numbers a_savedId a_savedMaker a_savedTaker a_savedOrder an := by
        intro z
        refine ih (i + 1) an (by omega) (by omega) (by omega) h4 ?_
        rw [h5]
        refine zp_ie ⟨fun ⟨a, a1, a2, a3, a4⟩ => ⟨a, a1, by omega, a3, a4⟩, fun ⟨a, a1, a2, a3, a4⟩ => ⟨a, a1, ?_, a3, a4⟩⟩
        by_cases b : a = i
        · subst b; exact absurd ⟨a3, a4⟩ z
        · omega
      refine zp_ic (fun z => zx_rests h h1 (by omega) (zp_ic (fun y => ?_) (fun y => ?_))) (fun z => nm_r (nI_1 i) (skip (fun q => z ⟨h1, q.1⟩)))
      · refine ⟨vp_in_nI (by omega) (by omega), nm_e (nm_r (nI_1 i) ?_)⟩
        rw [nI_clamp (by omega), zp_n1]
        refine ih (i + 1) _ (by omega) (by omega) (by omega) (fun q hq hqj => ?_) ?_
        · rw [pk_un hqj]; exact h4 q hq hqj
        · rw [pk_us, zp_it]
          exact ⟨i, h1, by omega, z.2, y⟩
      · exact nm_r (nI_1 i) (skip (fun q => y q.2))
theorem zx_mn37 {post : SX → Prop} {k : Nat} (h : zx_Q l o f_rowSize f_count a_entryId a_entryMaker a_entryTaker a_order a_rank) (hk : k < o.length) (hp : ∀ an, (∀ i, i ≤ 10 → an i = zp_i (0 < i ∧ zp_Nd (zp_Rs l o) k i)) → post (f_maxLines, f_maxSide, f_maxPatches, f_rowSize, f_count, f_nextName, f_draftOpen, f_draftPlace, f_draftTake, f_numberCount, f_savedRowSize, f_savedCount, a_entryId, a_entryMaker, a_entryTaker, a_order, a_rank, a_nameOf, a_numbers, a_savedId, a_savedMaker, a_savedTaker, a_savedOrder, an)) : ∀ n j an, j < n → j < k → (∀ i, i ≤ 10 → an i = zp_i (j < i ∧ zp_Nd (zp_Rs l o) k i)) → wX_markNeeded_37 post (nI k) f_maxLines f_maxSide f_maxPatches f_rowSize f_count f_nextName f_draftOpen f_draftPlace f_draftTake f_numberCount f_savedRowSize f_savedCount n (nI j) a_entryId a_entryMaker a_entryTaker a_order a_rank a_nameOf a_numbers a_savedId a_savedMaker a_savedTaker a_savedOrder an := by
  have h11 := h.1.2.1
  intro n
  induction n with
  | zero => intro j an h1 h2; omega
  | succ n ih =>
    intro j an h1 h2 h3
    refine pk_lt j 1 (fun c => hp an ?_) (fun c => nm_r (nI_1 j) ⟨_, zx_mn46 h c h2 hk (fun an' h' => ih (j - 1) an' (by omega) (by omega) h') (k + 1) (j + 1) an (by omega) (by omega) (by omega) (fun q hq _ => h3 q hq) ?_⟩)
    · rw [show j = 0 from by omega] at h3; exact h3
    · rw [h3 j (by omega), zp_if (by omega), zp_if (fun ⟨a, a1, a2, _, _⟩ => by omega)]
theorem zx_mn2 {post : SX → Prop} {k : Nat} (h : zx_Q l o f_rowSize f_count a_entryId a_entryMaker a_entryTaker a_order a_rank) (hk1 : 1 ≤ k) (hk : k < o.length) (hp : ∀ an, (∀ i, i ≤ 10 → an i = zp_i (0 < i ∧ zp_Nd (zp_Rs l o) k i)) → post (f_maxLines, f_maxSide, f_maxPatches, f_rowSize, f_count, f_nextName, f_draftOpen, f_draftPlace, f_draftTake, f_numberCount, f_savedRowSize, f_savedCount, a_entryId, a_entryMaker, a_entryTaker, a_order, a_rank, a_nameOf, a_numbers, a_savedId, a_savedMaker, a_savedTaker, a_savedOrder, an)) : ∀ n i an, i ≤ 11 → 11 - i < n → (∀ q, q < i → an q = zp_i (q = k)) → wX_markNeeded_2 post (nI k) f_maxLines f_maxSide f_maxPatches f_rowSize f_count f_nextName f_draftOpen f_draftPlace f_draftTake f_numberCount f_savedRowSize f_savedCount n (nI i) a_entryId a_entryMaker a_entryTaker a_order a_rank a_nameOf a_numbers a_savedId a_savedMaker a_savedTaker a_savedOrder an := by
  have h11 := h.1.2.1
  intro n
  induction n with
  | zero => intro i an h1 h2; omega
  | succ n ih =>
    intro i an h1 h2 h3
    refine pk_le 11 i (fun c => nm_r (e' := nI (k - 1)) (pk_sub (b := 1) (by omega)) ⟨_, zx_mn37 h hk hp k (k - 1) an (by omega) (by omega) ?_⟩) (fun c => pk_eq i k (fun z => ⟨vp_in_nI (by omega) (by omega), nm_e (nm_r (nI_1 i) ?_)⟩) (fun z => ⟨vp_in_nI (by omega) (by omega), nm_e (nm_r (nI_1 i) ?_)⟩))
    · intro q hq
      rw [h3 q (by omega)]
      refine zp_ie ⟨fun z => ⟨by omega, by rw [z]; exact zp_Nd_k⟩, fun z => ?_⟩
      have := zp_Nd_le z.2
      omega
    · rw [nI_clamp (by omega), zp_n1]
      refine ih (i + 1) _ (by omega) (by omega) (fun q hq => ?_)
      by_cases b : q = i
      · rw [b, pk_us, zp_it z]
      · rw [pk_un b]; exact h3 q (by omega)
    · rw [nI_clamp (by omega), zp_n0]
      refine ih (i + 1) _ (by omega) (by omega) (fun q hq => ?_)
      by_cases b : q = i
      · rw [b, pk_us, zp_if z]
      · rw [pk_un b]; exact h3 q (by omega)
theorem zx_mn {post : SX → Prop} {k : Nat} (h : zx_Q l o f_rowSize f_count a_entryId a_entryMaker a_entryTaker a_order a_rank) (hk1 : 1 ≤ k) (hk : k < o.length) (hp : ∀ an, (∀ i, i ≤ 10 → an i = zp_i (0 < i ∧ zp_Nd (zp_Rs l o) k i)) → post (f_maxLines, f_maxSide, f_maxPatches, f_rowSize, f_count, f_nextName, f_draftOpen, f_draftPlace, f_draftTake, f_numberCount, f_savedRowSize, f_savedCount, a_entryId, a_entryMaker, a_entryTaker, a_order, a_rank, a_nameOf, a_numbers, a_savedId, a_savedMaker, a_savedTaker, a_savedOrder, an)) : wpX_markNeeded post (f_maxLines, f_maxSide, f_maxPatches, f_rowSize, f_count, f_nextName, f_draftOpen, f_draftPlace, f_draftTake, f_numberCount, f_savedRowSize, f_savedCount, a_entryId, a_entryMaker, a_entryTaker, a_order, a_rank, a_nameOf, a_numbers, a_savedId, a_savedMaker, a_savedTaker, a_savedOrder, a_needed) (nI k) :=
  ⟨_, zx_mn2 h hk1 hk hp 12 0 a_needed (by omega) (by omega) (fun q hq => by omega)⟩
theorem zx_co5 {post : Int32 → SX → Prop} {b : Nat → Bool} {mk : Int32} {fin : List Nat} (hn : ∀ i, 1 ≤ i → i < o.length → (a_needed i = mk ↔ b i = true)) (hs : ∀ i s, 1 ≤ i → o[i]? = some s → a_savedOrder i = nI s) (hc : f_count = nI (o.length - 1)) (h11 : o.length ≤ 11) (hf : fin.length ≤ 11) (hp : ∀ od, zp_LA od fin nI → post (nI (fin.length - 1)) (f_maxLines, f_maxSide, f_maxPatches, f_rowSize, f_count, f_nextName, f_draftOpen, f_draftPlace, f_draftTake, f_numberCount, f_savedRowSize, f_savedCount, a_entryId, a_entryMaker, a_entryTaker, od, a_rank, a_nameOf, a_numbers, a_savedId, a_savedMaker, a_savedTaker, a_savedOrder, a_needed)) : ∀ n i out od, 1 ≤ i → i ≤ o.length → o.length - i < n → 1 ≤ out.length → out ++ zp_pk b i (o.drop i) = fin → zp_LA od out nI → wX_collect_5 post mk f_maxLines f_maxSide f_maxPatches f_rowSize f_count f_nextName f_draftOpen f_draftPlace f_draftTake f_numberCount f_savedRowSize f_savedCount n (nI (out.length - 1)) (nI i) a_entryId a_entryMaker a_entryTaker od a_rank a_nameOf a_numbers a_savedId a_savedMaker a_savedTaker a_savedOrder a_needed := by
  intro n
  induction n with
  | zero => intro i out od h1 h2; omega
  | succ n ih =>
    intro i out od h1 h2 h3 h4 h5 h6
    refine pk_lt (o.length - 1) i (fun c => ?_) (fun c => ⟨vp_in_nI (by omega) (by omega), ?_⟩) hc
    · rw [List.drop_of_length_le (by omega), zp_pk, List.append_nil] at h5
      rw [h5] at h6 ⊢
      exact hp od h6
    · obtain ⟨s, hs'⟩ := zp_ex (l := o) (i := i) (by omega)
      rw [zp_drop hs'] at h5
      rw [nI_clamp (by omega)]
      by_cases z : b i = true
      · simp only [zp_pk, z, if_true] at h5
        have hlen : out.length + 1 ≤ 11 := by
          have := congrArg List.length h5
          rw [List.length_append, List.length_cons] at this
          omega
        refine br_t ((hn i h1 (by omega)).mpr z) ?_
        refine nm_r (e' := nI out.length) (by rw [nI_1, show out.length - 1 + 1 = out.length from by omega]) ⟨vp_in_nI (by omega) (by omega), vp_in_nI (by omega) (by omega), ?_⟩
        rw [nI_clamp (by omega), hs i s h1 hs']
        refine nm_e (nm_r (nI_1 i) ?_)
        have := ih (i + 1) (out ++ [s]) _ (by omega) (by omega) (by omega) (by rw [List.length_append]; simp) (by rw [← h5]; simp) (zp_LA_so (v := s) h6)
        rw [List.length_append] at this
        exact this
      · simp only [zp_pk, z, if_false, Bool.false_eq_true] at h5
        exact br_f (fun y => z ((hn i h1 (by omega)).mp y)) (nm_r (nI_1 i) (ih (i + 1) out od (by omega) (by omega) (by omega) h4 h5 h6))
theorem zx_co {post : Int32 → SX → Prop} {b : Nat → Bool} {mk y : Int32} {fin out : List Nat} (hn : ∀ i, 1 ≤ i → i < o.length → (a_needed i = mk ↔ b i = true)) (hs : ∀ i s, 1 ≤ i → o[i]? = some s → a_savedOrder i = nI s) (hc : f_count = nI (o.length - 1)) (h11 : o.length ≤ 11) (h1 : 1 ≤ o.length) (hf : fin.length ≤ 11) (h4 : 1 ≤ out.length) (h5 : out ++ zp_pk b 1 (o.drop 1) = fin) (h6 : zp_LA a_order out nI) (hy : y = nI (out.length - 1)) (hp : ∀ od, zp_LA od fin nI → post (nI (fin.length - 1)) (f_maxLines, f_maxSide, f_maxPatches, f_rowSize, f_count, f_nextName, f_draftOpen, f_draftPlace, f_draftTake, f_numberCount, f_savedRowSize, f_savedCount, a_entryId, a_entryMaker, a_entryTaker, od, a_rank, a_nameOf, a_numbers, a_savedId, a_savedMaker, a_savedTaker, a_savedOrder, a_needed)) : wpX_collect post (f_maxLines, f_maxSide, f_maxPatches, f_rowSize, f_count, f_nextName, f_draftOpen, f_draftPlace, f_draftTake, f_numberCount, f_savedRowSize, f_savedCount, a_entryId, a_entryMaker, a_entryTaker, a_order, a_rank, a_nameOf, a_numbers, a_savedId, a_savedMaker, a_savedTaker, a_savedOrder, a_needed) mk y := by
  subst hy
  exact ⟨_, zx_co5 hn hs hc h11 hf hp (o.length + 1) 1 out a_order (by omega) h1 (by omega) h4 h5 h6⟩
theorem zx_kf {post : Int32 → SX → Prop} {l0 : List zp_En} {o0 : List Nat} {ml : Nat} {r : Int32} (h : zx_Q l o f_rowSize f_count a_entryId a_entryMaker a_entryTaker a_order a_rank) (hw0 : zp_WF l0 o0) (hS : zx_S l0 o0 f_savedRowSize f_savedCount a_savedId a_savedMaker a_savedTaker a_savedOrder) (hm : f_maxLines = nI ml) (hm2 : ml < 1000) (h1 : zp_Fits ml l o → post r (f_maxLines, f_maxSide, f_maxPatches, f_rowSize, f_count, f_nextName, f_draftOpen, f_draftPlace, f_draftTake, f_numberCount, f_savedRowSize, f_savedCount, a_entryId, a_entryMaker, a_entryTaker, a_order, a_rank, a_nameOf, a_numbers, a_savedId, a_savedMaker, a_savedTaker, a_savedOrder, a_needed)) (h2 : ¬ zp_Fits ml l o → ∀ ei em et od rk, zx_Q l0 o0 f_savedRowSize f_savedCount ei em et od rk → post (-4) (f_maxLines, f_maxSide, f_maxPatches, f_savedRowSize, f_savedCount, f_nextName, f_draftOpen, f_draftPlace, f_draftTake, f_numberCount, f_savedRowSize, f_savedCount, ei, em, et, od, rk, a_nameOf, a_numbers, a_savedId, a_savedMaker, a_savedTaker, a_savedOrder, a_needed)) : wpX_keepIfFits post (f_maxLines, f_maxSide, f_maxPatches, f_rowSize, f_count, f_nextName, f_draftOpen, f_draftPlace, f_draftTake, f_numberCount, f_savedRowSize, f_savedCount, a_entryId, a_entryMaker, a_entryTaker, a_order, a_rank, a_nameOf, a_numbers, a_savedId, a_savedMaker, a_savedTaker, a_savedOrder, a_needed) r := by
  have h0 : a_order 0 = 0 := h.2.2.2.2.2.2.1 0 0 h.1.2.2.2.1
  refine zx_ft h hm hm2 (zp_ic h1 (fun z => ?_))
  exact zx_re hw0 hS h0 (fun ei em et od rk q => h2 z ei em et od rk q)
def zp_MB (l : List zp_En) (o : List Nat) (fr to : Nat) : Prop := (∃ i, fr < i ∧ i ≤ to ∧ zp_Rs l o i fr) ∨ ∃ j, to ≤ j ∧ j < fr ∧ zp_Rs l o fr j
theorem zx_mb {post : Int32 → Prop} {fr to : Nat} (h : zx_Q l o f_rowSize f_count a_entryId a_entryMaker a_entryTaker a_order a_rank) (hf1 : 1 ≤ fr) (hf : fr < o.length) (ht1 : 1 ≤ to) (ht : to < o.length) (hp : post (zp_i (zp_MB l o fr to))) : wpX_moveBlocked post (f_maxLines, f_maxSide, f_maxPatches, f_rowSize, f_count, f_nextName, f_draftOpen, f_draftPlace, f_draftTake, f_numberCount, f_savedRowSize, f_savedCount, a_entryId, a_entryMaker, a_entryTaker, a_order, a_rank, a_nameOf, a_numbers, a_savedId, a_savedMaker, a_savedTaker, a_savedOrder, a_needed) (nI fr) (nI to) := by
  have h11 := h.1.2.1
  refine pk_le to fr (fun c => zx_hr h hf ht1 (by omega) (fun j c1 c2 c3 _ => ?_) (fun c1 => ?_)) (fun c => ?_)
  · refine br_f (nI_nle (by omega) (by omega)) ?_
    rw [zp_it (P := zp_MB l o fr to) (Or.inr ⟨j, c1, c2, c3⟩)] at hp; exact hp
  · refine br_t (by decide) ?_
    rw [zp_if (P := zp_MB l o fr to) (fun z => z.elim (fun ⟨i, z1, z2, z3⟩ => by omega) (fun ⟨j, z1, z2, z3⟩ => c1 j z1 z2 z3))] at hp; exact hp
  · refine zx_ca h (by omega) ht rfl ⟨zp_in _, ?_⟩
    rw [zp_ie (P := zp_MB l o fr to) (Q := ∃ i, fr < i ∧ i ≤ to ∧ zp_Rs l o i fr) ⟨fun z => z.elim id (fun ⟨j, z1, z2, z3⟩ => by omega), Or.inl⟩] at hp
    exact hp
theorem zx_fold64 {post : Int32 → SX → Prop} {ml ms A B : Nat} (h : zx_Q l o f_rowSize f_count a_entryId a_entryMaker a_entryTaker a_order a_rank) (hm : f_maxLines = nI ml) (hm2 : ml < 1000) (hs : f_maxSide = nI ms) (hs2 : ms < 1000) (hA : A < 1000) (hB : B < 1000) (hp1 : ms < A ∨ ms < B ∨ ¬ zp_Fits ml l o → post (-4) (f_maxLines, f_maxSide, f_maxPatches, f_rowSize, f_count, f_nextName, f_draftOpen, f_draftPlace, f_draftTake, f_numberCount, f_savedRowSize, f_savedCount, a_entryId, a_entryMaker, a_entryTaker, a_order, a_rank, a_nameOf, a_numbers, a_savedId, a_savedMaker, a_savedTaker, a_savedOrder, a_needed)) (hp2 : ¬ (ms < A ∨ ms < B ∨ ¬ zp_Fits ml l o) → post 0 (f_maxLines, f_maxSide, f_maxPatches, f_rowSize, f_count, f_nextName, f_draftOpen, f_draftPlace, f_draftTake, f_numberCount, f_savedRowSize, f_savedCount, a_entryId, a_entryMaker, a_entryTaker, a_order, a_rank, a_nameOf, a_numbers, a_savedId, a_savedMaker, a_savedTaker, a_savedOrder, a_needed)) : wX_fold_64 post (nI A) (nI B) f_maxLines f_maxSide f_maxPatches f_rowSize f_count f_nextName f_draftOpen f_draftPlace f_draftTake f_numberCount f_savedRowSize f_savedCount a_entryId a_entryMaker a_entryTaker a_order a_rank a_nameOf a_numbers a_savedId a_savedMaker a_savedTaker a_savedOrder a_needed := by
  refine pk_lt ms A (fun c => hp1 (Or.inl c)) (fun c => pk_lt ms B (fun c2 => hp1 (Or.inr (Or.inl c2))) (fun c2 => ?_) hs) hs
  refine zx_ft h hm hm2 (zp_ic (fun z => hp2 ?_) (fun z => hp1 (Or.inr (Or.inr z))))
  intro q
  rcases q with q | q | q
  · omega
  · omega
  · exact q z
theorem zx_fold {post : Int32 → SX → Prop} {ml ms f : Nat} (h : zx_Q l o f_rowSize f_count a_entryId a_entryMaker a_entryTaker a_order a_rank) (hm : f_maxLines = nI ml) (hm2 : ml < 1000) (hs : f_maxSide = nI ms) (hs2 : ms < 1000) (hf1 : 1 ≤ f) (hf : f < o.length) (hB : zp_ft l o f = 0 → post (-5) (f_maxLines, f_maxSide, f_maxPatches, f_rowSize, f_count, f_nextName, f_draftOpen, f_draftPlace, f_draftTake, f_numberCount, f_savedRowSize, f_savedCount, a_entryId, a_entryMaker, a_entryTaker, a_order, a_rank, a_nameOf, a_numbers, a_savedId, a_savedMaker, a_savedTaker, a_savedOrder, a_needed))
  (hG : ∀ t, zp_ft l o f = t → 1 ≤ t → t < f → ∀ rs ct ei em et od rk, zx_Q (zp_l1 l o f t) (zp_o2 l o f t) rs ct ei em et od rk → post (zp_fa ml ms l o f t) (f_maxLines, f_maxSide, f_maxPatches, rs, ct, f_nextName, f_draftOpen, f_draftPlace, f_draftTake, f_numberCount, f_savedRowSize, f_savedCount, ei, em, et, od, rk, a_nameOf, a_numbers, a_savedId, a_savedMaker, a_savedTaker, a_savedOrder, a_needed)) : wpX_fold post (f_maxLines, f_maxSide, f_maxPatches, f_rowSize, f_count, f_nextName, f_draftOpen, f_draftPlace, f_draftTake, f_numberCount, f_savedRowSize, f_savedCount, a_entryId, a_entryMaker, a_entryTaker, a_order, a_rank, a_nameOf, a_numbers, a_savedId, a_savedMaker, a_savedTaker, a_savedOrder, a_needed) (nI f) := by
  have h11 := h.1.2.1
  refine zx_hr (low := 1) h hf (by omega) (by omega) (fun t ht1 ht hR hn => ?_) (fun hn => br_t rfl (hB (zp_hr_z hn)))
  have hG := hG t (zp_hr_eq ht1 ht hR hn) ht1 ht
  obtain ⟨e1, e2, e3⟩ := zx_ord h hf
  obtain ⟨e4, e5, e6⟩ := zx_ord h (k := t) (by omega)
  refine br_f (nI_ne0 (by omega) (by omega)) ⟨e6, nm_r e4 ⟨e3, ?_⟩⟩
  rw [e1]
  refine zx_fe h e2 e5 (fun ei em et hE => ?_)
  obtain ⟨g1, g2, g3⟩ := zx_E_LA hE
  refine zx_rp (zp_WF_o h.1) h.2.2.2.2.2.2.1 h.2.2.1 hf1 hf (fun od rk hO hR => ?_)
  have hw1 := zp_WF_l1 h.1 hf ht
  have hl1 : (o.eraseIdx f).length = o.length - 1 := zp_er_len hf
  have Q1 : zx_Q (zp_l1 l o f t) (o.eraseIdx f) (nI (zp_l1 l o f t).length) (nI (o.length - 2)) ei em et od rk := ⟨hw1, rfl, by rw [hl1, show o.length - 1 - 1 = o.length - 2 from by omega], g1, g2, g3, hO, hR⟩
  have l80 := hw1.1
  have cA : zp_cm (zp_l1 l o f t) (zp_sl o t) ≤ (zp_l1 l o f t).length := List.countP_le_length
  have cB : zp_ct (zp_l1 l o f t) (zp_sl o t) ≤ (zp_l1 l o f t).length := List.countP_le_length
  refine zx_cm Q1 e5 (zx_ct Q1 e5 ?_)
  refine pk_eq (zp_cm (zp_l1 l o f t) (zp_sl o t) + zp_ct (zp_l1 l o f t) (zp_sl o t)) 0 (fun z => ?_) (fun z => ?_) (nI_add (zp_cm (zp_l1 l o f t) (zp_sl o t)) (zp_ct (zp_l1 l o f t) (zp_sl o t)))
  · refine zx_rp (zp_WF_o hw1) hO Q1.2.2.1 ht1 (by rw [hl1]; omega) (fun od' rk' hO' hR' => ?_)
    have eo : zp_o2 l o f t = (o.eraseIdx f).eraseIdx t := by unfold zp_o2; rw [if_pos z]
    have Q2 : zx_Q (zp_l1 l o f t) (zp_o2 l o f t) (nI (zp_l1 l o f t).length) (nI ((o.eraseIdx f).length - 2)) ei em et od' rk' := by
      refine ⟨zp_WF_o2 h.1 hf ht1 ht, rfl, ?_, g1, g2, g3, by rw [eo]; exact hO', by rw [eo]; exact hR'⟩
      rw [eo, zp_er_len (o := o.eraseIdx f) (k := t) (by rw [hl1]; omega), show (o.eraseIdx f).length - 1 - 1 = (o.eraseIdx f).length - 2 from by omega]
    refine zx_fold64 (A := zp_cm (zp_l1 l o f t) (zp_sl o t)) (B := zp_ct (zp_l1 l o f t) (zp_sl o t)) Q2 hm hm2 hs hs2 (by omega) (by omega) (fun q => ?_) (fun q => ?_)
    · have := hG _ _ _ _ _ _ _ Q2
      rw [zp_fa_t q] at this; exact this
    · have := hG _ _ _ _ _ _ _ Q2
      rw [zp_fa_f q] at this; exact this
  · have eo : zp_o2 l o f t = o.eraseIdx f := by unfold zp_o2; rw [if_neg z]
    have Q2 : zx_Q (zp_l1 l o f t) (zp_o2 l o f t) (nI (zp_l1 l o f t).length) (nI (o.length - 2)) ei em et od rk := by rw [eo]; exact Q1
    refine zx_fold64 (A := zp_cm (zp_l1 l o f t) (zp_sl o t)) (B := zp_ct (zp_l1 l o f t) (zp_sl o t)) Q2 hm hm2 hs hs2 (by omega) (by omega) (fun q => ?_) (fun q => ?_)
    · have := hG _ _ _ _ _ _ _ Q2
      rw [zp_fa_t q] at this; exact this
    · have := hG _ _ _ _ _ _ _ Q2
      rw [zp_fa_f q] at this; exact this
end
end
section
/-! the reference's stores -/
def zy_R (nm : Nat → Int32) (c : List zp_En) (nu ma ta : Nat → Int32) : Prop := zp_LA nu c (fun x => x.1) ∧ zp_LA ma c (fun x => nm x.2.1) ∧ zp_LA ta c (fun x => nm x.2.2)
def zy_S (l : List zp_En) (o : List Nat) (nm : Nat → Int32) (f_rows0 f_n0 : Int32) (a_num0 a_maker0 a_taker0 a_stack0 : Nat → Int32) : Prop :=
  f_rows0 = nI l.length ∧ f_n0 = nI (o.length - 1) ∧ zy_R nm l a_num0 a_maker0 a_taker0 ∧ zp_LA a_stack0 o nm
theorem zp_mid {A B : List zp_En} {x : zp_En} : (A ++ x :: B)[A.length]? = some x := by simp
theorem zp_mid_er {A B : List zp_En} {x : zp_En} : (A ++ x :: B).eraseIdx A.length = A ++ B := by
  rw [List.eraseIdx_append_of_length_le (Nat.le_refl _), Nat.sub_self]; rfl
theorem zp_mid_ne {A B : List zp_En} {x y : zp_En} {i : Nat} (h : i ≠ A.length) : (A ++ x :: B)[i]? = (A ++ y :: B)[i]? := by
  rw [List.getElem?_append, List.getElem?_append]
  by_cases c : i < A.length
  · rw [if_pos c, if_pos c]
  · rw [if_neg c, if_neg c]
    obtain ⟨j, hj⟩ : ∃ j, i - A.length = j + 1 := ⟨i - A.length - 1, by omega⟩
    rw [hj]; rfl
theorem zp_LA_set {a : Nat → Int32} {A B : List zp_En} {x y : zp_En} {f : zp_En → Int32} {v : Int32} (h : zp_LA a (A ++ x :: B) f) (hv : v = f y) : zp_LA (upd a A.length v) (A ++ y :: B) f := by
  intro i z hz
  by_cases c : i = A.length
  · subst c
    rw [zp_mid] at hz
    rw [pk_us, hv, Option.some.inj hz]
  · rw [zp_mid_ne (y := x) c] at hz
    rw [pk_un c]; exact h i z hz
theorem zp_LA_sam {a : Nat → Int32} {A B : List zp_En} {x y : zp_En} {f : zp_En → Int32} (h : zp_LA a (A ++ x :: B) f) (hv : f x = f y) : zp_LA a (A ++ y :: B) f := by
  intro i z hz
  by_cases c : i = A.length
  · subst c
    rw [zp_mid] at hz
    rw [h _ _ zp_mid, hv, Option.some.inj hz]
  · rw [zp_mid_ne (y := x) c] at hz
    exact h i z hz
theorem zp_ins_ins {l A : List zp_En} {x : zp_En} {q : Nat} (h : q ≤ l.length) : zp_ins (zp_ins l A q) [x] (q + A.length) = zp_ins l (A ++ [x]) q := by
  have e1 : (l.take q ++ A).length = q + A.length := by rw [List.length_append, List.length_take, Nat.min_eq_left h]
  have e2 : l.take q ++ (A ++ l.drop q) = (l.take q ++ A) ++ l.drop q := (List.append_assoc _ _ _).symm
  unfold zp_ins
  rw [e2, ← e1, List.take_left, List.drop_left]
  simp
theorem zp_ins_0 {l : List zp_En} {q : Nat} : zp_ins l [] q = l := by
  unfold zp_ins; simp
section
variable {f_maxLines f_maxSide f_maxPatches f_rows f_n f_nextName f_rows0 f_n0 f_drafting f_place f_take f_puts : Int32} {a_num a_maker a_taker a_stack a_num0 a_maker0 a_taker0 a_stack0 a_dput a_need : Nat → Int32} {l : List zp_En} {o : List Nat} {nm : Nat → Int32}
theorem zy_sv52 {post : SY → Prop} (h : zy_Q l o nm f_rows f_n a_num a_maker a_taker a_stack) (hR : zy_R nm l a_num0 a_maker0 a_taker0) (hp : ∀ s0, zy_S l o nm f_rows f_n a_num0 a_maker0 a_taker0 s0 → post (f_maxLines, f_maxSide, f_maxPatches, f_rows, f_n, f_nextName, f_rows, f_n, f_drafting, f_place, f_take, f_puts, a_num, a_maker, a_taker, a_stack, a_num0, a_maker0, a_taker0, s0, a_dput, a_need)) : ∀ n k s0, k ≤ 12 → 12 - k < n → (∀ i, i < k → s0 i = a_stack i) → wY_save_52 post f_maxLines f_maxSide f_maxPatches f_rows f_n f_nextName f_rows0 f_n0 f_drafting f_place f_take f_puts n (nI k) a_num a_maker a_taker a_stack a_num0 a_maker0 a_taker0 s0 a_dput a_need := by
  have h11 := h.1.2.1
  intro n
  induction n with
  | zero => intro k s0 h1 h2; omega
  | succ n ih =>
    intro k s0 h1 h2 h3
    refine pk_le 12 k (fun c => hp s0 ⟨h.2.2.1, h.2.2.2.1, hR, fun i s hs => ?_⟩) (fun c => ?_)
    · have := zp_lt hs
      rw [h3 i (by omega)]; exact h.2.2.2.2.2.2.2 i s hs
    · have v := vp_in_nI (n := k) (N := 12) (by omega) (by omega)
      refine ⟨v, v, nm_e (nm_r (nI_1 k) (ih (k + 1) _ (by omega) (by omega) ?_))⟩
      rw [nI_clamp (by omega)]
      intro i hi
      by_cases b : i = k
      · rw [b, pk_us]
      · rw [pk_un b]; exact h3 i (by omega)
theorem zy_sv2 {post : SY → Prop} (h : zy_Q l o nm f_rows f_n a_num a_maker a_taker a_stack) (hp : ∀ n0 m0 t0 s0, zy_S l o nm f_rows f_n n0 m0 t0 s0 → post (f_maxLines, f_maxSide, f_maxPatches, f_rows, f_n, f_nextName, f_rows, f_n, f_drafting, f_place, f_take, f_puts, a_num, a_maker, a_taker, a_stack, n0, m0, t0, s0, a_dput, a_need)) : ∀ n e n0 m0 t0, e ≤ 100 → 100 - e < n → (∀ i, i < e → n0 i = a_num i ∧ m0 i = a_maker i ∧ t0 i = a_taker i) → wY_save_2 post f_maxLines f_maxSide f_maxPatches f_rows f_n f_nextName f_rows0 f_n0 f_drafting f_place f_take f_puts n (nI e) a_num a_maker a_taker a_stack n0 m0 t0 a_stack0 a_dput a_need := by
  have h80 := h.1.1
  intro n
  induction n with
  | zero => intro e n0 m0 t0 h1 h2; omega
  | succ n ih =>
    intro e n0 m0 t0 h2 h3 h4
    refine pk_le 100 e (fun c => ?_) (fun c => ?_)
    · refine ⟨_, zy_sv52 h ⟨?_, ?_, ?_⟩ (fun s0 => hp n0 m0 t0 s0) 13 0 a_stack0 (by omega) (by omega) (fun i hi => by omega)⟩
      · intro i x hx; rw [(h4 i (by have := zp_lt hx; omega)).1]; exact h.2.2.2.2.1 i x hx
      · intro i x hx; rw [(h4 i (by have := zp_lt hx; omega)).2.1]; exact h.2.2.2.2.2.1 i x hx
      · intro i x hx; rw [(h4 i (by have := zp_lt hx; omega)).2.2]; exact h.2.2.2.2.2.2.1 i x hx
    · have v := vp_in_nI (n := e) (N := 100) (by omega) (by omega)
      refine ⟨v, v, nm_e ⟨v, v, nm_e ⟨v, v, nm_e (nm_r (nI_1 e) (ih (e + 1) _ _ _ (by omega) (by omega) ?_))⟩⟩⟩
      rw [nI_clamp (by omega)]
      intro i hi
      by_cases b : i = e
      · subst b; exact ⟨pk_us, pk_us, pk_us⟩
      · rw [pk_un b, pk_un b, pk_un b]; exact h4 i (by omega)
theorem zy_sv {post : SY → Prop} (h : zy_Q l o nm f_rows f_n a_num a_maker a_taker a_stack) (hp : ∀ n0 m0 t0 s0, zy_S l o nm f_rows f_n n0 m0 t0 s0 → post (f_maxLines, f_maxSide, f_maxPatches, f_rows, f_n, f_nextName, f_rows, f_n, f_drafting, f_place, f_take, f_puts, a_num, a_maker, a_taker, a_stack, n0, m0, t0, s0, a_dput, a_need)) : wpY_save post (f_maxLines, f_maxSide, f_maxPatches, f_rows, f_n, f_nextName, f_rows0, f_n0, f_drafting, f_place, f_take, f_puts, a_num, a_maker, a_taker, a_stack, a_num0, a_maker0, a_taker0, a_stack0, a_dput, a_need) :=
  ⟨_, zy_sv2 h hp 101 0 a_num0 a_maker0 a_taker0 (by omega) (by omega) (fun i hi => by omega)⟩
theorem zy_un52 {post : Int32 → SY → Prop} {r : Int32} (hw : zp_WF l o) (hN : zy_NM o nm) (hr : f_rows0 = nI l.length) (hc : f_n0 = nI (o.length - 1)) (hR : zy_R nm l a_num a_maker a_taker) (hS : zp_LA a_stack0 o nm) (hp : ∀ st, zy_Q l o nm f_rows0 f_n0 a_num a_maker a_taker st → post r (f_maxLines, f_maxSide, f_maxPatches, f_rows0, f_n0, f_nextName, f_rows0, f_n0, f_drafting, f_place, f_take, f_puts, a_num, a_maker, a_taker, st, a_num0, a_maker0, a_taker0, a_stack0, a_dput, a_need)) : ∀ n k st, k ≤ 12 → 12 - k < n → (∀ i, i < k → st i = a_stack0 i) → wY_undo_52 post r f_maxLines f_maxSide f_maxPatches f_rows f_n f_nextName f_rows0 f_n0 f_drafting f_place f_take f_puts n (nI k) a_num a_maker a_taker st a_num0 a_maker0 a_taker0 a_stack0 a_dput a_need := by
  have h11 := hw.2.1
  intro n
  induction n with
  | zero => intro k st h1 h2; omega
  | succ n ih =>
    intro k st h1 h2 h3
    refine pk_le 12 k (fun c => hp st ⟨hw, hN, hr, hc, hR.1, hR.2.1, hR.2.2, fun i s hs => ?_⟩) (fun c => ?_)
    · have := zp_lt hs
      rw [h3 i (by omega)]; exact hS i s hs
    · have v := vp_in_nI (n := k) (N := 12) (by omega) (by omega)
      refine ⟨v, v, nm_e (nm_r (nI_1 k) (ih (k + 1) _ (by omega) (by omega) ?_))⟩
      rw [nI_clamp (by omega)]
      intro i hi
      by_cases b : i = k
      · rw [b, pk_us]
      · rw [pk_un b]; exact h3 i (by omega)
theorem zy_un2 {post : Int32 → SY → Prop} {r : Int32} (hw : zp_WF l o) (hN : zy_NM o nm) (hS : zy_S l o nm f_rows0 f_n0 a_num0 a_maker0 a_taker0 a_stack0) (hp : ∀ nu ma ta st, zy_Q l o nm f_rows0 f_n0 nu ma ta st → post r (f_maxLines, f_maxSide, f_maxPatches, f_rows0, f_n0, f_nextName, f_rows0, f_n0, f_drafting, f_place, f_take, f_puts, nu, ma, ta, st, a_num0, a_maker0, a_taker0, a_stack0, a_dput, a_need)) : ∀ n e nu ma ta, e ≤ 100 → 100 - e < n → (∀ i, i < e → nu i = a_num0 i ∧ ma i = a_maker0 i ∧ ta i = a_taker0 i) → wY_undo_2 post r f_maxLines f_maxSide f_maxPatches f_rows f_n f_nextName f_rows0 f_n0 f_drafting f_place f_take f_puts n (nI e) nu ma ta a_stack a_num0 a_maker0 a_taker0 a_stack0 a_dput a_need := by
  have h80 := hw.1
  obtain ⟨hr, hc, hR, hSt⟩ := hS
  intro n
  induction n with
  | zero => intro e nu ma ta h1 h2; omega
  | succ n ih =>
    intro e nu ma ta h2 h3 h4
    refine pk_le 100 e (fun c => ?_) (fun c => ?_)
    · refine ⟨_, zy_un52 hw hN hr hc ⟨?_, ?_, ?_⟩ hSt (fun st => hp nu ma ta st) 13 0 a_stack (by omega) (by omega) (fun i hi => by omega)⟩
      · intro i x hx; rw [(h4 i (by have := zp_lt hx; omega)).1]; exact hR.1 i x hx
      · intro i x hx; rw [(h4 i (by have := zp_lt hx; omega)).2.1]; exact hR.2.1 i x hx
      · intro i x hx; rw [(h4 i (by have := zp_lt hx; omega)).2.2]; exact hR.2.2 i x hx
    · have v := vp_in_nI (n := e) (N := 100) (by omega) (by omega)
      refine ⟨v, v, nm_e ⟨v, v, nm_e ⟨v, v, nm_e (nm_r (nI_1 e) (ih (e + 1) _ _ _ (by omega) (by omega) ?_))⟩⟩⟩
      rw [nI_clamp (by omega)]
      intro i hi
      by_cases b : i = e
      · subst b; exact ⟨pk_us, pk_us, pk_us⟩
      · rw [pk_un b, pk_un b, pk_un b]; exact h4 i (by omega)
theorem zy_un {post : Int32 → SY → Prop} {r : Int32} (hw : zp_WF l o) (hN : zy_NM o nm) (hS : zy_S l o nm f_rows0 f_n0 a_num0 a_maker0 a_taker0 a_stack0) (hp : ∀ nu ma ta st, zy_Q l o nm f_rows0 f_n0 nu ma ta st → post r (f_maxLines, f_maxSide, f_maxPatches, f_rows0, f_n0, f_nextName, f_rows0, f_n0, f_drafting, f_place, f_take, f_puts, nu, ma, ta, st, a_num0, a_maker0, a_taker0, a_stack0, a_dput, a_need)) : wpY_undo post (f_maxLines, f_maxSide, f_maxPatches, f_rows, f_n, f_nextName, f_rows0, f_n0, f_drafting, f_place, f_take, f_puts, a_num, a_maker, a_taker, a_stack, a_num0, a_maker0, a_taker0, a_stack0, a_dput, a_need) r :=
  ⟨_, zy_un2 hw hN hS hp 101 0 a_num a_maker a_taker (by omega) (by omega) (fun i hi => by omega)⟩
theorem zy_is16 {post : SY → Prop} {q L : Nat} {v w : Int32} (hr : f_rows = nI L) (hL : L < 100) (hq : q ≤ L) (hp : post (f_maxLines, f_maxSide, f_maxPatches, (nI (L + 1)), f_n, f_nextName, f_rows0, f_n0, f_drafting, f_place, f_take, f_puts, (upd (zp_sh a_num q L 1) q v), (upd (zp_sh a_maker q L 1) q w), (upd (zp_sh a_taker q L 1) q 0), a_stack, a_num0, a_maker0, a_taker0, a_stack0, a_dput, a_need)) : ∀ n m, q ≤ m → m ≤ L → m - q < n → wY_insert_16 post (nI q) v w f_maxLines f_maxSide f_maxPatches f_rows f_n f_nextName f_rows0 f_n0 f_drafting f_place f_take f_puts n (nI m) (zp_sh a_num m L 1) (zp_sh a_maker m L 1) (zp_sh a_taker m L 1) a_stack a_num0 a_maker0 a_taker0 a_stack0 a_dput a_need := by
  intro n
  induction n with
  | zero => intro m h1 h2; omega
  | succ n ih =>
    intro m h1 h2 h3
    refine pk_le m q (fun c => ?_) (fun c => ?_)
    · rw [show m = q from by omega]
      have v1 := vp_in_nI (n := q) (N := 100) (by omega) (by omega)
      refine ⟨v1, ?_⟩
      rw [nI_clamp (by omega)]
      exact nm_e ⟨v1, nm_e ⟨v1, nm_e (nm_r (by rw [hr, nI_1]) hp)⟩⟩
    · obtain ⟨m, rfl⟩ : ∃ k, m = k + 1 := ⟨m - 1, by omega⟩
      have v1 := vp_in_nI (n := m) (N := 100) (by omega) (by omega)
      have v2 := vp_in_nI (n := m + 1) (N := 100) (by omega) (by omega)
      rw [nI_pred]
      refine ⟨v1, v2, ?_⟩
      rw [nI_clamp (by omega), nI_clamp (by omega), zp_sh_s (by omega), zp_sh_s (by omega), zp_sh_s (by omega)]
      exact nm_e ⟨v1, v2, nm_e ⟨v1, v2, nm_e (nm_r (pk_m1 m) (ih m (by omega) (by omega) (by omega)))⟩⟩
theorem zy_ins {post : SY → Prop} {q s : Nat} {y v w : Int32} {g : Nat → Int32} (hR : zy_R g l a_num a_maker a_taker) (hr : f_rows = nI l.length) (hL : l.length < 100) (hq : q ≤ l.length) (hy : y = nI q) (hw : w = g s) (h0 : g 0 = 0) (hp : ∀ nu ma ta, zy_R g (zp_ins l [(v, s, 0)] q) nu ma ta → post (f_maxLines, f_maxSide, f_maxPatches, (nI (l.length + 1)), f_n, f_nextName, f_rows0, f_n0, f_drafting, f_place, f_take, f_puts, nu, ma, ta, a_stack, a_num0, a_maker0, a_taker0, a_stack0, a_dput, a_need)) : wpY_insert post (f_maxLines, f_maxSide, f_maxPatches, f_rows, f_n, f_nextName, f_rows0, f_n0, f_drafting, f_place, f_take, f_puts, a_num, a_maker, a_taker, a_stack, a_num0, a_maker0, a_taker0, a_stack0, a_dput, a_need) y v w := by
  subst hy
  have g1 := zp_ins_LA (c := 1) (new := [(v, s, 0)]) (v := fun _ => v) hR.1 hq rfl (fun i x hx => by cases i with | zero => (have := Option.some.inj hx; rw [← this]) | succ j => simp at hx)
  have g2 := zp_ins_LA (c := 1) (new := [(v, s, 0)]) (v := fun _ => w) hR.2.1 hq rfl (fun i x hx => by cases i with | zero => (have := Option.some.inj hx; rw [← this]; exact hw) | succ j => simp at hx)
  have g3 := zp_ins_LA (c := 1) (new := [(v, s, 0)]) (v := fun _ => 0) hR.2.2 hq rfl (fun i x hx => by cases i with | zero => (have := Option.some.inj hx; rw [← this]; exact h0.symm) | succ j => simp at hx)
  have k1 : ∀ (a : Nat → Int32) (z : Int32), upd (zp_sh a q l.length 1) q z = zp_fl (zp_sh a q l.length 1) q 1 (fun _ => z) := fun a z => by
    rw [← zp_fl_s (i := 0), zp_fl_0]; rfl
  refine pk_lt l.length 100 (fun _ => ?_) (fun c => by omega) hr
  have P := hp _ _ _ ⟨g1, g2, g3⟩
  rw [← k1, ← k1, ← k1] at P
  have := zy_is16 hr hL hq P (l.length + 1) l.length hq (Nat.le_refl _) (by omega)
  rw [zp_sh_0, zp_sh_0, zp_sh_0, ← hr] at this
  exact ⟨_, this⟩
theorem zy_dl12 {post : SY → Prop} {k L : Nat} (hr : f_rows = nI L) (hL : L < 99) (hp : post (f_maxLines, f_maxSide, f_maxPatches, f_rows, f_n, f_nextName, f_rows0, f_n0, f_drafting, f_place, f_take, f_puts, (zp_lf a_num k L), (zp_lf a_maker k L), (zp_lf a_taker k L), a_stack, a_num0, a_maker0, a_taker0, a_stack0, a_dput, a_need)) : ∀ n e, k ≤ e → e ≤ L → L - e < n → wY_delete_12 post f_maxLines f_maxSide f_maxPatches f_rows f_n f_nextName f_rows0 f_n0 f_drafting f_place f_take f_puts n (nI e) (zp_lf a_num k e) (zp_lf a_maker k e) (zp_lf a_taker k e) a_stack a_num0 a_maker0 a_taker0 a_stack0 a_dput a_need := by
  intro n
  induction n with
  | zero => intro e h1 h2; omega
  | succ n ih =>
    intro e h1 h2 h3
    refine pk_le L e (fun c => ?_) (fun c => ?_) hr
    · rw [show e = L from by omega]; exact hp
    · have v1 := vp_in_nI (n := e) (N := 100) (by omega) (by omega)
      have v2 := vp_in_nI (n := e + 1) (N := 100) (by omega) (by omega)
      rw [nI_1]
      refine ⟨v2, v1, ?_⟩
      rw [nI_clamp (by omega), nI_clamp (by omega), zp_lf_s (by omega), zp_lf_s (by omega), zp_lf_s (by omega)]
      exact nm_e ⟨v2, v1, nm_e ⟨v2, v1, nm_e (nm_e (ih (e + 1) (by omega) (by omega) (by omega)))⟩⟩
theorem zy_dl {post : SY → Prop} {k : Nat} {y : Int32} {g : Nat → Int32} (hR : zy_R g l a_num a_maker a_taker) (hr : f_rows = nI l.length) (hL : l.length < 100) (hk : k < l.length) (hy : y = nI k) (hp : ∀ nu ma ta, zy_R g (l.eraseIdx k) nu ma ta → post (f_maxLines, f_maxSide, f_maxPatches, (nI (l.length - 1)), f_n, f_nextName, f_rows0, f_n0, f_drafting, f_place, f_take, f_puts, nu, ma, ta, a_stack, a_num0, a_maker0, a_taker0, a_stack0, a_dput, a_need)) : wpY_delete post (f_maxLines, f_maxSide, f_maxPatches, f_rows, f_n, f_nextName, f_rows0, f_n0, f_drafting, f_place, f_take, f_puts, a_num, a_maker, a_taker, a_stack, a_num0, a_maker0, a_taker0, a_stack0, a_dput, a_need) y := by
  subst hy
  have P := hp _ _ _ ⟨zp_LA_lf hR.1 hk, zp_LA_lf hR.2.1 hk, zp_LA_lf hR.2.2 hk⟩
  refine nm_r (e' := nI (l.length - 1)) (by rw [hr]; exact pk_sub (b := 1) (by omega)) ?_
  have := zy_dl12 rfl (by omega) P (l.length + 1) k (Nat.le_refl _) (by omega) (by omega)
  rw [zp_lf_0, zp_lf_0, zp_lf_0] at this
  exact ⟨_, this⟩
theorem zy_us2 {post : SY → Prop} {k : Nat} (hc : f_n = nI (o.length - 1)) (h11 : o.length ≤ 11) (h2o : 2 ≤ o.length) (hk : k < o.length) (hp : post (f_maxLines, f_maxSide, f_maxPatches, f_rows, (nI (o.length - 2)), f_nextName, f_rows0, f_n0, f_drafting, f_place, f_take, f_puts, a_num, a_maker, a_taker, (zp_lf a_stack k (o.length - 1)), a_num0, a_maker0, a_taker0, a_stack0, a_dput, a_need)) : ∀ n i, k ≤ i → i < o.length → o.length - i < n → wY_unstack_2 post f_maxLines f_maxSide f_maxPatches f_rows f_n f_nextName f_rows0 f_n0 f_drafting f_place f_take f_puts n (nI i) a_num a_maker a_taker (zp_lf a_stack k i) a_num0 a_maker0 a_taker0 a_stack0 a_dput a_need := by
  intro n
  induction n with
  | zero => intro i h1 h2; omega
  | succ n ih =>
    intro i h1 h2 h3
    refine pk_le (o.length - 1) i (fun c => ?_) (fun c => ?_) hc
    · rw [show i = o.length - 1 from by omega]
      exact nm_r (e' := nI (o.length - 2)) (by rw [hc]; exact pk_sub (a := o.length - 1) (b := 1) (by omega)) hp
    · rw [nI_1]
      refine ⟨vp_in_nI (by omega) (by omega), vp_in_nI (by omega) (by omega), nm_e (nm_e ?_)⟩
      rw [nI_clamp (by omega), nI_clamp (by omega), zp_lf_s (by omega)]
      exact ih (i + 1) (by omega) (by omega) (by omega)
theorem zy_us {post : SY → Prop} {k : Nat} (hS : zp_LA a_stack o nm) (hc : f_n = nI (o.length - 1)) (h11 : o.length ≤ 11) (hk1 : 1 ≤ k) (hk : k < o.length) (hp : ∀ st, zp_LA st (o.eraseIdx k) nm → post (f_maxLines, f_maxSide, f_maxPatches, f_rows, (nI (o.length - 2)), f_nextName, f_rows0, f_n0, f_drafting, f_place, f_take, f_puts, a_num, a_maker, a_taker, st, a_num0, a_maker0, a_taker0, a_stack0, a_dput, a_need)) : wpY_unstack post (f_maxLines, f_maxSide, f_maxPatches, f_rows, f_n, f_nextName, f_rows0, f_n0, f_drafting, f_place, f_take, f_puts, a_num, a_maker, a_taker, a_stack, a_num0, a_maker0, a_taker0, a_stack0, a_dput, a_need) (nI k) := by
  have := zy_us2 hc h11 (by omega) hk (hp _ (zp_LA_lf hS hk)) (o.length + 1) k (Nat.le_refl _) hk (by omega)
  rw [zp_lf_0] at this
  exact ⟨_, this⟩
end
end
section
/-! the reference: marking, dropping, folding -/
section
variable {f_maxLines f_maxSide f_maxPatches f_rows f_n f_nextName f_rows0 f_n0 f_drafting f_place f_take f_puts : Int32} {a_num a_maker a_taker a_stack a_num0 a_maker0 a_taker0 a_stack0 a_dput a_need : Nat → Int32} {l : List zp_En} {o : List Nat} {nm : Nat → Int32}
theorem zy_mn46 {post : SY → Prop} {J : Int32 → (Nat → Int32) → (Nat → Int32) → (Nat → Int32) → (Nat → Int32) → (Nat → Int32) → (Nat → Int32) → (Nat → Int32) → (Nat → Int32) → (Nat → Int32) → (Nat → Int32) → Prop} {k j : Nat} (h : zy_Q l o nm f_rows f_n a_num a_maker a_taker a_stack) (hj1 : 1 ≤ j) (hjk : j < k) (hk : k < o.length) (hJ : ∀ an, (∀ i, i ≤ 11 → an i = zp_i (j - 1 < i ∧ zp_Nd (zp_Rs l o) k i)) → J (nI (j - 1)) a_num a_maker a_taker a_stack a_num0 a_maker0 a_taker0 a_stack0 a_dput an) : ∀ n i an, j < i → i ≤ k + 1 → k + 1 - i < n → (∀ q, q ≤ 11 → q ≠ j → an q = zp_i (j < q ∧ zp_Nd (zp_Rs l o) k q)) → an j = zp_i (∃ a, j < a ∧ a < i ∧ zp_Nd (zp_Rs l o) k a ∧ zp_Rs l o a j) → wY_mark_43 post J (nI k) (nI j) f_maxLines f_maxSide f_maxPatches f_rows f_n f_nextName f_rows0 f_n0 f_drafting f_place f_take f_puts n (nI i) a_num a_maker a_taker a_stack a_num0 a_maker0 a_taker0 a_stack0 a_dput an := by
  have h11 := h.1.2.1
  intro n
  induction n with
  | zero => intro i an h1 h2; omega
  | succ n ih =>
    intro i an h1 h2 h3 h4 h5
    refine pk_lt k i (fun c => nm_r (e' := nI (j - 1)) ?_ (hJ an ?_)) (fun c => ⟨vp_in_nI (by omega) (by omega), ?_⟩)
    · rw [zp_m1]; exact pk_sub (b := 1) (by omega)
    · intro q hq
      by_cases b : q = j
      · subst b
        rw [h5]
        refine zp_ie ⟨fun ⟨a, a1, a2, a3, a4⟩ => ⟨by omega, zp_Nd_s a3 hj1 a1 (by omega) a4⟩, fun ⟨_, z⟩ => ?_⟩
        rcases zp_Nd_v z with z | ⟨_, a, a1, a2, a3, a4⟩
        · omega
        · exact ⟨a, a1, by omega, a3, a4⟩
      · rw [h4 q hq b]
        exact zp_ie ⟨fun z => ⟨by omega, z.2⟩, fun z => ⟨by omega, z.2⟩⟩
    · rw [nI_clamp (by omega), h4 i (by omega) (by omega)]
      have skip : ¬ (zp_Nd (zp_Rs l o) k i ∧ zp_Rs l o i j) → wY_mark_43 post J (nI k) (nI j) f_maxLines f_maxSide f_maxPatches f_rows f_n f_nextName f_rows0 f_n0 f_drafting f_place f_take f_puts n (nI (i + 1)) a_num a_maker a_taker a_stack a_num0 a_maker0 a_taker0 a_stack0 a_dput an := by
        intro z
        refine ih (i + 1) an (by omega) (by omega) (by omega) h4 ?_
        rw [h5]
        refine zp_ie ⟨fun ⟨a, a1, a2, a3, a4⟩ => ⟨a, a1, by omega, a3, a4⟩, fun ⟨a, a1, a2, a3, a4⟩ => ⟨a, a1, ?_, a3, a4⟩⟩
        by_cases b : a = i
        · subst b; exact absurd ⟨a3, a4⟩ z
        · omega
      refine zp_ic (fun z => zy_rests h h1 (by omega) (zp_ic (fun y => ?_) (fun y => ?_))) (fun z => nm_r (nI_1 i) (skip (fun q => z ⟨h1, q.1⟩)))
      · refine ⟨vp_in_nI (by omega) (by omega), nm_e (nm_r (nI_1 i) ?_)⟩
        rw [nI_clamp (by omega), zp_n1]
        refine ih (i + 1) _ (by omega) (by omega) (by omega) (fun q hq hqj => ?_) ?_
        · rw [pk_un hqj]; exact h4 q hq hqj
        · rw [pk_us, zp_it]
          exact ⟨i, h1, by omega, z.2, y⟩
      · exact nm_r (nI_1 i) (skip (fun q => y q.2))
theorem zy_mn37 {post : SY → Prop} {k : Nat} (h : zy_Q l o nm f_rows f_n a_num a_maker a_taker a_stack) (hk : k < o.length) (hp : ∀ an, (∀ i, i ≤ 11 → an i = zp_i (0 < i ∧ zp_Nd (zp_Rs l o) k i)) → post (f_maxLines, f_maxSide, f_maxPatches, f_rows, f_n, f_nextName, f_rows0, f_n0, f_drafting, f_place, f_take, f_puts, a_num, a_maker, a_taker, a_stack, a_num0, a_maker0, a_taker0, a_stack0, a_dput, an)) : ∀ n j an, j < n → j < k → (∀ i, i ≤ 11 → an i = zp_i (j < i ∧ zp_Nd (zp_Rs l o) k i)) → wY_mark_34 post (nI k) f_maxLines f_maxSide f_maxPatches f_rows f_n f_nextName f_rows0 f_n0 f_drafting f_place f_take f_puts n (nI j) a_num a_maker a_taker a_stack a_num0 a_maker0 a_taker0 a_stack0 a_dput an := by
  have h11 := h.1.2.1
  intro n
  induction n with
  | zero => intro j an h1 h2; omega
  | succ n ih =>
    intro j an h1 h2 h3
    refine pk_lt j 1 (fun c => hp an ?_) (fun c => nm_r (nI_1 j) ⟨_, zy_mn46 h c h2 hk (fun an' h' => ih (j - 1) an' (by omega) (by omega) h') (k + 1) (j + 1) an (by omega) (by omega) (by omega) (fun q hq _ => h3 q hq) ?_⟩)
    · rw [show j = 0 from by omega] at h3; exact h3
    · rw [h3 j (by omega), zp_if (by omega), zp_if (fun ⟨a, a1, a2, _, _⟩ => by omega)]
theorem zy_mn2 {post : SY → Prop} {k : Nat} (h : zy_Q l o nm f_rows f_n a_num a_maker a_taker a_stack) (hk1 : 1 ≤ k) (hk : k < o.length) (hp : ∀ an, (∀ i, i ≤ 11 → an i = zp_i (0 < i ∧ zp_Nd (zp_Rs l o) k i)) → post (f_maxLines, f_maxSide, f_maxPatches, f_rows, f_n, f_nextName, f_rows0, f_n0, f_drafting, f_place, f_take, f_puts, a_num, a_maker, a_taker, a_stack, a_num0, a_maker0, a_taker0, a_stack0, a_dput, an)) : ∀ n i an, i ≤ 12 → 12 - i < n → (∀ q, q < i → an q = zp_i (q = k)) → wY_mark_2 post (nI k) f_maxLines f_maxSide f_maxPatches f_rows f_n f_nextName f_rows0 f_n0 f_drafting f_place f_take f_puts n (nI i) a_num a_maker a_taker a_stack a_num0 a_maker0 a_taker0 a_stack0 a_dput an := by
  have h11 := h.1.2.1
  intro n
  induction n with
  | zero => intro i an h1 h2; omega
  | succ n ih =>
    intro i an h1 h2 h3
    refine pk_le 12 i (fun c => nm_r (e' := nI (k - 1)) (pk_sub (b := 1) (by omega)) ⟨_, zy_mn37 h hk hp k (k - 1) an (by omega) (by omega) ?_⟩) (fun c => pk_eq i k (fun z => ⟨vp_in_nI (by omega) (by omega), nm_e (nm_r (nI_1 i) ?_)⟩) (fun z => ⟨vp_in_nI (by omega) (by omega), nm_e (nm_r (nI_1 i) ?_)⟩))
    · intro q hq
      rw [h3 q (by omega)]
      refine zp_ie ⟨fun z => ⟨by omega, by rw [z]; exact zp_Nd_k⟩, fun z => ?_⟩
      have := zp_Nd_le z.2
      omega
    · rw [nI_clamp (by omega), zp_n1]
      refine ih (i + 1) _ (by omega) (by omega) (fun q hq => ?_)
      by_cases b : q = i
      · rw [b, pk_us, zp_it z]
      · rw [pk_un b]; exact h3 q (by omega)
    · rw [nI_clamp (by omega), zp_n0]
      refine ih (i + 1) _ (by omega) (by omega) (fun q hq => ?_)
      by_cases b : q = i
      · rw [b, pk_us, zp_if z]
      · rw [pk_un b]; exact h3 q (by omega)
theorem zy_mn {post : SY → Prop} {k : Nat} (h : zy_Q l o nm f_rows f_n a_num a_maker a_taker a_stack) (hk1 : 1 ≤ k) (hk : k < o.length) (hp : ∀ an, (∀ i, i ≤ 11 → an i = zp_i (0 < i ∧ zp_Nd (zp_Rs l o) k i)) → post (f_maxLines, f_maxSide, f_maxPatches, f_rows, f_n, f_nextName, f_rows0, f_n0, f_drafting, f_place, f_take, f_puts, a_num, a_maker, a_taker, a_stack, a_num0, a_maker0, a_taker0, a_stack0, a_dput, an)) : wpY_mark post (f_maxLines, f_maxSide, f_maxPatches, f_rows, f_n, f_nextName, f_rows0, f_n0, f_drafting, f_place, f_take, f_puts, a_num, a_maker, a_taker, a_stack, a_num0, a_maker0, a_taker0, a_stack0, a_dput, a_need) (nI k) :=
  ⟨_, zy_mn2 h hk1 hk hp 13 0 a_need (by omega) (by omega) (fun q hq => by omega)⟩
/-- comparing the middle entry with a patch's name -/
theorem zy_mx {A B : List zp_En} {x : zp_En} {k : Nat} (hN : zy_NM o nm) (hS : zp_LA a_stack o nm) (hR : zy_R nm (A ++ x :: B) a_num a_maker a_taker) (hA : A.length < 100) (h11 : o.length ≤ 11) (hk : k < o.length) (m1 : x.2.1 ∈ o) (m2 : x.2.2 ∈ o) : vp_in (nI A.length) 100 ∧ vp_in (nI k) 12 ∧ (a_maker (nI A.length).toNatClampNeg = a_stack (nI k).toNatClampNeg ↔ x.2.1 = zp_sl o k) ∧ (a_taker (nI A.length).toNatClampNeg = a_stack (nI k).toNatClampNeg ↔ x.2.2 = zp_sl o k) := by
  have g := zp_sl_g hk
  rw [nI_clamp (by omega), nI_clamp (by omega), hR.2.1 _ _ zp_mid, hR.2.2 _ _ zp_mid, hS _ _ g]
  refine ⟨vp_in_nI (by omega) (by omega), vp_in_nI (by omega) (by omega), ⟨fun z => hN.2 _ _ m1 (zp_mem g) z, fun z => ?_⟩, ⟨fun z => hN.2 _ _ m2 (zp_mem g) z, fun z => ?_⟩⟩
  · show nm x.2.1 = _
    rw [z]
  · show nm x.2.2 = _
    rw [z]
theorem zy_dr77 {post : Int32 → SY → Prop} {J : Int32 → Int32 → Int32 → Int32 → Int32 → Int32 → Int32 → Int32 → Int32 → Int32 → Int32 → Int32 → Int32 → (Nat → Int32) → (Nat → Int32) → (Nat → Int32) → (Nat → Int32) → (Nat → Int32) → (Nat → Int32) → (Nat → Int32) → (Nat → Int32) → (Nat → Int32) → (Nat → Int32) → Prop} {A B : List zp_En} {x : zp_En} {k : Nat} (hN : zy_NM o nm) (hS : zp_LA a_stack o nm) (hR : zy_R nm (A ++ x :: B) a_num a_maker a_taker) (hr : f_rows = nI (A ++ x :: B).length) (hl : (A ++ x :: B).length < 100) (h11 : o.length ≤ 11) (hk : k < o.length) (m1 : x.2.1 ∈ o) (m2 : x.2.2 ∈ o)
  (h1 : x.2.1 = zp_sl o k → ∀ nu ma ta, zy_R nm (A ++ B) nu ma ta → J (nI A.length - 1) f_maxLines f_maxSide f_maxPatches (nI (A ++ B).length) f_n f_nextName f_rows0 f_n0 f_drafting f_place f_take f_puts nu ma ta a_stack a_num0 a_maker0 a_taker0 a_stack0 a_dput a_need)
  (h2 : ¬ x.2.1 = zp_sl o k → J (nI A.length - 1) f_maxLines f_maxSide f_maxPatches f_rows f_n f_nextName f_rows0 f_n0 f_drafting f_place f_take f_puts a_num a_maker a_taker a_stack a_num0 a_maker0 a_taker0 a_stack0 a_dput a_need) : wY_drop_77 post J (nI k) (nI A.length) f_maxLines f_maxSide f_maxPatches f_rows f_n f_nextName f_rows0 f_n0 f_drafting f_place f_take f_puts a_num a_maker a_taker a_stack a_num0 a_maker0 a_taker0 a_stack0 a_dput a_need := by
  have hA : A.length < 100 := by rw [List.length_append] at hl; omega
  obtain ⟨v1, v2, v3, v4⟩ := zy_mx hN hS hR hA h11 hk m1 m2
  have e1 : (A ++ x :: B).length - 1 = (A ++ B).length := by simp
  refine And.intro v1 (And.intro v2 (br_c (fun z => ?_) (fun z => nm_r (zp_m1 _) (h2 (fun q => z (v3.mpr q))))))
  refine zy_dl (k := A.length) hR hr hl (by simp) rfl (fun nu ma ta hR' => nm_r (zp_m1 _) ?_)
  rw [zp_mid_er] at hR'
  rw [e1]
  exact h1 (v3.mp z) nu ma ta hR'
theorem zy_dr51 {post : Int32 → SY → Prop} {k ml : Nat} (hw : zp_WF l o) (hN : zy_NM o nm) (hS : zp_LA a_stack o nm) (hn : f_n = nI (o.length - 1)) (hk1 : 1 ≤ k) (hk : k < o.length) (hSv : zy_S l o nm f_rows0 f_n0 a_num0 a_maker0 a_taker0 a_stack0) (hm : f_maxLines = nI ml) (hm2 : ml < 1000) (hw' : zp_WF (l.filterMap (zp_dG (zp_sl o k))) (o.eraseIdx k))
  (hA : zp_Fits ml (l.filterMap (zp_dG (zp_sl o k))) (o.eraseIdx k) → ∀ rs ct nu ma ta st, zy_Q (l.filterMap (zp_dG (zp_sl o k))) (o.eraseIdx k) nm rs ct nu ma ta st → post 0 (f_maxLines, f_maxSide, f_maxPatches, rs, ct, f_nextName, f_rows0, f_n0, f_drafting, f_place, f_take, f_puts, nu, ma, ta, st, a_num0, a_maker0, a_taker0, a_stack0, a_dput, a_need))
  (hB : ¬ zp_Fits ml (l.filterMap (zp_dG (zp_sl o k))) (o.eraseIdx k) → ∀ nu ma ta st, zy_Q l o nm f_rows0 f_n0 nu ma ta st → post (-4) (f_maxLines, f_maxSide, f_maxPatches, f_rows0, f_n0, f_nextName, f_rows0, f_n0, f_drafting, f_place, f_take, f_puts, nu, ma, ta, st, a_num0, a_maker0, a_taker0, a_stack0, a_dput, a_need)) : ∀ n m rs nu ma ta, m < n → m ≤ l.length → rs = nI (l.take m ++ (l.drop m).filterMap (zp_dG (zp_sl o k))).length → zy_R nm (l.take m ++ (l.drop m).filterMap (zp_dG (zp_sl o k))) nu ma ta → wY_drop_51 post (nI k) n (nI m - 1) f_maxLines f_maxSide f_maxPatches rs f_n f_nextName f_rows0 f_n0 f_drafting f_place f_take f_puts nu ma ta a_stack a_num0 a_maker0 a_taker0 a_stack0 a_dput a_need := by
  have h80 := hw.1
  have h11 := hw.2.1
  intro n
  induction n with
  | zero => intro m rs nu ma ta h1 h2; omega
  | succ n ih =>
    intro m rs nu ma ta h1 h2 h3 h4
    refine zp_m1lt0 m (by omega) (fun c => ?_) (fun c => ?_)
    · subst c
      rw [List.take_zero, List.drop_zero, List.nil_append] at h3 h4
      refine zy_us hS hn h11 hk1 hk (fun st hst => ?_)
      have Q1 : zy_Q (l.filterMap (zp_dG (zp_sl o k))) (o.eraseIdx k) nm rs (nI (o.length - 2)) nu ma ta st := by
        refine ⟨hw', ⟨hN.1, fun s t hs ht => hN.2 s t ?_ ?_⟩, h3, ?_, h4.1, h4.2.1, h4.2.2, hst⟩
        · exact ((zp_er_mem hw.2.2.1 hk).mp hs).1
        · exact ((zp_er_mem hw.2.2.1 hk).mp ht).1
        · rw [zp_er_len hk, show o.length - 1 - 1 = o.length - 2 from by omega]
      refine zy_ft Q1 hm hm2 (zp_ic (fun z => hA z _ _ _ _ _ _ Q1) (fun z => ?_))
      exact zy_un hw hN hSv (fun nu ma ta st q => hB z nu ma ta st q)
    · obtain ⟨m, rfl⟩ : ∃ q, m = q + 1 := ⟨m - 1, by omega⟩
      rw [nI_pred]
      obtain ⟨x, hx⟩ := zp_ex (l := l) (i := m) (by omega)
      have hlt : (l.take m).length = m := by rw [List.length_take]; omega
      have et : l.take (m + 1) ++ (l.drop (m + 1)).filterMap (zp_dG (zp_sl o k)) = l.take m ++ x :: (l.drop (m + 1)).filterMap (zp_dG (zp_sl o k)) := by
        rw [List.take_add_one, hx]; simp
      rw [et] at h3 h4
      have m1 := hw.2.2.2.2.2 x (zp_mem hx)
      have ed := zp_drop hx
      have hlen : (l.take m ++ x :: (l.drop (m + 1)).filterMap (zp_dG (zp_sl o k))).length < 100 := by
        have := List.length_filterMap_le (zp_dG (zp_sl o k)) (l.drop (m + 1))
        rw [List.length_append, List.length_cons, hlt]
        rw [List.length_drop] at this
        omega
      obtain ⟨v1, v2, v3, v4⟩ := zy_mx hN hS h4 (by omega) h11 hk m1.1 m1.2
      have key : ∀ ta' t', t' = (if x.2.2 = zp_sl o k then 0 else x.2.2) → zy_R nm (l.take m ++ (x.1, x.2.1, t') :: (l.drop (m + 1)).filterMap (zp_dG (zp_sl o k))) nu ma ta' → wY_drop_77 post (wY_drop_51 post (nI k) n) (nI k) (nI (l.take m).length) f_maxLines f_maxSide f_maxPatches rs f_n f_nextName f_rows0 f_n0 f_drafting f_place f_take f_puts nu ma ta' a_stack a_num0 a_maker0 a_taker0 a_stack0 a_dput a_need := by
        intro ta' t' ht' hR'
        have t0 : t' ∈ o := by
          rw [ht']
          split
          · exact zp_mem hw.2.2.2.1
          · exact m1.2
        refine zy_dr77 (x := (x.1, x.2.1, t')) hN hS hR' (by rw [h3]; simp) (by have := hlen; simp at this ⊢; omega) h11 hk m1.1 t0 (fun z nu ma ta hR => ?_) (fun z => ?_)
        · rw [hlt]
          refine ih m _ nu ma ta (by omega) (by omega) ?_ ?_
          · rw [ed, List.filterMap_cons_none]
            have z : x.2.1 = zp_sl o k := z
            simp [zp_dG, z]
          · rw [ed, List.filterMap_cons_none]
            · exact hR
            · have z : x.2.1 = zp_sl o k := z
              simp [zp_dG, z]
        · have z : ¬ x.2.1 = zp_sl o k := z
          have eg : zp_dG (zp_sl o k) x = some (x.1, x.2.1, t') := by simp [zp_dG, z, ht']
          rw [hlt]
          refine ih m _ nu ma ta' (by omega) (by omega) ?_ ?_
          · rw [ed, List.filterMap_cons_some eg, h3]; simp
          · rw [ed, List.filterMap_cons_some eg]; exact hR'
      rw [hlt] at v1 v4 key
      refine ⟨v1, v2, br_c (fun z => ⟨v1, nm_e (key _ 0 ?_ ?_)⟩) (fun z => key _ x.2.2 ?_ ?_)⟩
      · rw [if_pos (v4.mp z)]
      · rw [nI_clamp (by omega)]
        have h5 := h4
        refine ⟨zp_LA_sam h5.1 rfl, zp_LA_sam h5.2.1 rfl, ?_⟩
        have := zp_LA_set (y := (x.1, x.2.1, 0)) (v := 0) h5.2.2 hN.1.symm
        rw [hlt] at this
        exact this
      · rw [if_neg (fun q => z (v4.mpr q))]
      · exact h4
theorem zy_fd98 {post : Int32 → SY → Prop} {J : Int32 → Int32 → Int32 → Int32 → Int32 → Int32 → Int32 → Int32 → Int32 → Int32 → Int32 → Int32 → Int32 → (Nat → Int32) → (Nat → Int32) → (Nat → Int32) → (Nat → Int32) → (Nat → Int32) → (Nat → Int32) → (Nat → Int32) → (Nat → Int32) → (Nat → Int32) → (Nat → Int32) → Prop} {A B : List zp_En} {x : zp_En} {f t : Nat} (hN : zy_NM o nm) (hS : zp_LA a_stack o nm) (hR : zy_R nm (A ++ x :: B) a_num a_maker a_taker) (hr : f_rows = nI (A ++ x :: B).length) (hl : (A ++ x :: B).length < 100) (h11 : o.length ≤ 11) (ht : t < o.length) (m1 : x.2.1 ∈ o) (m2 : x.2.2 ∈ o)
  (h1 : x.2.1 = zp_sl o t ∧ x.2.2 = zp_sl o t → ∀ nu ma ta, zy_R nm (A ++ B) nu ma ta → J (nI A.length - 1) f_maxLines f_maxSide f_maxPatches (nI (A ++ B).length) f_n f_nextName f_rows0 f_n0 f_drafting f_place f_take f_puts nu ma ta a_stack a_num0 a_maker0 a_taker0 a_stack0 a_dput a_need)
  (h2 : ¬ (x.2.1 = zp_sl o t ∧ x.2.2 = zp_sl o t) → J (nI A.length - 1) f_maxLines f_maxSide f_maxPatches f_rows f_n f_nextName f_rows0 f_n0 f_drafting f_place f_take f_puts a_num a_maker a_taker a_stack a_num0 a_maker0 a_taker0 a_stack0 a_dput a_need) : wY_fold_98 post J (nI f) (nI t) (nI A.length) f_maxLines f_maxSide f_maxPatches f_rows f_n f_nextName f_rows0 f_n0 f_drafting f_place f_take f_puts a_num a_maker a_taker a_stack a_num0 a_maker0 a_taker0 a_stack0 a_dput a_need := by
  have hA : A.length < 100 := by rw [List.length_append] at hl; omega
  obtain ⟨v1, v2, v3, v4⟩ := zy_mx hN hS hR hA h11 ht m1 m2
  have e1 : (A ++ x :: B).length - 1 = (A ++ B).length := by simp
  refine And.intro v1 (And.intro v2 (br_c (fun z => And.intro v1 (And.intro v2 (br_c (fun z2 => ?_) (fun z2 => nm_r (zp_m1 _) (h2 (fun q => z2 (v4.mpr q.2))))))) (fun z => nm_r (zp_m1 _) (h2 (fun q => z (v3.mpr q.1))))))
  refine zy_dl (k := A.length) hR hr hl (by simp) rfl (fun nu ma ta hR' => nm_r (zp_m1 _) ?_)
  rw [zp_mid_er] at hR'
  rw [e1]
  exact h1 ⟨v3.mp z, v4.mp z2⟩ nu ma ta hR'
theorem zy_fd71 {post : Int32 → SY → Prop} {J : Int32 → Int32 → Int32 → Int32 → Int32 → Int32 → Int32 → Int32 → Int32 → Int32 → Int32 → Int32 → Int32 → (Nat → Int32) → (Nat → Int32) → (Nat → Int32) → (Nat → Int32) → (Nat → Int32) → (Nat → Int32) → (Nat → Int32) → (Nat → Int32) → (Nat → Int32) → (Nat → Int32) → Prop} {A B : List zp_En} {x : zp_En} {f t m : Nat} (hN : zy_NM o nm) (hS : zp_LA a_stack o nm) (hR : zy_R nm (A ++ (x.1, m, x.2.2) :: B) a_num a_maker a_taker) (hr : f_rows = nI (A ++ (x.1, m, x.2.2) :: B).length) (hl : (A ++ (x.1, m, x.2.2) :: B).length < 100) (h11 : o.length ≤ 11) (hf : f < o.length) (ht : t < o.length) (m1 : m ∈ o) (m2 : x.2.2 ∈ o)
  (h1 : m = zp_sl o t ∧ zp_rn (zp_sl o f) (zp_sl o t) x.2.2 = zp_sl o t → ∀ nu ma ta, zy_R nm (A ++ B) nu ma ta → J (nI A.length - 1) f_maxLines f_maxSide f_maxPatches (nI (A ++ B).length) f_n f_nextName f_rows0 f_n0 f_drafting f_place f_take f_puts nu ma ta a_stack a_num0 a_maker0 a_taker0 a_stack0 a_dput a_need)
  (h2 : ¬ (m = zp_sl o t ∧ zp_rn (zp_sl o f) (zp_sl o t) x.2.2 = zp_sl o t) → ∀ ta, zy_R nm (A ++ (x.1, m, zp_rn (zp_sl o f) (zp_sl o t) x.2.2) :: B) a_num a_maker ta → J (nI A.length - 1) f_maxLines f_maxSide f_maxPatches f_rows f_n f_nextName f_rows0 f_n0 f_drafting f_place f_take f_puts a_num a_maker ta a_stack a_num0 a_maker0 a_taker0 a_stack0 a_dput a_need) : wY_fold_71 post J (nI f) (nI t) (nI A.length) f_maxLines f_maxSide f_maxPatches f_rows f_n f_nextName f_rows0 f_n0 f_drafting f_place f_take f_puts a_num a_maker a_taker a_stack a_num0 a_maker0 a_taker0 a_stack0 a_dput a_need := by
  have hA : A.length < 100 := by rw [List.length_append] at hl; omega
  obtain ⟨v1, v2, v3, v4⟩ := zy_mx hN hS hR hA h11 hf m1 m2
  have v5 := vp_in_nI (n := t) (N := 12) (by omega) (by omega)
  refine And.intro v1 (And.intro v2 (br_c (fun z => And.intro v5 (And.intro v1 (nm_e ?_))) (fun z => ?_)))
  · have er : zp_rn (zp_sl o f) (zp_sl o t) x.2.2 = zp_sl o t := by
      have := v4.mp z
      simp only at this
      simp [zp_rn, this]
    have es : a_stack (nI t).toNatClampNeg = nm (zp_sl o t) := by rw [nI_clamp (by omega)]; exact hS _ _ (zp_sl_g ht)
    rw [es, nI_clamp (by omega)]
    have hR2 : zy_R nm (A ++ (x.1, m, zp_rn (zp_sl o f) (zp_sl o t) x.2.2) :: B) a_num a_maker (upd a_taker A.length (nm (zp_sl o t))) :=
      ⟨zp_LA_sam hR.1 rfl, zp_LA_sam hR.2.1 rfl, zp_LA_set hR.2.2 (by rw [er])⟩
    exact zy_fd98 (x := (x.1, m, zp_rn (zp_sl o f) (zp_sl o t) x.2.2)) hN hS hR2 (by rw [hr]; simp) (by have := hl; simp at this ⊢; omega) h11 ht m1 (by rw [er]; exact zp_sl_m ht) h1 (fun q => h2 q _ hR2)
  · have er : zp_rn (zp_sl o f) (zp_sl o t) x.2.2 = x.2.2 := by
      have : ¬ x.2.2 = zp_sl o f := fun q => z (v4.mpr q)
      simp [zp_rn, this]
    rw [er] at h1 h2
    exact zy_fd98 (x := (x.1, m, x.2.2)) hN hS hR hr hl h11 ht m1 m2 h1 (fun q => h2 q _ hR)
theorem zy_fd40 {post : Int32 → SY → Prop} {f t : Nat} (hw : zp_WF l o) (hN : zy_NM o nm) (hS : zp_LA a_stack o nm) (hf : f < o.length) (ht : t < o.length)
  (hE : ∀ nu ma ta, zy_R nm (zp_l1 l o f t) nu ma ta → wY_fold_40 post (nI f) (nI t) 1 (-1) f_maxLines f_maxSide f_maxPatches (nI (zp_l1 l o f t).length) f_n f_nextName f_rows0 f_n0 f_drafting f_place f_take f_puts nu ma ta a_stack a_num0 a_maker0 a_taker0 a_stack0 a_dput a_need) : ∀ n m rs nu ma ta, m < n → m ≤ l.length → rs = nI (l.take m ++ (l.drop m).filterMap (zp_fG (zp_sl o f) (zp_sl o t))).length → zy_R nm (l.take m ++ (l.drop m).filterMap (zp_fG (zp_sl o f) (zp_sl o t))) nu ma ta → wY_fold_40 post (nI f) (nI t) n (nI m - 1) f_maxLines f_maxSide f_maxPatches rs f_n f_nextName f_rows0 f_n0 f_drafting f_place f_take f_puts nu ma ta a_stack a_num0 a_maker0 a_taker0 a_stack0 a_dput a_need := by
  have h80 := hw.1
  have h11 := hw.2.1
  intro n
  induction n with
  | zero => intro m rs nu ma ta h1 h2; omega
  | succ n ih =>
    intro m rs nu ma ta h1 h2 h3 h4
    refine zp_m1lt0 m (by omega) (fun c => ?_) (fun c => ?_)
    · subst c
      rw [List.take_zero, List.drop_zero, List.nil_append] at h3 h4
      rw [h3]
      exact (hE nu ma ta h4).1 (by decide)
    · obtain ⟨m, rfl⟩ : ∃ q, m = q + 1 := ⟨m - 1, by omega⟩
      rw [nI_pred]
      obtain ⟨x, hx⟩ := zp_ex (l := l) (i := m) (by omega)
      have hlt : (l.take m).length = m := by rw [List.length_take]; omega
      have et : l.take (m + 1) ++ (l.drop (m + 1)).filterMap (zp_fG (zp_sl o f) (zp_sl o t)) = l.take m ++ x :: (l.drop (m + 1)).filterMap (zp_fG (zp_sl o f) (zp_sl o t)) := by
        rw [List.take_add_one, hx]; simp
      rw [et] at h3 h4
      have m1 := hw.2.2.2.2.2 x (zp_mem hx)
      have ed := zp_drop hx
      have hlen : (l.take m ++ x :: (l.drop (m + 1)).filterMap (zp_fG (zp_sl o f) (zp_sl o t))).length < 100 := by
        have := List.length_filterMap_le (zp_fG (zp_sl o f) (zp_sl o t)) (l.drop (m + 1))
        rw [List.length_append, List.length_cons, hlt]
        rw [List.length_drop] at this
        omega
      obtain ⟨v1, v2, v3, v4⟩ := zy_mx hN hS h4 (by omega) h11 hf m1.1 m1.2
      have v5 := vp_in_nI (n := t) (N := 12) (by omega) (by omega)
      have key : ∀ ma', zy_R nm (l.take m ++ (x.1, zp_rn (zp_sl o f) (zp_sl o t) x.2.1, x.2.2) :: (l.drop (m + 1)).filterMap (zp_fG (zp_sl o f) (zp_sl o t))) nu ma' ta → wY_fold_71 post (wY_fold_40 post (nI f) (nI t) n) (nI f) (nI t) (nI (l.take m).length) f_maxLines f_maxSide f_maxPatches rs f_n f_nextName f_rows0 f_n0 f_drafting f_place f_take f_puts nu ma' ta a_stack a_num0 a_maker0 a_taker0 a_stack0 a_dput a_need := by
        intro ma' hR'
        have t0 : zp_rn (zp_sl o f) (zp_sl o t) x.2.1 ∈ o := by
          unfold zp_rn
          split
          · exact zp_sl_m ht
          · exact m1.1
        refine zy_fd71 (x := x) hN hS hR' (by rw [h3]; simp) (by have := hlen; simp at this ⊢; omega) h11 hf ht t0 m1.2 (fun z nu ma ta hR => ?_) (fun z ta' hR => ?_)
        · have eg : zp_fG (zp_sl o f) (zp_sl o t) x = none := by simp [zp_fG, z]
          rw [hlt]
          refine ih m _ nu ma ta (by omega) (by omega) ?_ ?_
          · rw [ed, List.filterMap_cons_none eg]
          · rw [ed, List.filterMap_cons_none eg]; exact hR
        · have eg : zp_fG (zp_sl o f) (zp_sl o t) x = some (x.1, zp_rn (zp_sl o f) (zp_sl o t) x.2.1, zp_rn (zp_sl o f) (zp_sl o t) x.2.2) := by unfold zp_fG; rw [if_neg z]
          rw [hlt]
          refine ih m _ nu ma' ta' (by omega) (by omega) ?_ ?_
          · rw [ed, List.filterMap_cons_some eg, h3]; simp
          · rw [ed, List.filterMap_cons_some eg]; exact hR
      have es : a_stack (nI t).toNatClampNeg = nm (zp_sl o t) := by rw [nI_clamp (by omega)]; exact hS _ _ (zp_sl_g ht)
      rw [hlt] at v1 v3 key
      refine ⟨v1, v2, br_c (fun z => ⟨v5, v1, nm_e (key _ ?_)⟩) (fun z => key _ ?_)⟩
      · rw [es, nI_clamp (by omega)]
        have er : zp_rn (zp_sl o f) (zp_sl o t) x.2.1 = zp_sl o t := by simp [zp_rn, v3.mp z]
        have h5 := h4
        have := zp_LA_set (y := (x.1, zp_rn (zp_sl o f) (zp_sl o t) x.2.1, x.2.2)) (v := nm (zp_sl o t)) h5.2.1 (by rw [er])
        rw [hlt] at this
        exact ⟨zp_LA_sam h5.1 rfl, this, zp_LA_sam h5.2.2 rfl⟩
      · have er : zp_rn (zp_sl o f) (zp_sl o t) x.2.1 = x.2.1 := by
          have : ¬ x.2.1 = zp_sl o f := fun q => z (v3.mpr q)
          simp [zp_rn, this]
        rw [er]; exact h4
end
end
section
/-! the reference: fold, push, revert's loading, pick's and move's loops -/
theorem zy_NM_er {o : List Nat} {nm : Nat → Int32} (h : zy_NM o nm) (k : Nat) : zy_NM (o.eraseIdx k) nm :=
  ⟨h.1, fun s t hs ht => h.2 s t ((List.eraseIdx_sublist o k).subset hs) ((List.eraseIdx_sublist o k).subset ht)⟩
section
variable {f_maxLines f_maxSide f_maxPatches f_rows f_n f_nextName f_rows0 f_n0 f_drafting f_place f_take f_puts : Int32} {a_num a_maker a_taker a_stack a_num0 a_maker0 a_taker0 a_stack0 a_dput a_need : Nat → Int32} {l : List zp_En} {o : List Nat} {nm : Nat → Int32}
theorem zy_fold192 {post : Int32 → SY → Prop} {ml ms A B : Nat} (h : zy_Q l o nm f_rows f_n a_num a_maker a_taker a_stack) (hm : f_maxLines = nI ml) (hm2 : ml < 1000) (hA : ¬ ms < A) (hB : ¬ ms < B) (hp1 : ms < A ∨ ms < B ∨ ¬ zp_Fits ml l o → post (-4) (f_maxLines, f_maxSide, f_maxPatches, f_rows, f_n, f_nextName, f_rows0, f_n0, f_drafting, f_place, f_take, f_puts, a_num, a_maker, a_taker, a_stack, a_num0, a_maker0, a_taker0, a_stack0, a_dput, a_need)) (hp2 : ¬ (ms < A ∨ ms < B ∨ ¬ zp_Fits ml l o) → post 0 (f_maxLines, f_maxSide, f_maxPatches, f_rows, f_n, f_nextName, f_rows0, f_n0, f_drafting, f_place, f_take, f_puts, a_num, a_maker, a_taker, a_stack, a_num0, a_maker0, a_taker0, a_stack0, a_dput, a_need)) : wY_fold_192 post f_maxLines f_maxSide f_maxPatches f_rows f_n f_nextName f_rows0 f_n0 f_drafting f_place f_take f_puts a_num a_maker a_taker a_stack a_num0 a_maker0 a_taker0 a_stack0 a_dput a_need := by
  refine zy_ft h hm hm2 (zp_ic (fun z => hp2 ?_) (fun z => hp1 (Or.inr (Or.inr z))))
  intro q
  rcases q with q | q | q
  · omega
  · omega
  · exact q z
theorem zy_fd4 {post : Int32 → SY → Prop} {f : Nat} (h : zy_Q l o nm f_rows f_n a_num a_maker a_taker a_stack) (hf : f < o.length) (hE : ∀ n, wY_fold_4 post (nI f) f_maxLines f_maxSide f_maxPatches f_rows f_n f_nextName f_rows0 f_n0 f_drafting f_place f_take f_puts a_num a_maker a_taker a_stack a_num0 a_maker0 a_taker0 a_stack0 a_dput a_need (n + 1) (nI (zp_ft l o f)) (nI f)) : ∀ n j, 1 ≤ j → j ≤ f → f - j < n → wY_fold_4 post (nI f) f_maxLines f_maxSide f_maxPatches f_rows f_n f_nextName f_rows0 f_n0 f_drafting f_place f_take f_puts a_num a_maker a_taker a_stack a_num0 a_maker0 a_taker0 a_stack0 a_dput a_need n (nI (zp_hr (zp_Rs l o f) j)) (nI j) := by
  have h11 := h.1.2.1
  intro n
  induction n with
  | zero => intro j h1 h2; omega
  | succ n ih =>
    intro j h1 h2 h3
    by_cases c : j = f
    · subst c; exact hE n
    · refine br_f (nI_ge (by omega) (by omega)) (zy_rests h (by omega) hf (zp_ic (fun z => nm_r (nI_1 j) ?_) (fun z => nm_r (nI_1 j) ?_)))
      · have := ih (j + 1) (by omega) (by omega) (by omega)
        rw [zp_hr_t z] at this; exact this
      · have := ih (j + 1) (by omega) (by omega) (by omega)
        rw [zp_hr_f z] at this; exact this
theorem zy_fold {post : Int32 → SY → Prop} {ml ms f : Nat} (h : zy_Q l o nm f_rows f_n a_num a_maker a_taker a_stack) (hm : f_maxLines = nI ml) (hm2 : ml < 1000) (hs : f_maxSide = nI ms) (hs2 : ms < 1000) (hf1 : 1 ≤ f) (hf : f < o.length) (hB : zp_ft l o f = 0 → post (-5) (f_maxLines, f_maxSide, f_maxPatches, f_rows, f_n, f_nextName, f_rows0, f_n0, f_drafting, f_place, f_take, f_puts, a_num, a_maker, a_taker, a_stack, a_num0, a_maker0, a_taker0, a_stack0, a_dput, a_need))
  (hG : ∀ t, zp_ft l o f = t → 1 ≤ t → t < f → ∀ rs ct nu ma ta st, zy_Q (zp_l1 l o f t) (zp_o2 l o f t) nm rs ct nu ma ta st → post (zp_fa ml ms l o f t) (f_maxLines, f_maxSide, f_maxPatches, rs, ct, f_nextName, f_rows0, f_n0, f_drafting, f_place, f_take, f_puts, nu, ma, ta, st, a_num0, a_maker0, a_taker0, a_stack0, a_dput, a_need)) : wpY_fold post (f_maxLines, f_maxSide, f_maxPatches, f_rows, f_n, f_nextName, f_rows0, f_n0, f_drafting, f_place, f_take, f_puts, a_num, a_maker, a_taker, a_stack, a_num0, a_maker0, a_taker0, a_stack0, a_dput, a_need) (nI f) := by
  have h80 := h.1.1
  have h11 := h.1.2.1
  have hle : zp_ft l o f ≤ f := by
    rcases zp_hr_a (R := zp_Rs l o f) f with z | z
    · have : zp_ft l o f = 0 := z
      omega
    · have : zp_ft l o f < f := z.1
      omega
  have hE : ∀ n, wY_fold_4 post (nI f) f_maxLines f_maxSide f_maxPatches f_rows f_n f_nextName f_rows0 f_n0 f_drafting f_place f_take f_puts a_num a_maker a_taker a_stack a_num0 a_maker0 a_taker0 a_stack0 a_dput a_need (n + 1) (nI (zp_ft l o f)) (nI f) := by
    intro n
    refine br_t (nI_le (Nat.le_refl _) (by omega)) (pk_eq (zp_ft l o f) 0 hB (fun hz => ?_))
    obtain ⟨t, ht⟩ : ∃ t, zp_ft l o f = t := ⟨_, rfl⟩
    have ht1 : 1 ≤ t := by omega
    have htf : t < f := by
      rcases zp_hr_a (R := zp_Rs l o f) f with z | z
      · exact absurd z hz
      · have : zp_ft l o f < f := z.1
        omega
    have hG := hG t ht ht1 htf
    rw [ht]
    refine nm_r (e' := nI l.length - 1) (by rw [h.2.2.1]) ?_
    have hw1 := zp_WF_l1 h.1 hf htf
    have hl1 : (o.eraseIdx f).length = o.length - 1 := zp_er_len hf
    have esl : zp_sl (o.eraseIdx f) t = zp_sl o t := zp_er_sl htf
    have l80 := hw1.1
    have cA : zp_cm (zp_l1 l o f t) (zp_sl o t) ≤ (zp_l1 l o f t).length := List.countP_le_length
    have cB : zp_ct (zp_l1 l o f t) (zp_sl o t) ≤ (zp_l1 l o f t).length := List.countP_le_length
    have hfin : ∀ nu ma ta, zy_R nm (zp_l1 l o f t) nu ma ta → wY_fold_40 post (nI f) (nI t) 1 (-1) f_maxLines f_maxSide f_maxPatches (nI (zp_l1 l o f t).length) f_n f_nextName f_rows0 f_n0 f_drafting f_place f_take f_puts nu ma ta a_stack a_num0 a_maker0 a_taker0 a_stack0 a_dput a_need := by
      intro nu ma ta hR
      refine br_t (by decide) (zy_us h.2.2.2.2.2.2.2 h.2.2.2.1 h11 hf1 hf (fun st hst => ?_))
      have Q1 : zy_Q (zp_l1 l o f t) (o.eraseIdx f) nm (nI (zp_l1 l o f t).length) (nI (o.length - 2)) nu ma ta st :=
        ⟨hw1, zy_NM_er h.2.1 f, rfl, by rw [hl1, show o.length - 1 - 1 = o.length - 2 from by omega], hR.1, hR.2.1, hR.2.2, hst⟩
      have htl : t < (o.eraseIdx f).length := by rw [hl1]; omega
      have fin : ¬ (zp_cm (zp_l1 l o f t) (zp_sl o t) + zp_ct (zp_l1 l o f t) (zp_sl o t) = 0) → ¬ ms < zp_cm (zp_l1 l o f t) (zp_sl o t) → ¬ ms < zp_ct (zp_l1 l o f t) (zp_sl o t) → wY_fold_192 post f_maxLines f_maxSide f_maxPatches (nI (zp_l1 l o f t).length) (nI (o.length - 2)) f_nextName f_rows0 f_n0 f_drafting f_place f_take f_puts nu ma ta st a_num0 a_maker0 a_taker0 a_stack0 a_dput a_need := by
        intro z y1 y2
        have eo : zp_o2 l o f t = o.eraseIdx f := by unfold zp_o2; rw [if_neg z]
        have Q2 : zy_Q (zp_l1 l o f t) (zp_o2 l o f t) nm (nI (zp_l1 l o f t).length) (nI (o.length - 2)) nu ma ta st := by rw [eo]; exact Q1
        refine zy_fold192 (A := zp_cm (zp_l1 l o f t) (zp_sl o t)) (B := zp_ct (zp_l1 l o f t) (zp_sl o t)) Q2 hm hm2 y1 y2 (fun q => ?_) (fun q => ?_)
        · have := hG _ _ _ _ _ _ Q2
          rw [zp_fa_t q] at this; exact this
        · have := hG _ _ _ _ _ _ Q2
          rw [zp_fa_f q] at this; exact this
      have full : ms < zp_cm (zp_l1 l o f t) (zp_sl o t) ∨ ms < zp_ct (zp_l1 l o f t) (zp_sl o t) → post (-4) (f_maxLines, f_maxSide, f_maxPatches, (nI (zp_l1 l o f t).length), (nI (o.length - 2)), f_nextName, f_rows0, f_n0, f_drafting, f_place, f_take, f_puts, nu, ma, ta, st, a_num0, a_maker0, a_taker0, a_stack0, a_dput, a_need) := by
        intro z
        have eo : zp_o2 l o f t = o.eraseIdx f := by unfold zp_o2; rw [if_neg (by omega)]
        have Q2 : zy_Q (zp_l1 l o f t) (zp_o2 l o f t) nm (nI (zp_l1 l o f t).length) (nI (o.length - 2)) nu ma ta st := by rw [eo]; exact Q1
        have := hG _ _ _ _ _ _ Q2
        rw [zp_fa_t (z.elim Or.inl (fun q => Or.inr (Or.inl q)))] at this; exact this
      refine zy_ma Q1 htl ?_
      rw [esl]
      refine pk_lt ms (zp_cm (zp_l1 l o f t) (zp_sl o t)) (fun y => full (Or.inl y)) (fun y => zy_ta Q1 htl ?_) hs rfl
      rw [esl]
      refine pk_le (zp_ct (zp_l1 l o f t) (zp_sl o t)) ms (fun y2 => zy_ma Q1 htl ?_) (fun y2 => full (Or.inr y2)) rfl hs
      rw [esl]
      refine pk_eq (zp_cm (zp_l1 l o f t) (zp_sl o t)) 0 (fun y3 => zy_ta Q1 htl ?_) (fun y3 => fin (by omega) (by omega) (by omega)) rfl rfl
      rw [esl]
      refine pk_eq (zp_ct (zp_l1 l o f t) (zp_sl o t)) 0 (fun y4 => ?_) (fun y4 => fin (by omega) (by omega) (by omega)) rfl rfl
      refine zy_us hst Q1.2.2.2.1 (by rw [hl1]; omega) ht1 htl (fun st' hst' => ?_)
      have eo : zp_o2 l o f t = (o.eraseIdx f).eraseIdx t := by unfold zp_o2; rw [if_pos (by omega)]
      have Q2 : zy_Q (zp_l1 l o f t) (zp_o2 l o f t) nm (nI (zp_l1 l o f t).length) (nI ((o.eraseIdx f).length - 2)) nu ma ta st' := by
        refine ⟨zp_WF_o2 h.1 hf ht1 htf, ?_, rfl, ?_, hR.1, hR.2.1, hR.2.2, by rw [eo]; exact hst'⟩
        · rw [eo]; exact zy_NM_er (zy_NM_er h.2.1 f) t
        · rw [eo, zp_er_len (o := o.eraseIdx f) (k := t) htl, show (o.eraseIdx f).length - 1 - 1 = (o.eraseIdx f).length - 2 from by omega]
      refine zy_fold192 (A := zp_cm (zp_l1 l o f t) (zp_sl o t)) (B := zp_ct (zp_l1 l o f t) (zp_sl o t)) (ms := ms) Q2 hm hm2 (by omega) (by omega) (fun q => ?_) (fun q => ?_)
      · have := hG _ _ _ _ _ _ Q2
        rw [zp_fa_t q] at this; exact this
      · have := hG _ _ _ _ _ _ Q2
        rw [zp_fa_f q] at this; exact this
    refine ⟨_, zy_fd40 h.1 h.2.1 h.2.2.2.2.2.2.2 hf (by omega) hfin (l.length + 1) l.length f_rows a_num a_maker a_taker (by omega) (Nat.le_refl _) ?_ ?_⟩
    · rw [List.take_length, List.drop_length, List.filterMap_nil, List.append_nil]; exact h.2.2.1
    · rw [List.take_length, List.drop_length, List.filterMap_nil, List.append_nil]; exact ⟨h.2.2.2.2.1, h.2.2.2.2.2.1, h.2.2.2.2.2.2.1⟩
  have := zy_fd4 h hf hE (f + 1) 1 (Nat.le_refl _) hf1 (by omega)
  rw [zp_hr_1] at this
  exact ⟨_, this⟩
theorem zy_pu128 {post : Int32 → SY → Prop} {l1 : List zp_En} {ds : List Int32} {g : Nat → Int32} {s q nx : Nat} (hn : f_n = nI (o.length - 1)) (ho1 : 1 ≤ o.length) (h10 : o.length ≤ 10) (hc : f_puts = nI ds.length) (hc6 : ds.length ≤ 6) (hL : l1.length + ds.length ≤ 80) (hD : zp_LA a_dput ds (fun x => x)) (hq : q ≤ l1.length) (hnx : f_nextName = nI nx) (hs : nI nx = g s) (h0 : g 0 = 0)
  (hp : ∀ rs nu ma ta, rs = nI (l1.length + ds.length) → zy_R g (zp_ins l1 (zp_new ds s) q) nu ma ta → post 0 (f_maxLines, f_maxSide, f_maxPatches, rs, (nI o.length), (nI (nx + 1)), f_rows0, f_n0, 0, f_place, f_take, f_puts, nu, ma, ta, (upd a_stack o.length (nI nx)), a_num0, a_maker0, a_taker0, a_stack0, a_dput, a_need)) : ∀ n i rs nu ma ta, i ≤ ds.length → ds.length - i < n → rs = nI (l1.length + i) → zy_R g (zp_ins l1 (zp_new (ds.take i) s) q) nu ma ta → wY_push_128 post (nI q) n (nI i) f_maxLines f_maxSide f_maxPatches rs f_n f_nextName f_rows0 f_n0 f_drafting f_place f_take f_puts nu ma ta a_stack a_num0 a_maker0 a_taker0 a_stack0 a_dput a_need := by
  intro n
  induction n with
  | zero => intro i rs nu ma ta h1 h2; omega
  | succ n ih =>
    intro i rs nu ma ta h1 h2 h3 h4
    refine pk_le ds.length i (fun c => ?_) (fun c => ⟨vp_in_nI (by omega) (by omega), ?_⟩) hc
    · refine nm_r (e' := nI o.length) (by rw [hn, nI_1, show o.length - 1 + 1 = o.length from by omega]) ⟨vp_in_nI (by omega) (by omega), ?_⟩
      rw [nI_clamp (by omega), hnx]
      refine nm_e (nm_r (nI_1 nx) (hp rs nu ma ta (by rw [h3, show i = ds.length from by omega]) ?_))
      rw [List.take_of_length_le c] at h4; exact h4
    · obtain ⟨d, hd⟩ := zp_ex c
      have hli : (zp_new (ds.take i) s).length = i := by simp [zp_new]; omega
      have hll : (zp_ins l1 (zp_new (ds.take i) s) q).length = l1.length + i := by rw [zp_ins_len hq, hli]
      rw [nI_clamp (by omega), hD i d hd]
      refine zy_ins (l := zp_ins l1 (zp_new (ds.take i) s) q) (q := q + i) (s := s) (g := g) h4 (by rw [hll]; exact h3) (by omega) (by omega) (nI_add q i) (by rw [hnx]; exact hs) h0 (fun nu ma ta hR => nm_r (nI_1 i) ?_)
      refine ih (i + 1) _ nu ma ta (by omega) (by omega) (by rw [hll]; rfl) ?_
      have e1 : zp_new (ds.take (i + 1)) s = zp_new (ds.take i) s ++ [(d, s, 0)] := by
        unfold zp_new; rw [List.take_add_one, hd, List.map_append]; rfl
      rw [e1, ← zp_ins_ins hq, hli]
      exact hR
theorem zy_pu49 {post : Int32 → SY → Prop} {s pl tk nx : Nat} (h : zy_Q l o nm f_rows f_n a_num a_maker a_taker a_stack) (hpl : f_place = nI pl) (htk : f_take = nI tk) (hb : pl + tk < 500) (hnx : f_nextName = nI nx) (hso : s ∉ o)
  (hp : ∀ ta, zp_LA ta (zp_mk (zp_inT o (o.length - 1)) s pl (pl + tk) 0 l) (fun x => upd nm s (nI nx) x.2.2) → ∃ n, wY_push_128 post (nI (zp_at (zp_inT o (o.length - 1)) l (pl + tk) l.length)) n 0 f_maxLines f_maxSide f_maxPatches f_rows f_n f_nextName f_rows0 f_n0 f_drafting f_place f_take f_puts a_num a_maker ta a_stack a_num0 a_maker0 a_taker0 a_stack0 a_dput a_need) : ∀ n e ta, e ≤ l.length → l.length - e < n → (∀ i x, l[i]? = some x → ta i = if i < e ∧ zp_mC (zp_inT o (o.length - 1)) l pl (pl + tk) i x = true then upd nm s (nI nx) s else upd nm s (nI nx) x.2.2) → wY_push_49 post f_maxLines f_maxSide f_maxPatches f_rows f_n f_nextName f_rows0 f_n0 f_drafting f_place f_take f_puts n (nI (zp_cP (zp_inT o (o.length - 1)) l e)) (nI (zp_at (zp_inT o (o.length - 1)) l (pl + tk) e)) (nI e) a_num a_maker ta a_stack a_num0 a_maker0 a_taker0 a_stack0 a_dput a_need := by
  have h80 := h.1.1
  have h11 := h.1.2.1
  have ho1 := zp_opos h.1
  have en : ∀ t, t ∈ o → upd nm s (nI nx) t = nm t := fun t ht => pk_un (fun z => hso (z ▸ ht))
  intro n
  induction n with
  | zero => intro e ta h1 h2; omega
  | succ n ih =>
    intro e ta h1 h2 h3
    refine pk_le l.length e (fun c => ?_) (fun c => ?_) h.2.2.1
    · rw [show e = l.length from by omega] at h3 ⊢
      exact hp ta (zp_mk_LA h3)
    · obtain ⟨x, hx⟩ := zp_ex c
      have m1 := h.1.2.2.2.2.2 x (zp_mem hx)
      have hT : ta e = upd nm s (nI nx) x.2.2 := by rw [h3 e x hx, if_neg (by omega)]
      have hcl := zp_cP_le (p := zp_inT o (o.length - 1)) (l := l) (e := e)
      have hpt : f_place + f_take = nI (pl + tk) := by rw [hpl, htk, nI_add]
      have e0 : (nI e).toNatClampNeg = e := nI_clamp (by omega)
      have j100 : ∀ (q : Prop) (ta' : Nat → Int32), zp_inT o (o.length - 1) x = true → (∀ i x, l[i]? = some x → ta' i = if i < e + 1 ∧ zp_mC (zp_inT o (o.length - 1)) l pl (pl + tk) i x = true then upd nm s (nI nx) s else upd nm s (nI nx) x.2.2) → wY_push_100 post (wY_push_49 post f_maxLines f_maxSide f_maxPatches f_rows f_n f_nextName f_rows0 f_n0 f_drafting f_place f_take f_puts n) (nI (zp_cP (zp_inT o (o.length - 1)) l e)) (nI (zp_at (zp_inT o (o.length - 1)) l (pl + tk) e)) (nI e) f_maxLines f_maxSide f_maxPatches f_rows f_n f_nextName f_rows0 f_n0 f_drafting f_place f_take f_puts a_num a_maker ta' a_stack a_num0 a_maker0 a_taker0 a_stack0 a_dput a_need := by
        intro q ta' z h3'
        have i1 := ih (e + 1) ta' (by omega) (by omega) h3'
        refine nm_r (e' := nI (zp_cP (zp_inT o (o.length - 1)) l (e + 1))) (by rw [nI_1, zp_cP_t hx z]) ?_
        refine pk_eq (zp_cP (zp_inT o (o.length - 1)) l (e + 1)) (pl + tk) (fun c1 => nm_r (nI_1 e) (nm_r (nI_1 e) ?_)) (fun c1 => nm_r (nI_1 e) ?_) rfl hpt (by have := zp_cP_le (p := zp_inT o (o.length - 1)) (l := l) (e := e + 1); omega)
        · rw [zp_at_t hx z (by rw [← c1, zp_cP_t hx z])] at i1; exact i1
        · rw [zp_at_f hx (fun y => c1 (by rw [zp_cP_t hx z]; exact y.2))] at i1; exact i1
      have hin : wpY_in (fun r_57 => (r_57 = 0 → ∀ x3_81, x3_81 = nI e + 1 → wY_push_49 post f_maxLines f_maxSide f_maxPatches f_rows f_n f_nextName f_rows0 f_n0 f_drafting f_place f_take f_puts n (nI (zp_cP (zp_inT o (o.length - 1)) l e)) (nI (zp_at (zp_inT o (o.length - 1)) l (pl + tk) e)) x3_81 a_num a_maker ta a_stack a_num0 a_maker0 a_taker0 a_stack0 a_dput a_need) ∧ (¬ r_57 = 0 → (nI (zp_cP (zp_inT o (o.length - 1)) l e) < f_place → wY_push_100 post (wY_push_49 post f_maxLines f_maxSide f_maxPatches f_rows f_n f_nextName f_rows0 f_n0 f_drafting f_place f_take f_puts n) (nI (zp_cP (zp_inT o (o.length - 1)) l e)) (nI (zp_at (zp_inT o (o.length - 1)) l (pl + tk) e)) (nI e) f_maxLines f_maxSide f_maxPatches f_rows f_n f_nextName f_rows0 f_n0 f_drafting f_place f_take f_puts a_num a_maker ta a_stack a_num0 a_maker0 a_taker0 a_stack0 a_dput a_need) ∧ (¬ nI (zp_cP (zp_inT o (o.length - 1)) l e) < f_place → (f_place + f_take ≤ nI (zp_cP (zp_inT o (o.length - 1)) l e) → wY_push_100 post (wY_push_49 post f_maxLines f_maxSide f_maxPatches f_rows f_n f_nextName f_rows0 f_n0 f_drafting f_place f_take f_puts n) (nI (zp_cP (zp_inT o (o.length - 1)) l e)) (nI (zp_at (zp_inT o (o.length - 1)) l (pl + tk) e)) (nI e) f_maxLines f_maxSide f_maxPatches f_rows f_n f_nextName f_rows0 f_n0 f_drafting f_place f_take f_puts a_num a_maker ta a_stack a_num0 a_maker0 a_taker0 a_stack0 a_dput a_need) ∧ (¬ f_place + f_take ≤ nI (zp_cP (zp_inT o (o.length - 1)) l e) → vp_in (nI e) 100 ∧ ∀ a_taker_90, a_taker_90 = upd ta (nI e).toNatClampNeg f_nextName → wY_push_100 post (wY_push_49 post f_maxLines f_maxSide f_maxPatches f_rows f_n f_nextName f_rows0 f_n0 f_drafting f_place f_take f_puts n) (nI (zp_cP (zp_inT o (o.length - 1)) l e)) (nI (zp_at (zp_inT o (o.length - 1)) l (pl + tk) e)) (nI e) f_maxLines f_maxSide f_maxPatches f_rows f_n f_nextName f_rows0 f_n0 f_drafting f_place f_take f_puts a_num a_maker a_taker_90 a_stack a_num0 a_maker0 a_taker0 a_stack0 a_dput a_need)))) (f_maxLines, f_maxSide, f_maxPatches, f_rows, f_n, f_nextName, f_rows0, f_n0, f_drafting, f_place, f_take, f_puts, a_num, a_maker, ta, a_stack, a_num0, a_maker0, a_taker0, a_stack0, a_dput, a_need) (nI e) (nI (o.length - 1)) := by
        refine zy_in (m := x.2.1) (t := x.2.2) h.1 h.2.1 h.2.2.2.2.2.2.2 (by omega) (h.2.2.2.2.2.1 e x hx) (by rw [hT]; exact en _ m1.2) m1.1 m1.2 (by omega) ?_
        rw [← zp_ie (zp_inT_iff (x := x))]
        refine zp_ic (fun z => ?_) (fun z => ?_)
        · have same : ¬ zp_mC (zp_inT o (o.length - 1)) l pl (pl + tk) e x = true → wY_push_100 post (wY_push_49 post f_maxLines f_maxSide f_maxPatches f_rows f_n f_nextName f_rows0 f_n0 f_drafting f_place f_take f_puts n) (nI (zp_cP (zp_inT o (o.length - 1)) l e)) (nI (zp_at (zp_inT o (o.length - 1)) l (pl + tk) e)) (nI e) f_maxLines f_maxSide f_maxPatches f_rows f_n f_nextName f_rows0 f_n0 f_drafting f_place f_take f_puts a_num a_maker ta a_stack a_num0 a_maker0 a_taker0 a_stack0 a_dput a_need := fun hn =>
            j100 True ta z (zp_tki (C := zp_mC (zp_inT o (o.length - 1)) l pl (pl + tk)) (f := fun x => upd nm s (nI nx) x.2.2) h3 hx (fun i _ => rfl) (by rw [if_neg hn]; exact hT))
          refine pk_lt (zp_cP (zp_inT o (o.length - 1)) l e) pl (fun c1 => same ?_) (fun c1 => pk_le (pl + tk) (zp_cP (zp_inT o (o.length - 1)) l e) (fun c2 => same ?_) (fun c2 => ⟨vp_in_nI (by omega) (by omega), nm_e ?_⟩) hpt) rfl hpl
          · rw [zp_mC_iff]; intro q; omega
          · rw [zp_mC_iff]; intro q; omega
          · rw [e0]
            refine j100 True _ z (zp_tki (C := zp_mC (zp_inT o (o.length - 1)) l pl (pl + tk)) (f := fun x => upd nm s (nI nx) x.2.2) h3 hx (fun i hi => pk_un hi) ?_)
            rw [pk_us, if_pos (zp_mC_iff.mpr ⟨z, c1, c2⟩), pk_us]; exact hnx
        · refine nm_r (nI_1 e) ?_
          rw [← zp_cP_f hx z]
          have i1 := ih (e + 1) ta (by omega) (by omega) (zp_tki (C := zp_mC (zp_inT o (o.length - 1)) l pl (pl + tk)) (f := fun x => upd nm s (nI nx) x.2.2) h3 hx (fun i _ => rfl) (by rw [if_neg (fun q => z (zp_mC_iff.mp q).1)]; exact hT))
          rw [zp_at_f hx (fun y => z y.1)] at i1
          exact i1
      have hfn := h.2.2.2.1
      rw [← hfn] at hin
      exact hin
theorem zy_push {post : Int32 → SY → Prop} {s pl tk nx ml mp : Nat} {ds : List Int32} (h : zy_Q l o nm f_rows f_n a_num a_maker a_taker a_stack) (h10 : o.length ≤ 11) (hpl : f_place = nI pl) (htk : f_take = nI tk) (hc : f_puts = nI ds.length) (hD : zp_LA a_dput ds (fun x => x)) (hnx : f_nextName = nI nx) (hm : f_maxLines = nI ml) (hm2 : ml < 1000) (hmp : f_maxPatches = nI mp) (hmp2 : mp < 1000) (hc6 : ds.length ≤ 6) (hb : pl + tk < 500) (htl : tk ≤ l.countP (zp_inT o (o.length - 1))) (hso : s ∉ o)
  (hF : o.length - 1 = mp ∨ ml < l.countP (zp_inT o (o.length - 1)) - tk + ds.length → post (-4) (f_maxLines, f_maxSide, f_maxPatches, f_rows, f_n, f_nextName, f_rows0, f_n0, f_drafting, f_place, f_take, f_puts, a_num, a_maker, a_taker, a_stack, a_num0, a_maker0, a_taker0, a_stack0, a_dput, a_need))
  (hG : ¬ (o.length - 1 = mp ∨ ml < l.countP (zp_inT o (o.length - 1)) - tk + ds.length) → o.length ≤ 10 ∧ l.length + ds.length ≤ 80 ∧ zp_WF (zp_push l o s pl tk ds) (o ++ [s]) ∧ zy_NM (o ++ [s]) (upd nm s (nI nx)) ∧ ∀ rs nu ma ta st, zy_Q (zp_push l o s pl tk ds) (o ++ [s]) (upd nm s (nI nx)) rs (nI o.length) nu ma ta st → post 0 (f_maxLines, f_maxSide, f_maxPatches, rs, (nI o.length), (nI (nx + 1)), f_rows0, f_n0, 0, f_place, f_take, f_puts, nu, ma, ta, st, a_num0, a_maker0, a_taker0, a_stack0, a_dput, a_need)) : wpY_push post (f_maxLines, f_maxSide, f_maxPatches, f_rows, f_n, f_nextName, f_rows0, f_n0, f_drafting, f_place, f_take, f_puts, a_num, a_maker, a_taker, a_stack, a_num0, a_maker0, a_taker0, a_stack0, a_dput, a_need) := by
  have h80 := h.1.1
  have ho1 := zp_opos h.1
  have hcl := List.countP_le_length (p := zp_inT o (o.length - 1)) (l := l)
  refine pk_eq (o.length - 1) mp (fun z => hF (Or.inl z)) (fun z => ?_) h.2.2.2.1 hmp
  refine zy_tl h rfl h.2.2.2.1 (by omega) ?_
  refine pk_le (l.countP (zp_inT o (o.length - 1)) - tk + ds.length) ml (fun z2 => ?_) (fun z2 => hF (Or.inr z2)) ?_ hm
  · obtain ⟨h10', hL, hw', hN', hG⟩ := hG (fun q => by omega)
    have en : ∀ t, t ∈ o → upd nm s (nI nx) t = nm t := fun t ht => pk_un (fun z => hso (z ▸ ht))
    have s0 : s ≠ 0 := fun z => hso (z ▸ zp_mem h.1.2.2.2.1)
    have hlen := zp_mk_len (p := zp_inT o (o.length - 1)) (s := s) (a := pl) (b := pl + tk) l 0
    refine ⟨_, zy_pu49 (post := post) (s := s) h hpl htk hb hnx hso ?_ (l.length + 1) 0 a_taker (by omega) (by omega) (fun i x hx => by rw [if_neg (by omega)]; rw [en _ (h.1.2.2.2.2.2 x (zp_mem hx)).2]; exact h.2.2.2.2.2.2.1 i x hx)⟩
    · intro ta hta
      have hM : zp_LA a_maker (zp_mk (zp_inT o (o.length - 1)) s pl (pl + tk) 0 l) (fun x => upd nm s (nI nx) x.2.1) := by
        refine zp_mk_LA1 (f := fun _ m => upd nm s (nI nx) m) (fun i x hx => ?_)
        show _ = upd nm s (nI nx) x.2.1
        rw [en _ (h.1.2.2.2.2.2 x (zp_mem hx)).1]; exact h.2.2.2.2.2.1 i x hx
      have hI : zp_LA a_num (zp_mk (zp_inT o (o.length - 1)) s pl (pl + tk) 0 l) (fun x => x.1) := zp_mk_LA1 (f := fun a _ => a) h.2.2.2.2.1
      refine ⟨_, zy_pu128 (o := o) (l1 := zp_mk (zp_inT o (o.length - 1)) s pl (pl + tk) 0 l) (g := upd nm s (nI nx)) (s := s) h.2.2.2.1 ho1 h10' hc hc6 (by rw [hlen]; exact hL) hD (by rw [hlen]; exact zp_at_le _) hnx pk_us.symm ?_ (fun rs nu ma ta hrs hR => ?_) (ds.length + 1) 0 f_rows a_num a_maker ta (by omega) (by omega) (by rw [hlen]; exact h.2.2.1) ?_⟩
      · rw [pk_un (fun z => s0 z.symm)]; exact h.2.1.1
      · refine hG rs nu ma ta _ ⟨hw', hN', ?_, by simp, hR.1, hR.2.1, hR.2.2, ?_⟩
        · rw [zp_push_len, hrs, hlen]
        · have := zp_LA_so (f := upd nm s (nI nx)) (v := s) (a := a_stack) (l := o) (fun i t ht => by rw [en t (zp_mem ht)]; exact h.2.2.2.2.2.2.2 i t ht)
          rw [pk_us] at this; exact this
      · have : zp_new (ds.take 0) s = [] := rfl
        rw [this, zp_ins_0]
        exact ⟨hI, hM, hta⟩
  · rw [htk, hc, pk_sub htl, nI_add]
end
end
section
/-! the reference's loops of revert, pick, move; absorb on both sides -/
noncomputable def zp_ab (ml ms : Nat) : Nat → List zp_En → List Nat → Int32 × List zp_En × List Nat
  | 0, l, o => (0, l, o)
  | L + 1, l, o => @ite (Int32 × List zp_En × List Nat) (zp_ft l o (o.length - (L + 1)) = 0) (Classical.propDecidable _) (-5, l, o) (@ite (Int32 × List zp_En × List Nat) (zp_Fu ml ms l o (o.length - (L + 1)) (zp_ft l o (o.length - (L + 1)))) (Classical.propDecidable _) (-4, l, o) (zp_ab ml ms L (zp_l1 l o (o.length - (L + 1)) (zp_ft l o (o.length - (L + 1)))) (zp_o2 l o (o.length - (L + 1)) (zp_ft l o (o.length - (L + 1))))))
theorem zp_ab_0 {ml ms : Nat} {l : List zp_En} {o : List Nat} : zp_ab ml ms 0 l o = (0, l, o) := rfl
theorem zp_ab_b {ml ms L : Nat} {l : List zp_En} {o : List Nat} (h : zp_ft l o (o.length - (L + 1)) = 0) : zp_ab ml ms (L + 1) l o = (-5, l, o) := by
  simp only [zp_ab]; rw [if_pos h]
theorem zp_ab_f {ml ms L t : Nat} {l : List zp_En} {o : List Nat} (h : zp_ft l o (o.length - (L + 1)) = t) (h1 : 1 ≤ t) (hf : zp_Fu ml ms l o (o.length - (L + 1)) t) : zp_ab ml ms (L + 1) l o = (-4, l, o) := by
  subst h
  simp only [zp_ab]; rw [if_neg (by omega), if_pos hf]
theorem zp_ab_s {ml ms L t : Nat} {l : List zp_En} {o : List Nat} (h : zp_ft l o (o.length - (L + 1)) = t) (h1 : 1 ≤ t) (hf : ¬ zp_Fu ml ms l o (o.length - (L + 1)) t) : zp_ab ml ms (L + 1) l o = zp_ab ml ms L (zp_l1 l o (o.length - (L + 1)) t) (zp_o2 l o (o.length - (L + 1)) t) := by
  subst h
  conv => lhs; unfold zp_ab
  rw [if_neg (by omega), if_neg hf]
theorem zp_o2_len {l : List zp_En} {o : List Nat} {f t : Nat} (hf : f < o.length) (ht : t < f) : (zp_o2 l o f t).length = o.length - 1 ∨ (zp_o2 l o f t).length = o.length - 2 := by
  have h1 := zp_er_len hf
  unfold zp_o2
  split
  · right; rw [zp_er_len (by omega), h1]; omega
  · left; exact h1
section
variable {f_maxLines f_maxSide f_maxPatches f_rows f_n f_nextName f_rows0 f_n0 f_drafting f_place f_take f_puts : Int32} {a_num a_maker a_taker a_stack a_num0 a_maker0 a_taker0 a_stack0 a_dput a_need : Nat → Int32} {l : List zp_En} {o : List Nat} {nm : Nat → Int32}
theorem zy_rv75 {post : Int32 → SY → Prop} {k : Nat} (h : zy_Q l o nm f_rows f_n a_num a_maker a_taker a_stack) (hk : k < o.length) (h6 : l.countP (fun x => x.2.2 == zp_sl o k) ≤ 6) (hE : ∀ n an, zp_LA an (zp_tk l (zp_sl o k)) (fun x => x) → wY_revert_75 post (nI k) f_maxLines f_maxSide f_maxPatches f_rows f_n f_nextName f_rows0 f_n0 f_drafting f_place f_take (n + 1) (nI l.length) (nI (zp_tk l (zp_sl o k)).length) a_num a_maker a_taker a_stack a_num0 a_maker0 a_taker0 a_stack0 an a_need) : ∀ n e an, e ≤ l.length → l.length - e < n → zp_LA an (zp_tk (l.take e) (zp_sl o k)) (fun x => x) → wY_revert_75 post (nI k) f_maxLines f_maxSide f_maxPatches f_rows f_n f_nextName f_rows0 f_n0 f_drafting f_place f_take n (nI e) (nI (zp_tk (l.take e) (zp_sl o k)).length) a_num a_maker a_taker a_stack a_num0 a_maker0 a_taker0 a_stack0 an a_need := by
  have h80 := h.1.1
  intro n
  induction n with
  | zero => intro e an h1 h2; omega
  | succ n ih =>
    intro e an h1 h2 h3
    by_cases c : e = l.length
    · rw [List.take_of_length_le (by omega)] at h3 ⊢
      rw [c]; exact hE n an h3
    · obtain ⟨x, hx⟩ := zp_ex (l := l) (i := e) (by omega)
      obtain ⟨v1, v2, v3, v4⟩ := zy_me h hx hk
      have e0 : (nI e).toNatClampNeg = e := nI_clamp (by omega)
      refine pk_le l.length e (fun c2 => by omega) (fun c2 => ⟨v1, v2, br_c (fun z => ?_) (fun z => ?_)⟩) h.2.2.1
      · rw [v4] at z
        have hlt : (zp_tk (l.take e) (zp_sl o k)).length + 1 ≤ 6 := by
          have a1 : zp_cP (fun x => x.2.2 == zp_sl o k) l (e + 1) = zp_cP (fun x => x.2.2 == zp_sl o k) l e + 1 := zp_cP_t hx (by simp [z])
          have a2 := zp_cP_mono (p := fun x => x.2.2 == zp_sl o k) (l := l) (a := e + 1) (b := l.length) (by omega)
          rw [zp_cP_all (Nat.le_refl _)] at a2
          rw [zp_tk_len]
          have a3 : zp_cP (fun x => x.2.2 == zp_sl o k) l e = (l.take e).countP (fun x => x.2.2 == zp_sl o k) := rfl
          omega
        refine br_f (nI_ge (b := 6) (by omega) (by decide)) ⟨v1, vp_in_nI (by omega) (by omega), ?_⟩
        rw [e0, nI_clamp (by omega), h.2.2.2.2.1 e x hx]
        have q := zp_tk_t (s := zp_sl o k) hx z
        have h3' := zp_LA_sn (v := x.1) h3
        rw [← q] at h3'
        refine nm_e (nm_r (e' := nI (zp_tk (l.take (e + 1)) (zp_sl o k)).length) (by rw [nI_1, q]; simp) (nm_r (nI_1 e) ?_))
        exact ih (e + 1) _ (by omega) (by omega) h3'
      · rw [v4] at z
        refine nm_r (nI_1 e) ?_
        have q := zp_tk_f (s := zp_sl o k) hx z
        rw [← q] at h3 ⊢
        exact ih (e + 1) _ (by omega) (by omega) h3
theorem zy_pk81 {post : Int32 → SY → Prop} {b : Nat → Bool} {r : Int32} {fin : List Nat} (hn : ∀ i, 1 ≤ i → i < o.length → (a_need i = 0 ↔ b i = true)) (hs : zp_LA a_stack0 o nm) (hc : f_n = nI (o.length - 1)) (h11 : o.length ≤ 11) (hf : fin.length ≤ 11) (hE : ∀ n st, zp_LA st fin nm → wY_pick_81 post r f_maxLines f_maxSide f_maxPatches f_rows f_n f_nextName f_rows0 f_n0 f_drafting f_place f_take f_puts (n + 1) (nI (fin.length - 1)) (nI o.length) a_num a_maker a_taker st a_num0 a_maker0 a_taker0 a_stack0 a_dput a_need) : ∀ n i out st, 1 ≤ i → i ≤ o.length → o.length - i < n → 1 ≤ out.length → out ++ zp_pk b i (o.drop i) = fin → zp_LA st out nm → wY_pick_81 post r f_maxLines f_maxSide f_maxPatches f_rows f_n f_nextName f_rows0 f_n0 f_drafting f_place f_take f_puts n (nI (out.length - 1)) (nI i) a_num a_maker a_taker st a_num0 a_maker0 a_taker0 a_stack0 a_dput a_need := by
  intro n
  induction n with
  | zero => intro i out st h1 h2; omega
  | succ n ih =>
    intro i out st h1 h2 h3 h4 h5 h6
    by_cases c : i = o.length
    · rw [List.drop_of_length_le (by omega), zp_pk, List.append_nil] at h5
      rw [h5] at h6 ⊢
      rw [c]; exact hE n st h6
    · refine pk_lt (o.length - 1) i (fun c2 => by omega) (fun c2 => ⟨vp_in_nI (by omega) (by omega), ?_⟩) hc
      obtain ⟨s, hs'⟩ := zp_ex (l := o) (i := i) (by omega)
      rw [zp_drop hs'] at h5
      rw [nI_clamp (by omega)]
      by_cases z : b i = true
      · simp only [zp_pk, z, if_true] at h5
        have hlen : out.length + 1 ≤ 11 := by
          have := congrArg List.length h5
          rw [List.length_append, List.length_cons] at this
          omega
        refine br_t ((hn i h1 (by omega)).mpr z) ?_
        refine nm_r (e' := nI out.length) (by rw [nI_1, show out.length - 1 + 1 = out.length from by omega]) ⟨vp_in_nI (by omega) (by omega), vp_in_nI (by omega) (by omega), ?_⟩
        rw [nI_clamp (by omega), hs i s hs']
        refine nm_e (nm_r (nI_1 i) ?_)
        have := ih (i + 1) (out ++ [s]) _ (by omega) (by omega) (by omega) (by rw [List.length_append]; simp) (by rw [← h5]; simp) (zp_LA_so (v := s) h6)
        rw [List.length_append] at this
        exact this
      · simp only [zp_pk, z, if_false, Bool.false_eq_true] at h5
        exact br_f (fun y => z ((hn i h1 (by omega)).mp y)) (nm_r (nI_1 i) (ih (i + 1) out st (by omega) (by omega) (by omega) h4 h5 h6))
theorem zy_pk38 {post : Int32 → SY → Prop} {b : Nat → Bool} {fin : List Nat} (hn : ∀ i, 1 ≤ i → i < o.length → (¬ a_need i = 0 ↔ b i = true)) (hs : zp_LA a_stack0 o nm) (hc : f_n = nI (o.length - 1)) (h11 : o.length ≤ 11) (hf : fin.length ≤ 11) (hE : ∀ n st, zp_LA st fin nm → wY_pick_38 post f_maxLines f_maxSide f_maxPatches f_rows f_n f_nextName f_rows0 f_n0 f_drafting f_place f_take f_puts (n + 1) (nI (fin.length - 1)) (nI o.length) a_num a_maker a_taker st a_num0 a_maker0 a_taker0 a_stack0 a_dput a_need) : ∀ n i out st, 1 ≤ i → i ≤ o.length → o.length - i < n → 1 ≤ out.length → out ++ zp_pk b i (o.drop i) = fin → zp_LA st out nm → wY_pick_38 post f_maxLines f_maxSide f_maxPatches f_rows f_n f_nextName f_rows0 f_n0 f_drafting f_place f_take f_puts n (nI (out.length - 1)) (nI i) a_num a_maker a_taker st a_num0 a_maker0 a_taker0 a_stack0 a_dput a_need := by
  intro n
  induction n with
  | zero => intro i out st h1 h2; omega
  | succ n ih =>
    intro i out st h1 h2 h3 h4 h5 h6
    by_cases c : i = o.length
    · rw [List.drop_of_length_le (by omega), zp_pk, List.append_nil] at h5
      rw [h5] at h6 ⊢
      rw [c]; exact hE n st h6
    · refine pk_lt (o.length - 1) i (fun c2 => by omega) (fun c2 => ⟨vp_in_nI (by omega) (by omega), ?_⟩) hc
      obtain ⟨s, hs'⟩ := zp_ex (l := o) (i := i) (by omega)
      rw [zp_drop hs'] at h5
      rw [nI_clamp (by omega)]
      by_cases z : b i = true
      · simp only [zp_pk, z, if_true] at h5
        have hlen : out.length + 1 ≤ 11 := by
          have := congrArg List.length h5
          rw [List.length_append, List.length_cons] at this
          omega
        refine br_f ((hn i h1 (by omega)).mpr z) ?_
        refine nm_r (e' := nI out.length) (by rw [nI_1, show out.length - 1 + 1 = out.length from by omega]) ⟨vp_in_nI (by omega) (by omega), vp_in_nI (by omega) (by omega), ?_⟩
        rw [nI_clamp (by omega), hs i s hs']
        refine nm_e (nm_r (nI_1 i) ?_)
        have := ih (i + 1) (out ++ [s]) _ (by omega) (by omega) (by omega) (by rw [List.length_append]; simp) (by rw [← h5]; simp) (zp_LA_so (v := s) h6)
        rw [List.length_append] at this
        exact this
      · simp only [zp_pk, z, if_false, Bool.false_eq_true] at h5
        have z0 : a_need i = 0 := Classical.not_not.mp (fun y => z ((hn i h1 (by omega)).mp y))
        exact br_t z0 (nm_r (nI_1 i) (ih (i + 1) out st (by omega) (by omega) (by omega) h4 h5 h6))
theorem zy_mv40 {post : Int32 → SY → Prop} {fr to : Nat} (h : zy_Q l o nm f_rows f_n a_num a_maker a_taker a_stack) (hf : fr < o.length) (ht : to < o.length) (hb : (∃ j, to ≤ j ∧ j < fr ∧ zp_Rs l o fr j) → post (-5) (f_maxLines, f_maxSide, f_maxPatches, f_rows, f_n, f_nextName, f_rows0, f_n0, f_drafting, f_place, f_take, f_puts, a_num, a_maker, a_taker, a_stack, a_num0, a_maker0, a_taker0, a_stack0, a_dput, a_need)) (hE : (¬ ∃ j, to ≤ j ∧ j < fr ∧ zp_Rs l o fr j) → ∀ n j, fr ≤ j → j < o.length → wY_move_40 post (nI fr) (nI to) f_maxLines f_maxSide f_maxPatches f_rows f_n f_nextName f_rows0 f_n0 f_drafting f_place f_take f_puts a_num a_maker a_taker a_stack a_num0 a_maker0 a_taker0 a_stack0 a_dput a_need (n + 1) (nI j)) : ∀ n j, to ≤ j → j < o.length → fr - j < n → (∀ i, to ≤ i → i < j → i < fr → ¬ zp_Rs l o fr i) → wY_move_40 post (nI fr) (nI to) f_maxLines f_maxSide f_maxPatches f_rows f_n f_nextName f_rows0 f_n0 f_drafting f_place f_take f_puts a_num a_maker a_taker a_stack a_num0 a_maker0 a_taker0 a_stack0 a_dput a_need n (nI j) := by
  have h11 := h.1.2.1
  intro n
  induction n with
  | zero => intro j h1 h2; omega
  | succ n ih =>
    intro j h1 h2 h3 h4
    by_cases c : fr ≤ j
    · exact hE (fun ⟨i, z1, z2, z3⟩ => h4 i z1 (by omega) z2 z3) n j c h2
    · refine br_f (nI_ge (by omega) (by omega)) (zy_rests h (by omega) hf (zp_ic (fun z => hb ⟨j, h1, by omega, z⟩) (fun z => nm_r (nI_1 j) (ih (j + 1) (by omega) (by omega) (by omega) ?_))))
      intro i c1 c2 c3
      by_cases b : i = j
      · rw [b]; exact z
      · exact h4 i c1 (by omega) c3
theorem zy_mvx {post : Int32 → SY → Prop} {fr to ml : Nat} (h : zy_Q l o nm f_rows f_n a_num a_maker a_taker a_stack) (hf1 : 1 ≤ fr) (hf : fr < o.length) (ht1 : 1 ≤ to) (ht : to < o.length) (hSv : zy_S l o nm f_rows0 f_n0 a_num0 a_maker0 a_taker0 a_stack0) (hm : f_maxLines = nI ml) (hm2 : ml < 1000)
  (hA : zp_Fits ml l ((o.eraseIdx fr).insertIdx to (zp_sl o fr)) → ∀ st, zy_Q l ((o.eraseIdx fr).insertIdx to (zp_sl o fr)) nm f_rows f_n a_num a_maker a_taker st → post 0 (f_maxLines, f_maxSide, f_maxPatches, f_rows, f_n, f_nextName, f_rows0, f_n0, f_drafting, f_place, f_take, f_puts, a_num, a_maker, a_taker, st, a_num0, a_maker0, a_taker0, a_stack0, a_dput, a_need))
  (hB : ¬ zp_Fits ml l ((o.eraseIdx fr).insertIdx to (zp_sl o fr)) → ∀ nu ma ta st, zy_Q l o nm f_rows0 f_n0 nu ma ta st → post (-4) (f_maxLines, f_maxSide, f_maxPatches, f_rows0, f_n0, f_nextName, f_rows0, f_n0, f_drafting, f_place, f_take, f_puts, nu, ma, ta, st, a_num0, a_maker0, a_taker0, a_stack0, a_dput, a_need))
  {st : Nat → Int32} (hst : zp_LA (upd st to (nm (zp_sl o fr))) ((o.eraseIdx fr).insertIdx to (zp_sl o fr)) nm) {n i : Nat} (hi : i ≤ to) : wY_move_108 post (nI fr) (nI to) f_maxLines f_maxSide f_maxPatches f_rows f_n f_nextName f_rows0 f_n0 f_drafting f_place f_take f_puts (n + 1) (nI i) a_num a_maker a_taker st a_num0 a_maker0 a_taker0 a_stack0 a_dput a_need := by
  have h11 := h.1.2.1
  have hpm := zp_mv_perm hf ht
  have hw' := zp_WF_perm h.1 hpm (zp_mv_0 (to := to) (fr := fr) (s := zp_sl o fr) h.1.2.2.2.1 hf1 ht1)
  have e0 : a_stack0 (nI fr).toNatClampNeg = nm (zp_sl o fr) := by rw [nI_clamp (by omega)]; exact hSv.2.2.2 _ _ (zp_sl_g hf)
  refine br_t (nI_le hi (by omega)) ⟨vp_in_nI (by omega) (by omega), vp_in_nI (by omega) (by omega), ?_⟩
  rw [e0, nI_clamp (by omega)]
  have Q1 : zy_Q l ((o.eraseIdx fr).insertIdx to (zp_sl o fr)) nm f_rows f_n a_num a_maker a_taker (upd st to (nm (zp_sl o fr))) := by
    refine ⟨hw', ⟨h.2.1.1, fun s t hs ht => h.2.1.2 s t (hpm.mem_iff.mp hs) (hpm.mem_iff.mp ht)⟩, h.2.2.1, ?_, h.2.2.2.2.1, h.2.2.2.2.2.1, h.2.2.2.2.2.2.1, hst⟩
    rw [hpm.length_eq]; exact h.2.2.2.1
  refine nm_e (zy_ft Q1 hm hm2 (zp_ic (fun z => hA z _ Q1) (fun z => ?_)))
  exact zy_un h.1 h.2.1 hSv (fun nu ma ta st q => hB z nu ma ta st q)
theorem zy_mv108 {post : Int32 → SY → Prop} {fr to : Nat} (hf : fr < 12) (hE : ∀ n, wY_move_108 post (nI fr) (nI to) f_maxLines f_maxSide f_maxPatches f_rows f_n f_nextName f_rows0 f_n0 f_drafting f_place f_take f_puts (n + 1) (nI to) a_num a_maker a_taker (zp_sh a_stack to fr 1) a_num0 a_maker0 a_taker0 a_stack0 a_dput a_need) : ∀ n i, to ≤ i → i ≤ fr → i - to < n → wY_move_108 post (nI fr) (nI to) f_maxLines f_maxSide f_maxPatches f_rows f_n f_nextName f_rows0 f_n0 f_drafting f_place f_take f_puts n (nI i) a_num a_maker a_taker (zp_sh a_stack i fr 1) a_num0 a_maker0 a_taker0 a_stack0 a_dput a_need := by
  intro n
  induction n with
  | zero => intro i h1 h2; omega
  | succ n ih =>
    intro i h1 h2 h3
    by_cases c : i = to
    · rw [c]; exact hE n
    · refine br_f (nI_ge (by omega) (by omega)) ?_
      obtain ⟨i, rfl⟩ : ∃ q, i = q + 1 := ⟨i - 1, by omega⟩
      rw [nI_pred]
      refine ⟨vp_in_nI (by omega) (by omega), vp_in_nI (by omega) (by omega), nm_e (nm_r (pk_m1 i) ?_)⟩
      rw [nI_clamp (by omega), nI_clamp (by omega), zp_sh_s (by omega)]
      exact ih i (by omega) (by omega) (by omega)
theorem zy_mv81 {post : Int32 → SY → Prop} {fr to : Nat} (ht : to < 12) (hp : ∃ n, wY_move_108 post (nI fr) (nI to) f_maxLines f_maxSide f_maxPatches f_rows f_n f_nextName f_rows0 f_n0 f_drafting f_place f_take f_puts n (nI fr) a_num a_maker a_taker (zp_lf a_stack fr to) a_num0 a_maker0 a_taker0 a_stack0 a_dput a_need) : ∀ n i, fr ≤ i → i ≤ to → to - i < n → wY_move_81 post (nI fr) (nI to) f_maxLines f_maxSide f_maxPatches f_rows f_n f_nextName f_rows0 f_n0 f_drafting f_place f_take f_puts n (nI i) a_num a_maker a_taker (zp_lf a_stack fr i) a_num0 a_maker0 a_taker0 a_stack0 a_dput a_need := by
  intro n
  induction n with
  | zero => intro i h1 h2; omega
  | succ n ih =>
    intro i h1 h2 h3
    refine pk_le to i (fun c => ?_) (fun c => ?_)
    · rw [show i = to from by omega]; exact hp
    · rw [nI_1]
      refine ⟨vp_in_nI (by omega) (by omega), vp_in_nI (by omega) (by omega), nm_e (nm_e ?_)⟩
      rw [nI_clamp (by omega), nI_clamp (by omega), zp_lf_s (by omega)]
      exact ih (i + 1) (by omega) (by omega) (by omega)
theorem zy_mvs {post : Int32 → SY → Prop} {fr to ml : Nat} (h : zy_Q l o nm f_rows f_n a_num a_maker a_taker a_stack) (hf1 : 1 ≤ fr) (hf : fr < o.length) (ht1 : 1 ≤ to) (ht : to < o.length) (hSv : zy_S l o nm f_rows0 f_n0 a_num0 a_maker0 a_taker0 a_stack0) (hm : f_maxLines = nI ml) (hm2 : ml < 1000)
  (hA : zp_Fits ml l ((o.eraseIdx fr).insertIdx to (zp_sl o fr)) → ∀ st, zy_Q l ((o.eraseIdx fr).insertIdx to (zp_sl o fr)) nm f_rows f_n a_num a_maker a_taker st → post 0 (f_maxLines, f_maxSide, f_maxPatches, f_rows, f_n, f_nextName, f_rows0, f_n0, f_drafting, f_place, f_take, f_puts, a_num, a_maker, a_taker, st, a_num0, a_maker0, a_taker0, a_stack0, a_dput, a_need))
  (hB : ¬ zp_Fits ml l ((o.eraseIdx fr).insertIdx to (zp_sl o fr)) → ∀ nu ma ta st, zy_Q l o nm f_rows0 f_n0 nu ma ta st → post (-4) (f_maxLines, f_maxSide, f_maxPatches, f_rows0, f_n0, f_nextName, f_rows0, f_n0, f_drafting, f_place, f_take, f_puts, nu, ma, ta, st, a_num0, a_maker0, a_taker0, a_stack0, a_dput, a_need)) : ∃ n, wY_move_81 post (nI fr) (nI to) f_maxLines f_maxSide f_maxPatches f_rows f_n f_nextName f_rows0 f_n0 f_drafting f_place f_take f_puts n (nI fr) a_num a_maker a_taker a_stack a_num0 a_maker0 a_taker0 a_stack0 a_dput a_need := by
  have h11 := h.1.2.1
  have hS := h.2.2.2.2.2.2.2
  by_cases c : fr ≤ to
  · have hL := zp_LA_mu hS (zp_sl_g hf) c ht
    have := zy_mv81 (post := post) (fr := fr) (to := to) (by omega) ⟨1, zy_mvx h hf1 hf ht1 ht hSv hm hm2 hA hB hL c⟩ (to + 1) fr (Nat.le_refl _) c (by omega)
    rw [zp_lf_0] at this
    exact ⟨_, this⟩
  · have hL := zp_LA_md hS (zp_sl_g hf) (show to ≤ fr from by omega)
    have := zy_mv108 (post := post) (fr := fr) (to := to) (by omega) (fun n => zy_mvx h hf1 hf ht1 ht hSv hm hm2 hA hB hL (Nat.le_refl _)) (fr + 1) fr (by omega) (Nat.le_refl _) (by omega)
    rw [zp_sh_0] at this
    exact ⟨1, br_t (nI_le (by omega) (by omega)) ⟨_, this⟩⟩
theorem zy_ab31 {post : Int32 → SY → Prop} {l0 : List zp_En} {o0 : List Nat} {ml ms : Nat} (hw0 : zp_WF l0 o0) (hN0 : zy_NM o0 nm) (hSv : zy_S l0 o0 nm f_rows0 f_n0 a_num0 a_maker0 a_taker0 a_stack0) (hm : f_maxLines = nI ml) (hm2 : ml < 1000) (hs : f_maxSide = nI ms) (hs2 : ms < 1000) : ∀ L l o n rs ct nu ma ta st, L < n → L < o.length → zy_Q l o nm rs ct nu ma ta st →
    ((zp_ab ml ms L l o).1 = 0 → ∀ rs ct nu ma ta st, zy_Q ((zp_ab ml ms L l o).2.1) ((zp_ab ml ms L l o).2.2) nm rs ct nu ma ta st → post 0 (f_maxLines, f_maxSide, f_maxPatches, rs, ct, f_nextName, f_rows0, f_n0, f_drafting, f_place, f_take, f_puts, nu, ma, ta, st, a_num0, a_maker0, a_taker0, a_stack0, a_dput, a_need)) →
    (¬ (zp_ab ml ms L l o).1 = 0 → ∀ nu ma ta st, zy_Q l0 o0 nm f_rows0 f_n0 nu ma ta st → post (zp_ab ml ms L l o).1 (f_maxLines, f_maxSide, f_maxPatches, f_rows0, f_n0, f_nextName, f_rows0, f_n0, f_drafting, f_place, f_take, f_puts, nu, ma, ta, st, a_num0, a_maker0, a_taker0, a_stack0, a_dput, a_need)) →
    wY_absorb_31 post n (nI L) f_maxLines f_maxSide f_maxPatches rs ct f_nextName f_rows0 f_n0 f_drafting f_place f_take f_puts nu ma ta st a_num0 a_maker0 a_taker0 a_stack0 a_dput a_need := by
  intro L
  induction L with
  | zero =>
    intro l o n rs ct nu ma ta st h1 h2 h3 hA hB
    obtain ⟨n, rfl⟩ : ∃ q, n = q + 1 := ⟨n - 1, by omega⟩
    exact br_t (by decide) (hA rfl rs ct nu ma ta st h3)
  | succ L ih =>
    intro l o n rs ct nu ma ta st h1 h2 h3 hA hB
    obtain ⟨n, rfl⟩ : ∃ q, n = q + 1 := ⟨n - 1, by omega⟩
    have h11 := h3.1.2.1
    have ef : (ct - nI (L + 1)) + 1 = nI (o.length - (L + 1)) := by
      rw [h3.2.2.2.1, pk_sub (by omega), nI_1, show o.length - 1 - (L + 1) + 1 = o.length - (L + 1) from by omega]
    refine br_f (nI_nle (by omega) (by omega)) ?_
    rw [ef]
    refine zy_fold h3 hm hm2 hs hs2 (by omega) (by omega) (fun z => br_f (by decide) ?_) (fun t ht ht1 htf rs' ct' nu' ma' ta' st' hQ => ?_)
    · rw [zp_ab_b z] at hB
      exact zy_un hw0 hN0 hSv (fun nu ma ta st q => hB (by show ¬ (-5 : Int32) = 0; decide) nu ma ta st q)
    · rcases Classical.em (zp_Fu ml ms l o (o.length - (L + 1)) t) with z | z
      · rw [zp_fa_t z]
        rw [zp_ab_f ht ht1 z] at hB
        exact br_f (by decide) (zy_un hw0 hN0 hSv (fun nu ma ta st q => hB (by show ¬ (-4 : Int32) = 0; decide) nu ma ta st q))
      · rw [zp_fa_f z]
        rw [zp_ab_s ht ht1 z] at hA hB
        have hl := zp_o2_len (l := l) (o := o) (f := o.length - (L + 1)) (t := t) (by omega) htf
        exact br_t rfl (nm_r (pk_m1 L) (ih _ _ n rs' ct' nu' ma' ta' st' (by omega) (by omega) hQ hA hB))
end
section
variable {f_maxLines f_maxSide f_maxPatches f_rowSize f_count f_nextName f_draftOpen f_draftPlace f_draftTake f_numberCount f_savedRowSize f_savedCount : Int32} {a_entryId a_entryMaker a_entryTaker a_order a_rank a_nameOf a_numbers a_savedId a_savedMaker a_savedTaker a_savedOrder a_needed : Nat → Int32} {l : List zp_En} {o : List Nat}
theorem zx_ab35 {post : Int32 → SX → Prop} {l0 : List zp_En} {o0 : List Nat} {ml ms m : Nat} (hm1000 : m < 1000) (hw0 : zp_WF l0 o0) (hSv : zx_S l0 o0 f_savedRowSize f_savedCount a_savedId a_savedMaker a_savedTaker a_savedOrder) (hm : f_maxLines = nI ml) (hm2 : ml < 1000) (hs : f_maxSide = nI ms) (hs2 : ms < 1000) : ∀ L l o n rs ct ei em et od rk, L < n → L ≤ m → L < o.length → zx_Q l o rs ct ei em et od rk →
    ((zp_ab ml ms L l o).1 = 0 → ∀ rs ct ei em et od rk, zx_Q ((zp_ab ml ms L l o).2.1) ((zp_ab ml ms L l o).2.2) rs ct ei em et od rk → post 0 (f_maxLines, f_maxSide, f_maxPatches, rs, ct, f_nextName, f_draftOpen, f_draftPlace, f_draftTake, f_numberCount, f_savedRowSize, f_savedCount, ei, em, et, od, rk, a_nameOf, a_numbers, a_savedId, a_savedMaker, a_savedTaker, a_savedOrder, a_needed)) →
    (¬ (zp_ab ml ms L l o).1 = 0 → ∀ ei em et od rk, zx_Q l0 o0 f_savedRowSize f_savedCount ei em et od rk → post (zp_ab ml ms L l o).1 (f_maxLines, f_maxSide, f_maxPatches, f_savedRowSize, f_savedCount, f_nextName, f_draftOpen, f_draftPlace, f_draftTake, f_numberCount, f_savedRowSize, f_savedCount, ei, em, et, od, rk, a_nameOf, a_numbers, a_savedId, a_savedMaker, a_savedTaker, a_savedOrder, a_needed)) →
    wX_absorb_35 post (nI m) n (nI (o.length - L)) (nI (m - L)) f_maxLines f_maxSide f_maxPatches rs ct f_nextName f_draftOpen f_draftPlace f_draftTake f_numberCount f_savedRowSize f_savedCount ei em et od rk a_nameOf a_numbers a_savedId a_savedMaker a_savedTaker a_savedOrder a_needed := by
  intro L
  induction L with
  | zero =>
    intro l o n rs ct ei em et od rk h1 _ h2 h3 hA hB
    obtain ⟨n, rfl⟩ : ∃ q, n = q + 1 := ⟨n - 1, by omega⟩
    exact br_t (nI_le (by omega) (by omega)) (hA rfl rs ct ei em et od rk h3)
  | succ L ih =>
    intro l o n rs ct ei em et od rk h1 hLm h2 h3 hA hB
    obtain ⟨n, rfl⟩ : ∃ q, n = q + 1 := ⟨n - 1, by omega⟩
    have h11 := h3.1.2.1
    have h0 : od 0 = 0 := h3.2.2.2.2.2.2.1 0 0 h3.1.2.2.2.1
    refine br_f (nI_ge (by omega) (by omega)) ?_
    refine zx_fold h3 hm hm2 hs hs2 (by omega) (by omega) (fun z => br_f (by decide) ?_) (fun t ht ht1 htf rs' ct' ei' em' et' od' rk' hQ => ?_)
    · rw [zp_ab_b z] at hB
      exact zx_re hw0 hSv h0 (fun ei em et od rk q => hB (by show ¬ (-5 : Int32) = 0; decide) ei em et od rk q)
    · have h0' : od' 0 = 0 := hQ.2.2.2.2.2.2.1 0 0 hQ.1.2.2.2.1
      rcases Classical.em (zp_Fu ml ms l o (o.length - (L + 1)) t) with z | z
      · rw [zp_fa_t z]
        rw [zp_ab_f ht ht1 z] at hB
        exact br_f (by decide) (zx_re hw0 hSv h0' (fun ei em et od rk q => hB (by show ¬ (-4 : Int32) = 0; decide) ei em et od rk q))
      · rw [zp_fa_f z]
        rw [zp_ab_s ht ht1 z] at hA hB
        have hl := zp_o2_len (l := l) (o := o) (f := o.length - (L + 1)) (t := t) (by omega) htf
        have ho2 := zp_opos hQ.1
        refine br_t rfl (nm_r (e' := nI ((zp_o2 l o (o.length - (L + 1)) t).length - L)) ?_ (nm_r (e' := nI (m - L)) ?_ (ih _ _ n rs' ct' ei' em' et' od' rk' (by omega) (by omega) (by omega) hQ hA hB)))
        · rw [h3.2.2.1, hQ.2.2.1, pk_sub (by omega)]
          have e1 : nI (o.length - 1 - ((zp_o2 l o (o.length - (L + 1)) t).length - 1)) - 1 = nI (o.length - 1 - ((zp_o2 l o (o.length - (L + 1)) t).length - 1) - 1) := pk_sub (b := 1) (by omega)
          rw [e1, pk_sub (by omega)]
          exact congrArg nI (by omega)
        · rw [nI_1]; exact congrArg nI (by omega)
end
end
section
/-! the invariant of the abstract state, in plain Lean -/
def zi_T (l : List zp_En) (o : List Nat) : Prop := ∀ x, x ∈ l → x.2.2 ≠ 0 → o.idxOf x.2.1 < o.idxOf x.2.2
def zi_C (ml ms : Nat) (l : List zp_En) (o : List Nat) : Prop := (∀ s, s ∈ o → s ≠ 0 → zp_cm l s ≤ ms ∧ zp_ct l s ≤ ms) ∧ zp_cm l 0 ≤ ml
def zi_V (ml ms mp : Nat) (l : List zp_En) (o : List Nat) : Prop := zp_WF l o ∧ zi_T l o ∧ zi_C ml ms l o ∧ zp_Fits ml l o ∧ o.length - 1 ≤ mp ∧ ml ≤ 20 ∧ ms ≤ 6 ∧ mp ≤ 10
theorem zi_split : ∀ (l : List zp_En) (p : zp_En → Bool), l.length = l.countP p + l.countP (fun x => !(p x))
  | [], _ => rfl
  | x :: t, p => by
    have ih := zi_split t p
    rw [List.length_cons, List.countP_cons, List.countP_cons]
    cases c : p x <;> simp <;> omega
theorem zi_len1 {B : Nat} : ∀ (o : List Nat) (l : List zp_En), (∀ x, x ∈ l → x.2.1 ∈ o) → (∀ s, s ∈ o → zp_cm l s ≤ B) → l.length ≤ B * o.length
  | [], l, h1, _ => by
    cases l with
    | nil => simp
    | cons x t => exact absurd (h1 x (List.mem_cons_self ..)) (by simp)
  | s :: o, l, h1, h2 => by
    have ih := zi_len1 (B := B) o (l.filter (fun x => !(x.2.1 == s))) (fun x hx => ?_) (fun t ht => ?_)
    · have e1 : l.length = l.countP (fun x => x.2.1 == s) + l.countP (fun x => !(x.2.1 == s)) := zi_split l (fun x => x.2.1 == s)
      have e2 := h2 s (List.mem_cons_self ..)
      have e3 : zp_cm l s = l.countP (fun x => x.2.1 == s) := rfl
      rw [← List.countP_eq_length_filter] at ih
      rw [List.length_cons, Nat.mul_add, Nat.mul_one]
      omega
    · rw [List.mem_filter] at hx
      rcases List.mem_cons.mp (h1 x hx.1) with z | z
      · simp [z] at hx
      · exact z
    · refine Nat.le_trans ?_ (h2 t (List.mem_cons_of_mem _ ht))
      exact List.Sublist.countP_le List.filter_sublist
theorem zi_len {ml ms mp : Nat} {l : List zp_En} {o : List Nat} (h : zi_V ml ms mp l o) : l.length ≤ 20 + 6 * (o.length - 1) := by
  obtain ⟨hw, _, hC, _, _, h20, h6, _⟩ := h
  obtain ⟨o, rfl⟩ : ∃ t, o = 0 :: t := by
    cases o with
    | nil => exact absurd hw.2.2.2.1 (by simp)
    | cons a t =>
      have : some a = some 0 := hw.2.2.2.1
      rw [Option.some.inj this]; exact ⟨t, rfl⟩
  have hn := hw.2.2.1
  rw [List.nodup_cons] at hn
  have e1 : l.length = l.countP (fun x => x.2.1 == 0) + l.countP (fun x => !(x.2.1 == 0)) := zi_split l (fun x => x.2.1 == 0)
  have e2 : zp_cm l 0 = l.countP (fun x => x.2.1 == 0) := rfl
  have e3 := hC.2
  have ih := zi_len1 (B := 6) o (l.filter (fun x => !(x.2.1 == 0))) (fun x hx => ?_) (fun t ht => ?_)
  · rw [← List.countP_eq_length_filter] at ih
    rw [List.length_cons, Nat.add_sub_cancel]
    omega
  · rw [List.mem_filter] at hx
    rcases List.mem_cons.mp (hw.2.2.2.2.2 x hx.1).1 with z | z
    · simp [z] at hx
    · exact z
  · have t0 : t ≠ 0 := fun z => hn.1 (z ▸ ht)
    have := (hC.1 t (List.mem_cons_of_mem _ ht) t0).1
    refine Nat.le_trans (List.Sublist.countP_le List.filter_sublist) ?_
    have e5 : zp_cm l t = l.countP (fun x => x.2.1 == t) := rfl
    omega
theorem zi_cm0 {l : List zp_En} {o : List Nat} (h : zp_WF l o) : zp_cm l 0 ≤ l.countP (zp_inT o 0) := by
  refine List.countP_mono_left (fun x hx hp => ?_)
  rw [zp_inT_iff]
  have e : x.2.1 = 0 := by simpa using hp
  have := (zp_idx0 h (h.2.2.2.2.2 x hx).1).mpr e
  omega
theorem zi_base {ml ms mp : Nat} {l : List zp_En} {o : List Nat} {v : Int32} (h : zi_V ml ms mp l o) (h1 : o.length = 1) (hc : l.countP (zp_inT o 0) < ml) : zi_V ml ms mp (l ++ [(v, 0, 0)]) o := by
  have hl := zi_len h
  obtain ⟨hw, hT, hC, hF, hmp, h20, h6, h10⟩ := h
  have c0 := zi_cm0 hw
  have o0 : ∀ s, s ∈ o → s = 0 := by
    intro s hs
    have i1 := List.idxOf_lt_length_of_mem hs
    exact (zp_idx0 hw hs).mp (by omega)
  have z0 : (0 : Nat) ∈ o := zp_mem hw.2.2.2.1
  refine ⟨⟨?_, hw.2.1, hw.2.2.1, hw.2.2.2.1, hw.2.2.2.2.1, fun x hx => ?_⟩, fun x hx ht => ?_, ⟨fun s hs hs0 => absurd (o0 s hs) hs0, ?_⟩, fun k k1 k2 => by omega, hmp, h20, h6, h10⟩
  · rw [List.length_append]; simp only [List.length_cons, List.length_nil]; omega
  · rcases List.mem_append.mp hx with z | z
    · exact hw.2.2.2.2.2 x z
    · simp at z; rw [z]; exact ⟨z0, z0⟩
  · rcases List.mem_append.mp hx with z | z
    · exact hT x z ht
    · simp at z; rw [z] at ht; exact absurd rfl ht
  · unfold zp_cm
    rw [List.countP_append]
    have e : zp_cm l 0 = l.countP (fun x => x.2.1 == 0) := rfl
    have e2 : List.countP (fun x : zp_En => x.2.1 == 0) [(v, 0, 0)] = 1 := rfl
    omega
/-! erasing a position keeps the order of the others -/
theorem zi_er_idx {o : List Nat} {k a : Nat} (hn : o.Nodup) (hk : k < o.length) (ha : a ∈ o) (hne : a ≠ zp_sl o k) : (o.eraseIdx k).idxOf a = if o.idxOf a < k then o.idxOf a else o.idxOf a - 1 := by
  have hn' : (o.eraseIdx k).Nodup := (List.eraseIdx_sublist o k).nodup hn
  have g := zp_idxm ha
  have hik : o.idxOf a ≠ k := fun z => by
    rw [z] at g
    exact hne (zp_sl_e g).symm
  by_cases c : o.idxOf a < k
  · rw [if_pos c]
    exact zp_idx hn' (by rw [List.getElem?_eraseIdx, if_pos c]; exact g)
  · rw [if_neg c]
    refine zp_idx hn' ?_
    rw [List.getElem?_eraseIdx, if_neg (by omega), show o.idxOf a - 1 + 1 = o.idxOf a from by omega]
    exact g
theorem zi_er_lt {o : List Nat} {k a b : Nat} (hn : o.Nodup) (hk : k < o.length) (ha : a ∈ o) (hb : b ∈ o) (hna : a ≠ zp_sl o k) (hnb : b ≠ zp_sl o k) (h : o.idxOf a < o.idxOf b) : (o.eraseIdx k).idxOf a < (o.eraseIdx k).idxOf b := by
  rw [zi_er_idx hn hk ha hna, zi_er_idx hn hk hb hnb]
  have h1 : o.idxOf a ≠ k := fun z => hna (by have g := zp_idxm ha; rw [z] at g; exact (zp_sl_e g).symm)
  have h2 : o.idxOf b ≠ k := fun z => hnb (by have g := zp_idxm hb; rw [z] at g; exact (zp_sl_e g).symm)
  split <;> split <;> omega
/-! drop -/
theorem zi_dG_v {s : Nat} {x y : zp_En} (h : zp_dG s x = some y) : x.2.1 ≠ s ∧ y = (x.1, x.2.1, if x.2.2 = s then 0 else x.2.2) := by
  unfold zp_dG at h
  split at h
  · cases h
  · exact ⟨by assumption, (Option.some.inj h).symm⟩
theorem zi_dr_WF {l : List zp_En} {o : List Nat} {k : Nat} (h : zp_WF l o) (hk1 : 1 ≤ k) (hk : k < o.length) : zp_WF (l.filterMap (zp_dG (zp_sl o k))) (o.eraseIdx k) := by
  obtain ⟨h1, h2, h3, h4⟩ := zp_WO_er (zp_WF_o h) hk1
  refine ⟨Nat.le_trans (List.length_filterMap_le _ _) h.1, h1, h2, h3, h4, fun y hy => ?_⟩
  obtain ⟨x, hx, hxy⟩ := List.mem_filterMap.mp hy
  obtain ⟨hne, rfl⟩ := zi_dG_v hxy
  have m1 := h.2.2.2.2.2 x hx
  rw [zp_er_mem h.2.2.1 hk, zp_er_mem h.2.2.1 hk]
  refine ⟨⟨m1.1, hne⟩, ?_⟩
  show (if x.2.2 = zp_sl o k then 0 else x.2.2) ∈ o ∧ (if x.2.2 = zp_sl o k then 0 else x.2.2) ≠ zp_sl o k
  split
  · refine ⟨zp_mem h.2.2.2.1, fun z => ?_⟩
    have := zp_sl_g hk
    rw [← z] at this
    exact absurd (zp_uniq h.2.2.1 this h.2.2.2.1) (by omega)
  · exact ⟨m1.2, by assumption⟩
theorem zi_fm_le {l : List zp_En} {g : zp_En → Option zp_En} {p : zp_En → Bool} (h : ∀ x y, x ∈ l → g x = some y → p y = true → p x = true) : (l.filterMap g).countP p ≤ l.countP p := by
  rw [List.countP_filterMap]
  refine List.countP_mono_left (fun x hx hp => ?_)
  cases hg : g x with
  | none => rw [hg] at hp; cases hp
  | some y => rw [hg] at hp; exact h x y hx hg hp
theorem zi_drop {ml ms mp : Nat} {l : List zp_En} {o : List Nat} {k : Nat} (h : zi_V ml ms mp l o) (hk1 : 1 ≤ k) (hk : k < o.length) (hF' : zp_Fits ml (l.filterMap (zp_dG (zp_sl o k))) (o.eraseIdx k)) : zi_V ml ms mp (l.filterMap (zp_dG (zp_sl o k))) (o.eraseIdx k) := by
  obtain ⟨hw, hT, hC, hF, hmp, h20, h6, h10⟩ := h
  have s0 : zp_sl o k ≠ 0 := fun z => by
    have := zp_sl_g hk
    rw [z] at this
    exact absurd (zp_uniq hw.2.2.1 this hw.2.2.2.1) (by omega)
  refine ⟨zi_dr_WF hw hk1 hk, fun y hy ht => ?_, ⟨fun s hs hs0 => ⟨?_, ?_⟩, ?_⟩, hF', by rw [zp_er_len hk]; omega, h20, h6, h10⟩
  · obtain ⟨x, hx, hxy⟩ := List.mem_filterMap.mp hy
    obtain ⟨hne, rfl⟩ := zi_dG_v hxy
    have m1 := hw.2.2.2.2.2 x hx
    have ht : (if x.2.2 = zp_sl o k then 0 else x.2.2) ≠ 0 := ht
    have hk' : ¬ x.2.2 = zp_sl o k := fun z => ht (by rw [if_pos z])
    show (o.eraseIdx k).idxOf x.2.1 < (o.eraseIdx k).idxOf (if x.2.2 = zp_sl o k then 0 else x.2.2)
    rw [if_neg hk'] at ht ⊢
    exact zi_er_lt hw.2.2.1 hk m1.1 m1.2 hne hk' (hT x hx ht)
  · refine Nat.le_trans (zi_fm_le (fun x y _ hxy hp => ?_)) (hC.1 s ((zp_er_mem hw.2.2.1 hk).mp hs).1 hs0).1
    obtain ⟨hne, rfl⟩ := zi_dG_v hxy
    exact hp
  · refine Nat.le_trans (zi_fm_le (fun x y _ hxy hp => ?_)) (hC.1 s ((zp_er_mem hw.2.2.1 hk).mp hs).1 hs0).2
    obtain ⟨hne, rfl⟩ := zi_dG_v hxy
    have hp : (if x.2.2 = zp_sl o k then 0 else x.2.2) = s := by simpa using hp
    have : ¬ x.2.2 = zp_sl o k := fun z => hs0 (by rw [if_pos z] at hp; exact hp.symm)
    rw [if_neg this] at hp
    simpa using hp
  · refine Nat.le_trans (zi_fm_le (fun x y _ hxy hp => ?_)) hC.2
    obtain ⟨hne, rfl⟩ := zi_dG_v hxy
    exact hp
/-! a permuted stack -/
theorem zi_perm {ml ms mp : Nat} {l : List zp_En} {o o' : List Nat} (h : zi_V ml ms mp l o) (hp : List.Perm o' o) (h0 : o'[0]? = some 0) (hT' : zi_T l o') (hF' : zp_Fits ml l o') : zi_V ml ms mp l o' := by
  obtain ⟨hw, hT, hC, hF, hmp, h20, h6, h10⟩ := h
  exact ⟨zp_WF_perm hw hp h0, hT', ⟨fun s hs => hC.1 s (hp.mem_iff.mp hs), hC.2⟩, hF', by rw [hp.length_eq]; exact hmp, h20, h6, h10⟩
/-- maker and taker of an entry: the taker rests on the maker -/
theorem zi_rest {l : List zp_En} {o : List Nat} (hw : zp_WF l o) {x : zp_En} (hx : x ∈ l) : zp_Rs l o (o.idxOf x.2.2) (o.idxOf x.2.1) := by
  obtain ⟨e, he⟩ := List.getElem?_of_mem hx
  have m1 := hw.2.2.2.2.2 x hx
  refine zp_Rs_sh he ?_ ?_
  · rw [zp_sl_e (zp_idxm m1.2)]; exact zp_own_iff.mpr (Or.inr rfl)
  · rw [zp_sl_e (zp_idxm m1.1)]; exact zp_own_iff.mpr (Or.inl rfl)
theorem zi_mv_T {l : List zp_En} {o : List Nat} {fr to : Nat} (hw : zp_WF l o) (hT : zi_T l o) (hf1 : 1 ≤ fr) (hf : fr < o.length) (ht1 : 1 ≤ to) (ht : to < o.length) (hb : ¬ zp_MB l o fr to) : zi_T l ((o.eraseIdx fr).insertIdx to (zp_sl o fr)) := by
  have hn := hw.2.2.1
  have hw' := zp_WF_perm hw (zp_mv_perm hf ht) (zp_mv_0 (to := to) (fr := fr) (s := zp_sl o fr) hw.2.2.2.1 hf1 ht1)
  have hn' := hw'.2.2.1
  have hlen : (o.eraseIdx fr).length = o.length - 1 := zp_er_len hf
  have i1 : ((o.eraseIdx fr).insertIdx to (zp_sl o fr)).idxOf (zp_sl o fr) = to := by
    refine zp_idx hn' ?_
    rw [List.getElem?_insertIdx, if_neg (by omega), if_pos rfl, if_pos (by omega)]
  have i2 : ∀ a, a ∈ o → a ≠ zp_sl o fr → o.idxOf a ≠ fr ∧ ((o.eraseIdx fr).insertIdx to (zp_sl o fr)).idxOf a = (if (if o.idxOf a < fr then o.idxOf a else o.idxOf a - 1) < to then (if o.idxOf a < fr then o.idxOf a else o.idxOf a - 1) else (if o.idxOf a < fr then o.idxOf a else o.idxOf a - 1) + 1) := by
    intro a ha hne
    have hne' : o.idxOf a ≠ fr := fun z => hne (by have g := zp_idxm ha; rw [z] at g; exact (zp_sl_e g).symm)
    have hae : a ∈ o.eraseIdx fr := (zp_er_mem hn hf).mpr ⟨ha, hne⟩
    have g := zp_idxm hae
    rw [zi_er_idx hn hf ha hne] at g
    refine ⟨hne', ?_⟩
    generalize (if o.idxOf a < fr then o.idxOf a else o.idxOf a - 1) = i at g ⊢
    refine zp_idx hn' ?_
    by_cases c : i < to
    · rw [if_pos c, List.getElem?_insertIdx, if_pos c]; exact g
    · rw [if_neg c, List.getElem?_insertIdx, if_neg (by omega), if_neg (by omega), Nat.add_sub_cancel]; exact g
  intro x hx hx0
  have m1 := hw.2.2.2.2.2 x hx
  have h1 := hT x hx hx0
  have hr := zi_rest hw hx
  have gj := zp_lt (zp_idxm m1.2)
  by_cases cm : x.2.1 = zp_sl o fr
  · have em : o.idxOf x.2.1 = fr := by rw [cm]; exact zp_idx hn (zp_sl_g hf)
    rw [em] at h1 hr
    have ct : x.2.2 ≠ zp_sl o fr := fun z => by
      rw [z, zp_idx hn (zp_sl_g hf)] at h1; omega
    have hj : ¬ o.idxOf x.2.2 ≤ to := fun z => hb (Or.inl ⟨_, h1, z, hr⟩)
    rw [cm, i1, (i2 _ m1.2 ct).2, if_neg (show ¬ o.idxOf x.2.2 < fr from by omega), if_neg (by omega)]
    omega
  · by_cases ct : x.2.2 = zp_sl o fr
    · have et : o.idxOf x.2.2 = fr := by rw [ct]; exact zp_idx hn (zp_sl_g hf)
      rw [et] at h1 hr
      have hi : ¬ to ≤ o.idxOf x.2.1 := fun z => hb (Or.inr ⟨_, z, h1, hr⟩)
      rw [ct, i1, (i2 _ m1.1 cm).2, if_pos h1, if_pos (by omega)]
      omega
    · obtain ⟨a1, a2⟩ := i2 _ m1.1 cm
      obtain ⟨b1, b2⟩ := i2 _ m1.2 ct
      rw [a2, b2]
      generalize o.idxOf x.2.1 = i at h1 a1 ⊢
      generalize o.idxOf x.2.2 = j at h1 b1 ⊢
      have hij : (if i < fr then i else i - 1) < (if j < fr then j else j - 1) := by split <;> split <;> omega
      generalize (if i < fr then i else i - 1) = u at hij ⊢
      generalize (if j < fr then j else j - 1) = v at hij ⊢
      split <;> split <;> omega
end
section
/-! the invariant: pick, fold, absorb, push, revert -/
def zi_pick (b : Nat → Bool) (o : List Nat) : List Nat := [0] ++ zp_pk b 1 (o.drop 1) ++ zp_pk (fun j => !b j) 1 (o.drop 1)
theorem zi_o0 {o : List Nat} (h : o[0]? = some 0) : o = 0 :: o.drop 1 := by
  cases o with
  | nil => cases h
  | cons a t =>
    have : a = 0 := Option.some.inj h
    rw [this]; rfl
theorem zi_pick_perm {b : Nat → Bool} {o : List Nat} (h : o[0]? = some 0) : List.Perm (zi_pick b o) o := by
  have e := zi_o0 h
  have p := List.Perm.cons 0 (zp_pk_perm b (o.drop 1) 1)
  rw [← e] at p
  unfold zi_pick
  rw [List.append_assoc]
  exact p
theorem zi_pick_0 {b : Nat → Bool} {o : List Nat} : (zi_pick b o)[0]? = some 0 := by
  unfold zi_pick; rw [List.append_assoc]; rfl
theorem zi_pk_mem {b : Nat → Bool} : ∀ (t : List Nat) (c j s : Nat), t[j]? = some s → b (c + j) = true → s ∈ zp_pk b c t
  | [], c, j, s, h, _ => by simp at h
  | a :: t, c, 0, s, h, hb => by
    have : a = s := Option.some.inj h
    simp only [Nat.add_zero] at hb
    simp [zp_pk, hb, this]
  | a :: t, c, j + 1, s, h, hb => by
    have ih := zi_pk_mem t (c + 1) j s h (by rw [show c + 1 + j = c + (j + 1) from by omega]; exact hb)
    simp only [zp_pk]
    split
    · exact List.mem_cons_of_mem _ ih
    · exact ih
theorem zi_pk_sub {b : Nat → Bool} : ∀ (t : List Nat) (c i j s r : Nat), t[i]? = some s → t[j]? = some r → i < j → b (c + i) = true → b (c + j) = true → List.Sublist [s, r] (zp_pk b c t)
  | [], c, i, j, s, r, h, _, _, _, _ => by simp at h
  | a :: t, c, 0, 0, s, r, _, _, h, _, _ => by omega
  | a :: t, c, 0, j + 1, s, r, h, h2, _, hb, hb2 => by
    have e : a = s := Option.some.inj h
    have m := zi_pk_mem t (c + 1) j r h2 (by rw [show c + 1 + j = c + (j + 1) from by omega]; exact hb2)
    simp only [Nat.add_zero] at hb
    simp only [zp_pk, hb, if_true]
    rw [e]
    exact List.Sublist.cons_cons s (List.singleton_sublist.mpr m)
  | a :: t, c, i + 1, 0, s, r, _, _, h, _, _ => by omega
  | a :: t, c, i + 1, j + 1, s, r, h, h2, h3, hb, hb2 => by
    have ih := zi_pk_sub t (c + 1) i j s r h h2 (by omega) (by rw [show c + 1 + i = c + (i + 1) from by omega]; exact hb) (by rw [show c + 1 + j = c + (j + 1) from by omega]; exact hb2)
    simp only [zp_pk]
    split
    · exact List.Sublist.cons a ih
    · exact ih
theorem zi_sub_idx {s r : Nat} : ∀ (o : List Nat), o.Nodup → List.Sublist [s, r] o → o.idxOf s < o.idxOf r
  | [], _, h => by cases h
  | a :: t, hn, h => by
    rw [List.nodup_cons] at hn
    rcases List.sublist_cons_iff.mp h with z | ⟨q, z1, z2⟩
    · have ih := zi_sub_idx t hn.2 z
      have ms : s ∈ t := z.subset (by simp)
      have mr : r ∈ t := z.subset (by simp)
      have n1 : a ≠ s := fun e => hn.1 (e ▸ ms)
      have n2 : a ≠ r := fun e => hn.1 (e ▸ mr)
      rw [List.idxOf_cons, List.idxOf_cons]
      simp only [beq_eq_false_iff_ne.mpr n1, beq_eq_false_iff_ne.mpr n2, cond_false]
      omega
    · have e1 : s = a := (List.cons.inj z1).1
      have e2 : [r] = q := (List.cons.inj z1).2
      have mr : r ∈ t := by rw [← e2] at z2; exact z2.subset (by simp)
      have n2 : a ≠ r := fun e => hn.1 (e ▸ mr)
      rw [List.idxOf_cons, List.idxOf_cons]
      simp only [e1, beq_self_eq_true, cond_true, beq_eq_false_iff_ne.mpr n2, cond_false]
      omega
theorem zi_pick_T {l : List zp_En} {o : List Nat} {k : Nat} {b : Nat → Bool} (hw : zp_WF l o) (hT : zi_T l o) (hb : ∀ i, 1 ≤ i → i < o.length → (b i = true ↔ zp_Nd (zp_Rs l o) k i)) : zi_T l (zi_pick b o) := by
  have hpm := zi_pick_perm (b := b) hw.2.2.2.1
  have hw' := zp_WF_perm hw hpm zi_pick_0
  intro x hx hx0
  have m1 := hw.2.2.2.2.2 x hx
  have h1 := hT x hx hx0
  have hr := zi_rest hw hx
  have gi := zp_idxm m1.1
  have gj := zp_idxm m1.2
  have lj := zp_lt gj
  by_cases c0 : o.idxOf x.2.1 = 0
  · have e0 := (zp_idx0 hw m1.1).mp c0
    have a1 := (zp_idx0 hw' (hpm.mem_iff.mpr m1.1)).mpr e0
    have a2 : ¬ (zi_pick b o).idxOf x.2.2 = 0 := fun z => hx0 ((zp_idx0 hw' (hpm.mem_iff.mpr m1.2)).mp z)
    omega
  · have eo := zi_o0 hw.2.2.2.1
    generalize o.idxOf x.2.1 = i at h1 hr gi c0
    generalize o.idxOf x.2.2 = j at h1 hr gj lj
    have ti : (o.drop 1)[i - 1]? = some x.2.1 := by rw [List.getElem?_drop, show 1 + (i - 1) = i from by omega]; exact gi
    have tj : (o.drop 1)[j - 1]? = some x.2.2 := by rw [List.getElem?_drop, show 1 + (j - 1) = j from by omega]; exact gj
    have ei : 1 + (i - 1) = i := by omega
    have ej : 1 + (j - 1) = j := by omega
    refine zi_sub_idx _ hw'.2.2.1 ?_
    unfold zi_pick
    rw [List.append_assoc]
    refine List.Sublist.cons 0 ?_
    by_cases bj : b j = true
    · have nj := (hb j (by omega) lj).mp bj
      have bi : b i = true := (hb i (by omega) (by omega)).mpr (zp_Nd_s nj (by omega) h1 (zp_Nd_le nj) hr)
      exact List.Sublist.trans (zi_pk_sub (o.drop 1) 1 (i - 1) (j - 1) _ _ ti tj (by omega) (by rw [ei]; exact bi) (by rw [ej]; exact bj)) (List.sublist_append_left _ _)
    · have mj : x.2.2 ∈ zp_pk (fun j => !b j) 1 (o.drop 1) := zi_pk_mem _ 1 (j - 1) _ tj (by rw [ej]; simp [bj])
      by_cases bi : b i = true
      · have mi : x.2.1 ∈ zp_pk b 1 (o.drop 1) := zi_pk_mem _ 1 (i - 1) _ ti (by rw [ei]; exact bi)
        exact List.Sublist.append (List.singleton_sublist.mpr mi) (List.singleton_sublist.mpr mj)
      · exact List.Sublist.trans (zi_pk_sub (o.drop 1) 1 (i - 1) (j - 1) _ _ ti tj (by omega) (by rw [ei]; simp [bi]) (by rw [ej]; simp [bj])) (List.sublist_append_right _ _)
/-! fold -/
theorem zi_fold {ml ms mp : Nat} {l : List zp_En} {o : List Nat} {f t : Nat} (h : zi_V ml ms mp l o) (hf : f < o.length) (ht : zp_ft l o f = t) (ht1 : 1 ≤ t) (htf : t < f) (hn : ¬ zp_Fu ml ms l o f t) : zi_V ml ms mp (zp_l1 l o f t) (zp_o2 l o f t) := by
  obtain ⟨hw, hT, hC, hF, hmp, h20, h6, h10⟩ := h
  have hnd := hw.2.2.1
  have hw1 := zp_WF_l1 hw hf htf
  have hw2 := zp_WF_o2 hw hf ht1 htf
  have hl1 := zp_er_len hf
  have hol := zp_o2_len (l := l) hf htf
  have gF := zp_sl_g hf
  have gT := zp_sl_g (o := o) (k := t) (by omega)
  have iF := zp_idx hnd gF
  have iT := zp_idx hnd gT
  have F0 : zp_sl o f ≠ 0 := fun z => by rw [z] at gF; exact absurd (zp_uniq hnd gF hw.2.2.2.1) (by omega)
  have T0 : zp_sl o t ≠ 0 := fun z => by rw [z] at gT; exact absurd (zp_uniq hnd gT hw.2.2.2.1) (by omega)
  have TF : zp_sl o t ≠ zp_sl o f := zp_sl_ne hnd hf (by omega) (by omega)
  have hFits : zp_Fits ml (zp_l1 l o f t) (zp_o2 l o f t) := Classical.not_not.mp (fun z => hn (Or.inr (Or.inr z)))
  have hsub : ∀ s, s ∈ zp_o2 l o f t → s ∈ o ∧ s ≠ zp_sl o f := by
    intro s hs
    have : s ∈ o.eraseIdx f := by
      unfold zp_o2 at hs
      split at hs
      · exact (List.eraseIdx_sublist _ _).subset hs
      · exact hs
    exact (zp_er_mem hnd hf).mp this
  have cnt : ∀ s, s ≠ zp_sl o t → s ≠ zp_sl o f → zp_cm (zp_l1 l o f t) s ≤ zp_cm l s ∧ zp_ct (zp_l1 l o f t) s ≤ zp_ct l s := by
    intro s h1 h2
    have rn : ∀ m, zp_rn (zp_sl o f) (zp_sl o t) m = s → m = s := by
      intro m hm
      unfold zp_rn at hm
      split at hm
      · exact absurd hm.symm h1
      · exact hm
    refine ⟨zi_fm_le (fun x y _ hxy hp => ?_), zi_fm_le (fun x y _ hxy hp => ?_)⟩
    · obtain ⟨rfl, _⟩ := zp_fG_v hxy
      have hp : zp_rn (zp_sl o f) (zp_sl o t) x.2.1 = s := by simpa using hp
      simpa using rn _ hp
    · obtain ⟨rfl, _⟩ := zp_fG_v hxy
      have hp : zp_rn (zp_sl o f) (zp_sl o t) x.2.2 = s := by simpa using hp
      simpa using rn _ hp
  refine ⟨hw2, fun y hy hy0 => ?_, ⟨fun s hs hs0 => ?_, ?_⟩, hFits, by omega, h20, h6, h10⟩
  · obtain ⟨x, hx, rfl, hnd2⟩ := zp_l1_m hy
    have m1 := hw.2.2.2.2.2 x hx
    have m2 := hw2.2.2.2.2.2 _ hy
    have r1 := zp_rn_m hnd hf htf m1.1
    have r2 := zp_rn_m hnd hf htf m1.2
    have hx0 : x.2.2 ≠ 0 := fun z => hy0 (by show zp_rn _ _ x.2.2 = 0; rw [z]; unfold zp_rn; rw [if_neg (fun q => F0 q.symm)])
    have h1 := hT x hx hx0
    have hr := zi_rest hw hx
    have key : o.idxOf (zp_rn (zp_sl o f) (zp_sl o t) x.2.1) < o.idxOf (zp_rn (zp_sl o f) (zp_sl o t) x.2.2) := by
      by_cases c1 : x.2.1 = zp_sl o f
      · have c2 : ¬ x.2.2 = zp_sl o f := fun z => by rw [c1, z] at h1; omega
        rw [show zp_rn (zp_sl o f) (zp_sl o t) x.2.1 = zp_sl o t from by unfold zp_rn; rw [if_pos c1], show zp_rn (zp_sl o f) (zp_sl o t) x.2.2 = x.2.2 from by unfold zp_rn; rw [if_neg c2], iT]
        rw [c1, iF] at h1
        omega
      · have e1 : zp_rn (zp_sl o f) (zp_sl o t) x.2.1 = x.2.1 := by unfold zp_rn; rw [if_neg c1]
        by_cases c2 : x.2.2 = zp_sl o f
        · have e2 : zp_rn (zp_sl o f) (zp_sl o t) x.2.2 = zp_sl o t := by unfold zp_rn; rw [if_pos c2]
          rw [e1, e2, iT]
          rw [e1, e2] at hnd2
          rw [c2, iF] at h1 hr
          apply Nat.lt_of_not_le
          intro q
          by_cases c3 : o.idxOf x.2.1 = t
          · have := zp_idxm m1.1
            rw [c3, gT] at this
            exact hnd2 ⟨(Option.some.inj this).symm, rfl⟩
          · have := zp_hr_b (R := zp_Rs l o f) f (o.idxOf x.2.1) (by have e : zp_hr (zp_Rs l o f) f = t := ht; omega) h1
            exact this hr
        · have e2 : zp_rn (zp_sl o f) (zp_sl o t) x.2.2 = x.2.2 := by unfold zp_rn; rw [if_neg c2]
          rw [e1, e2]; exact h1
    have q1 := (zp_er_mem hnd hf).mp r1
    have q2 := (zp_er_mem hnd hf).mp r2
    have key1 := zi_er_lt hnd hf q1.1 q2.1 q1.2 q2.2 key
    show (zp_o2 l o f t).idxOf (zp_rn (zp_sl o f) (zp_sl o t) x.2.1) < (zp_o2 l o f t).idxOf (zp_rn (zp_sl o f) (zp_sl o t) x.2.2)
    have m2a : zp_rn (zp_sl o f) (zp_sl o t) x.2.1 ∈ zp_o2 l o f t := m2.1
    have m2b : zp_rn (zp_sl o f) (zp_sl o t) x.2.2 ∈ zp_o2 l o f t := m2.2
    unfold zp_o2 at m2a m2b ⊢
    split at m2a
    · rename_i hc
      rw [if_pos hc] at m2b
      rw [if_pos hc]
      have hl2 : t < (o.eraseIdx f).length := by omega
      exact zi_er_lt hw1.2.2.1 hl2 r1 r2 ((zp_er_mem hw1.2.2.1 hl2).mp m2a).2 ((zp_er_mem hw1.2.2.1 hl2).mp m2b).2 key1
    · rename_i hc
      rw [if_neg hc]
      exact key1
  · have q := hsub s hs
    by_cases c : s = zp_sl o t
    · rw [c]
      exact ⟨Nat.le_of_not_lt (fun z => hn (Or.inl z)), Nat.le_of_not_lt (fun z => hn (Or.inr (Or.inl z)))⟩
    · have a := cnt s c q.2
      have b := hC.1 s q.1 hs0
      omega
  · have a := (cnt 0 (fun z => T0 z.symm) (fun z => F0 z.symm)).1
    have := hC.2
    omega
theorem zi_ab {ml ms mp : Nat} : ∀ (L : Nat) (l : List zp_En) (o : List Nat), L < o.length → zi_V ml ms mp l o → (zp_ab ml ms L l o).1 = 0 → zi_V ml ms mp (zp_ab ml ms L l o).2.1 (zp_ab ml ms L l o).2.2
  | 0, l, o, _, h, _ => h
  | L + 1, l, o, hL, h, h0 => by
    by_cases c : zp_ft l o (o.length - (L + 1)) = 0
    · rw [zp_ab_b c] at h0; exact absurd (show (-5 : Int32) = 0 from h0) (by decide)
    · obtain ⟨t, ht⟩ : ∃ t, zp_ft l o (o.length - (L + 1)) = t := ⟨_, rfl⟩
      have ht1 : 1 ≤ t := by omega
      have htf : t < o.length - (L + 1) := by
        rcases zp_hr_a (R := zp_Rs l o (o.length - (L + 1))) (o.length - (L + 1)) with z | z
        · exact absurd z c
        · have : zp_ft l o (o.length - (L + 1)) < o.length - (L + 1) := z.1
          omega
      rcases Classical.em (zp_Fu ml ms l o (o.length - (L + 1)) t) with z | z
      · rw [zp_ab_f ht ht1 z] at h0; exact absurd (show (-4 : Int32) = 0 from h0) (by decide)
      · rw [zp_ab_s ht ht1 z] at h0 ⊢
        have hl := zp_o2_len (l := l) (o := o) (f := o.length - (L + 1)) (t := t) (by omega) htf
        exact zi_ab L _ _ (by omega) (zi_fold h (by omega) ht ht1 htf z) h0
/-! push -/
theorem zi_ins_c {l new : List zp_En} {q : Nat} {p : zp_En → Bool} : (zp_ins l new q).countP p = l.countP p + new.countP p := by
  unfold zp_ins
  rw [List.countP_append, List.countP_append]
  have : l.countP p = (l.take q).countP p + (l.drop q).countP p := by rw [← List.countP_append, List.take_append_drop]
  omega
theorem zi_ins_m {l new : List zp_En} {q : Nat} {y : zp_En} (h : y ∈ zp_ins l new q) : y ∈ l ∨ y ∈ new := by
  unfold zp_ins at h
  rcases List.mem_append.mp h with z | z
  · exact Or.inl (List.mem_of_mem_take z)
  · rcases List.mem_append.mp z with z | z
    · exact Or.inr z
    · exact Or.inl (List.mem_of_mem_drop z)
theorem zi_mk_m {p : zp_En → Bool} {s a b : Nat} {y : zp_En} : ∀ (l : List zp_En) (c : Nat), y ∈ zp_mk p s a b c l → y ∈ l ∨ ∃ x, x ∈ l ∧ p x = true ∧ y = (x.1, x.2.1, s)
  | [], c, h => by cases h
  | x :: t, c, h => by
    simp only [zp_mk] at h
    have lift : (y ∈ t ∨ ∃ z, z ∈ t ∧ p z = true ∧ y = (z.1, z.2.1, s)) → y ∈ x :: t ∨ ∃ z, z ∈ x :: t ∧ p z = true ∧ y = (z.1, z.2.1, s) := by
      intro q
      rcases q with q | ⟨z, z1, z2⟩
      · exact Or.inl (List.mem_cons_of_mem _ q)
      · exact Or.inr ⟨z, List.mem_cons_of_mem _ z1, z2⟩
    split at h
    · rename_i hp
      rcases List.mem_cons.mp h with q | q
      · split at q
        · exact Or.inr ⟨x, List.mem_cons_self .., hp, q⟩
        · rw [q]; exact Or.inl (List.mem_cons_self ..)
      · exact lift (zi_mk_m t (c + 1) q)
    · rcases List.mem_cons.mp h with q | q
      · rw [q]; exact Or.inl (List.mem_cons_self ..)
      · exact lift (zi_mk_m t c q)
theorem zi_mk_eq {p P P' : zp_En → Bool} {s a b : Nat} : ∀ (l : List zp_En) (c : Nat), (∀ x, x ∈ l → P' x = P x) → (∀ x, x ∈ l → p x = true → P' (x.1, x.2.1, s) = P x) → (zp_mk p s a b c l).countP P' = l.countP P
  | [], c, _, _ => rfl
  | x :: t, c, h1, h2 => by
    have ih1 := zi_mk_eq (p := p) (P := P) (P' := P') (s := s) (a := a) (b := b) t (c + 1) (fun y hy => h1 y (List.mem_cons_of_mem _ hy)) (fun y hy => h2 y (List.mem_cons_of_mem _ hy))
    have ih2 := zi_mk_eq (p := p) (P := P) (P' := P') (s := s) (a := a) (b := b) t c (fun y hy => h1 y (List.mem_cons_of_mem _ hy)) (fun y hy => h2 y (List.mem_cons_of_mem _ hy))
    have g1 := h1 x (List.mem_cons_self ..)
    have g2 := h2 x (List.mem_cons_self ..)
    simp only [zp_mk]
    split
    · rename_i hp
      rw [List.countP_cons, List.countP_cons, ih1]
      split
      · rw [g2 hp]
      · rw [g1]
    · rw [List.countP_cons, List.countP_cons, ih2, g1]
theorem zi_mk_cnt {p P' : zp_En → Bool} {s a b : Nat} : ∀ (l : List zp_En) (c : Nat), (∀ x, x ∈ l → P' x = p x) → (∀ x, x ∈ l → p x = true → P' (x.1, x.2.1, s) = false) → (zp_mk p s a b c l).countP P' + (min b (c + l.countP p) - max a c) = l.countP p
  | [], c, _, _ => by simp [zp_mk]; omega
  | x :: t, c, h1, h2 => by
    have ih1 := zi_mk_cnt (p := p) (P' := P') (s := s) (a := a) (b := b) t (c + 1) (fun y hy => h1 y (List.mem_cons_of_mem _ hy)) (fun y hy => h2 y (List.mem_cons_of_mem _ hy))
    have ih2 := zi_mk_cnt (p := p) (P' := P') (s := s) (a := a) (b := b) t c (fun y hy => h1 y (List.mem_cons_of_mem _ hy)) (fun y hy => h2 y (List.mem_cons_of_mem _ hy))
    have g1 := h1 x (List.mem_cons_self ..)
    have g2 := h2 x (List.mem_cons_self ..)
    simp only [zp_mk]
    split
    · rename_i hp
      rw [hp] at g1
      split
      · rw [List.countP_cons, List.countP_cons, g2 hp, hp]
        simp only [if_true, Bool.false_eq_true, if_false]
        omega
      · rw [List.countP_cons, List.countP_cons, g1, hp]
        simp only [if_true]
        omega
    · rename_i hp
      rw [List.countP_cons, List.countP_cons, g1]
      simp only [hp, Bool.false_eq_true, if_false]
      omega
theorem zi_mk_ct {p : zp_En → Bool} {s a b : Nat} : ∀ (l : List zp_En) (c : Nat), (∀ x, x ∈ l → x.2.2 ≠ s) → zp_ct (zp_mk p s a b c l) s ≤ b - max a c
  | [], c, _ => by simp [zp_mk, zp_ct]
  | x :: t, c, h1 => by
    have ih1 := zi_mk_ct (p := p) (s := s) (a := a) (b := b) t (c + 1) (fun y hy => h1 y (List.mem_cons_of_mem _ hy))
    have ih2 := zi_mk_ct (p := p) (s := s) (a := a) (b := b) t c (fun y hy => h1 y (List.mem_cons_of_mem _ hy))
    have g1 := h1 x (List.mem_cons_self ..)
    unfold zp_ct at ih1 ih2 ⊢
    simp only [zp_mk]
    split
    · split
      · rw [List.countP_cons]
        simp only [beq_self_eq_true, if_true]
        omega
      · rw [List.countP_cons]
        simp only [beq_eq_false_iff_ne.mpr g1, Bool.false_eq_true, if_false]
        omega
    · rw [List.countP_cons]
      simp only [beq_eq_false_iff_ne.mpr g1, Bool.false_eq_true, if_false]
      omega
theorem zi_new_m {ds : List Int32} {s : Nat} {y : zp_En} (h : y ∈ zp_new ds s) : y.2.1 = s ∧ y.2.2 = 0 := by
  unfold zp_new at h
  obtain ⟨d, _, rfl⟩ := List.mem_map.mp h
  exact ⟨rfl, rfl⟩
theorem zi_new_0 {ds : List Int32} {s : Nat} {p : zp_En → Bool} (h : ∀ d, p (d, s, 0) = false) : (zp_new ds s).countP p = 0 := by
  rw [List.countP_eq_zero]
  intro y hy
  unfold zp_new at hy
  obtain ⟨d, _, rfl⟩ := List.mem_map.mp hy
  rw [h d]; decide
theorem zi_new_1 {ds : List Int32} {s : Nat} {p : zp_En → Bool} (h : ∀ d, p (d, s, 0) = true) : (zp_new ds s).countP p = ds.length := by
  have : (zp_new ds s).countP p = (zp_new ds s).length := by
    rw [List.countP_eq_length]
    intro y hy
    unfold zp_new at hy
    obtain ⟨d, _, rfl⟩ := List.mem_map.mp hy
    exact h d
  rw [this]; simp [zp_new]
end
section
/-! the invariant: push, revert, names -/
theorem zi_app {o : List Nat} {s t : Nat} (h : t ∈ o) : (o ++ [s]).idxOf t = o.idxOf t := by
  rw [List.idxOf_append, if_pos h]
theorem zi_aps {o : List Nat} {s : Nat} (h : s ∉ o) : (o ++ [s]).idxOf s = o.length := by
  rw [List.idxOf_append, if_neg h]; simp
theorem zi_top {l : List zp_En} {o : List Nat} (hw : zp_WF l o) {x : zp_En} (hx : x ∈ l) : zp_inT o (o.length - 1) x = true ↔ x.2.2 = 0 := by
  have m1 := hw.2.2.2.2.2 x hx
  have a := List.idxOf_lt_length_of_mem m1.1
  have b := List.idxOf_lt_length_of_mem m1.2
  have c := zp_idx0 hw m1.2
  rw [zp_inT_iff]
  constructor
  · intro q; exact c.mp (by omega)
  · intro q; have := c.mpr q; omega
theorem zi_pu_m {l : List zp_En} {o : List Nat} {s pl tk : Nat} {ds : List Int32} {y : zp_En} (h : y ∈ zp_push l o s pl tk ds) : y ∈ l ∨ (∃ x, x ∈ l ∧ zp_inT o (o.length - 1) x = true ∧ y = (x.1, x.2.1, s)) ∨ (y.2.1 = s ∧ y.2.2 = 0) := by
  rcases zi_ins_m h with z | z
  · rcases zi_mk_m l 0 z with z | z
    · exact Or.inl z
    · exact Or.inr (Or.inl z)
  · exact Or.inr (Or.inr (zi_new_m z))
theorem zi_pu_WF {l : List zp_En} {o : List Nat} {s pl tk : Nat} {ds : List Int32} (hw : zp_WF l o) (hs : s ≤ 10) (hso : s ∉ o) (h10 : o.length ≤ 10) (hL : l.length + ds.length ≤ 80) : zp_WF (zp_push l o s pl tk ds) (o ++ [s]) := by
  have z0 : (0 : Nat) ∈ o := zp_mem hw.2.2.2.1
  refine ⟨by rw [zp_push_len]; exact hL, by rw [List.length_append]; simp only [List.length_cons, List.length_nil]; omega, ?_, ?_, fun t ht => ?_, fun y hy => ?_⟩
  · rw [List.nodup_append]
    refine ⟨hw.2.2.1, by simp, ?_⟩
    intro a ha b hb
    simp at hb
    rw [hb]; intro z; exact hso (z ▸ ha)
  · rw [List.getElem?_append, if_pos (zp_opos hw)]; exact hw.2.2.2.1
  · rcases List.mem_append.mp ht with z | z
    · exact hw.2.2.2.2.1 t z
    · simp at z; omega
  · rw [List.mem_append, List.mem_append]
    rcases zi_pu_m hy with z | ⟨x, hx, _, rfl⟩ | ⟨z1, z2⟩
    · have m1 := hw.2.2.2.2.2 y z
      exact ⟨Or.inl m1.1, Or.inl m1.2⟩
    · have m1 := hw.2.2.2.2.2 x hx
      exact ⟨Or.inl m1.1, Or.inr (by simp)⟩
    · rw [z1, z2]; exact ⟨Or.inr (by simp), Or.inl z0⟩
theorem zi_pu_c {l : List zp_En} {o : List Nat} {s pl tk : Nat} {ds : List Int32} {p : zp_En → Bool} : (zp_push l o s pl tk ds).countP p = (zp_mk (zp_inT o (o.length - 1)) s pl (pl + tk) 0 l).countP p + (zp_new ds s).countP p := zi_ins_c
theorem zi_push {ml ms mp : Nat} {l : List zp_En} {o : List Nat} {s pl tk : Nat} {ds : List Int32} (h : zi_V ml ms mp l o) (hs1 : 1 ≤ s) (hs : s ≤ 10) (hso : s ∉ o) (hmp : o.length - 1 ≠ mp) (htk : tk ≤ ms) (hds : ds.length ≤ ms) (hb : pl + tk ≤ l.countP (zp_inT o (o.length - 1))) (hml : l.countP (zp_inT o (o.length - 1)) - tk + ds.length ≤ ml) : zi_V ml ms mp (zp_push l o s pl tk ds) (o ++ [s]) := by
  have hl := zi_len h
  obtain ⟨hw, hT, hC, hF, hmp1, h20, h6, h10⟩ := h
  have ho1 := zp_opos hw
  have hw' := zi_pu_WF (pl := pl) (tk := tk) hw hs hso (by omega) (show l.length + ds.length ≤ 80 from by omega)
  have ne : ∀ t, t ∈ o → t ≠ s := fun t ht z => hso (z ▸ ht)
  have z0 : (0 : Nat) ∈ o := zp_mem hw.2.2.2.1
  refine ⟨hw', fun y hy hy0 => ?_, ⟨fun t ht ht0 => ?_, ?_⟩, fun k hk1 hk2 => ?_, by rw [List.length_append]; simp only [List.length_cons, List.length_nil]; omega, h20, h6, h10⟩
  · rcases zi_pu_m hy with z | ⟨x, hx, _, rfl⟩ | ⟨z1, z2⟩
    · have m1 := hw.2.2.2.2.2 y z
      rw [zi_app m1.1, zi_app m1.2]; exact hT y z hy0
    · have m1 := hw.2.2.2.2.2 x hx
      show (o ++ [s]).idxOf x.2.1 < (o ++ [s]).idxOf s
      rw [zi_app m1.1, zi_aps hso]
      exact List.idxOf_lt_length_of_mem m1.1
    · exact absurd z2 hy0
  · have em : ∀ t, zp_cm (zp_mk (zp_inT o (o.length - 1)) s pl (pl + tk) 0 l) t = zp_cm l t := fun t => zi_mk_eq l 0 (fun _ _ => rfl) (fun _ _ _ => rfl)
    have e1 : zp_cm (zp_push l o s pl tk ds) t = zp_cm l t + (zp_new ds s).countP (fun x => x.2.1 == t) := by
      rw [← em t]; exact zi_pu_c
    have e2 : zp_ct (zp_push l o s pl tk ds) t = zp_ct (zp_mk (zp_inT o (o.length - 1)) s pl (pl + tk) 0 l) t + (zp_new ds s).countP (fun x => x.2.2 == t) := zi_pu_c
    have n2 : (zp_new ds s).countP (fun x => x.2.2 == t) = 0 := zi_new_0 (fun d => beq_eq_false_iff_ne.mpr (fun z => ht0 z.symm))
    rcases List.mem_append.mp ht with z | z
    · have n1 : (zp_new ds s).countP (fun x => x.2.1 == t) = 0 := zi_new_0 (fun d => beq_eq_false_iff_ne.mpr (fun q => ne t z q.symm))
      have b := hC.1 t z ht0
      have c : zp_ct (zp_mk (zp_inT o (o.length - 1)) s pl (pl + tk) 0 l) t ≤ zp_ct l t := by
        refine Nat.le_of_eq (zi_mk_eq (P := fun x => x.2.2 == t) l 0 (fun _ _ => rfl) (fun x hx hp => ?_))
        have := (zi_top hw hx).mp hp
        show (s == t) = (x.2.2 == t)
        rw [this, beq_eq_false_iff_ne.mpr (fun q => ne t z q.symm), beq_eq_false_iff_ne.mpr (fun q => ht0 q.symm)]
      omega
    · have z : t = s := by simpa using z
      subst z
      have c0 : zp_cm l t = 0 := by
        unfold zp_cm
        rw [List.countP_eq_zero]
        intro x hx hp
        have hp : x.2.1 = t := by simpa using hp
        exact hso (hp ▸ (hw.2.2.2.2.2 x hx).1)
      have n1 := List.countP_le_length (p := fun x : zp_En => x.2.1 == t) (l := zp_new ds t)
      have n3 : (zp_new ds t).length = ds.length := by simp [zp_new]
      have c1 := zi_mk_ct (p := zp_inT o (o.length - 1)) (s := t) (a := pl) (b := pl + tk) l 0 (fun x hx q => hso (q ▸ (hw.2.2.2.2.2 x hx).2))
      omega
  · have em : zp_cm (zp_mk (zp_inT o (o.length - 1)) s pl (pl + tk) 0 l) 0 = zp_cm l 0 := zi_mk_eq l 0 (fun _ _ => rfl) (fun _ _ _ => rfl)
    have e1 : zp_cm (zp_push l o s pl tk ds) 0 = zp_cm l 0 + (zp_new ds s).countP (fun x => x.2.1 == 0) := by
      rw [← em]; exact zi_pu_c
    have n1 : (zp_new ds s).countP (fun x => x.2.1 == 0) = 0 := zi_new_0 (fun d => beq_eq_false_iff_ne.mpr (fun q => by have q : s = 0 := q; omega))
    have := hC.2
    omega
  · rw [zi_pu_c]
    have hk2 : k < o.length + 1 := by rw [List.length_append] at hk2; exact hk2
    by_cases c : k = o.length
    · subst c
      have e1 := zi_mk_cnt (p := zp_inT o (o.length - 1)) (P' := zp_inT (o ++ [s]) o.length) (s := s) (a := pl) (b := pl + tk) l 0 (fun x hx => ?_) (fun x hx hp => ?_)
      · have e2 : (zp_new ds s).countP (zp_inT (o ++ [s]) o.length) = ds.length := zi_new_1 (fun d => by
          rw [zp_inT_iff]
          show (o ++ [s]).idxOf s ≤ o.length ∧ ¬ (0 < (o ++ [s]).idxOf 0 ∧ (o ++ [s]).idxOf 0 ≤ o.length)
          rw [zi_aps hso, zi_app z0, zp_idx hw.2.2.1 hw.2.2.2.1]
          omega)
        omega
      · have m1 := hw.2.2.2.2.2 x hx
        have a := List.idxOf_lt_length_of_mem m1.1
        have b := List.idxOf_lt_length_of_mem m1.2
        rw [Bool.eq_iff_iff, zp_inT_iff, zp_inT_iff, zi_app m1.1, zi_app m1.2]
        omega
      · have m1 := hw.2.2.2.2.2 x hx
        rw [← Bool.not_eq_true, zp_inT_iff]
        show ¬ ((o ++ [s]).idxOf x.2.1 ≤ o.length ∧ ¬ (0 < (o ++ [s]).idxOf s ∧ (o ++ [s]).idxOf s ≤ o.length))
        rw [zi_aps hso]
        omega
    · have e1 : (zp_mk (zp_inT o (o.length - 1)) s pl (pl + tk) 0 l).countP (zp_inT (o ++ [s]) k) = l.countP (zp_inT o k) := by
        refine zi_mk_eq l 0 (fun x hx => ?_) (fun x hx hp => ?_)
        · have m1 := hw.2.2.2.2.2 x hx
          rw [Bool.eq_iff_iff, zp_inT_iff, zp_inT_iff, zi_app m1.1, zi_app m1.2]
        · have m1 := hw.2.2.2.2.2 x hx
          have e0 := (zp_idx0 hw m1.2).mpr ((zi_top hw hx).mp hp)
          rw [Bool.eq_iff_iff, zp_inT_iff, zp_inT_iff]
          show (o ++ [s]).idxOf x.2.1 ≤ k ∧ ¬ (0 < (o ++ [s]).idxOf s ∧ (o ++ [s]).idxOf s ≤ k) ↔ _
          rw [zi_app m1.1, zi_aps hso, e0]
          omega
      have e2 : (zp_new ds s).countP (zp_inT (o ++ [s]) k) = 0 := zi_new_0 (fun d => by
        rw [← Bool.not_eq_true, zp_inT_iff]
        show ¬ ((o ++ [s]).idxOf s ≤ k ∧ _)
        rw [zi_aps hso]
        omega)
      have := hF k hk1 (by omega)
      omega
/-! revert: the made lines are all in the top text, behind the first own entry -/
theorem zi_rev {l : List zp_En} {o : List Nat} {k : Nat} (hw : zp_WF l o) (hT : zi_T l o) (hk1 : 1 ≤ k) (hk : k < o.length) (hn : ¬ ∃ i, k < i ∧ i ≤ o.length - 1 ∧ zp_Rs l o i k) : zp_cP (zp_inT o (o.length - 1)) l (zp_F l (zp_sl o k)) + zp_cm l (zp_sl o k) ≤ l.countP (zp_inT o (o.length - 1)) := by
  have g := zp_sl_g hk
  have ik := zp_idx hw.2.2.1 g
  have e1 : ∀ p : zp_En → Bool, l.countP p = (l.take (zp_F l (zp_sl o k))).countP p + (l.drop (zp_F l (zp_sl o k))).countP p := fun p => by rw [← List.countP_append, List.take_append_drop]
  have e2 := e1 (zp_inT o (o.length - 1))
  have e3 : zp_cm l (zp_sl o k) = _ := e1 (fun x => x.2.1 == zp_sl o k)
  have e4 : (l.take (zp_F l (zp_sl o k))).countP (fun x => x.2.1 == zp_sl o k) = 0 := by
    rw [List.countP_eq_zero]
    intro x hx hp
    have hp : x.2.1 = zp_sl o k := by simpa using hp
    obtain ⟨e, he⟩ := List.getElem?_of_mem hx
    rw [List.getElem?_take] at he
    split at he
    · exact zp_F_not he (by assumption) (zp_own_iff.mpr (Or.inl hp))
    · cases he
  have e5 : (l.drop (zp_F l (zp_sl o k))).countP (fun x => x.2.1 == zp_sl o k) ≤ (l.drop (zp_F l (zp_sl o k))).countP (zp_inT o (o.length - 1)) := by
    refine List.countP_mono_left (fun x hx hp => ?_)
    have hp : x.2.1 = zp_sl o k := by simpa using hp
    have hx := List.mem_of_mem_drop hx
    rw [zi_top hw hx]
    apply Classical.not_not.mp
    intro h0
    have h1 := hT x hx h0
    have hr := zi_rest hw hx
    have m2 := List.idxOf_lt_length_of_mem (hw.2.2.2.2.2 x hx).2
    rw [hp, ik] at h1 hr
    exact hn ⟨_, h1, by omega, hr⟩
  unfold zp_cP
  omega
/-! names -/
def zi_N (nx : Nat) (o : List Nat) (nm : Nat → Int32) : Prop := zy_NM o nm ∧ (∀ t, t ∈ o → t ≠ 0 → ∃ j, 1 ≤ j ∧ j < nx ∧ nm t = nI j) ∧ 1 ≤ nx ∧ nx ≤ 2000
theorem zi_N_sub {nx : Nat} {o o' : List Nat} {nm : Nat → Int32} (h : zi_N nx o nm) (hs : ∀ t, t ∈ o' → t ∈ o) : zi_N nx o' nm :=
  ⟨⟨h.1.1, fun s t hs' ht' => h.1.2 s t (hs s hs') (hs t ht')⟩, fun t ht => h.2.1 t (hs t ht), h.2.2⟩
theorem zi_N_push {nx : Nat} {o : List Nat} {nm : Nat → Int32} {s : Nat} (h : zi_N nx o nm) (hs1 : 1 ≤ s) (hso : s ∉ o) (hx : nx < 2000) : zi_N (nx + 1) (o ++ [s]) (upd nm s (nI nx)) := by
  obtain ⟨⟨h0, hi⟩, hb, hx1, _⟩ := h
  have en : ∀ t, t ∈ o → upd nm s (nI nx) t = nm t := fun t ht => pk_un (fun z => hso (z ▸ ht))
  have nn : ∀ t, t ∈ o → nm t ≠ nI nx := by
    intro t ht z
    by_cases c : t = 0
    · rw [c, h0] at z
      exact nI_ne0 hx1 (by omega) z.symm
    · obtain ⟨j, j1, j2, j3⟩ := hb t ht c
      rw [j3, nI_eq (by omega) (by omega)] at z
      omega
  refine ⟨⟨by rw [pk_un (by omega)]; exact h0, fun a b ha hb' hab => ?_⟩, fun t ht t0 => ?_, by omega, by omega⟩
  · rcases List.mem_append.mp ha with za | za
    · rcases List.mem_append.mp hb' with zb | zb
      · rw [en a za, en b zb] at hab; exact hi a b za zb hab
      · have zb : b = s := by simpa using zb
        rw [en a za, zb, pk_us] at hab
        exact absurd hab (nn a za)
    · have za : a = s := by simpa using za
      rcases List.mem_append.mp hb' with zb | zb
      · rw [en b zb, za, pk_us] at hab
        exact absurd hab.symm (nn b zb)
      · have zb : b = s := by simpa using zb
        rw [za, zb]
  · rcases List.mem_append.mp ht with z | z
    · obtain ⟨j, j1, j2, j3⟩ := hb t z t0
      exact ⟨j, j1, by omega, by rw [en t z]; exact j3⟩
    · have z : t = s := by simpa using z
      exact ⟨nx, hx1, by omega, by rw [z, pk_us]⟩
end
section
/-! the relation -/
def zr_X (ml ms mp nx pl tk : Nat) (l : List zp_En) (o : List Nat) (ds : List Int32) (d : Int32) (nm : Nat → Int32) (u : SX) : Prop := match u with
  | (f_maxLines, f_maxSide, f_maxPatches, f_rowSize, f_count, f_nextName, f_draftOpen, f_draftPlace, f_draftTake, f_numberCount, f_savedRowSize, f_savedCount, a_entryId, a_entryMaker, a_entryTaker, a_order, a_rank, a_nameOf, a_numbers, a_savedId, a_savedMaker, a_savedTaker, a_savedOrder, a_needed) => f_maxLines = nI ml ∧ f_maxSide = nI ms ∧ f_maxPatches = nI mp ∧ f_nextName = nI nx ∧ f_draftOpen = d ∧ a_nameOf = nm ∧ zx_Q l o f_rowSize f_count a_entryId a_entryMaker a_entryTaker a_order a_rank ∧ (d ≠ 0 → f_draftPlace = nI pl ∧ f_draftTake = nI tk ∧ f_numberCount = nI ds.length ∧ zp_LA a_numbers ds (fun x => x))
def zr_Y (ml ms mp nx pl tk : Nat) (l : List zp_En) (o : List Nat) (ds : List Int32) (d : Int32) (nm : Nat → Int32) (v : SY) : Prop := match v with
  | (f_maxLines, f_maxSide, f_maxPatches, f_rows, f_n, f_nextName, f_rows0, f_n0, f_drafting, f_place, f_take, f_puts, a_num, a_maker, a_taker, a_stack, a_num0, a_maker0, a_taker0, a_stack0, a_dput, a_need) => f_maxLines = nI ml ∧ f_maxSide = nI ms ∧ f_maxPatches = nI mp ∧ f_nextName = nI nx ∧ f_drafting = d ∧ zy_Q l o nm f_rows f_n a_num a_maker a_taker a_stack ∧ (d ≠ 0 → f_place = nI pl ∧ f_take = nI tk ∧ f_puts = nI ds.length ∧ zp_LA a_dput ds (fun x => x))
def zr_D (ms pl tk : Nat) (l : List zp_En) (o : List Nat) (ds : List Int32) (d : Int32) : Prop := d ≠ 0 → pl + tk ≤ l.countP (zp_inT o (o.length - 1)) ∧ tk ≤ ms ∧ ds.length ≤ ms
def i_Rel (k : Nat) (u : SX) (v : SY) : Prop := ∃ (ml ms mp nx pl tk : Nat) (l : List zp_En) (o : List Nat) (ds : List Int32) (d : Int32) (nm : Nat → Int32), zi_V ml ms mp l o ∧ zr_D ms pl tk l o ds d ∧ zi_N nx o nm ∧ nx ≤ k ∧ zr_X ml ms mp nx pl tk l o ds d nm u ∧ zr_Y ml ms mp nx pl tk l o ds d nm v
section
variable {f_rowSize f_count f_draftPlace f_draftTake f_numberCount f_savedRowSize f_savedCount f_rows f_n f_rows0 f_n0 f_place f_take f_puts : Int32} {a_entryId a_entryMaker a_entryTaker a_order a_rank a_nameOf a_numbers a_savedId a_savedMaker a_savedTaker a_savedOrder a_needed a_num a_maker a_taker a_stack a_num0 a_maker0 a_taker0 a_stack0 a_dput a_need : Nat → Int32} {ml ms mp nx pl tk : Nat} {l : List zp_En} {o : List Nat} {ds : List Int32} {d : Int32}
theorem zr_in {k : Nat} (hV : zi_V ml ms mp l o) (hD : zr_D ms pl tk l o ds d) (hN : zi_N nx o a_nameOf) (hk : nx ≤ k) (hX : zx_Q l o f_rowSize f_count a_entryId a_entryMaker a_entryTaker a_order a_rank) (dX : d ≠ 0 → f_draftPlace = nI pl ∧ f_draftTake = nI tk ∧ f_numberCount = nI ds.length ∧ zp_LA a_numbers ds (fun x => x)) (hY : zy_Q l o a_nameOf f_rows f_n a_num a_maker a_taker a_stack) (dY : d ≠ 0 → f_place = nI pl ∧ f_take = nI tk ∧ f_puts = nI ds.length ∧ zp_LA a_dput ds (fun x => x)) : i_Rel k ((nI ml), (nI ms), (nI mp), f_rowSize, f_count, (nI nx), d, f_draftPlace, f_draftTake, f_numberCount, f_savedRowSize, f_savedCount, a_entryId, a_entryMaker, a_entryTaker, a_order, a_rank, a_nameOf, a_numbers, a_savedId, a_savedMaker, a_savedTaker, a_savedOrder, a_needed) ((nI ml), (nI ms), (nI mp), f_rows, f_n, (nI nx), f_rows0, f_n0, d, f_place, f_take, f_puts, a_num, a_maker, a_taker, a_stack, a_num0, a_maker0, a_taker0, a_stack0, a_dput, a_need) :=
  ⟨ml, ms, mp, nx, pl, tk, l, o, ds, d, a_nameOf, hV, hD, hN, hk, ⟨rfl, rfl, rfl, rfl, rfl, rfl, hX, dX⟩, ⟨rfl, rfl, rfl, rfl, rfl, hY, dY⟩⟩
end
theorem zr_el {P : SX → SY → Prop} {k : Nat} {u : SX} {v : SY} (I : i_Rel k u v) (h : ∀ (ml ms mp nx pl tk : Nat) (l : List zp_En) (o : List Nat) (ds : List Int32) (d : Int32) (f_rowSize f_count f_draftPlace f_draftTake f_numberCount f_savedRowSize f_savedCount f_rows f_n f_rows0 f_n0 f_place f_take f_puts : Int32) (a_entryId a_entryMaker a_entryTaker a_order a_rank a_nameOf a_numbers a_savedId a_savedMaker a_savedTaker a_savedOrder a_needed a_num a_maker a_taker a_stack a_num0 a_maker0 a_taker0 a_stack0 a_dput a_need : Nat → Int32), zi_V ml ms mp l o → zr_D ms pl tk l o ds d → zi_N nx o a_nameOf → nx ≤ k → zx_Q l o f_rowSize f_count a_entryId a_entryMaker a_entryTaker a_order a_rank → (d ≠ 0 → f_draftPlace = nI pl ∧ f_draftTake = nI tk ∧ f_numberCount = nI ds.length ∧ zp_LA a_numbers ds (fun x => x)) → zy_Q l o a_nameOf f_rows f_n a_num a_maker a_taker a_stack → (d ≠ 0 → f_place = nI pl ∧ f_take = nI tk ∧ f_puts = nI ds.length ∧ zp_LA a_dput ds (fun x => x)) → P ((nI ml), (nI ms), (nI mp), f_rowSize, f_count, (nI nx), d, f_draftPlace, f_draftTake, f_numberCount, f_savedRowSize, f_savedCount, a_entryId, a_entryMaker, a_entryTaker, a_order, a_rank, a_nameOf, a_numbers, a_savedId, a_savedMaker, a_savedTaker, a_savedOrder, a_needed) ((nI ml), (nI ms), (nI mp), f_rows, f_n, (nI nx), f_rows0, f_n0, d, f_place, f_take, f_puts, a_num, a_maker, a_taker, a_stack, a_num0, a_maker0, a_taker0, a_stack0, a_dput, a_need)) : P u v := by
  obtain ⟨ml, ms, mp, nx, pl, tk, l, o, ds, d, nm, hV, hD, hN, hk, hX, hY⟩ := I
  obtain ⟨f_maxLines, f_maxSide, f_maxPatches, f_rowSize, f_count, f_nextName, f_draftOpen, f_draftPlace, f_draftTake, f_numberCount, f_savedRowSize, f_savedCount, a_entryId, a_entryMaker, a_entryTaker, a_order, a_rank, a_nameOf, a_numbers, a_savedId, a_savedMaker, a_savedTaker, a_savedOrder, a_needed⟩ := u
  obtain ⟨g_maxLines, g_maxSide, g_maxPatches, f_rows, f_n, g_nextName, f_rows0, f_n0, f_drafting, f_place, f_take, f_puts, a_num, a_maker, a_taker, a_stack, a_num0, a_maker0, a_taker0, a_stack0, a_dput, a_need⟩ := v
  obtain ⟨h1, h2, h3, h4, h5, h6, hQ, hd⟩ := hX
  obtain ⟨k1, k2, k3, k4, k5, kQ, kd⟩ := hY
  subst h1 h2 h3 h4 h5 h6 k1 k2 k3 k4 k5
  exact h _ _ _ _ _ _ _ _ _ _ f_rowSize f_count f_draftPlace f_draftTake f_numberCount f_savedRowSize f_savedCount f_rows f_n f_rows0 f_n0 f_place f_take f_puts a_entryId a_entryMaker a_entryTaker a_order a_rank a_nameOf a_numbers a_savedId a_savedMaker a_savedTaker a_savedOrder a_needed a_num a_maker a_taker a_stack a_num0 a_maker0 a_taker0 a_stack0 a_dput a_need hV hD hN hk hQ hd kQ kd
theorem i_up {k : Nat} {u : SX} {v : SY} (h : i_Rel k u v) : i_Rel (k + 3) u v := by
  obtain ⟨ml, ms, mp, nx, pl, tk, l, o, ds, d, nm, hV, hD, hN, hk, hX, hY⟩ := h
  exact ⟨ml, ms, mp, nx, pl, tk, l, o, ds, d, nm, hV, hD, hN, by omega, hX, hY⟩
theorem zr_cl (x : Int32) (a b : Nat) (hab : a ≤ b) (hb : b < 1000) : ∃ m, a ≤ m ∧ m ≤ b ∧ (∀ (post : Int32 → Prop) (u : SX), post (nI m) → wpX_clamp post u x (nI a) (nI b)) ∧ (∀ (post : Int32 → Prop) (u : SY), post (nI m) → wpY_clamp post u x (nI a) (nI b)) := by
  by_cases h1 : nI a ≤ x
  · by_cases h2 : x ≤ nI b
    · have h0 : ¬ x < 0 := fun z => by
        have := Int32.lt_of_le_of_lt h1 z
        exact nI_pos (by omega) this
      obtain ⟨m, hm, rfl⟩ := nI_of h0
      rw [nI_leI (by omega) hm] at h1
      rw [nI_leI hm (by omega)] at h2
      exact ⟨m, h1, h2, fun post u hp => br_t (nI_le h1 hm) (br_t (nI_le h2 (by omega)) hp), fun post u hp => br_t (nI_le h1 hm) (br_t (nI_le h2 (by omega)) hp)⟩
    · exact ⟨b, hab, Nat.le_refl _, fun post u hp => br_t h1 (br_f h2 hp), fun post u hp => br_t h1 (br_f h2 hp)⟩
  · exact ⟨a, Nat.le_refl _, hab, fun post u hp => br_f h1 hp, fun post u hp => br_f h1 hp⟩
theorem i_vc0 (k0 : Int32) (k1 : Int32) (k2 : Int32) : wpX_init (fun u => wpY_init (fun v => i_Rel 3 u v) k0 k1 k2) k0 k1 k2 := by
  obtain ⟨ml, a1, a2, aX, aY⟩ := zr_cl k0 4 20 (by omega) (by omega)
  obtain ⟨ms, b1, b2, bX, bY⟩ := zr_cl k1 1 6 (by omega) (by omega)
  obtain ⟨mp, c1, c2, cX, cY⟩ := zr_cl k2 2 10 (by omega) (by omega)
  refine aX _ _ (bX _ _ (cX _ _ (aY _ _ (bY _ _ (cY _ _ ?_)))))
  have hw : zp_WF [] [0] := ⟨by simp, by simp, by simp, rfl, (fun s hs => by simp at hs; omega), (fun x hx => by cases hx)⟩
  have o1 : ∀ i s, ([0] : List Nat)[i]? = some s → i = 0 ∧ s = 0 := by
    intro i s hs
    have := zp_lt hs
    simp only [List.length_cons, List.length_nil] at this
    have i0 : i = 0 := by omega
    subst i0
    exact ⟨rfl, (Option.some.inj hs).symm⟩
  have hO : ∀ (g : Nat → Int32), g 0 = 0 → zp_LA (fun _ => 0) [0] g := fun g h0 i s hs => by rw [(o1 i s hs).2, h0]
  have hl : ∀ (g : zp_En → Int32), zp_LA (fun _ => 0) [] g := fun g i x hx => by simp at hx
  have hNM : zy_NM [0] (fun _ => 0) := ⟨rfl, fun s t hs ht _ => by simp at hs ht; omega⟩
  have hV : zi_V ml ms mp [] [0] := by
    refine ⟨hw, (fun x hx => ?_), ⟨(fun s hs hs0 => ?_), ?_⟩, (fun k h1 h2 => ?_), by simp, a2, b2, c2⟩
    · cases hx
    · simp at hs; omega
    · simp [zp_cm]
    · simp at h2; omega
  have hN : zi_N 1 [0] (fun _ => 0) := ⟨hNM, (fun t ht t0 => by simp at ht; omega), by omega, by omega⟩
  exact zr_in (pl := 0) (tk := 0) (l := []) (o := [0]) (ds := []) (nx := 1) (d := 0) hV (fun z => absurd rfl z) hN (by omega) ⟨hw, rfl, rfl, hl _, hl _, hl _, hO nI rfl, (fun i s hs => by rw [(o1 i s hs).1]; rfl), (fun s _ _ => rfl)⟩ (fun z => absurd rfl z) ⟨hw, hNM, rfl, rfl, hl _, hl _, hl _, hO _ rfl⟩ (fun z => absurd rfl z)
theorem i_vc_patches {k : Nat} {u : SX} {v : SY} (I : i_Rel k u v) (hk : k + 3 ≤ 1539) : wpX_patches (fun r => wpY_patches (fun r' => r' = r ∧ i_Rel (k + 3) u v) v) u := by
  have J := i_up I
  revert J
  refine zr_el (P := fun u v => i_Rel (k + 3) u v → wpX_patches (fun r => wpY_patches (fun r' => r' = r ∧ i_Rel (k + 3) u v) v) u) I ?_
  intro ml ms mp nx pl tk l o ds d f_rowSize f_count f_draftPlace f_draftTake f_numberCount f_savedRowSize f_savedCount f_rows f_n f_rows0 f_n0 f_place f_take f_puts a_entryId a_entryMaker a_entryTaker a_order a_rank a_nameOf a_numbers a_savedId a_savedMaker a_savedTaker a_savedOrder a_needed a_num a_maker a_taker a_stack a_num0 a_maker0 a_taker0 a_stack0 a_dput a_need hV hD hN hnk hX dX hY dY J
  exact ⟨hY.2.2.2.1.trans hX.2.2.1.symm, J⟩
theorem i_vc_cancel {k : Nat} {u : SX} {v : SY} (I : i_Rel k u v) (hk : k + 3 ≤ 1539) : wpX_cancel (fun r u' => wpY_cancel (fun r' v' => r' = r ∧ i_Rel (k + 3) u' v') v) u := by
  refine zr_el (P := fun u v => wpX_cancel (fun r u' => wpY_cancel (fun r' v' => r' = r ∧ i_Rel (k + 3) u' v') v) u) I ?_
  intro ml ms mp nx pl tk l o ds d f_rowSize f_count f_draftPlace f_draftTake f_numberCount f_savedRowSize f_savedCount f_rows f_n f_rows0 f_n0 f_place f_take f_puts a_entryId a_entryMaker a_entryTaker a_order a_rank a_nameOf a_numbers a_savedId a_savedMaker a_savedTaker a_savedOrder a_needed a_num a_maker a_taker a_stack a_num0 a_maker0 a_taker0 a_stack0 a_dput a_need hV hD hN hnk hX dX hY dY
  by_cases hd : d = 0
  · exact br_t hd (br_t hd ⟨rfl, zr_in hV hD hN (by omega) hX dX hY dY⟩)
  · exact br_f hd (br_f hd ⟨rfl, zr_in (pl := pl) (tk := tk) (ds := ds) (d := 0) hV (fun z => absurd rfl z) hN (by omega) hX (fun z => absurd rfl z) hY (fun z => absurd rfl z)⟩)
theorem i_vc_put {k : Nat} {u : SX} {v : SY} (I : i_Rel k u v) (hk : k + 3 ≤ 1539) (v1 : Int32) : wpX_put (fun r u' => wpY_put (fun r' v' => r' = r ∧ i_Rel (k + 3) u' v') v v1) u v1 := by
  refine zr_el (P := fun u v => wpX_put (fun r u' => wpY_put (fun r' v' => r' = r ∧ i_Rel (k + 3) u' v') v v1) u v1) I ?_
  intro ml ms mp nx pl tk l o ds d f_rowSize f_count f_draftPlace f_draftTake f_numberCount f_savedRowSize f_savedCount f_rows f_n f_rows0 f_n0 f_place f_take f_puts a_entryId a_entryMaker a_entryTaker a_order a_rank a_nameOf a_numbers a_savedId a_savedMaker a_savedTaker a_savedOrder a_needed a_num a_maker a_taker a_stack a_num0 a_maker0 a_taker0 a_stack0 a_dput a_need hV hD hN hnk hX dX hY dY
  have st : i_Rel (k + 3) ((nI ml), (nI ms), (nI mp), f_rowSize, f_count, (nI nx), d, f_draftPlace, f_draftTake, f_numberCount, f_savedRowSize, f_savedCount, a_entryId, a_entryMaker, a_entryTaker, a_order, a_rank, a_nameOf, a_numbers, a_savedId, a_savedMaker, a_savedTaker, a_savedOrder, a_needed) ((nI ml), (nI ms), (nI mp), f_rows, f_n, (nI nx), f_rows0, f_n0, d, f_place, f_take, f_puts, a_num, a_maker, a_taker, a_stack, a_num0, a_maker0, a_taker0, a_stack0, a_dput, a_need) := zr_in hV hD hN (by omega) hX dX hY dY
  by_cases hd : d = 0
  · exact br_t hd (br_t hd ⟨rfl, st⟩)
  · refine br_f hd ?_
    obtain ⟨x1, x2, x3, x4⟩ := dX hd
    obtain ⟨y1, y2, y3, y4⟩ := dY hd
    obtain ⟨d1, d2, d3⟩ := hD hd
    have h6 : ms ≤ 6 := hV.2.2.2.2.2.2.1
    by_cases c0 : v1 < 0
    · exact br_t c0 (br_t rfl (br_f hd (br_t c0 ⟨rfl, st⟩)))
    · by_cases c9 : 999 < v1
      · exact br_f c0 (br_t c9 (br_t rfl (br_f hd (br_f c0 (br_f (Int32.not_le.mpr c9) ⟨rfl, st⟩)))))
      · have c9' : v1 ≤ 999 := Int32.not_lt.mp c9
        refine br_f c0 (br_f c9 (br_f (by decide) (pk_lt ds.length ms (fun c => ?_) (fun c => ?_) x3 rfl)))
        · rw [x3]
          refine ⟨vp_in_nI (by omega) (by omega), nm_e (nm_r (nI_1 ds.length) ?_)⟩
          refine br_f hd (br_f c0 (br_t c9' (pk_lt ds.length ms (fun _ => ?_) (fun c2 => by omega) y3 rfl)))
          rw [y3]
          refine ⟨vp_in_nI (by omega) (by omega), nm_e (nm_r (nI_1 ds.length) ⟨rfl, ?_⟩)⟩
          rw [nI_clamp (by omega)]
          have hl : (ds ++ [v1]).length = ds.length + 1 := by simp
          exact zr_in (pl := pl) (tk := tk) (ds := ds ++ [v1]) (d := d) hV (fun _ => ⟨d1, d2, by omega⟩) hN (by omega) hX (fun _ => ⟨x1, x2, by rw [hl], zp_LA_sn x4⟩) hY (fun _ => ⟨y1, y2, by rw [hl], zp_LA_sn y4⟩)
        · exact br_f hd (br_f c0 (br_t c9' (pk_lt ds.length ms (fun c2 => by omega) (fun _ => ⟨rfl, st⟩) y3 rfl)))
end
section
/-! base, the begin of a draft, and the questions -/
theorem zp_LA_ap {α : Type} {a : Nat → Int32} {l : List α} {f : α → Int32} {x : α} {v : Int32} (h : zp_LA a l f) (hv : v = f x) : zp_LA (upd a l.length v) (l ++ [x]) f := by
  intro i y hy
  rw [List.getElem?_append] at hy
  by_cases c : i < l.length
  · rw [if_pos c] at hy; rw [pk_un (by omega)]; exact h i y hy
  · rw [if_neg c] at hy
    have c2 := zp_lt hy
    simp only [List.length_cons, List.length_nil] at c2
    have c3 : i = l.length := by omega
    subst c3
    rw [Nat.sub_self] at hy
    have : x = y := Option.some.inj hy
    rw [pk_us, hv, this]
theorem zp_ins_end {l : List zp_En} {x : zp_En} : zp_ins l [x] l.length = l ++ [x] := by
  unfold zp_ins; simp
section
variable {f_maxLines f_maxSide f_maxPatches f_rowSize f_count f_nextName f_draftOpen f_draftPlace f_draftTake f_numberCount f_savedRowSize f_savedCount : Int32} {a_entryId a_entryMaker a_entryTaker a_order a_rank a_nameOf a_numbers a_savedId a_savedMaker a_savedTaker a_savedOrder a_needed : Nat → Int32} {l : List zp_En} {o : List Nat}
theorem zx_tlc {post : Int32 → Prop} {k : Nat} {y : Int32} (h : zx_Q l o f_rowSize f_count a_entryId a_entryMaker a_entryTaker a_order a_rank) (hy : y = nI k) (hk : k < 1000) (hp : post (nI (l.countP (zp_inT o k)))) : wpX_textLength post (f_maxLines, f_maxSide, f_maxPatches, f_rowSize, f_count, f_nextName, f_draftOpen, f_draftPlace, f_draftTake, f_numberCount, f_savedRowSize, f_savedCount, a_entryId, a_entryMaker, a_entryTaker, a_order, a_rank, a_nameOf, a_numbers, a_savedId, a_savedMaker, a_savedTaker, a_savedOrder, a_needed) y := by
  subst hy; exact zx_tl h hk hp
theorem zx_lbc {post : Int32 → Prop} {k en : Nat} {x y : Int32} (h : zx_Q l o f_rowSize f_count a_entryId a_entryMaker a_entryTaker a_order a_rank) (hx : x = nI k) (hk : k < 1000) (hen : en < 1000) (hy : y = nI en) (hp : post (nI (zp_cP (zp_inT o k) l en))) : wpX_linesBefore post (f_maxLines, f_maxSide, f_maxPatches, f_rowSize, f_count, f_nextName, f_draftOpen, f_draftPlace, f_draftTake, f_numberCount, f_savedRowSize, f_savedCount, a_entryId, a_entryMaker, a_entryTaker, a_order, a_rank, a_nameOf, a_numbers, a_savedId, a_savedMaker, a_savedTaker, a_savedOrder, a_needed) x y := by
  subst hx; exact zx_lb h hk hen hy hp
theorem zx_lidc {post : Int32 → Prop} {k i : Nat} {x y : Int32} (h : zx_Q l o f_rowSize f_count a_entryId a_entryMaker a_entryTaker a_order a_rank) (hx : x = nI k) (hk : k < 1000) (hi : i < 1000) (hy : y = nI i) (hp : post (zp_ln (zp_inT o k) l i)) : wpX_lineId post (f_maxLines, f_maxSide, f_maxPatches, f_rowSize, f_count, f_nextName, f_draftOpen, f_draftPlace, f_draftTake, f_numberCount, f_savedRowSize, f_savedCount, a_entryId, a_entryMaker, a_entryTaker, a_order, a_rank, a_nameOf, a_numbers, a_savedId, a_savedMaker, a_savedTaker, a_savedOrder, a_needed) x y := by
  subst hx; exact zx_lid h hk hi hy hp
end
theorem i_vc_base {k : Nat} {u : SX} {v : SY} (I : i_Rel k u v) (hk : k + 3 ≤ 1539) (v1 : Int32) : wpX_base (fun r u' => wpY_base (fun r' v' => r' = r ∧ i_Rel (k + 3) u' v') v v1) u v1 := by
  refine zr_el (P := fun u v => wpX_base (fun r u' => wpY_base (fun r' v' => r' = r ∧ i_Rel (k + 3) u' v') v v1) u v1) I ?_
  intro ml ms mp nx pl tk l o ds d f_rowSize f_count f_draftPlace f_draftTake f_numberCount f_savedRowSize f_savedCount f_rows f_n f_rows0 f_n0 f_place f_take f_puts a_entryId a_entryMaker a_entryTaker a_order a_rank a_nameOf a_numbers a_savedId a_savedMaker a_savedTaker a_savedOrder a_needed a_num a_maker a_taker a_stack a_num0 a_maker0 a_taker0 a_stack0 a_dput a_need hV hD hN hnk hX dX hY dY
  have st : i_Rel (k + 3) ((nI ml), (nI ms), (nI mp), f_rowSize, f_count, (nI nx), d, f_draftPlace, f_draftTake, f_numberCount, f_savedRowSize, f_savedCount, a_entryId, a_entryMaker, a_entryTaker, a_order, a_rank, a_nameOf, a_numbers, a_savedId, a_savedMaker, a_savedTaker, a_savedOrder, a_needed) ((nI ml), (nI ms), (nI mp), f_rows, f_n, (nI nx), f_rows0, f_n0, d, f_place, f_take, f_puts, a_num, a_maker, a_taker, a_stack, a_num0, a_maker0, a_taker0, a_stack0, a_dput, a_need) := zr_in hV hD hN (by omega) hX dX hY dY
  have h11 := hX.1.2.1
  have h80 := hX.1.1
  have h20 : ml ≤ 20 := hV.2.2.2.2.2.1
  have hlen := zi_len hV
  have ho := zp_opos hX.1
  by_cases hd : d = 0
  · refine br_t hd (pk_le (o.length - 1) 0 (fun c => ?_) (fun c => ?_) hX.2.2.1)
    · have cY : f_n ≤ 0 := by rw [hY.2.2.2.1]; exact nI_le (b := 0) c (by decide)
      have z0 : o.length - 1 = 0 := by omega
      by_cases c0 : v1 < 0
      · exact br_t c0 (br_t rfl (br_t hd (br_t cY (br_t c0 ⟨rfl, st⟩))))
      · by_cases c9 : 999 < v1
        · exact br_f c0 (br_t c9 (br_t rfl (br_t hd (br_t cY (br_f c0 (br_f (Int32.not_le.mpr c9) ⟨rfl, st⟩))))))
        · have c9' : v1 ≤ 999 := Int32.not_lt.mp c9
          have hc := List.countP_le_length (p := zp_inT o 0) (l := l)
          refine br_f c0 (br_f c9 (br_f (by decide) (zx_tl (k := 0) hX (by omega) ?_)))
          refine pk_lt (l.countP (zp_inT o 0)) ml (fun c3 => ?_) (fun c3 => ?_)
          · have hV' := zi_base (v := v1) hV (by omega) c3
            have hl' : (l ++ [((v1, 0, 0) : zp_En)]).length = l.length + 1 := by simp
            refine zx_se (e := l.length) (by omega) hX.2.1 (nm_r (e' := nI (l.length + 1)) (by rw [hX.2.1, nI_1]) ?_)
            refine br_t hd (br_t cY (br_f c0 (br_t c9' (zy_tl (k := 0) hY rfl rfl ho (pk_lt (l.countP (zp_inT o 0)) ml (fun _ => ?_) (fun c4 => by omega))))))
            refine zy_ins (q := l.length) (s := 0) (g := a_nameOf) ⟨hY.2.2.2.2.1, hY.2.2.2.2.2.1, hY.2.2.2.2.2.2.1⟩ hY.2.2.1 (by omega) (Nat.le_refl _) hY.2.2.1 hY.2.1.1.symm hY.2.1.1 (fun nu ma ta hR => ⟨rfl, ?_⟩)
            rw [zp_ins_end] at hR
            refine zr_in (pl := pl) (tk := tk) (ds := ds) (l := l ++ [(v1, 0, 0)]) hV' (fun z => absurd hd z) hN (by omega) ⟨hV'.1, by rw [hl'], hX.2.2.1, ?_, ?_, ?_, hX.2.2.2.2.2.2⟩ dX ⟨hV'.1, hY.2.1, by rw [hl'], hY.2.2.2.1, hR.1, hR.2.1, hR.2.2, hY.2.2.2.2.2.2.2⟩ dY
            · exact zp_LA_ap hX.2.2.2.1 rfl
            · exact zp_LA_ap hX.2.2.2.2.1 rfl
            · exact zp_LA_ap hX.2.2.2.2.2.1 rfl
          · exact br_t hd (br_t cY (br_f c0 (br_t c9' (zy_tl (k := 0) hY rfl rfl ho (pk_lt (l.countP (zp_inT o 0)) ml (fun c4 => by omega) (fun _ => ⟨rfl, st⟩))))))
    · exact br_t hd (pk_le (o.length - 1) 0 (fun c2 => by omega) (fun _ => ⟨rfl, st⟩) hY.2.2.2.1)
  · exact br_f hd (br_f hd ⟨rfl, st⟩)
theorem i_vc_open {k : Nat} {u : SX} {v : SY} (I : i_Rel k u v) (hk : k + 3 ≤ 1539) (v1 : Int32) (v2 : Int32) : wpX_open (fun r u' => wpY_open (fun r' v' => r' = r ∧ i_Rel (k + 3) u' v') v v1 v2) u v1 v2 := by
  refine zr_el (P := fun u v => wpX_open (fun r u' => wpY_open (fun r' v' => r' = r ∧ i_Rel (k + 3) u' v') v v1 v2) u v1 v2) I ?_
  intro ml ms mp nx pl tk l o ds d f_rowSize f_count f_draftPlace f_draftTake f_numberCount f_savedRowSize f_savedCount f_rows f_n f_rows0 f_n0 f_place f_take f_puts a_entryId a_entryMaker a_entryTaker a_order a_rank a_nameOf a_numbers a_savedId a_savedMaker a_savedTaker a_savedOrder a_needed a_num a_maker a_taker a_stack a_num0 a_maker0 a_taker0 a_stack0 a_dput a_need hV hD hN hnk hX dX hY dY
  have st : i_Rel (k + 3) ((nI ml), (nI ms), (nI mp), f_rowSize, f_count, (nI nx), d, f_draftPlace, f_draftTake, f_numberCount, f_savedRowSize, f_savedCount, a_entryId, a_entryMaker, a_entryTaker, a_order, a_rank, a_nameOf, a_numbers, a_savedId, a_savedMaker, a_savedTaker, a_savedOrder, a_needed) ((nI ml), (nI ms), (nI mp), f_rows, f_n, (nI nx), f_rows0, f_n0, d, f_place, f_take, f_puts, a_num, a_maker, a_taker, a_stack, a_num0, a_maker0, a_taker0, a_stack0, a_dput, a_need) := zr_in hV hD hN (by omega) hX dX hY dY
  have h11 := hX.1.2.1
  have h80 := hX.1.1
  have h6 : ms ≤ 6 := hV.2.2.2.2.2.2.1
  have ho := zp_opos hX.1
  have hc := List.countP_le_length (p := zp_inT o (o.length - 1)) (l := l)
  by_cases hd : d = 0
  · refine br_t hd (zx_tlc hX hX.2.2.1 (by omega) ?_)
    refine br_c (fun c1 => br_t hd (zy_tl hY rfl hY.2.2.2.1 (by omega) (br_t c1 ⟨rfl, st⟩))) (fun c1 => br_c (fun c2 => br_t hd (zy_tl hY rfl hY.2.2.2.1 (by omega) (br_f c1 (br_t c2 ⟨rfl, st⟩)))) (fun c2 => br_c (fun c3 => br_t hd (zy_tl hY rfl hY.2.2.2.1 (by omega) (br_f c1 (br_f c2 (br_t c3 ⟨rfl, st⟩))))) (fun c3 => br_c (fun c4 => br_c (fun c5 => br_t hd (zy_tl hY rfl hY.2.2.2.1 (by omega) (br_f c1 (br_f c2 (br_f c3 (br_t c4 (br_t c5 ⟨rfl, ?_⟩))))))) (fun c5 => br_t hd (zy_tl hY rfl hY.2.2.2.1 (by omega) (br_f c1 (br_f c2 (br_f c3 (br_t c4 (br_f c5 ⟨rfl, st⟩)))))))) (fun c4 => br_t hd (zy_tl hY rfl hY.2.2.2.1 (by omega) (br_f c1 (br_f c2 (br_f c3 (br_f c4 ⟨rfl, st⟩)))))))))
    obtain ⟨p, hp, rfl⟩ := nI_of c1
    obtain ⟨t, ht, rfl⟩ := nI_of c3
    rw [nI_ltI (by omega) hp] at c2
    rw [pk_sub (by omega), nI_leI ht (by omega)] at c4
    rw [nI_leI ht (by omega)] at c5
    exact zr_in (pl := p) (tk := t) (ds := []) (d := 1) hV (fun _ => ⟨by omega, c5, by simp⟩) hN (by omega) hX (fun _ => ⟨rfl, rfl, rfl, fun i x hx => by simp at hx⟩) hY (fun _ => ⟨rfl, rfl, rfl, fun i x hx => by simp at hx⟩)
  · exact br_f hd (br_f hd ⟨rfl, st⟩)
section
variable {f_rowSize f_count f_draftPlace f_draftTake f_numberCount f_savedRowSize f_savedCount f_rows f_n f_rows0 f_n0 f_place f_take f_puts : Int32} {a_entryId a_entryMaker a_entryTaker a_order a_rank a_nameOf a_numbers a_savedId a_savedMaker a_savedTaker a_savedOrder a_needed a_num a_maker a_taker a_stack a_num0 a_maker0 a_taker0 a_stack0 a_dput a_need : Nat → Int32} {ml ms mp nx pl tk : Nat} {l : List zp_En} {o : List Nat} {ds : List Int32} {d : Int32}
theorem zr_len (hV : zi_V ml ms mp l o) (hD : zr_D ms pl tk l o ds d) (hX : zx_Q l o f_rowSize f_count a_entryId a_entryMaker a_entryTaker a_order a_rank) (dX : d ≠ 0 → f_draftPlace = nI pl ∧ f_draftTake = nI tk ∧ f_numberCount = nI ds.length ∧ zp_LA a_numbers ds (fun x => x)) (hY : zy_Q l o a_nameOf f_rows f_n a_num a_maker a_taker a_stack) (dY : d ≠ 0 → f_place = nI pl ∧ f_take = nI tk ∧ f_puts = nI ds.length ∧ zp_LA a_dput ds (fun x => x)) (v1 : Int32) : ∃ r : Int32, (∀ post : Int32 → Prop, post r → wpX_length post ((nI ml), (nI ms), (nI mp), f_rowSize, f_count, (nI nx), d, f_draftPlace, f_draftTake, f_numberCount, f_savedRowSize, f_savedCount, a_entryId, a_entryMaker, a_entryTaker, a_order, a_rank, a_nameOf, a_numbers, a_savedId, a_savedMaker, a_savedTaker, a_savedOrder, a_needed) v1) ∧ (∀ post : Int32 → Prop, post r → wpY_length post ((nI ml), (nI ms), (nI mp), f_rows, f_n, (nI nx), f_rows0, f_n0, d, f_place, f_take, f_puts, a_num, a_maker, a_taker, a_stack, a_num0, a_maker0, a_taker0, a_stack0, a_dput, a_need) v1) ∧ ((∃ K, K < o.length ∧ v1 = nI K ∧ r = nI (l.countP (zp_inT o K))) ∨ (v1 = nI o.length ∧ d ≠ 0 ∧ r = nI (l.countP (zp_inT o (o.length - 1)) - tk + ds.length)) ∨ r = -1) := by
  have h11 := hX.1.2.1
  have ho := zp_opos hX.1
  have eX : f_count + 1 = nI o.length := by rw [hX.2.2.1, nI_1, show o.length - 1 + 1 = o.length from by omega]
  have eY : f_n + 1 = nI o.length := by rw [hY.2.2.2.1, nI_1, show o.length - 1 + 1 = o.length from by omega]
  have low : (∃ r : Int32, (∀ post : Int32 → Prop, post r → wX_length_18 post v1 (nI ml) (nI ms) (nI mp) f_rowSize f_count (nI nx) d f_draftPlace f_draftTake f_numberCount f_savedRowSize f_savedCount a_entryId a_entryMaker a_entryTaker a_order a_rank a_nameOf a_numbers a_savedId a_savedMaker a_savedTaker a_savedOrder a_needed) ∧ (∀ post : Int32 → Prop, post r → wY_length_22 post v1 (nI ml) (nI ms) (nI mp) f_rows f_n (nI nx) f_rows0 f_n0 d f_place f_take f_puts a_num a_maker a_taker a_stack a_num0 a_maker0 a_taker0 a_stack0 a_dput a_need) ∧ ((v1 = nI o.length ∧ d ≠ 0 ∧ r = nI (l.countP (zp_inT o (o.length - 1)) - tk + ds.length)) ∨ r = -1)) := by
    by_cases hd : d = 0
    · exact ⟨-1, fun post hp => br_t hd hp, fun post hp => br_t hd hp, Or.inr rfl⟩
    · by_cases c : v1 = nI o.length
      · obtain ⟨x1, x2, x3, x4⟩ := dX hd
        obtain ⟨y1, y2, y3, y4⟩ := dY hd
        obtain ⟨d1, d2, d3⟩ := hD hd
        refine ⟨_, fun post hp => br_f hd (br_t (by rw [eX]; exact c) ?_), fun post hp => br_f hd (br_t (by rw [eY]; exact c) ?_), Or.inl ⟨c, hd, rfl⟩⟩
        · refine zx_tlc hX hX.2.2.1 (by omega) ?_
          rw [x2, x3, pk_sub (by omega), nI_add]; exact hp
        · refine zy_tl hY rfl hY.2.2.2.1 (by omega) ?_
          rw [y2, y3, pk_sub (by omega), nI_add]; exact hp
      · exact ⟨-1, fun post hp => br_f hd (br_f (by rw [eX]; exact c) hp), fun post hp => br_f hd (br_f (by rw [eY]; exact c) hp), Or.inr rfl⟩
  obtain ⟨r, rX, rY, rr⟩ := low
  by_cases c0 : v1 < 0
  · exact ⟨r, fun post hp => br_t c0 (rX post hp), fun post hp => br_t c0 (rY post hp), Or.inr rr⟩
  · obtain ⟨K, hK, rfl⟩ := nI_of c0
    by_cases c1 : K < o.length
    · refine ⟨_, fun post hp => br_f c0 (pk_lt (o.length - 1) K (fun c => by omega) (fun _ => ?_) hX.2.2.1), fun post hp => br_f c0 (pk_lt (o.length - 1) K (fun c => by omega) (fun _ => ?_) hY.2.2.2.1), Or.inl ⟨K, c1, rfl, rfl⟩⟩
      · exact zx_tl hX (by omega) hp
      · exact zy_tl hY rfl rfl c1 hp
    · exact ⟨r, fun post hp => br_f c0 (pk_lt (o.length - 1) K (fun _ => rX post hp) (fun c => by omega) hX.2.2.1), fun post hp => br_f c0 (pk_lt (o.length - 1) K (fun _ => rY post hp) (fun c => by omega) hY.2.2.2.1), Or.inr rr⟩
end
theorem i_vc_length {k : Nat} {u : SX} {v : SY} (I : i_Rel k u v) (hk : k + 3 ≤ 1539) (v1 : Int32) : wpX_length (fun r => wpY_length (fun r' => r' = r ∧ i_Rel (k + 3) u v) v v1) u v1 := by
  have J := i_up I
  revert J
  refine zr_el (P := fun u v => i_Rel (k + 3) u v → wpX_length (fun r => wpY_length (fun r' => r' = r ∧ i_Rel (k + 3) u v) v v1) u v1) I ?_
  intro ml ms mp nx pl tk l o ds d f_rowSize f_count f_draftPlace f_draftTake f_numberCount f_savedRowSize f_savedCount f_rows f_n f_rows0 f_n0 f_place f_take f_puts a_entryId a_entryMaker a_entryTaker a_order a_rank a_nameOf a_numbers a_savedId a_savedMaker a_savedTaker a_savedOrder a_needed a_num a_maker a_taker a_stack a_num0 a_maker0 a_taker0 a_stack0 a_dput a_need hV hD hN hnk hX dX hY dY J
  obtain ⟨r, rX, rY, _⟩ := zr_len (nx := nx) (f_savedRowSize := f_savedRowSize) (f_savedCount := f_savedCount) (f_rows0 := f_rows0) (f_n0 := f_n0) (a_savedId := a_savedId) (a_savedMaker := a_savedMaker) (a_savedTaker := a_savedTaker) (a_savedOrder := a_savedOrder) (a_needed := a_needed) (a_num0 := a_num0) (a_maker0 := a_maker0) (a_taker0 := a_taker0) (a_stack0 := a_stack0) (a_need := a_need) hV hD hX dX hY dY v1
  exact rX _ (rY _ ⟨rfl, J⟩)
theorem i_vc_line {k : Nat} {u : SX} {v : SY} (I : i_Rel k u v) (hk : k + 3 ≤ 1539) (v1 : Int32) (v2 : Int32) : wpX_line (fun r => wpY_line (fun r' => r' = r ∧ i_Rel (k + 3) u v) v v1 v2) u v1 v2 := by
  have J := i_up I
  revert J
  refine zr_el (P := fun u v => i_Rel (k + 3) u v → wpX_line (fun r => wpY_line (fun r' => r' = r ∧ i_Rel (k + 3) u v) v v1 v2) u v1 v2) I ?_
  intro ml ms mp nx pl tk l o ds d f_rowSize f_count f_draftPlace f_draftTake f_numberCount f_savedRowSize f_savedCount f_rows f_n f_rows0 f_n0 f_place f_take f_puts a_entryId a_entryMaker a_entryTaker a_order a_rank a_nameOf a_numbers a_savedId a_savedMaker a_savedTaker a_savedOrder a_needed a_num a_maker a_taker a_stack a_num0 a_maker0 a_taker0 a_stack0 a_dput a_need hV hD hN hnk hX dX hY dY J
  have h11 := hX.1.2.1
  have h80 := hX.1.1
  have ho := zp_opos hX.1
  have h6 : ms ≤ 6 := hV.2.2.2.2.2.2.1
  have eY : f_n + 1 = nI o.length := by rw [hY.2.2.2.1, nI_1, show o.length - 1 + 1 = o.length from by omega]
  obtain ⟨r, rX, rY, rr⟩ := zr_len (nx := nx) (f_savedRowSize := f_savedRowSize) (f_savedCount := f_savedCount) (f_rows0 := f_rows0) (f_n0 := f_n0) (a_savedId := a_savedId) (a_savedMaker := a_savedMaker) (a_savedTaker := a_savedTaker) (a_savedOrder := a_savedOrder) (a_needed := a_needed) (a_num0 := a_num0) (a_maker0 := a_maker0) (a_taker0 := a_taker0) (a_stack0 := a_stack0) (a_need := a_need) hV hD hX dX hY dY v1
  refine rX _ ?_
  by_cases c0 : v2 < 0
  · exact br_t c0 (rY _ (br_t c0 ⟨rfl, J⟩))
  · refine br_f c0 ?_
    by_cases cr : v2 < r
    · refine br_t cr ?_
      obtain ⟨i, hi, rfl⟩ := nI_of c0
      rcases rr with ⟨K, hK, rfl, rfl⟩ | ⟨rfl, hd, rfl⟩ | rfl
      · have hc := List.countP_le_length (p := zp_inT o K) (l := l)
        rw [nI_ltI hi (by omega)] at cr
        refine pk_lt (o.length - 1) K (fun c => by omega) (fun _ => ?_) hX.2.2.1
        refine zx_lidc (k := K) (i := i) hX rfl (by omega) (by omega) rfl ?_
        refine rY _ (br_f c0 (br_t (nI_lt cr (by omega)) (pk_eq K o.length (fun c => by omega) (fun _ => ?_) rfl eY)))
        exact zy_ln (k := K) (i := i) hY rfl rfl hK (by omega) ⟨rfl, J⟩
      · obtain ⟨x1, x2, x3, x4⟩ := dX hd
        obtain ⟨y1, y2, y3, y4⟩ := dY hd
        obtain ⟨d1, d2, d3⟩ := hD hd
        have hc := List.countP_le_length (p := zp_inT o (o.length - 1)) (l := l)
        rw [nI_ltI hi (by omega)] at cr
        have crI := nI_lt cr (by omega)
        have epX : f_draftPlace + f_numberCount = nI (pl + ds.length) := by rw [x1, x3, nI_add]
        have epY : f_place + f_puts = nI (pl + ds.length) := by rw [y1, y3, nI_add]
        refine pk_lt (o.length - 1) o.length (fun _ => ?_) (fun c => by omega) hX.2.2.1
        refine pk_le pl i (fun c1 => pk_le (pl + ds.length) i (fun c2 => ?_) (fun c2 => ?_) epX) (fun c1 => ?_) x1
        · refine zx_lidc (k := o.length - 1) (i := i - ds.length + tk) hX hX.2.2.1 (by omega) (by omega) (by rw [x2, x3, pk_sub (by omega), nI_add]) ?_
          refine rY _ (br_f c0 (br_t crI (br_t eY.symm (pk_lt i pl (fun c => by omega) (fun _ => pk_le (pl + ds.length) i (fun _ => ?_) (fun c => by omega) epY) rfl y1))))
          refine pk_lt i (pl + ds.length) (fun c => by omega) (fun _ => ?_) rfl epY
          refine nm_r (e' := nI (i - ds.length + tk)) (by rw [y2, y3, pk_sub (by omega), nI_add]) ?_
          exact zy_ln (k := o.length - 1) (i := i - ds.length + tk) hY hY.2.2.2.1 rfl (by omega) (by omega) ⟨rfl, J⟩
        · obtain ⟨w, hw⟩ := zp_ex (l := ds) (i := i - pl) (by omega)
          have e1 : nI i - nI pl = nI (i - pl) := pk_sub (by omega)
          rw [x1, e1]
          refine ⟨vp_in_nI (by omega) (by omega), ?_⟩
          rw [nI_clamp (by omega), x4 _ _ hw]
          refine rY _ (br_f c0 (br_t crI (br_t eY.symm (pk_lt i pl (fun c => by omega) (fun _ => pk_le (pl + ds.length) i (fun c => by omega) (fun _ => ?_) epY) rfl y1))))
          rw [y1, e1]
          refine ⟨vp_in_nI (by omega) (by omega), ?_⟩
          rw [nI_clamp (by omega), y4 _ _ hw]
          rw [x1, y1] at J
          exact ⟨rfl, J⟩
        · refine zx_lidc (k := o.length - 1) (i := i) hX hX.2.2.1 (by omega) (by omega) rfl ?_
          refine rY _ (br_f c0 (br_t crI (br_t eY.symm (pk_lt i pl (fun _ => ?_) (fun c => by omega) rfl y1))))
          refine pk_lt i (pl + ds.length) (fun _ => ?_) (fun c => by omega) rfl epY
          exact zy_ln (k := o.length - 1) (i := i) hY hY.2.2.2.1 rfl (by omega) (by omega) ⟨rfl, J⟩
      · exact absurd (Int32.lt_trans cr (by decide)) c0
    · exact br_f cr (rY _ (br_f c0 (br_f cr ⟨rfl, J⟩)))
end
section
/-! part, needs -/
theorem i_vc_needs {k : Nat} {u : SX} {v : SY} (I : i_Rel k u v) (hk : k + 3 ≤ 1539) (v1 : Int32) (v2 : Int32) : wpX_needs (fun r u' => wpY_needs (fun r' v' => r' = r ∧ i_Rel (k + 3) u' v') v v1 v2) u v1 v2 := by
  refine zr_el (P := fun u v => wpX_needs (fun r u' => wpY_needs (fun r' v' => r' = r ∧ i_Rel (k + 3) u' v') v v1 v2) u v1 v2) I ?_
  intro ml ms mp nx pl tk l o ds d f_rowSize f_count f_draftPlace f_draftTake f_numberCount f_savedRowSize f_savedCount f_rows f_n f_rows0 f_n0 f_place f_take f_puts a_entryId a_entryMaker a_entryTaker a_order a_rank a_nameOf a_numbers a_savedId a_savedMaker a_savedTaker a_savedOrder a_needed a_num a_maker a_taker a_stack a_num0 a_maker0 a_taker0 a_stack0 a_dput a_need hV hD hN hnk hX dX hY dY
  have st : i_Rel (k + 3) ((nI ml), (nI ms), (nI mp), f_rowSize, f_count, (nI nx), d, f_draftPlace, f_draftTake, f_numberCount, f_savedRowSize, f_savedCount, a_entryId, a_entryMaker, a_entryTaker, a_order, a_rank, a_nameOf, a_numbers, a_savedId, a_savedMaker, a_savedTaker, a_savedOrder, a_needed) ((nI ml), (nI ms), (nI mp), f_rows, f_n, (nI nx), f_rows0, f_n0, d, f_place, f_take, f_puts, a_num, a_maker, a_taker, a_stack, a_num0, a_maker0, a_taker0, a_stack0, a_dput, a_need) := zr_in hV hD hN (by omega) hX dX hY dY
  have h11 := hX.1.2.1
  have ho := zp_opos hX.1
  by_cases c1 : v2 < 1
  · exact br_t c1 (br_t c1 ⟨rfl, st⟩)
  · by_cases c2 : v1 ≤ v2
    · exact br_f c1 (br_t c2 (br_f c1 (br_t c2 ⟨rfl, st⟩)))
    · rcases zp_rng v2 (n := 100) (by decide) with c | ⟨_, c⟩ | ⟨j, j1, j2, rfl⟩
      · exact absurd c c1
      · have c3 : ¬ v1 ≤ f_count := fun z => by
          rw [hX.2.2.1] at z
          have z2 := Int32.lt_of_lt_of_le (Int32.lt_trans c (Int32.not_le.mp c2)) z
          rw [nI_ltI (by omega) (by omega)] at z2
          omega
        have c4 : ¬ v1 ≤ f_n := by rw [hY.2.2.2.1, ← hX.2.2.1]; exact c3
        exact br_f c1 (br_f c2 (br_f c3 (br_f c1 (br_f c2 (br_f c4 ⟨rfl, st⟩)))))
      · rcases zp_rng v1 (n := o.length - 1) (by omega) with c | ⟨_, c⟩ | ⟨K, k1, k2, rfl⟩
        · exact absurd (Int32.le_of_lt (Int32.lt_of_lt_of_le c (nI_le (a := 1) j1 (by omega)))) c2
        · have c3 : ¬ v1 ≤ f_count := by rw [hX.2.2.1]; exact Int32.not_le.mpr c
          have c4 : ¬ v1 ≤ f_n := by rw [hY.2.2.2.1]; exact Int32.not_le.mpr c
          exact br_f c1 (br_f c2 (br_f c3 (br_f c1 (br_f c2 (br_f c4 ⟨rfl, st⟩)))))
        · rw [nI_leI (by omega) (by omega)] at c2
          refine br_f c1 (br_f (nI_ge (by omega) (by omega)) (br_t (by rw [hX.2.2.1]; exact nI_le k2 (by omega)) (zx_mn hX k1 (by omega) (fun an han => ⟨vp_in_nI (by omega) (by omega), ?_⟩))))
          rw [nI_clamp (by omega), han j (by omega)]
          refine ⟨zp_in _, ?_⟩
          refine br_f c1 (br_f (nI_ge (by omega) (by omega)) (br_t (by rw [hY.2.2.2.1]; exact nI_le k2 (by omega)) (zy_mn hY k1 (by omega) (fun an' han' => ⟨vp_in_nI (by omega) (by omega), ?_⟩))))
          rw [nI_clamp (by omega), han' j (by omega)]
          exact ⟨zp_in _, rfl, zr_in hV hD hN (by omega) hX dX hY dY⟩
section
variable {f_maxLines f_maxSide f_maxPatches f_rows f_n f_nextName f_rows0 f_n0 f_drafting f_place f_take f_puts : Int32} {a_num a_maker a_taker a_stack a_num0 a_maker0 a_taker0 a_stack0 a_dput a_need : Nat → Int32} {l : List zp_En} {o : List Nat} {nm : Nat → Int32}
theorem zy_p22 {post : Int32 → Prop} {x1 x2 : Int32} (h0 : ¬ x1 = 0) (h : wY_part_41 post x1 x2 0 f_maxLines f_maxSide f_maxPatches f_rows f_n f_nextName f_rows0 f_n0 f_drafting f_place f_take f_puts a_num a_maker a_taker a_stack a_num0 a_maker0 a_taker0 a_stack0 a_dput a_need) : wY_part_22 post x1 x2 0 f_maxLines f_maxSide f_maxPatches f_rows f_n f_nextName f_rows0 f_n0 f_drafting f_place f_take f_puts a_num a_maker a_taker a_stack a_num0 a_maker0 a_taker0 a_stack0 a_dput a_need :=
  br_c (fun _ => br_f h0 (br_t rfl h)) (fun _ => h)
theorem zy_p0 {post : Int32 → Prop} {x1 x2 : Int32} (hc : f_drafting = 0 ∨ ¬ x1 = f_n + 1) (h : wY_part_22 post x1 x2 0 f_maxLines f_maxSide f_maxPatches f_rows f_n f_nextName f_rows0 f_n0 f_drafting f_place f_take f_puts a_num a_maker a_taker a_stack a_num0 a_maker0 a_taker0 a_stack0 a_dput a_need) : wpY_part post (f_maxLines, f_maxSide, f_maxPatches, f_rows, f_n, f_nextName, f_rows0, f_n0, f_drafting, f_place, f_take, f_puts, a_num, a_maker, a_taker, a_stack, a_num0, a_maker0, a_taker0, a_stack0, a_dput, a_need) x1 x2 := by
  by_cases hd : f_drafting = 0
  · exact br_t hd h
  · exact br_f hd (br_f (hc.elim (fun z => absurd z hd) id) h)
end
theorem i_vc_part {k : Nat} {u : SX} {v : SY} (I : i_Rel k u v) (hk : k + 3 ≤ 1539) (v1 : Int32) (v2 : Int32) : wpX_part (fun r => wpY_part (fun r' => r' = r ∧ i_Rel (k + 3) u v) v v1 v2) u v1 v2 := by
  have J := i_up I
  revert J
  refine zr_el (P := fun u v => i_Rel (k + 3) u v → wpX_part (fun r => wpY_part (fun r' => r' = r ∧ i_Rel (k + 3) u v) v v1 v2) u v1 v2) I ?_
  intro ml ms mp nx pl tk l o ds d f_rowSize f_count f_draftPlace f_draftTake f_numberCount f_savedRowSize f_savedCount f_rows f_n f_rows0 f_n0 f_place f_take f_puts a_entryId a_entryMaker a_entryTaker a_order a_rank a_nameOf a_numbers a_savedId a_savedMaker a_savedTaker a_savedOrder a_needed a_num a_maker a_taker a_stack a_num0 a_maker0 a_taker0 a_stack0 a_dput a_need hV hD hN hnk hX dX hY dY J
  have h11 := hX.1.2.1
  have h80 := hX.1.1
  have ho := zp_opos hX.1
  have eX : f_count + 1 = nI o.length := by rw [hX.2.2.1, nI_1, show o.length - 1 + 1 = o.length from by omega]
  have eY : f_n + 1 = nI o.length := by rw [hY.2.2.2.1, nI_1, show o.length - 1 + 1 = o.length from by omega]
  by_cases c0 : v1 = 0
  · subst c0
    have hc : ¬ (0 : Int32) = f_n + 1 := by rw [eY]; exact fun z => nI_ne0 ho (by omega) z.symm
    refine br_t rfl (br_c (fun c3 => zy_p0 (Or.inr hc) (br_t c3 (br_t rfl ⟨rfl, J⟩))) (fun c3 => zy_p0 (Or.inr hc) (br_f c3 (br_t rfl (br_t (by decide) ⟨rfl, J⟩)))))
  · refine br_f c0 ?_
    rcases zp_rng v1 (n := o.length - 1) (by omega) with c | ⟨c1, c⟩ | ⟨K, k1, k2, rfl⟩
    · have ne : ¬ v1 = nI o.length := fun z => by
        rw [z] at c
        exact nI_nlt (b := 1) ho (by omega) c
      have yy : wpY_part (fun r' => r' = -1 ∧ i_Rel (k + 3) ((nI ml), (nI ms), (nI mp), f_rowSize, f_count, (nI nx), d, f_draftPlace, f_draftTake, f_numberCount, f_savedRowSize, f_savedCount, a_entryId, a_entryMaker, a_entryTaker, a_order, a_rank, a_nameOf, a_numbers, a_savedId, a_savedMaker, a_savedTaker, a_savedOrder, a_needed) ((nI ml), (nI ms), (nI mp), f_rows, f_n, (nI nx), f_rows0, f_n0, d, f_place, f_take, f_puts, a_num, a_maker, a_taker, a_stack, a_num0, a_maker0, a_taker0, a_stack0, a_dput, a_need)) ((nI ml), (nI ms), (nI mp), f_rows, f_n, (nI nx), f_rows0, f_n0, d, f_place, f_take, f_puts, a_num, a_maker, a_taker, a_stack, a_num0, a_maker0, a_taker0, a_stack0, a_dput, a_need) v1 v2 :=
        zy_p0 (Or.inr (by rw [eY]; exact ne)) (zy_p22 c0 (br_t rfl (br_t c ⟨rfl, J⟩)))
      exact zx_on0 (Or.inl c) (br_t rfl (br_c (fun _ => yy) (fun _ => br_f (by rw [eX]; exact ne) yy)))
    · have cX : f_count < v1 := by rw [hX.2.2.1]; exact c
      have cY : ¬ v1 ≤ f_n := by rw [hY.2.2.2.1]; exact Int32.not_le.mpr c
      have yy : (d = 0 ∨ ¬ v1 = f_n + 1) → wpY_part (fun r' => r' = -1 ∧ i_Rel (k + 3) ((nI ml), (nI ms), (nI mp), f_rowSize, f_count, (nI nx), d, f_draftPlace, f_draftTake, f_numberCount, f_savedRowSize, f_savedCount, a_entryId, a_entryMaker, a_entryTaker, a_order, a_rank, a_nameOf, a_numbers, a_savedId, a_savedMaker, a_savedTaker, a_savedOrder, a_needed) ((nI ml), (nI ms), (nI mp), f_rows, f_n, (nI nx), f_rows0, f_n0, d, f_place, f_take, f_puts, a_num, a_maker, a_taker, a_stack, a_num0, a_maker0, a_taker0, a_stack0, a_dput, a_need)) ((nI ml), (nI ms), (nI mp), f_rows, f_n, (nI nx), f_rows0, f_n0, d, f_place, f_take, f_puts, a_num, a_maker, a_taker, a_stack, a_num0, a_maker0, a_taker0, a_stack0, a_dput, a_need) v1 v2 :=
        fun q => zy_p0 q (zy_p22 c0 (br_t rfl (br_f c1 (br_f cY ⟨rfl, J⟩))))
      refine zx_on0 (Or.inr ⟨c1, cX⟩) (br_t rfl ?_)
      by_cases hd : d = 0
      · exact br_t hd (yy (Or.inl hd))
      · refine br_f hd ?_
        by_cases e : v1 = nI o.length
        · obtain ⟨x1, x2, x3, x4⟩ := dX hd
          obtain ⟨y1, y2, y3, y4⟩ := dY hd
          have e1 : v1 = f_count + 1 := by rw [eX]; exact e
          have e2 : v1 = f_n + 1 := by rw [eY]; exact e
          have n1 : ¬ (1 : Int32) = 0 := by decide
          refine br_t e1 (br_c (fun q => ?_) (fun q0 => br_c (fun q => ?_) (fun q1 => br_c (fun q => ?_) (fun q2 => br_c (fun q => ?_) (fun q3 => ?_)))))
          · have n3 : ¬ v2 = 3 := by rw [q]; decide
            exact br_f hd (br_t e2 (br_f n3 (br_f n1 (br_t q ⟨y1.trans x1.symm, J⟩))))
          · have n3 : ¬ v2 = 3 := by rw [q]; decide
            exact br_f hd (br_t e2 (br_f n3 (br_f n1 (br_f q0 (br_t q ⟨y2.trans x2.symm, J⟩)))))
          · have n3 : ¬ v2 = 3 := by rw [q]; decide
            exact br_f hd (br_t e2 (br_f n3 (br_f n1 (br_f q0 (br_f q1 (br_t q ⟨y3.trans x3.symm, J⟩))))))
          · exact br_f hd (br_t e2 (br_t q (br_f c0 (br_f n1 ⟨rfl, J⟩))))
          · exact br_f hd (br_t e2 (br_f q3 (br_f n1 (br_f q0 (br_f q1 (br_f q2 ⟨rfl, J⟩))))))
        · exact br_f (by rw [eX]; exact e) (yy (Or.inr (by rw [eY]; exact e)))
    · have hK : K < o.length := by omega
      obtain ⟨e1, e2, e3⟩ := zx_ord hX hK
      have hF := zp_F_le (l := l) (s := zp_sl o K)
      have em : nI K - 1 = nI (K - 1) := pk_sub (b := 1) k1
      have ne : ¬ nI K = f_n + 1 := by rw [eY, nI_eq (by omega) (by omega)]; omega
      have yy : ∀ post : Int32 → Prop, wY_part_41 post (nI K) v2 0 (nI ml) (nI ms) (nI mp) f_rows f_n (nI nx) f_rows0 f_n0 d f_place f_take f_puts a_num a_maker a_taker a_stack a_num0 a_maker0 a_taker0 a_stack0 a_dput a_need → wpY_part post ((nI ml), (nI ms), (nI mp), f_rows, f_n, (nI nx), f_rows0, f_n0, d, f_place, f_take, f_puts, a_num, a_maker, a_taker, a_stack, a_num0, a_maker0, a_taker0, a_stack0, a_dput, a_need) (nI K) v2 := fun post h => zy_p0 (Or.inr ne) (zy_p22 c0 h)
      have y1 : ¬ nI K < 1 := nI_nlt (b := 1) k1 (by omega)
      have y2 : nI K ≤ f_n := by rw [hY.2.2.2.1]; exact nI_le k2 (by omega)
      refine zx_on1 hX.2.2.1 k1 k2 (by omega) (br_f (by decide) ⟨e3, nm_r e1 ?_⟩)
      refine br_c (fun q => ?_) (fun q0 => br_c (fun q => ?_) (fun q1 => br_c (fun q => ?_) (fun q2 => br_c (fun q => ?_) (fun q3 => ?_))))
      · refine zx_fo hX e2 ?_
        rw [em]
        refine zx_lb hX (by omega) (by omega) rfl (yy _ (br_t rfl (br_f y1 (br_t y2 (zy_fi hY hK (br_t q ?_))))))
        rw [em]
        exact zy_bf hY (by omega) hF ⟨rfl, J⟩
      · exact zx_ct hX e2 (yy _ (br_t rfl (br_f y1 (br_t y2 (zy_fi hY hK (br_f q0 (br_t q (zy_ta hY hK ⟨rfl, J⟩))))))))
      · exact zx_cm hX e2 (yy _ (br_t rfl (br_f y1 (br_t y2 (zy_fi hY hK (br_f q0 (br_f q1 (br_t q (zy_ma hY hK ⟨rfl, J⟩)))))))))
      · refine ⟨vp_in_nI (by omega) (by omega), ?_⟩
        rw [nI_clamp (by omega)]
        refine yy _ (br_t rfl (br_f y1 (br_t y2 (zy_fi hY hK (br_f q0 (br_f q1 (br_f q2 (br_t q ⟨vp_in_nI (by omega) (by omega), ?_⟩))))))))
        rw [nI_clamp (by omega)]
        exact ⟨hY.2.2.2.2.2.2.2 _ _ (zp_sl_g hK), J⟩
      · exact yy _ (br_t rfl (br_f y1 (br_t y2 (zy_fi hY hK (br_f q0 (br_f q1 (br_f q2 (br_f q3 ⟨rfl, J⟩))))))))
end
section
/-! commit, move, drop -/
section
variable {f_maxLines f_maxSide f_maxPatches f_rowSize f_count f_nextName f_draftOpen f_draftPlace f_draftTake f_numberCount f_savedRowSize f_savedCount : Int32} {a_entryId a_entryMaker a_entryTaker a_order a_rank a_nameOf a_numbers a_savedId a_savedMaker a_savedTaker a_savedOrder a_needed : Nat → Int32} {l : List zp_En} {o : List Nat}
theorem zx_dl {post : Int32 → Prop} {tk c : Nat} (h : zx_Q l o f_rowSize f_count a_entryId a_entryMaker a_entryTaker a_order a_rank) (htk : f_draftTake = nI tk) (hc : f_numberCount = nI c) (ht : tk ≤ l.countP (zp_inT o (o.length - 1))) (hp : post (nI (l.countP (zp_inT o (o.length - 1)) - tk + c))) : wpX_draftLength post (f_maxLines, f_maxSide, f_maxPatches, f_rowSize, f_count, f_nextName, f_draftOpen, f_draftPlace, f_draftTake, f_numberCount, f_savedRowSize, f_savedCount, a_entryId, a_entryMaker, a_entryTaker, a_order, a_rank, a_nameOf, a_numbers, a_savedId, a_savedMaker, a_savedTaker, a_savedOrder, a_needed) := by
  have h11 := h.1.2.1
  refine zx_tlc h h.2.2.1 (by omega) ?_
  rw [htk, hc, pk_sub ht, nI_add]; exact hp
end
theorem i_vc_commit {k : Nat} {u : SX} {v : SY} (I : i_Rel k u v) (hk : k + 3 ≤ 1539) : wpX_commit (fun r u' => wpY_commit (fun r' v' => r' = r ∧ i_Rel (k + 3) u' v') v) u := by
  refine zr_el (P := fun u v => wpX_commit (fun r u' => wpY_commit (fun r' v' => r' = r ∧ i_Rel (k + 3) u' v') v) u) I ?_
  intro ml ms mp nx pl tk l o ds d f_rowSize f_count f_draftPlace f_draftTake f_numberCount f_savedRowSize f_savedCount f_rows f_n f_rows0 f_n0 f_place f_take f_puts a_entryId a_entryMaker a_entryTaker a_order a_rank a_nameOf a_numbers a_savedId a_savedMaker a_savedTaker a_savedOrder a_needed a_num a_maker a_taker a_stack a_num0 a_maker0 a_taker0 a_stack0 a_dput a_need hV hD hN hnk hX dX hY dY
  have st : i_Rel (k + 3) ((nI ml), (nI ms), (nI mp), f_rowSize, f_count, (nI nx), d, f_draftPlace, f_draftTake, f_numberCount, f_savedRowSize, f_savedCount, a_entryId, a_entryMaker, a_entryTaker, a_order, a_rank, a_nameOf, a_numbers, a_savedId, a_savedMaker, a_savedTaker, a_savedOrder, a_needed) ((nI ml), (nI ms), (nI mp), f_rows, f_n, (nI nx), f_rows0, f_n0, d, f_place, f_take, f_puts, a_num, a_maker, a_taker, a_stack, a_num0, a_maker0, a_taker0, a_stack0, a_dput, a_need) := zr_in hV hD hN (by omega) hX dX hY dY
  by_cases hd : d = 0
  · exact br_t hd (br_t hd ⟨rfl, st⟩)
  · refine br_f hd ?_
    have h11 := hX.1.2.1
    have h80 := hX.1.1
    have ho := zp_opos hX.1
    have hlen := zi_len hV
    obtain ⟨_, _, _, _, hmp1, h20, h6, h10⟩ := id hV
    obtain ⟨x1, x2, x3, x4⟩ := dX hd
    obtain ⟨y1, y2, y3, y4⟩ := dY hd
    obtain ⟨d1, d2, d3⟩ := hD hd
    have hc := List.countP_le_length (p := zp_inT o (o.length - 1)) (l := l)
    have main : ¬ (tk = 0 ∧ ds.length = 0) → wX_commit_27 (fun r u' => wpY_commit (fun r' v' => r' = r ∧ i_Rel (k + 3) u' v') ((nI ml), (nI ms), (nI mp), f_rows, f_n, (nI nx), f_rows0, f_n0, d, f_place, f_take, f_puts, a_num, a_maker, a_taker, a_stack, a_num0, a_maker0, a_taker0, a_stack0, a_dput, a_need)) (nI ml) (nI ms) (nI mp) f_rowSize f_count (nI nx) d f_draftPlace f_draftTake f_numberCount f_savedRowSize f_savedCount a_entryId a_entryMaker a_entryTaker a_order a_rank a_nameOf a_numbers a_savedId a_savedMaker a_savedTaker a_savedOrder a_needed := by
      intro hne
      have key : ∀ post : Int32 → SY → Prop, wY_commit_27 post (nI ml) (nI ms) (nI mp) f_rows f_n (nI nx) f_rows0 f_n0 d f_place f_take f_puts a_num a_maker a_taker a_stack a_num0 a_maker0 a_taker0 a_stack0 a_dput a_need → wpY_commit post ((nI ml), (nI ms), (nI mp), f_rows, f_n, (nI nx), f_rows0, f_n0, d, f_place, f_take, f_puts, a_num, a_maker, a_taker, a_stack, a_num0, a_maker0, a_taker0, a_stack0, a_dput, a_need) := by
        intro post h
        refine br_f hd (pk_eq tk 0 (fun c1 => pk_eq ds.length 0 (fun c2 => absurd ⟨c1, c2⟩ hne) (fun _ => h) y3) (fun _ => h) y2)
      have full : (o.length - 1 = mp ∨ ml < l.countP (zp_inT o (o.length - 1)) - tk + ds.length) → wpY_commit (fun r' v' => r' = -4 ∧ i_Rel (k + 3) ((nI ml), (nI ms), (nI mp), f_rowSize, f_count, (nI nx), d, f_draftPlace, f_draftTake, f_numberCount, f_savedRowSize, f_savedCount, a_entryId, a_entryMaker, a_entryTaker, a_order, a_rank, a_nameOf, a_numbers, a_savedId, a_savedMaker, a_savedTaker, a_savedOrder, a_needed) v') ((nI ml), (nI ms), (nI mp), f_rows, f_n, (nI nx), f_rows0, f_n0, d, f_place, f_take, f_puts, a_num, a_maker, a_taker, a_stack, a_num0, a_maker0, a_taker0, a_stack0, a_dput, a_need) := by
        intro c
        refine key _ (zy_push (s := 11) hY (by omega) y1 y2 y3 y4 rfl rfl (by omega) rfl (by omega) (by omega) (by omega) (by omega) (fun z => ?_) (fun _ => ⟨rfl, st⟩) (fun z => absurd c z))
        have := hX.1.2.2.2.2.1 _ z
        omega
      refine pk_le mp (o.length - 1) (fun c => full (Or.inl (by omega))) (fun c => zx_dl hX x2 x3 (by omega) ?_) rfl hX.2.2.1
      refine pk_le (l.countP (zp_inT o (o.length - 1)) - tk + ds.length) ml (fun c2 => ?_) (fun c2 => full (Or.inr c2))
      have hP : ∀ s, 1 ≤ s → s ≤ 10 → s ∉ o → zi_V ml ms mp (zp_push l o s pl tk ds) (o ++ [s]) := fun s s1 s2 s3 => zi_push hV s1 s2 s3 (by omega) d2 d3 d1 c2
      refine zx_push hX (by omega) x1 x2 x3 x4 rfl (by omega) (by omega) (by omega) (fun s s1 s2 s3 => (hP s s1 s2 s3).1) (fun s s1 s2 s3 rs ei em et od rk hQ => ?_)
      have hV' := hP s s1 s2 s3
      have hN' := zi_N_push hN s1 s3 (by omega)
      refine key _ (zy_push (s := s) hY (by omega) y1 y2 y3 y4 rfl rfl (by omega) rfl (by omega) (by omega) (by omega) (by omega) s3 (fun z => by omega) (fun _ => ⟨by omega, by omega, hV'.1, hN'.1, fun rs' nu ma ta st' hQ' => ⟨rfl, ?_⟩⟩))
      exact zr_in (pl := pl) (tk := tk) (ds := ds) (d := 0) hV' (fun z => absurd rfl z) hN' (by omega) hQ (fun z => absurd rfl z) hQ' (fun z => absurd rfl z)
    refine pk_eq tk 0 (fun c1 => pk_eq ds.length 0 (fun c2 => ?_) (fun c2 => main (fun z => c2 z.2)) x3) (fun c1 => main (fun z => c1 z.1)) x2
    exact br_f hd (pk_eq tk 0 (fun _ => pk_eq ds.length 0 (fun _ => ⟨rfl, st⟩) (fun z => absurd c2 z) y3) (fun z => absurd c1 z) y2)
section
variable {f_maxLines f_maxSide f_maxPatches f_rows f_n f_nextName f_rows0 f_n0 f_drafting f_place f_take f_puts : Int32} {a_num a_maker a_taker a_stack a_num0 a_maker0 a_taker0 a_stack0 a_dput a_need : Nat → Int32} {l : List zp_En} {o : List Nat} {nm : Nat → Int32}
theorem zy_move {post : Int32 → SY → Prop} {fr to ml : Nat} (h : zy_Q l o nm f_rows f_n a_num a_maker a_taker a_stack) (hd : f_drafting = 0) (hf1 : 1 ≤ fr) (hf : fr < o.length) (ht1 : 1 ≤ to) (ht : to < o.length) (hm : f_maxLines = nI ml) (hm2 : ml < 1000) (hb : zp_MB l o fr to → post (-5) (f_maxLines, f_maxSide, f_maxPatches, f_rows, f_n, f_nextName, f_rows0, f_n0, f_drafting, f_place, f_take, f_puts, a_num, a_maker, a_taker, a_stack, a_num0, a_maker0, a_taker0, a_stack0, a_dput, a_need))
  (hA : ¬ zp_MB l o fr to → zp_Fits ml l ((o.eraseIdx fr).insertIdx to (zp_sl o fr)) → ∀ n0 m0 t0 s0 st, zy_Q l ((o.eraseIdx fr).insertIdx to (zp_sl o fr)) nm f_rows f_n a_num a_maker a_taker st → post 0 (f_maxLines, f_maxSide, f_maxPatches, f_rows, f_n, f_nextName, f_rows, f_n, f_drafting, f_place, f_take, f_puts, a_num, a_maker, a_taker, st, n0, m0, t0, s0, a_dput, a_need))
  (hB : ¬ zp_MB l o fr to → ¬ zp_Fits ml l ((o.eraseIdx fr).insertIdx to (zp_sl o fr)) → ∀ n0 m0 t0 s0 nu ma ta st, zy_Q l o nm f_rows f_n nu ma ta st → post (-4) (f_maxLines, f_maxSide, f_maxPatches, f_rows, f_n, f_nextName, f_rows, f_n, f_drafting, f_place, f_take, f_puts, nu, ma, ta, st, n0, m0, t0, s0, a_dput, a_need)) : wpY_move post (f_maxLines, f_maxSide, f_maxPatches, f_rows, f_n, f_nextName, f_rows0, f_n0, f_drafting, f_place, f_take, f_puts, a_num, a_maker, a_taker, a_stack, a_num0, a_maker0, a_taker0, a_stack0, a_dput, a_need) (nI fr) (nI to) := by
  have h11 := h.1.2.1
  refine br_t hd (pk_lt fr 1 (fun c => by omega) (fun _ => pk_lt (o.length - 1) fr (fun c => by omega) (fun _ => pk_lt to 1 (fun c => by omega) (fun _ => pk_le to (o.length - 1) (fun _ => ?_) (fun c => by omega) rfl h.2.2.2.1)) h.2.2.2.1))
  refine ⟨_, zy_mv40 h hf ht (fun z => hb (Or.inr z)) (fun z n j hj hj2 => ?_) (fr + 1) to (Nat.le_refl _) ht (by omega) (fun i c1 c2 => by omega)⟩
  refine br_t (nI_le hj (by omega)) (zy_he h (by omega) ht rfl (zp_ic (fun y => hb (Or.inl y)) (fun y => ?_)))
  have nb : ¬ zp_MB l o fr to := fun q => q.elim y z
  exact zy_sv h (fun n0 m0 t0 s0 hS => zy_mvs h hf1 hf ht1 ht hS hm hm2 (fun q st hQ => hA nb q n0 m0 t0 s0 st hQ) (fun q nu ma ta st hQ => hB nb q n0 m0 t0 s0 nu ma ta st hQ))
theorem zy_drop {post : Int32 → SY → Prop} {k ml : Nat} (h : zy_Q l o nm f_rows f_n a_num a_maker a_taker a_stack) (hd : f_drafting = 0) (hk1 : 1 ≤ k) (hk : k < o.length) (hm : f_maxLines = nI ml) (hm2 : ml < 1000) (hb : (∃ i, k < i ∧ i ≤ o.length - 1 ∧ zp_Rs l o i k) → post (-5) (f_maxLines, f_maxSide, f_maxPatches, f_rows, f_n, f_nextName, f_rows0, f_n0, f_drafting, f_place, f_take, f_puts, a_num, a_maker, a_taker, a_stack, a_num0, a_maker0, a_taker0, a_stack0, a_dput, a_need))
  (hA : (¬ ∃ i, k < i ∧ i ≤ o.length - 1 ∧ zp_Rs l o i k) → zp_Fits ml (l.filterMap (zp_dG (zp_sl o k))) (o.eraseIdx k) → ∀ n0 m0 t0 s0 rs ct nu ma ta st, zy_Q (l.filterMap (zp_dG (zp_sl o k))) (o.eraseIdx k) nm rs ct nu ma ta st → post 0 (f_maxLines, f_maxSide, f_maxPatches, rs, ct, f_nextName, f_rows, f_n, f_drafting, f_place, f_take, f_puts, nu, ma, ta, st, n0, m0, t0, s0, a_dput, a_need))
  (hB : (¬ ∃ i, k < i ∧ i ≤ o.length - 1 ∧ zp_Rs l o i k) → ¬ zp_Fits ml (l.filterMap (zp_dG (zp_sl o k))) (o.eraseIdx k) → ∀ n0 m0 t0 s0 nu ma ta st, zy_Q l o nm f_rows f_n nu ma ta st → post (-4) (f_maxLines, f_maxSide, f_maxPatches, f_rows, f_n, f_nextName, f_rows, f_n, f_drafting, f_place, f_take, f_puts, nu, ma, ta, st, n0, m0, t0, s0, a_dput, a_need)) : wpY_drop post (f_maxLines, f_maxSide, f_maxPatches, f_rows, f_n, f_nextName, f_rows0, f_n0, f_drafting, f_place, f_take, f_puts, a_num, a_maker, a_taker, a_stack, a_num0, a_maker0, a_taker0, a_stack0, a_dput, a_need) (nI k) := by
  have h11 := h.1.2.1
  have h80 := h.1.1
  refine br_t hd (pk_lt k 1 (fun c => by omega) (fun _ => pk_le k (o.length - 1) (fun _ => ?_) (fun c => by omega) rfl h.2.2.2.1))
  refine zy_he h (by omega) (by omega) h.2.2.2.1 (zp_ic hb (fun y => ?_))
  refine zy_sv h (fun n0 m0 t0 s0 hS => nm_r (e' := nI l.length - 1) (by rw [h.2.2.1]) ⟨_, zy_dr51 h.1 h.2.1 h.2.2.2.2.2.2.2 h.2.2.2.1 hk1 hk hS hm hm2 (zi_dr_WF h.1 hk1 hk) (fun q rs ct nu ma ta st hQ => hA y q n0 m0 t0 s0 rs ct nu ma ta st hQ) (fun q nu ma ta st hQ => hB y q n0 m0 t0 s0 nu ma ta st hQ) (l.length + 1) l.length f_rows a_num a_maker a_taker (by omega) (Nat.le_refl _) ?_ ?_⟩)
  · rw [List.take_length, List.drop_length, List.filterMap_nil, List.append_nil]; exact h.2.2.1
  · rw [List.take_length, List.drop_length, List.filterMap_nil, List.append_nil]; exact ⟨h.2.2.2.2.1, h.2.2.2.2.2.1, h.2.2.2.2.2.2.1⟩
end
theorem zr_mvs {o : List Nat} {fr : Nat} (hf : fr < o.length) : (o.eraseIdx fr).insertIdx fr (zp_sl o fr) = o := by
  refine List.ext_getElem? (fun i => ?_)
  rw [List.getElem?_insertIdx, List.getElem?_eraseIdx, List.getElem?_eraseIdx, zp_er_len hf]
  by_cases c1 : i < fr
  · rw [if_pos c1, if_pos c1]
  · rw [if_neg c1]
    by_cases c2 : i = fr
    · subst c2; rw [if_pos rfl, if_pos (by omega)]; exact (zp_sl_g hf).symm
    · rw [if_neg c2, if_neg (by omega), show i - 1 + 1 = i from by omega]
theorem i_vc_move {k : Nat} {u : SX} {v : SY} (I : i_Rel k u v) (hk : k + 3 ≤ 1539) (v1 : Int32) (v2 : Int32) : wpX_move (fun r u' => wpY_move (fun r' v' => r' = r ∧ i_Rel (k + 3) u' v') v v1 v2) u v1 v2 := by
  refine zr_el (P := fun u v => wpX_move (fun r u' => wpY_move (fun r' v' => r' = r ∧ i_Rel (k + 3) u' v') v v1 v2) u v1 v2) I ?_
  intro ml ms mp nx pl tk l o ds d f_rowSize f_count f_draftPlace f_draftTake f_numberCount f_savedRowSize f_savedCount f_rows f_n f_rows0 f_n0 f_place f_take f_puts a_entryId a_entryMaker a_entryTaker a_order a_rank a_nameOf a_numbers a_savedId a_savedMaker a_savedTaker a_savedOrder a_needed a_num a_maker a_taker a_stack a_num0 a_maker0 a_taker0 a_stack0 a_dput a_need hV hD hN hnk hX dX hY dY
  have st : i_Rel (k + 3) ((nI ml), (nI ms), (nI mp), f_rowSize, f_count, (nI nx), d, f_draftPlace, f_draftTake, f_numberCount, f_savedRowSize, f_savedCount, a_entryId, a_entryMaker, a_entryTaker, a_order, a_rank, a_nameOf, a_numbers, a_savedId, a_savedMaker, a_savedTaker, a_savedOrder, a_needed) ((nI ml), (nI ms), (nI mp), f_rows, f_n, (nI nx), f_rows0, f_n0, d, f_place, f_take, f_puts, a_num, a_maker, a_taker, a_stack, a_num0, a_maker0, a_taker0, a_stack0, a_dput, a_need) := zr_in hV hD hN (by omega) hX dX hY dY
  have h11 := hX.1.2.1
  have ho := zp_opos hX.1
  have h20 : ml ≤ 20 := hV.2.2.2.2.2.1
  by_cases hd : d = 0
  · have nD : ∀ {P : Prop}, d ≠ 0 → P := fun z => absurd hd z
    refine br_t hd ?_
    rcases zp_rng v1 (n := o.length - 1) (by omega) with c | ⟨c1, c⟩ | ⟨fr, f1, f2, rfl⟩
    · exact zx_on0 (Or.inl c) (br_t rfl (br_t hd (br_t c ⟨rfl, st⟩)))
    · exact zx_on0 (Or.inr ⟨c1, by rw [hX.2.2.1]; exact c⟩) (br_t rfl (br_t hd (br_f c1 (br_t (by rw [hY.2.2.2.1]; exact c) ⟨rfl, st⟩))))
    · have g1 : ¬ nI fr < 1 := nI_nlt (b := 1) f1 (by omega)
      have g2 : ¬ f_n < nI fr := by rw [hY.2.2.2.1]; exact nI_nlt f2 (by omega)
      refine zx_on1 hX.2.2.1 f1 f2 (by omega) (br_f (by decide) ?_)
      rcases zp_rng v2 (n := o.length - 1) (by omega) with c | ⟨c1, c⟩ | ⟨to, t1, t2, rfl⟩
      · exact zx_on0 (Or.inl c) (br_t rfl (br_t hd (br_f g1 (br_f g2 (br_t c ⟨rfl, st⟩)))))
      · exact zx_on0 (Or.inr ⟨c1, by rw [hX.2.2.1]; exact c⟩) (br_t rfl (br_t hd (br_f g1 (br_f g2 (br_f c1 (br_f (by rw [hY.2.2.2.1]; exact Int32.not_le.mpr c) ⟨rfl, st⟩))))))
      · refine zx_on1 hX.2.2.1 t1 t2 (by omega) (br_f (by decide) (pk_eq fr to (fun e => ?_) (fun ne => ?_)))
        · subst e
          have eo := zr_mvs (o := o) (fr := fr) (by omega)
          refine zy_move hY hd f1 (by omega) f1 (by omega) rfl (by omega) (fun z => ?_) (fun _ _ n0 m0 t0 s0 st' hQ => ⟨rfl, ?_⟩) (fun _ z => absurd (by rw [eo]; exact hV.2.2.2.1) z)
          · rcases z with ⟨i, z1, z2, _⟩ | ⟨j, z1, z2, _⟩ <;> omega
          · rw [eo] at hQ
            exact zr_in hV nD hN (by omega) hX dX hQ dY
        · refine zx_mb hX f1 (by omega) t1 (by omega) (zp_ic (fun mb => ?_) (fun mb => ?_))
          · exact zy_move hY hd f1 (by omega) t1 (by omega) rfl (by omega) (fun _ => ⟨rfl, st⟩) (fun z => absurd mb z) (fun z => absurd mb z)
          · have hpm := zp_mv_perm (o := o) (fr := fr) (to := to) (by omega) (by omega)
            have hsub : ∀ t, t ∈ (o.eraseIdx fr).insertIdx to (zp_sl o fr) → t ∈ o := fun t ht => hpm.mem_iff.mp ht
            refine zx_sv hX (fun si sm sk so hS => zx_shift hX f1 (by omega) t1 (by omega) (fun od rk hQ => zx_kf hQ hX.1 hS rfl (by omega) (fun fit => ?_) (fun fit ei em et od' rk' hQ2 => ?_)))
            · refine zy_move hY hd f1 (by omega) t1 (by omega) rfl (by omega) (fun z => absurd z mb) (fun _ _ n0 m0 t0 s0 st' hQY => ⟨rfl, ?_⟩) (fun _ z => absurd fit z)
              exact zr_in (zi_perm hV hpm (zp_mv_0 hX.1.2.2.2.1 f1 t1) (zi_mv_T hX.1 hV.2.1 f1 (by omega) t1 (by omega) mb) fit) nD (zi_N_sub hN hsub) (by omega) hQ dX hQY dY
            · refine zy_move hY hd f1 (by omega) t1 (by omega) rfl (by omega) (fun z => absurd z mb) (fun _ z => absurd z fit) (fun _ _ n0 m0 t0 s0 nu ma ta st' hQY => ⟨rfl, ?_⟩)
              exact zr_in hV nD hN (by omega) hQ2 dX hQY dY
  · exact br_f hd (br_f hd ⟨rfl, st⟩)
theorem i_vc_drop {k : Nat} {u : SX} {v : SY} (I : i_Rel k u v) (hk : k + 3 ≤ 1539) (v1 : Int32) : wpX_drop (fun r u' => wpY_drop (fun r' v' => r' = r ∧ i_Rel (k + 3) u' v') v v1) u v1 := by
  refine zr_el (P := fun u v => wpX_drop (fun r u' => wpY_drop (fun r' v' => r' = r ∧ i_Rel (k + 3) u' v') v v1) u v1) I ?_
  intro ml ms mp nx pl tk l o ds d f_rowSize f_count f_draftPlace f_draftTake f_numberCount f_savedRowSize f_savedCount f_rows f_n f_rows0 f_n0 f_place f_take f_puts a_entryId a_entryMaker a_entryTaker a_order a_rank a_nameOf a_numbers a_savedId a_savedMaker a_savedTaker a_savedOrder a_needed a_num a_maker a_taker a_stack a_num0 a_maker0 a_taker0 a_stack0 a_dput a_need hV hD hN hnk hX dX hY dY
  have st : i_Rel (k + 3) ((nI ml), (nI ms), (nI mp), f_rowSize, f_count, (nI nx), d, f_draftPlace, f_draftTake, f_numberCount, f_savedRowSize, f_savedCount, a_entryId, a_entryMaker, a_entryTaker, a_order, a_rank, a_nameOf, a_numbers, a_savedId, a_savedMaker, a_savedTaker, a_savedOrder, a_needed) ((nI ml), (nI ms), (nI mp), f_rows, f_n, (nI nx), f_rows0, f_n0, d, f_place, f_take, f_puts, a_num, a_maker, a_taker, a_stack, a_num0, a_maker0, a_taker0, a_stack0, a_dput, a_need) := zr_in hV hD hN (by omega) hX dX hY dY
  have h11 := hX.1.2.1
  have ho := zp_opos hX.1
  have h20 : ml ≤ 20 := hV.2.2.2.2.2.1
  by_cases hd : d = 0
  · have nD : ∀ {P : Prop}, d ≠ 0 → P := fun z => absurd hd z
    refine br_t hd ?_
    rcases zp_rng v1 (n := o.length - 1) (by omega) with c | ⟨c1, c⟩ | ⟨K, k1, k2, rfl⟩
    · exact zx_on0 (Or.inl c) (br_t rfl (br_t hd (br_t c ⟨rfl, st⟩)))
    · exact zx_on0 (Or.inr ⟨c1, by rw [hX.2.2.1]; exact c⟩) (br_t rfl (br_t hd (br_f c1 (br_f (by rw [hY.2.2.2.1]; exact Int32.not_le.mpr c) ⟨rfl, st⟩))))
    · have hK : K < o.length := by omega
      refine zx_on1 hX.2.2.1 k1 k2 (by omega) (br_f (by decide) (zx_ca hX (by omega) (by omega) hX.2.2.1 (zp_ic (fun hc => ?_) (fun hc => ?_))))
      · exact zy_drop hY hd k1 hK rfl (by omega) (fun _ => ⟨rfl, st⟩) (fun z => absurd hc z) (fun z => absurd hc z)
      · obtain ⟨e1, e2, e3⟩ := zx_ord hX hK
        have hw' := zi_dr_WF hX.1 k1 hK
        have hsub : ∀ t, t ∈ o.eraseIdx K → t ∈ o := fun t ht => (List.eraseIdx_sublist o K).subset ht
        refine zx_sv hX (fun si sm sk so hS => ⟨e3, ?_⟩)
        rw [e1]
        refine zx_de hX e2 (fun ei em et hE => ?_)
        obtain ⟨q1, q2, q3⟩ := zx_E_LA hE
        refine zx_rp (zp_WF_o hX.1) hX.2.2.2.2.2.2.1 hX.2.2.1 k1 hK (fun od rk hO hR => ?_)
        have hQ : zx_Q (l.filterMap (zp_dG (zp_sl o K))) (o.eraseIdx K) (nI (l.filterMap (zp_dG (zp_sl o K))).length) (nI (o.length - 2)) ei em et od rk := ⟨hw', rfl, by rw [zp_er_len hK, show o.length - 1 - 1 = o.length - 2 from by omega], q1, q2, q3, hO, hR⟩
        refine zx_kf hQ hX.1 hS rfl (by omega) (fun fit => ?_) (fun fit ei em et od' rk' hQ2 => ?_)
        · refine zy_drop hY hd k1 hK rfl (by omega) (fun z => absurd z hc) (fun _ _ n0 m0 t0 s0 rs ct nu ma ta st' hQY => ⟨rfl, ?_⟩) (fun _ z => absurd fit z)
          exact zr_in (zi_drop hV k1 hK fit) nD (zi_N_sub hN hsub) (by omega) hQ dX hQY dY
        · refine zy_drop hY hd k1 hK rfl (by omega) (fun z => absurd z hc) (fun _ z => absurd z fit) (fun _ _ n0 m0 t0 s0 nu ma ta st' hQY => ⟨rfl, ?_⟩)
          exact zr_in hV nD hN (by omega) hQ2 dX hQY dY
  · exact br_f hd (br_f hd ⟨rfl, st⟩)
end
section
/-! pick, revert, absorb -/
noncomputable def zi_b (P : Nat → Prop) (i : Nat) : Bool := @decide (P i) (Classical.propDecidable _)
theorem zi_b_iff {P : Nat → Prop} {i : Nat} : zi_b P i = true ↔ P i := by unfold zi_b; exact @decide_eq_true_iff _ (Classical.propDecidable _)
def zi_pick1 (b : Nat → Bool) (o : List Nat) : List Nat := [0] ++ zp_pk b 1 (o.drop 1)
theorem zi_pick1_len {b : Nat → Bool} {o : List Nat} : (zi_pick1 b o).length ≤ (zi_pick b o).length := by
  unfold zi_pick zi_pick1
  simp only [List.length_append]; omega
theorem zi_ab_sub {ml ms : Nat} : ∀ (L : Nat) (l : List zp_En) (o : List Nat), ∀ t, t ∈ (zp_ab ml ms L l o).2.2 → t ∈ o
  | 0, l, o, t, h => h
  | L + 1, l, o, t, h => by
    by_cases c : zp_ft l o (o.length - (L + 1)) = 0
    · rw [zp_ab_b c] at h; exact h
    · obtain ⟨q, hq⟩ : ∃ q, zp_ft l o (o.length - (L + 1)) = q := ⟨_, rfl⟩
      rcases Classical.em (zp_Fu ml ms l o (o.length - (L + 1)) q) with z | z
      · rw [zp_ab_f hq (by omega) z] at h; exact h
      · rw [zp_ab_s hq (by omega) z] at h
        have := zi_ab_sub L _ _ t h
        unfold zp_o2 at this
        split at this
        · exact (List.eraseIdx_sublist _ _).subset ((List.eraseIdx_sublist _ _).subset this)
        · exact (List.eraseIdx_sublist _ _).subset this
section
variable {f_maxLines f_maxSide f_maxPatches f_rows f_n f_nextName f_rows0 f_n0 f_drafting f_place f_take f_puts : Int32} {a_num a_maker a_taker a_stack a_num0 a_maker0 a_taker0 a_stack0 a_dput a_need : Nat → Int32} {l : List zp_En} {o : List Nat} {nm : Nat → Int32}
theorem zy_pick {post : Int32 → SY → Prop} {K ml : Nat} {b : Nat → Bool} (hb : b = zi_b (zp_Nd (zp_Rs l o) K)) (h : zy_Q l o nm f_rows f_n a_num a_maker a_taker a_stack) (hd : f_drafting = 0) (hk1 : 1 ≤ K) (hK : K < o.length) (hm : f_maxLines = nI ml) (hm2 : ml < 1000)
  (hA : zp_Fits ml l (zi_pick b o) → ∀ an n0 m0 t0 s0 st, zy_Q l (zi_pick b o) nm f_rows f_n a_num a_maker a_taker st → post (nI ((zi_pick1 b o).length - 1)) (f_maxLines, f_maxSide, f_maxPatches, f_rows, f_n, f_nextName, f_rows, f_n, f_drafting, f_place, f_take, f_puts, a_num, a_maker, a_taker, st, n0, m0, t0, s0, a_dput, an))
  (hB : ¬ zp_Fits ml l (zi_pick b o) → ∀ an n0 m0 t0 s0 nu ma ta st, zy_Q l o nm f_rows f_n nu ma ta st → post (-4) (f_maxLines, f_maxSide, f_maxPatches, f_rows, f_n, f_nextName, f_rows, f_n, f_drafting, f_place, f_take, f_puts, nu, ma, ta, st, n0, m0, t0, s0, a_dput, an)) : wpY_pick post (f_maxLines, f_maxSide, f_maxPatches, f_rows, f_n, f_nextName, f_rows0, f_n0, f_drafting, f_place, f_take, f_puts, a_num, a_maker, a_taker, a_stack, a_num0, a_maker0, a_taker0, a_stack0, a_dput, a_need) (nI K) := by
  have h11 := h.1.2.1
  have ho := zp_opos h.1
  have hpm := zi_pick_perm (b := b) h.1.2.2.2.1
  have hw' := zp_WF_perm h.1 hpm zi_pick_0
  have hlp := hpm.length_eq
  have hl1 := zi_pick1_len (b := b) (o := o)
  have p1 : 1 ≤ (zi_pick1 b o).length := by unfold zi_pick1; simp
  have cY : f_n < nI o.length := by rw [h.2.2.2.1]; exact nI_lt (by omega) (by omega)
  refine br_t hd (pk_lt K 1 (fun c => by omega) (fun _ => pk_le K (o.length - 1) (fun _ => zy_mn h hk1 hK (fun an han => zy_sv h (fun n0 m0 t0 s0 hS => ?_))) (fun c => by omega) rfl h.2.2.2.1))
  have hn1 : ∀ i, 1 ≤ i → i < o.length → (¬ an i = 0 ↔ b i = true) := by
    intro i i1 i2
    rw [han i (by omega), zp_i0, hb, zi_b_iff, Classical.not_not]
    exact ⟨And.right, fun z => ⟨i1, z⟩⟩
  have hn0 : ∀ i, 1 ≤ i → i < o.length → (an i = 0 ↔ (fun j => !b j) i = true) := by
    intro i i1 i2
    have := hn1 i i1 i2
    show an i = 0 ↔ (!b i) = true
    cases hbi : b i
    · rw [hbi] at this
      exact ⟨fun _ => rfl, fun _ => Classical.not_not.mp (fun z => absurd (this.mp z) (by decide))⟩
    · rw [hbi] at this
      exact ⟨fun z => absurd z (this.mpr rfl), fun z => absurd z (by decide)⟩
  have hE2 : ∀ n st, zp_LA st (zi_pick b o) nm → wY_pick_81 post (nI ((zi_pick1 b o).length - 1)) f_maxLines f_maxSide f_maxPatches f_rows f_n f_nextName f_rows f_n f_drafting f_place f_take f_puts (n + 1) (nI ((zi_pick b o).length - 1)) (nI o.length) a_num a_maker a_taker st n0 m0 t0 s0 a_dput an := by
    intro n st hst
    have Q1 : zy_Q l (zi_pick b o) nm f_rows f_n a_num a_maker a_taker st := ⟨hw', ⟨h.2.1.1, fun s t hs ht => h.2.1.2 s t (hpm.mem_iff.mp hs) (hpm.mem_iff.mp ht)⟩, h.2.2.1, by rw [hlp]; exact h.2.2.2.1, h.2.2.2.2.1, h.2.2.2.2.2.1, h.2.2.2.2.2.2.1, hst⟩
    refine br_t cY (zy_ft Q1 hm hm2 (zp_ic (fun z => hA z an n0 m0 t0 s0 st Q1) (fun z => ?_)))
    exact zy_un h.1 h.2.1 hS (fun nu ma ta st q => hB z an n0 m0 t0 s0 nu ma ta st q)
  have hE1 : ∀ n st, zp_LA st (zi_pick1 b o) nm → wY_pick_38 post f_maxLines f_maxSide f_maxPatches f_rows f_n f_nextName f_rows f_n f_drafting f_place f_take f_puts (n + 1) (nI ((zi_pick1 b o).length - 1)) (nI o.length) a_num a_maker a_taker st n0 m0 t0 s0 a_dput an := by
    intro n st hst
    exact br_t cY ⟨_, zy_pk81 (b := fun j => !b j) (fin := zi_pick b o) hn0 hS.2.2.2 h.2.2.2.1 h11 (by omega) hE2 (o.length + 1) 1 (zi_pick1 b o) st (Nat.le_refl _) ho (by omega) p1 rfl hst⟩
  exact ⟨_, zy_pk38 (b := b) (fin := zi_pick1 b o) hn1 hS.2.2.2 h.2.2.2.1 h11 (by omega) hE1 (o.length + 1) 1 [0] a_stack (Nat.le_refl _) ho (by omega) (by simp) rfl (fun i s hs => by
    have i0 : i = 0 := by have := zp_lt hs; simp at this; omega
    subst i0
    have e : 0 = s := Option.some.inj hs
    rw [← e]; exact h.2.2.2.2.2.2.2 0 0 h.1.2.2.2.1)⟩
theorem zy_revert {post : Int32 → SY → Prop} {K ml mp nx s : Nat} (h : zy_Q l o nm f_rows f_n a_num a_maker a_taker a_stack) (hd : f_drafting = 0) (hk1 : 1 ≤ K) (hK : K < o.length) (hm : f_maxLines = nI ml) (hm2 : ml < 1000) (hmp : f_maxPatches = nI mp) (hmp2 : mp < 1000) (hnx : f_nextName = nI nx) (hso : s ∉ o) (hr : (¬ ∃ i, K < i ∧ i ≤ o.length - 1 ∧ zp_Rs l o i K) → zp_cP (zp_inT o (o.length - 1)) l (zp_F l (zp_sl o K)) + zp_cm l (zp_sl o K) ≤ l.countP (zp_inT o (o.length - 1))) (h6 : zp_ct l (zp_sl o K) ≤ 6) (hb : (∃ i, K < i ∧ i ≤ o.length - 1 ∧ zp_Rs l o i K) → post (-5) (f_maxLines, f_maxSide, f_maxPatches, f_rows, f_n, f_nextName, f_rows0, f_n0, f_drafting, f_place, f_take, f_puts, a_num, a_maker, a_taker, a_stack, a_num0, a_maker0, a_taker0, a_stack0, a_dput, a_need))
  (hF : (¬ ∃ i, K < i ∧ i ≤ o.length - 1 ∧ zp_Rs l o i K) → (o.length - 1 = mp ∨ ml < l.countP (zp_inT o (o.length - 1)) - zp_cm l (zp_sl o K) + zp_ct l (zp_sl o K)) → ∀ p t c an, post (-4) (f_maxLines, f_maxSide, f_maxPatches, f_rows, f_n, f_nextName, f_rows0, f_n0, f_drafting, p, t, c, a_num, a_maker, a_taker, a_stack, a_num0, a_maker0, a_taker0, a_stack0, an, a_need))
  (hG : (¬ ∃ i, K < i ∧ i ≤ o.length - 1 ∧ zp_Rs l o i K) → ¬ (o.length - 1 = mp ∨ ml < l.countP (zp_inT o (o.length - 1)) - zp_cm l (zp_sl o K) + zp_ct l (zp_sl o K)) → o.length ≤ 10 ∧ l.length + zp_ct l (zp_sl o K) ≤ 80 ∧ zp_WF (zp_push l o s (zp_cP (zp_inT o (o.length - 1)) l (zp_F l (zp_sl o K))) (zp_cm l (zp_sl o K)) (zp_tk l (zp_sl o K))) (o ++ [s]) ∧ zy_NM (o ++ [s]) (upd nm s (nI nx)) ∧ ∀ p t c an rs nu ma ta st, zy_Q (zp_push l o s (zp_cP (zp_inT o (o.length - 1)) l (zp_F l (zp_sl o K))) (zp_cm l (zp_sl o K)) (zp_tk l (zp_sl o K))) (o ++ [s]) (upd nm s (nI nx)) rs (nI o.length) nu ma ta st → post 0 (f_maxLines, f_maxSide, f_maxPatches, rs, (nI o.length), (nI (nx + 1)), f_rows0, f_n0, 0, p, t, c, nu, ma, ta, st, a_num0, a_maker0, a_taker0, a_stack0, an, a_need)) : wpY_revert post (f_maxLines, f_maxSide, f_maxPatches, f_rows, f_n, f_nextName, f_rows0, f_n0, f_drafting, f_place, f_take, f_puts, a_num, a_maker, a_taker, a_stack, a_num0, a_maker0, a_taker0, a_stack0, a_dput, a_need) (nI K) := by
  have h11 := h.1.2.1
  have h80 := h.1.1
  have ho := zp_opos h.1
  have hFl := zp_F_le (l := l) (s := zp_sl o K)
  have hc := List.countP_le_length (p := zp_inT o (o.length - 1)) (l := l)
  refine br_t hd (pk_lt K 1 (fun c => by omega) (fun _ => pk_le K (o.length - 1) (fun _ => ?_) (fun c => by omega) rfl h.2.2.2.1))
  refine zy_he h (by omega) (by omega) h.2.2.2.1 (zp_ic hb (fun y => ?_))
  have hr := hr y
  refine zy_fi h hK ?_
  have hbf : ∀ post : Int32 → Prop, post (nI (zp_cP (zp_inT o (o.length - 1)) l (zp_F l (zp_sl o K)))) → wpY_before post (f_maxLines, f_maxSide, f_maxPatches, f_rows, f_n, f_nextName, f_rows0, f_n0, f_drafting, f_place, f_take, f_puts, a_num, a_maker, a_taker, a_stack, a_num0, a_maker0, a_taker0, a_stack0, a_dput, a_need) (nI (zp_F l (zp_sl o K))) f_n := by
    intro post hp
    rw [h.2.2.2.1]
    rw [h.2.2.2.1] at h
    exact zy_bf h (by omega) hFl hp
  refine hbf _ (zy_ma h hK ?_)
  have etk : (zp_tk l (zp_sl o K)).length = zp_ct l (zp_sl o K) := zp_tk_len
  refine ⟨_, zy_rv75 h hK h6 (fun n an han => ?_) (l.length + 1) 0 a_dput (by omega) (by omega) (fun i x hx => by simp [zp_tk] at hx)⟩
  refine br_t (by rw [h.2.2.1]; exact nI_le (Nat.le_refl _) (by omega)) ?_
  refine zy_push (s := s) (pl := zp_cP (zp_inT o (o.length - 1)) l (zp_F l (zp_sl o K))) (tk := zp_cm l (zp_sl o K)) (ds := zp_tk l (zp_sl o K)) h h11 rfl rfl rfl han hnx hm hm2 hmp hmp2 (by omega) (by omega) (by omega) hso (fun z => ?_) (fun z => ?_)
  · rw [etk] at z
    exact hF y z _ _ _ _
  · rw [etk] at z ⊢
    obtain ⟨g1, g2, g3, g4, g5⟩ := hG y z
    exact ⟨g1, g2, g3, g4, fun rs nu ma ta st hQ => g5 _ _ _ _ rs nu ma ta st hQ⟩
theorem zy_absorb {post : Int32 → SY → Prop} {m ml ms : Nat} (h : zy_Q l o nm f_rows f_n a_num a_maker a_taker a_stack) (hd : f_drafting = 0) (hm1 : 1 ≤ m) (hm : m < o.length) (hml : f_maxLines = nI ml) (hml2 : ml < 1000) (hms : f_maxSide = nI ms) (hms2 : ms < 1000)
  (hA : (zp_ab ml ms m l o).1 = 0 → ∀ n0 m0 t0 s0 rs ct nu ma ta st, zy_Q ((zp_ab ml ms m l o).2.1) ((zp_ab ml ms m l o).2.2) nm rs ct nu ma ta st → post 0 (f_maxLines, f_maxSide, f_maxPatches, rs, ct, f_nextName, f_rows, f_n, f_drafting, f_place, f_take, f_puts, nu, ma, ta, st, n0, m0, t0, s0, a_dput, a_need))
  (hB : ¬ (zp_ab ml ms m l o).1 = 0 → ∀ n0 m0 t0 s0 nu ma ta st, zy_Q l o nm f_rows f_n nu ma ta st → post (zp_ab ml ms m l o).1 (f_maxLines, f_maxSide, f_maxPatches, f_rows, f_n, f_nextName, f_rows, f_n, f_drafting, f_place, f_take, f_puts, nu, ma, ta, st, n0, m0, t0, s0, a_dput, a_need)) : wpY_absorb post (f_maxLines, f_maxSide, f_maxPatches, f_rows, f_n, f_nextName, f_rows0, f_n0, f_drafting, f_place, f_take, f_puts, a_num, a_maker, a_taker, a_stack, a_num0, a_maker0, a_taker0, a_stack0, a_dput, a_need) (nI m) := by
  have h11 := h.1.2.1
  refine br_t hd (pk_lt m 1 (fun c => by omega) (fun _ => pk_le m (o.length - 1) (fun _ => zy_sv h (fun n0 m0 t0 s0 hS => ⟨m + 1, ?_⟩)) (fun c => by omega) rfl h.2.2.2.1))
  exact zy_ab31 h.1 h.2.1 hS hml hml2 hms hms2 m l o (m + 1) f_rows f_n a_num a_maker a_taker a_stack (by omega) hm h (fun z rs ct nu ma ta st hQ => hA z n0 m0 t0 s0 rs ct nu ma ta st hQ) (fun z nu ma ta st hQ => hB z n0 m0 t0 s0 nu ma ta st hQ)
end
theorem i_vc_pick {k : Nat} {u : SX} {v : SY} (I : i_Rel k u v) (hk : k + 3 ≤ 1539) (v1 : Int32) : wpX_pick (fun r u' => wpY_pick (fun r' v' => r' = r ∧ i_Rel (k + 3) u' v') v v1) u v1 := by
  refine zr_el (P := fun u v => wpX_pick (fun r u' => wpY_pick (fun r' v' => r' = r ∧ i_Rel (k + 3) u' v') v v1) u v1) I ?_
  intro ml ms mp nx pl tk l o ds d f_rowSize f_count f_draftPlace f_draftTake f_numberCount f_savedRowSize f_savedCount f_rows f_n f_rows0 f_n0 f_place f_take f_puts a_entryId a_entryMaker a_entryTaker a_order a_rank a_nameOf a_numbers a_savedId a_savedMaker a_savedTaker a_savedOrder a_needed a_num a_maker a_taker a_stack a_num0 a_maker0 a_taker0 a_stack0 a_dput a_need hV hD hN hnk hX dX hY dY
  have st : i_Rel (k + 3) ((nI ml), (nI ms), (nI mp), f_rowSize, f_count, (nI nx), d, f_draftPlace, f_draftTake, f_numberCount, f_savedRowSize, f_savedCount, a_entryId, a_entryMaker, a_entryTaker, a_order, a_rank, a_nameOf, a_numbers, a_savedId, a_savedMaker, a_savedTaker, a_savedOrder, a_needed) ((nI ml), (nI ms), (nI mp), f_rows, f_n, (nI nx), f_rows0, f_n0, d, f_place, f_take, f_puts, a_num, a_maker, a_taker, a_stack, a_num0, a_maker0, a_taker0, a_stack0, a_dput, a_need) := zr_in hV hD hN (by omega) hX dX hY dY
  have h11 := hX.1.2.1
  have ho := zp_opos hX.1
  have h20 : ml ≤ 20 := hV.2.2.2.2.2.1
  by_cases hd : d = 0
  · have nD : ∀ {P : Prop}, d ≠ 0 → P := fun z => absurd hd z
    refine br_t hd ?_
    rcases zp_rng v1 (n := o.length - 1) (by omega) with c | ⟨c1, c⟩ | ⟨K, k1, k2, rfl⟩
    · exact zx_on0 (Or.inl c) (br_t rfl (br_t hd (br_t c ⟨rfl, st⟩)))
    · exact zx_on0 (Or.inr ⟨c1, by rw [hX.2.2.1]; exact c⟩) (br_t rfl (br_t hd (br_f c1 (br_f (by rw [hY.2.2.2.1]; exact Int32.not_le.mpr c) ⟨rfl, st⟩))))
    · have hK : K < o.length := by omega
      obtain ⟨b, hb⟩ : ∃ b, b = zi_b (zp_Nd (zp_Rs l o) K) := ⟨_, rfl⟩
      have hpm := zi_pick_perm (b := b) hX.1.2.2.2.1
      have hw' := zp_WF_perm hX.1 hpm zi_pick_0
      have hlp := hpm.length_eq
      have hl1 := zi_pick1_len (b := b) (o := o)
      have p1 : 1 ≤ (zi_pick1 b o).length := by unfold zi_pick1; simp
      have hsub : ∀ t, t ∈ zi_pick b o → t ∈ o := fun t ht => hpm.mem_iff.mp ht
      have hO0 : zp_LA a_order [0] nI := fun i s hs => by
        have i0 : i = 0 := by have := zp_lt hs; simp at this; omega
        subst i0
        have e : 0 = s := Option.some.inj hs
        rw [← e]; exact hX.2.2.2.2.2.2.1 0 0 hX.1.2.2.2.1
      refine zx_on1 hX.2.2.1 k1 k2 (by omega) (br_f (by decide) (zx_mn hX k1 hK (fun an han => zx_sv hX (fun si sm sk so hS => ?_))))
      have hn1 : ∀ i, 1 ≤ i → i < o.length → (an i = 1 ↔ b i = true) := by
        intro i i1 i2
        rw [han i (by omega), zp_i1, hb, zi_b_iff]
        exact ⟨And.right, fun z => ⟨i1, z⟩⟩
      have hn0 : ∀ i, 1 ≤ i → i < o.length → (an i = 0 ↔ (fun j => !b j) i = true) := by
        intro i i1 i2
        have e1 : b i = true ↔ zp_Nd (zp_Rs l o) K i := by rw [hb]; exact zi_b_iff
        show an i = 0 ↔ (!b i) = true
        rw [han i (by omega), zp_i0]
        cases hbi : b i
        · rw [hbi] at e1
          exact ⟨fun _ => rfl, fun _ z => absurd (e1.mpr z.2) (by decide)⟩
        · rw [hbi] at e1
          exact ⟨fun z => absurd ⟨i1, e1.mp rfl⟩ z, fun z => absurd z (by decide)⟩
      refine zx_co (b := b) (fin := zi_pick1 b o) (out := [0]) hn1 hS.2.2.2.2.2 hX.2.2.1 h11 ho (by omega) (by simp) rfl hO0 rfl (fun od1 hO1 => ?_)
      refine zx_co (b := fun j => !b j) (fin := zi_pick b o) (out := zi_pick1 b o) hn0 hS.2.2.2.2.2 hX.2.2.1 h11 ho (by omega) p1 rfl hO1 rfl (fun od2 hO2 => ?_)
      refine zx_rn (o := zi_pick b o) (zp_WF_o hw') (by rw [hlp]; exact hX.2.2.1) hO2 (fun rk hR => ?_)
      have hQ : zx_Q l (zi_pick b o) f_rowSize f_count a_entryId a_entryMaker a_entryTaker od2 rk := ⟨hw', hX.2.1, by rw [hlp]; exact hX.2.2.1, hX.2.2.2.1, hX.2.2.2.2.1, hX.2.2.2.2.2.1, hO2, hR⟩
      refine zx_kf hQ hX.1 hS rfl (by omega) (fun fit => ?_) (fun fit ei em et od' rk' hQ2 => ?_)
      · refine zy_pick hb hY hd k1 hK rfl (by omega) (fun _ an' n0 m0 t0 s0 st' hQY => ⟨rfl, ?_⟩) (fun z => absurd fit z)
        exact zr_in (zi_perm hV hpm zi_pick_0 (zi_pick_T hX.1 hV.2.1 (fun i _ _ => by rw [hb]; exact zi_b_iff)) fit) nD (zi_N_sub hN hsub) (by omega) hQ dX hQY dY
      · refine zy_pick hb hY hd k1 hK rfl (by omega) (fun z => absurd z fit) (fun _ an' n0 m0 t0 s0 nu ma ta st' hQY => ⟨rfl, ?_⟩)
        exact zr_in hV nD hN (by omega) hQ2 dX hQY dY
  · exact br_f hd (br_f hd ⟨rfl, st⟩)
theorem i_vc_revert {k : Nat} {u : SX} {v : SY} (I : i_Rel k u v) (hk : k + 3 ≤ 1539) (v1 : Int32) : wpX_revert (fun r u' => wpY_revert (fun r' v' => r' = r ∧ i_Rel (k + 3) u' v') v v1) u v1 := by
  refine zr_el (P := fun u v => wpX_revert (fun r u' => wpY_revert (fun r' v' => r' = r ∧ i_Rel (k + 3) u' v') v v1) u v1) I ?_
  intro ml ms mp nx pl tk l o ds d f_rowSize f_count f_draftPlace f_draftTake f_numberCount f_savedRowSize f_savedCount f_rows f_n f_rows0 f_n0 f_place f_take f_puts a_entryId a_entryMaker a_entryTaker a_order a_rank a_nameOf a_numbers a_savedId a_savedMaker a_savedTaker a_savedOrder a_needed a_num a_maker a_taker a_stack a_num0 a_maker0 a_taker0 a_stack0 a_dput a_need hV hD hN hnk hX dX hY dY
  have st : i_Rel (k + 3) ((nI ml), (nI ms), (nI mp), f_rowSize, f_count, (nI nx), d, f_draftPlace, f_draftTake, f_numberCount, f_savedRowSize, f_savedCount, a_entryId, a_entryMaker, a_entryTaker, a_order, a_rank, a_nameOf, a_numbers, a_savedId, a_savedMaker, a_savedTaker, a_savedOrder, a_needed) ((nI ml), (nI ms), (nI mp), f_rows, f_n, (nI nx), f_rows0, f_n0, d, f_place, f_take, f_puts, a_num, a_maker, a_taker, a_stack, a_num0, a_maker0, a_taker0, a_stack0, a_dput, a_need) := zr_in hV hD hN (by omega) hX dX hY dY
  have h11 := hX.1.2.1
  have h80 := hX.1.1
  have ho := zp_opos hX.1
  have hlen := zi_len hV
  obtain ⟨_, hT, hC, _, hmp1, h20, h6, h10⟩ := id hV
  by_cases hd : d = 0
  · have nD : ∀ {P : Prop}, d ≠ 0 → P := fun z => absurd hd z
    refine br_t hd ?_
    rcases zp_rng v1 (n := o.length - 1) (by omega) with c | ⟨c1, c⟩ | ⟨K, k1, k2, rfl⟩
    · exact zx_on0 (Or.inl c) (br_t rfl (br_t hd (br_t c ⟨rfl, st⟩)))
    · exact zx_on0 (Or.inr ⟨c1, by rw [hX.2.2.1]; exact c⟩) (br_t rfl (br_t hd (br_f c1 (br_f (by rw [hY.2.2.2.1]; exact Int32.not_le.mpr c) ⟨rfl, st⟩))))
    · have hK : K < o.length := by omega
      have g := zp_sl_g hK
      have s0 : zp_sl o K ≠ 0 := fun z => by
        rw [z] at g
        exact absurd (zp_uniq hX.1.2.2.1 g hX.1.2.2.2.1) (by omega)
      obtain ⟨cm6, ct6⟩ := hC.1 _ (zp_sl_m hK) s0
      have hrv := zi_rev hX.1 hT k1 hK
      have no11 : (11 : Nat) ∉ o := fun z => by have := hX.1.2.2.2.2.1 _ z; omega
      have hFl := zp_F_le (l := l) (s := zp_sl o K)
      have hcl := List.countP_le_length (p := zp_inT o (o.length - 1)) (l := l)
      refine zx_on1 hX.2.2.1 k1 k2 (by clear hrv; omega) (br_f (by decide) (zx_ca hX (by clear hrv; omega) (by clear hrv; omega) hX.2.2.1 (zp_ic (fun hc => ?_) (fun hc => ?_))))
      · exact zy_revert (s := 11) hY hd k1 hK rfl (by clear hrv; omega) rfl (by clear hrv; omega) rfl no11 hrv (by clear hrv; omega) (fun _ => ⟨rfl, st⟩) (fun z => absurd hc z) (fun z => absurd hc z)
      · obtain ⟨e1, e2, e3⟩ := zx_ord hX hK
        have hrv' := hrv hc
        have full : (o.length - 1 = mp ∨ ml < l.countP (zp_inT o (o.length - 1)) - zp_cm l (zp_sl o K) + zp_ct l (zp_sl o K)) → wpY_revert (fun r' v' => r' = -4 ∧ i_Rel (k + 3) ((nI ml), (nI ms), (nI mp), f_rowSize, f_count, (nI nx), d, f_draftPlace, f_draftTake, f_numberCount, f_savedRowSize, f_savedCount, a_entryId, a_entryMaker, a_entryTaker, a_order, a_rank, a_nameOf, a_numbers, a_savedId, a_savedMaker, a_savedTaker, a_savedOrder, a_needed) v') ((nI ml), (nI ms), (nI mp), f_rows, f_n, (nI nx), f_rows0, f_n0, d, f_place, f_take, f_puts, a_num, a_maker, a_taker, a_stack, a_num0, a_maker0, a_taker0, a_stack0, a_dput, a_need) (nI K) := by
          intro z
          refine zy_revert (s := 11) hY hd k1 hK rfl (by clear hrv; omega) rfl (by clear hrv; omega) rfl no11 hrv (by clear hrv; omega) (fun z => absurd z hc) (fun _ _ p t q an => ⟨rfl, ?_⟩) (fun _ y => absurd z y)
          exact zr_in (pl := pl) (tk := tk) (ds := ds) hV hD hN (by clear hrv; omega) hX dX hY nD
        refine ⟨e3, nm_r e1 (zx_cm hX e2 (zx_tlc hX hX.2.2.1 (by clear hrv; omega) (zx_ct hX e2 (nm_r (e' := nI (l.countP (zp_inT o (o.length - 1)) - zp_cm l (zp_sl o K) + zp_ct l (zp_sl o K))) ?_ ?_))))⟩
        · have : zp_cm l (zp_sl o K) ≤ l.countP (zp_inT o (o.length - 1)) := by clear hrv; omega
          rw [← nI_add, ← pk_sub this]; rfl
        · refine pk_le mp (o.length - 1) (fun c => full (Or.inl (by clear hrv; omega))) (fun c => ?_) rfl hX.2.2.1
          refine pk_le (l.countP (zp_inT o (o.length - 1)) - zp_cm l (zp_sl o K) + zp_ct l (zp_sl o K)) ml (fun c2 => ?_) (fun c2 => full (Or.inr c2))
          have etk : (zp_tk l (zp_sl o K)).length = zp_ct l (zp_sl o K) := zp_tk_len
          refine zx_fo hX e2 (zx_lbc hX hX.2.2.1 (by clear hrv; omega) (by clear hrv; omega) rfl (zx_ltk hX e2 (show zp_ct l (zp_sl o K) ≤ 6 from by clear hrv; omega) (fun an han => ?_)))
          have hP : ∀ s, 1 ≤ s → s ≤ 10 → s ∉ o → zi_V ml ms mp (zp_push l o s (zp_cP (zp_inT o (o.length - 1)) l (zp_F l (zp_sl o K))) (zp_cm l (zp_sl o K)) (zp_tk l (zp_sl o K))) (o ++ [s]) := fun s s1 s2 s3 => zi_push hV s1 s2 s3 (by clear hrv; omega) cm6 (by clear hrv; omega) hrv' (by clear hrv; omega)
          refine zx_push (pl := zp_cP (zp_inT o (o.length - 1)) l (zp_F l (zp_sl o K))) (tk := zp_cm l (zp_sl o K)) (ds := zp_tk l (zp_sl o K)) hX (by clear hrv; omega) rfl rfl rfl han rfl (by clear hrv; omega) (by clear hrv; omega) (by clear hrv; omega) (fun s s1 s2 s3 => (hP s s1 s2 s3).1) (fun s s1 s2 s3 rs ei em et od rk hQ => ?_)
          have hV' := hP s s1 s2 s3
          have hN' := zi_N_push hN s1 s3 (by clear hrv; omega)
          refine zy_revert (s := s) hY hd k1 hK rfl (by clear hrv; omega) rfl (by clear hrv; omega) rfl s3 hrv (by clear hrv; omega) (fun z => absurd z hc) (fun _ z => by clear hrv; omega) (fun _ _ => ⟨by clear hrv; omega, by clear hrv; omega, hV'.1, hN'.1, fun p t q an rs nu ma ta st' hQY => ⟨rfl, ?_⟩⟩)
          subst hd
          exact zr_in (pl := pl) (tk := tk) (ds := ds) hV' nD hN' (by clear hrv; omega) hQ nD hQY nD
  · exact br_f hd (br_f hd ⟨rfl, st⟩)
theorem i_vc_absorb {k : Nat} {u : SX} {v : SY} (I : i_Rel k u v) (hk : k + 3 ≤ 1539) (v1 : Int32) : wpX_absorb (fun r u' => wpY_absorb (fun r' v' => r' = r ∧ i_Rel (k + 3) u' v') v v1) u v1 := by
  refine zr_el (P := fun u v => wpX_absorb (fun r u' => wpY_absorb (fun r' v' => r' = r ∧ i_Rel (k + 3) u' v') v v1) u v1) I ?_
  intro ml ms mp nx pl tk l o ds d f_rowSize f_count f_draftPlace f_draftTake f_numberCount f_savedRowSize f_savedCount f_rows f_n f_rows0 f_n0 f_place f_take f_puts a_entryId a_entryMaker a_entryTaker a_order a_rank a_nameOf a_numbers a_savedId a_savedMaker a_savedTaker a_savedOrder a_needed a_num a_maker a_taker a_stack a_num0 a_maker0 a_taker0 a_stack0 a_dput a_need hV hD hN hnk hX dX hY dY
  have st : i_Rel (k + 3) ((nI ml), (nI ms), (nI mp), f_rowSize, f_count, (nI nx), d, f_draftPlace, f_draftTake, f_numberCount, f_savedRowSize, f_savedCount, a_entryId, a_entryMaker, a_entryTaker, a_order, a_rank, a_nameOf, a_numbers, a_savedId, a_savedMaker, a_savedTaker, a_savedOrder, a_needed) ((nI ml), (nI ms), (nI mp), f_rows, f_n, (nI nx), f_rows0, f_n0, d, f_place, f_take, f_puts, a_num, a_maker, a_taker, a_stack, a_num0, a_maker0, a_taker0, a_stack0, a_dput, a_need) := zr_in hV hD hN (by omega) hX dX hY dY
  have h11 := hX.1.2.1
  have ho := zp_opos hX.1
  have h20 : ml ≤ 20 := hV.2.2.2.2.2.1
  have h6 : ms ≤ 6 := hV.2.2.2.2.2.2.1
  by_cases hd : d = 0
  · have nD : ∀ {P : Prop}, d ≠ 0 → P := fun z => absurd hd z
    refine br_t hd ?_
    rcases zp_rng v1 (n := o.length - 1) (by omega) with c | ⟨c1, c⟩ | ⟨m, k1, k2, rfl⟩
    · exact zx_on0 (Or.inl c) (br_t rfl (br_t hd (br_t c ⟨rfl, st⟩)))
    · exact zx_on0 (Or.inr ⟨c1, by rw [hX.2.2.1]; exact c⟩) (br_t rfl (br_t hd (br_f c1 (br_f (by rw [hY.2.2.2.1]; exact Int32.not_le.mpr c) ⟨rfl, st⟩))))
    · have hm : m < o.length := by omega
      refine zx_on1 hX.2.2.1 k1 k2 (by omega) (br_f (by decide) (zx_sv hX (fun si sm sk so hS => nm_r (e' := nI (o.length - m)) ?_ ⟨m + 1, ?_⟩)))
      · rw [hX.2.2.1, pk_sub (by omega), nI_1]; exact congrArg nI (by omega)
      · have q := zx_ab35 (post := fun r u' => wpY_absorb (fun r' v' => r' = r ∧ i_Rel (k + 3) u' v') ((nI ml), (nI ms), (nI mp), f_rows, f_n, (nI nx), f_rows0, f_n0, d, f_place, f_take, f_puts, a_num, a_maker, a_taker, a_stack, a_num0, a_maker0, a_taker0, a_stack0, a_dput, a_need) (nI m)) (f_maxLines := nI ml) (f_maxSide := nI ms) (f_maxPatches := nI mp) (f_nextName := nI nx) (f_draftOpen := d) (f_draftPlace := f_draftPlace) (f_draftTake := f_draftTake) (f_numberCount := f_numberCount) (f_savedRowSize := f_rowSize) (f_savedCount := f_count) (a_nameOf := a_nameOf) (a_numbers := a_numbers) (a_savedId := si) (a_savedMaker := sm) (a_savedTaker := sk) (a_savedOrder := so) (a_needed := a_needed) (m := m) (by omega) hX.1 hS (ml := ml) (ms := ms) rfl (by omega) rfl (by omega) m l o (m + 1) f_rowSize f_count a_entryId a_entryMaker a_entryTaker a_order a_rank (by omega) (Nat.le_refl _) hm hX
          (fun z rs ct ei em et od rk hQ => ?_) (fun z ei em et od rk hQ => ?_)
        · rw [Nat.sub_self] at q
          exact q
        · refine zy_absorb hY hd k1 hm rfl (by omega) rfl (by omega) (fun _ n0 m0 t0 s0 rs' ct' nu ma ta st' hQY => ⟨rfl, ?_⟩) (fun y => absurd z y)
          exact zr_in (zi_ab m l o hm hV z) nD (zi_N_sub hN (zi_ab_sub m l o)) (by omega) hQ dX hQY dY
        · refine zy_absorb hY hd k1 hm rfl (by omega) rfl (by omega) (fun y => absurd y z) (fun _ n0 m0 t0 s0 nu ma ta st' hQY => ⟨rfl, ?_⟩)
          exact zr_in hV nD hN (by omega) hQ dX hQY dY
  · exact br_f hd (br_f hd ⟨rfl, st⟩)
end
